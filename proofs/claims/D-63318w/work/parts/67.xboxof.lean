/-! ===== the component: boxOf ===== -/
def zR (zz : mS) (kk o : Int) : mS := fun c _ => if c = 26 then o else if c = 23 ∨ c = 24 ∨ c = 25 then -1 else if c = 18 then 0 else zz c kk
/-- box n is of class cl, its fields as w says -/
def zA (z : mS) (n cl : Int) (w : mS) : mS := fun c j => if j = n ∧ bcl c = true then (if c = 27 then cl else w c j) else z c j
theorem zA_no {z : mS} {n cl : Int} {w : mS} {c : Nat} {j : Int} (h : j ≠ n ∨ bcl c = false) : zA z n cl w c j = z c j := by
  unfold zA
  rw [if_neg]
  rintro ⟨h1, h2⟩
  rcases h with h | h
  · exact h h1
  · rw [h] at h2; cases h2
theorem zA_no' {z : mS} {n cl : Int} {w : mS} {c : Nat} (h : bcl c = false) : zA z n cl w c = z c := funext fun _ => zA_no (Or.inr h)
section RS
variable {G : gG} {oo oo' : Int → Nat} {zz : mS} {kk j : Int} {o : Nat}
theorem rK_o : rK G (zR zz kk (o : Int) 26 j) = some (gE G o) := by
  show rK G (o : Int) = _
  rw [rK_nn (by omega)]
  rfl
theorem rs_H : ((((bF G oo zz kk 1).set 0 (.ref (gE G o))).set 8 .null).set 11 .null).set 12 .null = bF G oo' (zR zz kk (o : Int)) j 1 := by
  unfold bF; rw [rK_o]; rfl
theorem rs_P : (((bF G oo zz kk 4).set 0 (.ref (gE G o))).set 8 .null).set 12 (vI 0) = bF G oo' (zR zz kk (o : Int)) j 4 := by
  unfold bF; rw [rK_o]; rfl
theorem rs_B {c : Nat} (h : c = 2 ∨ c = 3 ∨ c = 5) : ((bF G oo zz kk c).set 0 (.ref (gE G o))).set 8 .null = bF G oo' (zR zz kk (o : Int)) j c := by
  rcases h with rfl | rfl | rfl <;> (unfold bF; rw [rK_o]; rfl)
end RS
/-- the refs of boxes below n are boxes below n -/
def trB (z : mS) (n : Nat) : Prop := z 0 2 < n ∧ ∀ k : Int, -1 ≤ k → k < n → z 23 k < n ∧ z 24 k < n ∧ z 25 k < n
theorem rN_upd {oa : Int → Nat} {n i : Int} {b : Nat} (h : i < n) : rN (updI oa n b) i = rN oa i := by
  unfold rN
  split
  · rfl
  · rw [updI_at, if_neg (by omega)]
theorem bC_app {G : gG} {oa : Int → Nat} {z : mS} {n : Nat} {cl : Int} {w : mS} {b : Nat} {k : Int} (h : trB z n) (hk : -1 ≤ k ∧ k < n) : bC G (updI oa n b) (zA z n cl w) k = bC G oa z k := by
  obtain ⟨h1, h2, h3⟩ := h.2 k hk.1 hk.2
  have e : bC G (updI oa n b) (zA z n cl w) k = bC G (updI oa n b) z k := bC_cg (fun c _ => zA_no (Or.inl (by omega)))
  rw [e]
  have hX : ∀ c, bX (updI oa n b) z k c = bX oa z k c := by
    intro c
    unfold bX
    rw [rN_upd h2, rN_upd h3]
  unfold bC bF
  rw [hX, rN_upd h1, updI_at, if_neg (by omega)]
theorem xB_app {G : gG} {oa : Int → Nat} {z : mS} {n : Nat} {cl : Int} {w : mS} {b : Nat} (h : trB z n) : xB G (updI oa n b) (zA z n cl w) (n + 1) = xB G oa z n ++ [bC G (updI oa n b) (zA z n cl w) n] := by
  unfold xB
  rw [List.range_succ, List.map_append]
  congr 1
  · refine List.map_congr_left (fun i hi => bC_app h ?_)
    have := List.mem_range.mp hi
    omega
  · show [bC G _ _ (((n + 1 : Nat) : Int) - 1)] = _
    rw [show ((n + 1 : Nat) : Int) - 1 = (n : Int) by omega]
/-- the twelve fixed cells -/
def xH (G : gG) (y : xP) (z : mS) : va_W := [(yc y 0, .inr (0, xF y z)), (yc y 1, aB G 1000 (z 1)), (yc y 2, aB G 1000 (z 20)), (yc y 3, .inr (8, [vI (z 0 7), .ref (ye y), vI (z 0 1)])), (yc y 4, aQ G 2 100 (yk y)), (yc y 5, aI G 5 (z 21)), (yc y 6, aQ G 3 2 (fun i => some (yc y (7 + i.toNat)))), (yc y 7, .inr (6, [.ref (yc y 9)])), (yc y 8, .inr (6, [.ref (yc y 10)])), (yc y 9, aQ G 4 7 (yt y)), (yc y 10, aQ G 4 7 (fun j => yt y (-1 - j))), (yc y 11, aI G 512 (z 22))]
theorem xW_eq (G : gG) (y : xP) (z : mS) : xW G y z = xH G y z ++ (xB G (yo y) z (yn y) ++ (yR y ++ yE y)) := rfl
abbrev yK (y : xP) (kp : Int → Option Nat) : xP := (yc y, yo y, kp, yn y, yR y, ye y, yE y, yt y)
abbrev yA (y : xP) (b : Nat) (kp : Int → Option Nat) (R : va_W) : xP := (yc y, updI (yo y) (yn y) b, kp, yn y + 1, R, ye y, yE y, yt y)
theorem bF_w {G : gG} {oa oa' : Int → Nat} {z : mS} {n cl : Int} {w : mS} {c : Nat} (h : w 23 n < 0 ∧ w 24 n < 0 ∧ w 25 n < 0) : bF G oa (zA z n cl w) n c = bF G oa' w n c := by
  have e : ∀ c', c' ≠ 27 → bcl c' = true → zA z n cl w c' n = w c' n := fun c' h1 h2 => by unfold zA; rw [if_pos ⟨rfl, h2⟩, if_neg h1]
  have hX : bX oa (zA z n cl w) n c = bX oa' w n c := by
    unfold bX
    rw [e 24 (by omega) rfl, e 25 (by omega) rfl, e 17 (by omega) rfl, e 18 (by omega) rfl, e 19 (by omega) rfl, rN_neg h.2.1, rN_neg h.2.1, rN_neg h.2.2, rN_neg h.2.2]
  unfold bF
  rw [hX, e 26 (by omega) rfl, e 4 (by omega) rfl, e 2 (by omega) rfl, e 5 (by omega) rfl, e 3 (by omega) rfl, e 6 (by omega) rfl, e 28 (by omega) rfl, e 7 (by omega) rfl, e 23 (by omega) rfl, e 13 (by omega) rfl, e 14 (by omega) rfl, rN_neg h.1, rN_neg h.1]
theorem xW_app {G : gG} {y : xP} {z : mS} {cl : Int} {w : mS} {b : Nat} {kp : Int → Option Nat} {R : va_W} (h : trB z (yn y)) (hw : w 23 (yn y) < 0 ∧ w 24 (yn y) < 0 ∧ w 25 (yn y) < 0) : xW G (yA y b kp R) (zA z (yn y) cl w) = xH G (yK y kp) z ++ (xB G (yo y) z (yn y) ++ ((b, .inr (cl.toNat, bF G (yo y) w (yn y) cl.toNat)) :: (R ++ yE y))) := by
  rw [xW_eq]
  have e1 : xH G (yA y b kp R) (zA z (yn y) cl w) = xH G (yK y kp) z := by
    unfold xH xF
    rw [zA_no' (c := 0) rfl, zA_no' (c := 1) rfl, zA_no' (c := 20) rfl, zA_no' (c := 21) rfl, zA_no' (c := 22) rfl]
    show [(yc y 0, Sum.inr (0, [_, _, _, _, _, Value.ref (updI (yo y) (yn y) b (-1)), va_rf (rN (updI (yo y) (yn y) b) (z 0 2)), _, _, _, _, _, _])), _, _, _, _, _, _, _, _, _, _, _] = _
    rw [updI_at, if_neg (by omega), rN_upd h.1]
  rw [e1]
  congr 1
  show xB G (updI (yo y) (yn y) b) _ (yn y + 1) ++ (R ++ yE y) = _
  rw [xB_app h, List.append_assoc]
  congr 1
  show bC G _ _ _ :: (R ++ yE y) = _
  congr 1
  unfold bC
  rw [updI_at, if_pos rfl, bF_w (oa' := yo y) hw]
  have : zA z (yn y) cl w 27 (yn y) = cl := by unfold zA; rw [if_pos ⟨rfl, rfl⟩, if_pos rfl]
  rw [this]
theorem perm_set {α : Type} {x : α} : ∀ {R : List α} {i : Nat}, i < R.length → (R.set i x).Perm (x :: R.eraseIdx i)
  | [], i, h => absurd h (by simp)
  | a :: R, 0, h => List.Perm.refl _
  | a :: R, i + 1, h => by
    show (a :: R.set i x).Perm (x :: a :: R.eraseIdx i)
    exact ((perm_set (by simpa using h)).cons a).trans (List.Perm.swap x a _)
