/-! ===== THE COMPONENT's world ===== -/
/-- addresses of fixed cells; of boxes by their numbers (root: -1); kept; how many boxes; boxes not in use; the list's array: address, cell; the tracks' tables (7 * track + slot) -/
abbrev xP : Type := (Nat → Nat) × (Int → Nat) × (Int → Option Nat) × Nat × va_W × Nat × va_W × (Int → Option Nat)
abbrev yc (y : xP) : Nat → Nat := y.1
abbrev yo (y : xP) : Int → Nat := y.2.1
abbrev yk (y : xP) : Int → Option Nat := y.2.2.1
abbrev yn (y : xP) : Nat := y.2.2.2.1
abbrev yR (y : xP) : va_W := y.2.2.2.2.1
abbrev ye (y : xP) : Nat := y.2.2.2.2.2.1
abbrev yE (y : xP) : va_W := y.2.2.2.2.2.2.1
abbrev yt (y : xP) : Int → Option Nat := y.2.2.2.2.2.2.2
def rN (oa : Int → Nat) (i : Int) : Option Nat := if i < 0 then none else some (oa i)
def rK (G : gG) (o : Int) : Option Nat := if o < 0 then none else some (gE G o.toNat)
def bX (oa : Int → Nat) (z : mS) (k : Int) : Nat → List Value
  | 1 => [va_rf (rN oa (z 24 k)), va_rf (rN oa (z 25 k))]
  | 2 => []
  | 4 => [vI (z 17 k), vI (z 18 k), vI (z 19 k)]
  | _ => [vI (z 17 k)]
/-- a box's fields, of class c -/
def bF (G : gG) (oa : Int → Nat) (z : mS) (k : Int) (c : Nat) : List Value := va_rf (rK G (z 26 k)) :: vI (z 4 k) :: vI (z 2 k) :: vI (z 5 k) :: vI (z 3 k) :: vI (z 6 k) :: vI (z 28 k) :: vI (z 7 k) :: va_rf (rN oa (z 23 k)) :: vI (z 13 k) :: vI (z 14 k) :: bX oa z k c
def bC (G : gG) (oa : Int → Nat) (z : mS) (k : Int) : Nat × va_E := (oa k, .inr ((z 27 k).toNat, bF G oa z k (z 27 k).toNat))
def xB (G : gG) (oa : Int → Nat) (z : mS) (n : Nat) : va_W := (List.range (n + 1)).map (fun i : Nat => bC G oa z ((i : Int) - 1))
def xF (y : xP) (z : mS) : List Value := [.ref (yc y 1), .ref (yc y 2), vI (z 0 0), vI (z 0 5), vI (z 0 6), .ref (yo y (-1)), va_rf (rN (yo y) (z 0 2)), .ref (yc y 3), .ref (yc y 4), .ref (yc y 5), .ref (yc y 6), vI (z 0 3), .ref (yc y 11)]
def xW (G : gG) (y : xP) (z : mS) : va_W := (yc y 0, .inr (0, xF y z)) :: (yc y 1, aB G 1000 (z 1)) :: (yc y 2, aB G 1000 (z 20)) :: (yc y 3, .inr (8, [vI (z 0 7), .ref (ye y), vI (z 0 1)])) :: (yc y 4, aQ G 2 100 (yk y)) :: (yc y 5, aI G 5 (z 21)) :: (yc y 6, aQ G 3 2 (fun i => some (yc y (7 + i.toNat)))) :: (yc y 7, .inr (6, [.ref (yc y 9)])) :: (yc y 8, .inr (6, [.ref (yc y 10)])) :: (yc y 9, aQ G 4 7 (yt y)) :: (yc y 10, aQ G 4 7 (fun j => yt y (-1 - j))) :: (yc y 11, aI G 512 (z 22)) :: (xB G (yo y) z (yn y) ++ (yR y ++ yE y))
section XW
variable {G : gG} {y : xP} {z : mS} {i x : Int}
theorem xw_1 : (xW G y z).set 1 (yc y 1, aB G 1000 (updI (z 1) i x)) = xW G y (sset z 1 i x) := rfl
theorem xw_2 : (xW G y z).set 2 (yc y 2, aB G 1000 (updI (z 20) i x)) = xW G y (sset z 20 i x) := rfl
theorem xw_5 : (xW G y z).set 5 (yc y 5, aI G 5 (updI (z 21) i x)) = xW G y (sset z 21 i x) := rfl
theorem xw_11 : (xW G y z).set 11 (yc y 11, aI G 512 (updI (z 22) i x)) = xW G y (sset z 22 i x) := rfl
theorem xwp_length : (xW G y z).set 0 (yc y 0, .inr (0, (xF y z).set 2 (vI x))) = xW G y (sset z 0 0 x) := rfl
theorem xwp_fresh : (xW G y z).set 0 (yc y 0, .inr (0, (xF y z).set 3 (vI x))) = xW G y (sset z 0 5 x) := rfl
theorem xwp_fault : (xW G y z).set 0 (yc y 0, .inr (0, (xF y z).set 4 (vI x))) = xW G y (sset z 0 6 x) := rfl
theorem xwp_trackCount : (xW G y z).set 0 (yc y 0, .inr (0, (xF y z).set 11 (vI x))) = xW G y (sset z 0 3 x) := rfl
theorem xwp_movie : (xW G y z).set 0 (yc y 0, .inr (0, (xF y z).set 6 (va_rf (rN (yo y) x)))) = xW G y (sset z 0 2 x) := rfl
theorem xB_len {oa : Int → Nat} {n : Nat} : (xB G oa z n).length = n + 1 := by unfold xB; simp
theorem xB_at {oa : Int → Nat} {n : Nat} {k : Int} (h : -1 ≤ k ∧ k < n) : (xB G oa z n)[(k + 1).toNat]? = some (bC G oa z k) := by
  unfold xB
  rw [List.getElem?_map, List.getElem?_range (by omega)]
  show some (bC G oa z (((k + 1).toNat : Int) - 1)) = _
  rw [show (((k + 1).toNat : Int) - 1) = k by omega]
theorem xw_b {k : Int} (h : -1 ≤ k ∧ k < yn y) : (xW G y z)[(13 + k).toNat]? = some (bC G (yo y) z k) := by
  rw [show (13 + k).toNat = (k + 1).toNat + 12 by omega]
  exact app_l (xB_at h)
theorem xB_set {oa : Int → Nat} {n : Nat} {k : Int} {z' : mS} (h : -1 ≤ k ∧ k < n) (hb : ∀ j, j ≠ k → bC G oa z' j = bC G oa z j) : (xB G oa z n).set (k + 1).toNat (bC G oa z' k) = xB G oa z' n := by
  refine List.ext_getElem? (fun j => ?_)
  rw [List.getElem?_set]
  by_cases hj : j < n + 1
  · have e : ∀ w : mS, (xB G oa w n)[j]? = some (bC G oa w ((j : Int) - 1)) := fun w => by
      have := xB_at (G := G) (z := w) (oa := oa) (n := n) (k := (j : Int) - 1) (by omega)
      rw [show ((j : Int) - 1 + 1).toNat = j by omega] at this
      exact this
    rw [e z']
    split
    · rename_i h1
      rw [xB_len, if_pos (by omega), show ((j : Int) - 1) = k by omega]
    · rw [e z, hb _ (by omega)]
  · rw [if_neg (by omega), List.getElem?_eq_none (by rw [xB_len]; omega), List.getElem?_eq_none (by rw [xB_len]; omega)]
/-- the cells that are boxes' fields -/
def bcl (c : Nat) : Bool := !(c == 0 || c == 1 || c == 20 || c == 21 || c == 22)
theorem bcl_ne {c : Nat} (h : bcl c = true) : c ≠ 0 ∧ c ≠ 1 ∧ c ≠ 20 ∧ c ≠ 21 ∧ c ≠ 22 := by
  refine ⟨?_, ?_, ?_, ?_, ?_⟩ <;> (rintro rfl; revert h; decide)
theorem sset_ne {z : mS} {c c' : Nat} {i x : Int} (h : c' ≠ c) : sset z c i x c' = z c' := by unfold sset; rw [if_neg h]
theorem sset_nj {z : mS} {c c' : Nat} {i j x : Int} (h : j ≠ i) : sset z c i x c' j = z c' j := by
  rw [sset_at]
  split
  · rename_i e; subst e; rw [updI_at, if_neg h]
  · rfl
theorem sset_eq {z : mS} {c : Nat} {i x : Int} : sset z c i x c i = x := by rw [sset_at, if_pos rfl, updI_at, if_pos rfl]
theorem bC_cg {oa : Int → Nat} {z' : mS} {k : Int} (h : ∀ c, bcl c = true → z' c k = z c k) : bC G oa z' k = bC G oa z k := by
  have hX : ∀ c, bX oa z' k c = bX oa z k c := by
    intro c
    unfold bX
    rw [h 24 rfl, h 25 rfl, h 17 rfl, h 18 rfl, h 19 rfl]
  unfold bC bF
  rw [h 26 rfl, h 4 rfl, h 2 rfl, h 5 rfl, h 3 rfl, h 6 rfl, h 28 rfl, h 7 rfl, h 23 rfl, h 13 rfl, h 14 rfl, h 27 rfl, hX]
theorem xw_sb {c : Nat} {k : Int} (hc : bcl c = true) (h : -1 ≤ k ∧ k < yn y) : (xW G y z).set (13 + k).toNat (bC G (yo y) (sset z c k x) k) = xW G y (sset z c k x) := by
  obtain ⟨h0, h1, h2, h3, h4⟩ := bcl_ne hc
  rw [show (13 + k).toNat = (k + 1).toNat + 12 by omega]
  have e := xB_set (G := G) (oa := yo y) (n := yn y) (k := k) (z := z) (z' := sset z c k x) h (fun j hj => bC_cg (fun c' _ => sset_nj hj))
  unfold xW xF
  rw [sset_ne (c' := 0) (by omega), sset_ne (c' := 1) (by omega), sset_ne (c' := 20) (by omega), sset_ne (c' := 21) (by omega), sset_ne (c' := 22) (by omega), ← e]
  exact congrArg (fun L => _ :: _ :: _ :: _ :: _ :: _ :: _ :: _ :: _ :: _ :: _ :: _ :: L) (List.set_append_left _ _ (by rw [xB_len]; omega))
end XW
/-- the new fields, by place -/
theorem bs_of {G : gG} {oa : Int → Nat} {z : mS} {k x : Int} {c j : Nat} {v : Value} (h : (c, j) ∈ [(4, 1), (2, 2), (5, 3), (3, 4), (6, 5), (28, 6), (7, 7), (13, 9), (14, 10)]) (hv : v = vI x) : bC G oa (sset z c k x) k = (oa k, .inr ((z 27 k).toNat, (bF G oa z k (z 27 k).toNat).set j v)) := by
  subst hv
  simp only [List.mem_cons, Prod.mk.injEq, List.not_mem_nil, or_false] at h
  rcases h with ⟨rfl, rfl⟩ | ⟨rfl, rfl⟩ | ⟨rfl, rfl⟩ | ⟨rfl, rfl⟩ | ⟨rfl, rfl⟩ | ⟨rfl, rfl⟩ | ⟨rfl, rfl⟩ | ⟨rfl, rfl⟩ | ⟨rfl, rfl⟩ <;> (simp only [bC, bF, sset_eq, List.set_cons_succ, List.set_cons_zero]; rfl)
theorem bs_next {G : gG} {oa : Int → Nat} {z : mS} {k x : Int} : bC G oa (sset z 23 k x) k = (oa k, .inr ((z 27 k).toNat, (bF G oa z k (z 27 k).toNat).set 8 (va_rf (rN oa x)))) := by
  simp only [bC, bF, sset_eq, List.set_cons_succ, List.set_cons_zero]; rfl
theorem bs_kind {G : gG} {oa : Int → Nat} {z : mS} {k x : Int} : bC G oa (sset z 26 k x) k = (oa k, .inr ((z 27 k).toNat, (bF G oa z k (z 27 k).toNat).set 0 (va_rf (rK G x)))) := by
  simp only [bC, bF, sset_eq, List.set_cons_zero]; rfl
theorem bs_x {G : gG} {oa : Int → Nat} {z : mS} {k x : Int} {c i : Nat} {v : Value} (hc : c ∈ [17, 18, 19, 24, 25]) (h : bX oa (sset z c k x) k (z 27 k).toNat = (bX oa z k (z 27 k).toNat).set i v) : bC G oa (sset z c k x) k = (oa k, .inr ((z 27 k).toNat, (bF G oa z k (z 27 k).toNat).set (11 + i) v)) := by
  simp only [List.mem_cons, List.not_mem_nil, or_false] at hc
  rcases hc with rfl | rfl | rfl | rfl | rfl <;>
  · simp only [bC, bF]
    rw [show sset z _ k x 27 k = z 27 k from rfl, h]
    simp only [show 11 + i = i + 1 + 1 + 1 + 1 + 1 + 1 + 1 + 1 + 1 + 1 + 1 by omega, List.set_cons_succ]
    rfl
