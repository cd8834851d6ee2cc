/-! ===== the component: what is known while boxes are read ===== -/
theorem rokD {d D nL mc ms : Nat} (h : d + 1 ≤ D) (hn : nL ≤ 21) : rOk (rmD D mc ms) nL d := ⟨h, show 8 + (nL + 11) + 40 * d ≤ 40 * D by omega⟩
/-- the boxes read so far: z as the component has them, u as the model does -/
def pI (G : gG) (y : xP) (z u : mS) : Prop :=
  (yn y ≤ 20 ∧ z 0 1 = yn y ∧ u 0 1 = yn y ∧ u 1 = z 1 ∧ byOk z ∧ z 0 2 < 0) ∧ kI G y z ∧ tI z (yn y) ∧ elO G y (yn y) ∧ (z 27 (-1) = 1 ∧ z 23 (-1) = -1) ∧ ∀ k : Int, 0 ≤ k → k < yn y → (z 2 k = u 2 k ∧ z 3 k = u 3 k ∧ z 4 k = u 4 k ∧ z 5 k = u 5 k ∧ z 6 k = u 6 k ∧ z 7 k = u 7 k) ∧ (z 26 k = knO (z 4 k) (z 6 k) ∧ z 27 k = clN (clO (z 26 k)) ∧ z 28 k = k ∧ z 18 k = 0)
theorem pI_cl {G : gG} {y : xP} {z u : mS} (h : pI G y z u) {k : Int} (h0 : -1 ≤ k) (h1 : k < yn y) : 1 ≤ z 27 k ∧ z 27 k ≤ 5 := by
  by_cases hk : k = -1
  · subst hk; rw [h.2.2.2.2.1.1]; omega
  · rw [(h.2.2.2.2.2 k (by omega) h1).2.2.1]; exact clN_b _
theorem pI_tr {G : gG} {y : xP} {z u : mS} (h : pI G y z u) : trB z (yn y) := tI_trB h.2.2.1 (by have := h.1.2.2.2.2.2; omega) (by rw [h.2.2.2.2.1.2]; omega)
/-- what reading more boxes keeps -/
def fr (y : xP) (z : mS) (y' : xP) (z' : mS) : Prop := (yc y' = yc y ∧ yt y' = yt y ∧ yn y ≤ yn y') ∧ (∀ k : Int, k < yn y → yo y' k = yo y k) ∧ (∀ (c : Nat) (k : Int), bcl c = true → c ≠ 23 → c ≠ 24 → c ≠ 25 → k < yn y → z' c k = z c k) ∧ (∀ j, j ≠ 1 → j ≠ 7 → z' 0 j = z 0 j) ∧ z' 1 = z 1 ∧ z' 20 = z 20 ∧ z' 22 = z 22
theorem fr.rf (y : xP) (z : mS) : fr y z y z := ⟨⟨rfl, rfl, Nat.le_refl _⟩, fun _ _ => rfl, fun _ _ _ _ _ _ _ => rfl, fun _ _ _ => rfl, rfl, rfl, rfl⟩
theorem fr.tr {y y1 y2 : xP} {z z1 z2 : mS} (h : fr y z y1 z1) (g : fr y1 z1 y2 z2) : fr y z y2 z2 := by
  obtain ⟨⟨h1, h2, h3⟩, h4, h5, h6, h7, h8, h9⟩ := h
  obtain ⟨⟨g1, g2, g3⟩, g4, g5, g6, g7, g8, g9⟩ := g
  refine ⟨⟨g1.trans h1, g2.trans h2, Nat.le_trans h3 g3⟩, fun k hk => (g4 k (by omega)).trans (h4 k hk), fun c k a1 a2 a3 a4 a5 => (g5 c k a1 a2 a3 a4 (by omega)).trans (h5 c k a1 a2 a3 a4 a5), fun j a1 a2 => (g6 j a1 a2).trans (h6 j a1 a2), g7.trans h7, g8.trans h8, g9.trans h9⟩
def fu (u u' : mS) (lev : Nat) : Prop := (∀ i : Nat, i ≤ lev → u' 8 i = u 8 i ∧ u' 9 i = u 9 i) ∧ (∀ j, j ≠ 1 → u' 0 j = u 0 j) ∧ u' 1 = u 1 ∧ ∀ c, 10 ≤ c → u' c = u c
theorem fu.rf (u : mS) (lev : Nat) : fu u u lev := ⟨fun _ _ => ⟨rfl, rfl⟩, fun _ _ => rfl, rfl, fun _ _ => rfl⟩
theorem fu.tr {u u1 u2 : mS} {lev lev' : Nat} (h : fu u u1 lev) (g : fu u1 u2 lev') (hl : lev ≤ lev') : fu u u2 lev := by
  obtain ⟨h1, h2, h3, h4⟩ := h
  obtain ⟨g1, g2, g3, g4⟩ := g
  exact ⟨fun i hi => ⟨(g1 i (by omega)).1.trans (h1 i hi).1, (g1 i (by omega)).2.trans (h1 i hi).2⟩, fun j hj => (g2 j hj).trans (h2 j hj), g3.trans h3, fun c hc => (g4 c hc).trans (h4 c hc)⟩
theorem fu_add (u : mS) (p w ty h lv hd : Int) (lev : Nat) : fu u (addB u p w ty h lv hd) lev := by
  refine ⟨fun i _ => ⟨addB_o u p w ty h lv hd i 8 (by omega), addB_o u p w ty h lv hd i 9 (by omega)⟩, fun j hj => ?_, ?_, fun c hc => ?_⟩
  · rw [addB_0, if_neg hj]
  · funext j; exact addB_o u p w ty h lv hd j 1 (by omega)
  · funext j; exact addB_o u p w ty h lv hd j c (by omega)
/-- one box more -/
theorem pI_add {G : gG} {y : xP} {z u : mS} (hP : pI G y z u) (hn : yn y ≤ 19) {b : Nat} {kp : Int → Option Nat} {R : va_W} {z1 : mS} {p w ty h lev hb : Int} (hK : kI G (yA y b kp R) z1) (hx : nbx z z1 (yn y) p w ty h lev) (hh : -1 ≤ hb ∧ hb < yn y) {ea N : Nat} (hN : 10 ≤ N ∧ N ≤ 28 ∧ ((yn y : Nat) : Int) + 1 ≤ N) {m : Int} :
    pI G (yL (yA y b kp R) ea [(ea, aQ G 5 N (gO (yo (yA y b kp R)) ((yn y : Nat) + 1)))]) (tkS (sset (sset (sset (sset z1 28 (yn y) (yn y)) 7 (yn y) hb) 0 7 m) 0 1 ((yn y : Nat) + 1)) hb (yn y)) (addB u p w ty h lev hb) ∧ fr y z (yL (yA y b kp R) ea [(ea, aQ G 5 N (gO (yo (yA y b kp R)) ((yn y : Nat) + 1)))]) (tkS (sset (sset (sset (sset z1 28 (yn y) (yn y)) 7 (yn y) hb) 0 7 m) 0 1 ((yn y : Nat) + 1)) hb (yn y)) := by
  obtain ⟨⟨p1, p2, p3, p4, p5, p6⟩, pK, pT, pE, ⟨r1, r2⟩, pB⟩ := hP
  obtain ⟨x0, x2, x3, x4, x5, x6, x26, x27, x23, x24, x25, x18⟩ := hx
  generalize hz2 : sset (sset (sset (sset z1 28 (yn y) (yn y)) 7 (yn y) hb) 0 7 m) 0 1 ((yn y : Nat) + 1) = z2
  have q28 : ∀ k, z2 28 k = if k = (yn y : Int) then (yn y : Int) else z1 28 k := fun k => by rw [← hz2]; simp only [sset_at, updI_at, reduceIte, Nat.reduceEqDiff]
  have q7 : ∀ k, z2 7 k = if k = (yn y : Int) then hb else z1 7 k := fun k => by rw [← hz2]; simp only [sset_at, updI_at, reduceIte, Nat.reduceEqDiff]
  have q0 : ∀ j, z2 0 j = if j = 1 then ((yn y : Nat) : Int) + 1 else if j = 7 then m else z1 0 j := fun j => by rw [← hz2]; simp only [sset_at, updI_at, reduceIte, Nat.reduceEqDiff]
  have qo : ∀ c, c ≠ 28 → c ≠ 7 → c ≠ 0 → z2 c = z1 c := fun c a1 a2 a3 => by rw [← hz2, sset_ne a3, sset_ne a3, sset_ne a2, sset_ne a1]
  have xo : ∀ (c : Nat) (k : Int), bcl c = true → k < yn y → z2 c k = z c k := by
    intro c k hc hk
    have hc0 : c ≠ 0 := by rintro rfl; cases hc
    have hc21 : c ≠ 21 := by rintro rfl; cases hc
    by_cases c28 : c = 28
    · subst c28; rw [q28, if_neg (by omega), x0 28 k (Or.inl (by omega)) (by omega)]
    · by_cases c7 : c = 7
      · subst c7; rw [q7, if_neg (by omega), x0 7 k (Or.inl (by omega)) (by omega)]
      · rw [qo c c28 c7 hc0, x0 c k (Or.inl (by omega)) hc21]
  have tT : tI (tkS z2 hb (yn y)) (yn y + 1) := tI_take pT (fun k hk => xo 7 k rfl hk) (fun k hk => xo 23 k rfl hk) (fun k hk => xo 24 k rfl hk) (fun k hk => xo 25 k rfl hk) (by rw [qo 23 (by omega) (by omega) (by omega)]; exact x23) (by rw [qo 24 (by omega) (by omega) (by omega)]; exact x24) (by rw [qo 25 (by omega) (by omega) (by omega)]; exact x25) (by rw [q7, if_pos rfl]) hh
  have t0 : ∀ c, c ≠ 23 ∧ c ≠ 24 ∧ c ≠ 25 → tkS z2 hb (yn y) c = z2 c := fun c hc => tkS_o hc
  have z1c : ∀ c, bcl c = false → c ≠ 21 → z1 c = z c := fun c hc h21 => funext fun j => x0 c j (Or.inr hc) h21
  refine ⟨⟨⟨?_, ?_, ?_, ?_, ?_, ?_⟩, ?_, tT, ?_, ⟨?_, ?_⟩, fun k k0 k1 => ?_⟩, ⟨rfl, rfl, Nat.le_succ _⟩, fun k hk => ?_, fun c k a1 a2 a3 a4 a5 => ?_, fun j a1 a2 => ?_, ?_, ?_, ?_⟩
  · show yn y + 1 ≤ 20; omega
  · rw [t0 0 (by omega), q0, if_pos rfl]; rfl
  · rw [addB_0, if_pos rfl, p3]; rfl
  · rw [t0 1 (by omega), qo 1 (by omega) (by omega) (by omega), z1c 1 rfl (by omega), ← p4]
    funext j; exact addB_o u p w ty h lev hb j 1 (by omega)
  · unfold byOk; rw [t0 1 (by omega), qo 1 (by omega) (by omega) (by omega), z1c 1 rfl (by omega)]; exact p5
  · rw [t0 0 (by omega), q0, if_neg (by omega), if_neg (by omega), z1c 0 rfl (by omega)]; exact p6
  · refine kI_cg (y := yL (yA y b kp R) ea _) (z := z1) (by rw [t0 21 (by omega), qo 21 (by omega) (by omega) (by omega)]) (fun j hj => by rw [t0 27 (by omega), qo 27 (by omega) (by omega) (by omega)]) hK
  · exact Or.inr ⟨N, rfl, hN.1, hN.2.1, by omega, hN.2.2⟩
  · rw [t0 27 (by omega), xo 27 (-1) rfl (by omega)]; exact r1
  · rw [tkS_23, if_neg (by
      rintro ⟨a1, a2⟩
      rw [xo 25 hb rfl hh.2] at a1 a2
      omega), xo 23 (-1) rfl (by omega)]
    exact r2
  · rw [t0 2 (by omega), t0 3 (by omega), t0 4 (by omega), t0 5 (by omega), t0 6 (by omega), t0 7 (by omega), t0 26 (by omega), t0 27 (by omega), t0 28 (by omega), t0 18 (by omega), addB_2, addB_3, addB_4, addB_5, addB_6, addB_7, p3]
    by_cases hk : k = (yn y : Int)
    · subst hk
      rw [if_pos rfl, if_pos rfl, if_pos rfl, if_pos rfl, if_pos rfl, if_pos rfl, q28, if_pos rfl, q7, if_pos rfl, qo 2 (by omega) (by omega) (by omega), qo 3 (by omega) (by omega) (by omega), qo 4 (by omega) (by omega) (by omega), qo 5 (by omega) (by omega) (by omega), qo 6 (by omega) (by omega) (by omega), qo 26 (by omega) (by omega) (by omega), qo 27 (by omega) (by omega) (by omega), qo 18 (by omega) (by omega) (by omega), x2, x3, x4, x5, x6, x26, x27, x18]
      exact ⟨⟨rfl, rfl, rfl, rfl, rfl, rfl⟩, rfl, rfl, rfl, rfl⟩
    · have hk2 : k < yn y := by
        have : k < ((yn y + 1 : Nat) : Int) := k1
        omega
      rw [if_neg hk, if_neg hk, if_neg hk, if_neg hk, if_neg hk, if_neg hk, xo 2 k rfl hk2, xo 3 k rfl hk2, xo 4 k rfl hk2, xo 5 k rfl hk2, xo 6 k rfl hk2, xo 7 k rfl hk2, xo 26 k rfl hk2, xo 27 k rfl hk2, xo 28 k rfl hk2, xo 18 k rfl hk2]
      exact pB k k0 hk2
  · show updI (yo y) (yn y) b k = yo y k
    rw [updI_at, if_neg (by omega)]
  · rw [t0 c ⟨a2, a3, a4⟩]; exact xo c k a1 a5
  · rw [t0 0 (by omega), q0, if_neg a1, if_neg a2, z1c 0 rfl (by omega)]
  · rw [t0 1 (by omega), qo 1 (by omega) (by omega) (by omega), z1c 1 rfl (by omega)]
  · rw [t0 20 (by omega), qo 20 (by omega) (by omega) (by omega), z1c 20 rfl (by omega)]
  · rw [t0 22 (by omega), qo 22 (by omega) (by omega) (by omega), z1c 22 rfl (by omega)]
