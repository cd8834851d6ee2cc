/-! ===== two states of the model with the same bytes: read alike ===== -/
def eqR (u u' : mS) (lev : Nat) : Prop := u 0 1 = u' 0 1 ∧ u 1 = u' 1 ∧ (∀ (c : Nat) (k : Int), 2 ≤ c → c ≤ 7 → 0 ≤ k → k < u 0 1 → u c k = u' c k) ∧ ∀ i : Nat, i ≤ lev → u 8 i = u' 8 i ∧ u 9 i = u' 9 i
theorem eqR.dn {u u' : mS} {lev : Nat} (h : eqR u u' (lev + 1)) : eqR u u' lev := ⟨h.1, h.2.1, h.2.2.1, fun i hi => h.2.2.2 i (by omega)⟩
theorem addB_cg {u u' : mS} {lev : Nat} (h : eqR u u' lev) (h0 : 0 ≤ u 0 1) (p w ty hh lv hd : Int) : eqR (addB u p w ty hh lv hd) (addB u' p w ty hh lv hd) lev := by
  obtain ⟨a, b, c, d⟩ := h
  refine ⟨?_, ?_, fun cc k c2 c7 k0 k1 => ?_, fun i hi => ?_⟩
  · rw [addB_0, addB_0, if_pos rfl, if_pos rfl, a]
  · funext j
    rw [addB_o u p w ty hh lv hd j 1 (by omega), addB_o u' p w ty hh lv hd j 1 (by omega), b]
  · rw [addB_0, if_pos rfl] at k1
    rcases (by omega : cc = 2 ∨ cc = 3 ∨ cc = 4 ∨ cc = 5 ∨ cc = 6 ∨ cc = 7) with rfl | rfl | rfl | rfl | rfl | rfl
    · rw [addB_2, addB_2, ← a]
      by_cases e : k = u 0 1
      · rw [if_pos e, if_pos e]
      · rw [if_neg e, if_neg e]; exact c 2 k (by omega) (by omega) k0 (by omega)
    · rw [addB_3, addB_3, ← a]
      by_cases e : k = u 0 1
      · rw [if_pos e, if_pos e]
      · rw [if_neg e, if_neg e]; exact c 3 k (by omega) (by omega) k0 (by omega)
    · rw [addB_4, addB_4, ← a]
      by_cases e : k = u 0 1
      · rw [if_pos e, if_pos e]
      · rw [if_neg e, if_neg e]; exact c 4 k (by omega) (by omega) k0 (by omega)
    · rw [addB_5, addB_5, ← a]
      by_cases e : k = u 0 1
      · rw [if_pos e, if_pos e]
      · rw [if_neg e, if_neg e]; exact c 5 k (by omega) (by omega) k0 (by omega)
    · rw [addB_6, addB_6, ← a]
      by_cases e : k = u 0 1
      · rw [if_pos e, if_pos e]
      · rw [if_neg e, if_neg e]; exact c 6 k (by omega) (by omega) k0 (by omega)
    · rw [addB_7, addB_7, ← a]
      by_cases e : k = u 0 1
      · rw [if_pos e, if_pos e]
      · rw [if_neg e, if_neg e]; exact c 7 k (by omega) (by omega) k0 (by omega)
  · rw [addB_o u p w ty hh lv hd i 8 (by omega), addB_o u' p w ty hh lv hd i 8 (by omega), addB_o u p w ty hh lv hd i 9 (by omega), addB_o u' p w ty hh lv hd i 9 (by omega)]
    exact d i hi
theorem adU_cg {u u' : mS} {lev : Nat} (h : eqR u u' lev) (h0 : 0 ≤ u 0 1) (p : Int) : eqR (adU u p lev) (adU u' p lev) lev := by
  unfold adU
  rw [← h.2.1, ← (h.2.2.2 lev (Nat.le_refl _)).1, ← (h.2.2.2 lev (Nat.le_refl _)).2]
  exact addB_cg h h0 _ _ _ _ _ _
theorem opU_cg {u u' : mS} {lev : Nat} (h : eqR u u' lev) (h0 : 0 ≤ u 0 1) (p : Int) : eqR (opU u p lev) (opU u' p lev) (lev + 1) := by
  obtain ⟨a, b, c, d⟩ := adU_cg h h0 p
  unfold opU
  rw [← h.2.1, ← (h.2.2.2 lev (Nat.le_refl _)).1, ← h.1]
  refine ⟨?_, ?_, fun cc k c2 c7 k0 k1 => ?_, fun i hi => ?_⟩
  · rw [sset_ne (by omega), sset_ne (by omega), sset_ne (by omega), sset_ne (by omega)]; exact a
  · rw [sset_ne (by omega), sset_ne (by omega), sset_ne (by omega), sset_ne (by omega)]; exact b
  · rw [sset_ne (by omega), sset_ne (by omega)] at k1
    rw [sset_ne (by omega), sset_ne (by omega), sset_ne (by omega), sset_ne (by omega)]
    exact c cc k c2 c7 k0 k1
  · by_cases e : i = lev + 1
    · subst e
      rw [sset_ne (c := 9) (c' := 8) (by omega), sset_ne (c := 9) (c' := 8) (by omega), sset_eq, sset_eq, sset_eq, sset_eq]
      exact ⟨rfl, rfl⟩
    · have hne : (i : Int) ≠ ((lev + 1 : Nat) : Int) := by omega
      rw [sset_nj hne, sset_nj hne, sset_nj hne, sset_nj hne, sset_nj hne, sset_nj hne, sset_nj hne, sset_nj hne]
      exact d i (by omega)
theorem rowL_cg : ∀ (F : Nat) (u u' : mS) (p : Int) (lev : Nat), 0 ≤ u 0 1 → u 0 1 ≤ 20 → eqR u u' lev → (rowL F u p lev).1 = (rowL F u' p lev).1 ∧ eqR (rowL F u p lev).2 (rowL F u' p lev).2 lev
  | 0, u, u', p, lev, _, _, h => ⟨rfl, h⟩
  | F + 1, u, u', p, lev, h0, h20, h => by
    have e8 := (h.2.2.2 lev (Nat.le_refl _)).1
    unfold rowL
    rw [← e8, ← h.1, ← h.2.1]
    by_cases c1 : p = u 8 lev
    · rw [if_pos c1, if_pos c1]; exact ⟨rfl, h⟩
    · rw [if_neg c1, if_neg c1]
      by_cases c2 : u 0 1 = 20
      · rw [if_pos c2, if_pos c2]; exact ⟨rfl, h⟩
      · rw [if_neg c2, if_neg c2]
        by_cases c3 : hdOk (u 1) p (u 8 lev - p) lev
        · rw [if_pos c3, if_pos c3]
          by_cases c4 : isHold lev (u 1 (p + 1))
          · rw [if_pos c4, if_pos c4]
            have o1 := op_01 u p lev
            have ra := rowL_cg F (opU u p lev) (opU u' p lev) (p + hdH (u 1) p) (lev + 1) (by omega) (by omega) (opU_cg h h0 p)
            have fa := rowL_fu F (opU u p lev) (p + hdH (u 1) p) (lev + 1) (by omega)
            rw [← ra.1]
            by_cases c5 : (rowL F (opU u p lev) (p + hdH (u 1) p) (lev + 1)).1 = 0
            · rw [if_pos c5, if_pos c5]
              exact rowL_cg F _ _ _ lev (by omega) fa.2.2.1 ra.2.dn
            · rw [if_neg c5, if_neg c5]
              exact ⟨ra.1, ra.2.dn⟩
          · rw [if_neg c4, if_neg c4]
            have o1 := ad_01 u p lev
            exact rowL_cg F _ _ _ lev (by omega) (by omega) (adU_cg h h0 p)
        · rw [if_neg c3, if_neg c3]; exact ⟨rfl, h⟩
theorem rd_cg {s s' : mS} (h0 : s 0 0 = s' 0 0) (h1 : s 1 = s' 1) : (rdL 100 (rd0 s) 0 0).1 = (rdL 100 (rd0 s') 0 0).1 ∧ eqR (rdL 100 (rd0 s) 0 0).2 (rdL 100 (rd0 s') 0 0).2 0 := by
  rw [rdL_rowL, rdL_rowL]
  have r01 : ∀ s : mS, rd0 s 0 1 = 0 := fun s => by unfold rd0; rw [sset_ne (by omega), sset_ne (by omega), sset_eq]
  have r1 : ∀ s : mS, rd0 s 1 = s 1 := fun s => by unfold rd0; rw [sset_ne (by omega), sset_ne (by omega), sset_ne (by omega)]
  have r8 : ∀ s : mS, rd0 s 8 ((0 : Nat) : Int) = s 0 0 := fun s => by unfold rd0; rw [sset_ne (by omega)]; exact sset_eq
  have r9 : ∀ s : mS, rd0 s 9 ((0 : Nat) : Int) = -1 := fun s => by unfold rd0; exact sset_eq
  refine rowL_cg 100 (rd0 s) (rd0 s') 0 0 (by rw [r01]; omega) (by rw [r01]; omega) ⟨by rw [r01, r01], by rw [r1, r1, h1], fun c k _ _ k0 k1 => by rw [r01] at k1; omega, fun i hi => ?_⟩
  have : i = 0 := by omega
  subst this
  exact ⟨by rw [r8, r8, h0], by rw [r9, r9]⟩
theorem qI_eq {G : gG} {y : xP} {z u u' : mS} {lev : Nat} (h : eqR u u' lev) (hq : qI G y z u) : qI G y z u' := by
  obtain ⟨⟨a1, a2, a3, a4, a5⟩, b2, b3, b4, b5, b6⟩ := hq
  refine ⟨⟨a1, a2, by rw [← h.1]; exact a3, by rw [← h.2.1]; exact a4, a5⟩, b2, b3, b4, b5, fun k k0 k1 => ?_⟩
  have e : ∀ c, 2 ≤ c → c ≤ 7 → u' c k = u c k := fun c c2 c7 => (h.2.2.1 c k c2 c7 k0 (by rw [a3]; exact k1)).symm
  rw [e 2 (by omega) (by omega), e 3 (by omega) (by omega), e 4 (by omega) (by omega), e 5 (by omega) (by omega), e 6 (by omega) (by omega), e 7 (by omega) (by omega)]
  exact b6 k k0 k1
