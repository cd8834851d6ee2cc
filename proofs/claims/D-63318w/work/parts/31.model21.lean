/-! ===== the model: the boxes' order ===== -/
theorem popL_0 (e : Int → Int) (p : Int) : ∀ j : Nat, popL e p j = 0 → j = 0 ∨ p = e 1
  | 0, _ => Or.inl rfl
  | j + 1, h => by
    unfold popL at h
    by_cases q : p = e ((j + 1 : Nat) : Int)
    · rw [if_pos q] at h
      rcases popL_0 e p j h with z | z
      · subst z; exact Or.inr q
      · exact Or.inr z
    · rw [if_neg q] at h; omega
def orI (s : mS) (E p : Int) (lev : Nat) : Prop := s 8 0 = E ∧ (∀ k, 0 ≤ k → k < s 0 1 → s 2 k + s 3 k ≤ E) ∧ (∀ j k, 0 ≤ j → j < k → k < s 0 1 → s 6 j = 0 → s 6 k = 0 → s 2 j + s 3 j ≤ s 2 k) ∧ (∀ j, 0 ≤ j → j < s 0 1 → s 6 j = 0 → s 2 j + s 3 j ≤ (if lev = 0 then p else s 8 1))
/-- boxes end within the file; boxes on level 0 lie one behind another -/
def orOk (s : mS) (E : Int) : Prop := (∀ k, 0 ≤ k → k < s 0 1 → s 2 k + s 3 k ≤ E) ∧ (∀ j k, 0 ≤ j → j < k → k < s 0 1 → s 6 j = 0 → s 6 k = 0 → s 2 j + s 3 j ≤ s 2 k)
theorem rdL_ord {E : Int} : ∀ (f : Nat) (s : mS) (p : Int) (lev : Nat), byOk s → rI s p lev → orI s E p lev → orOk (rdL f s p lev).2 E
  | 0, s, p, lev, hb, hI, hO => ⟨hO.2.1, hO.2.2.1⟩
  | f + 1, s, p, lev0, hb, hI, hO => by
    have hle := popL_le (s 8) p lev0
    have hp0 := popL_0 (s 8) p lev0
    have hI := rI_pop hI
    have hO : orI s E p (popL (s 8) p lev0) := by
      refine ⟨hO.1, hO.2.1, hO.2.2.1, fun j h1 h2 h3 => ?_⟩
      have h4 := hO.2.2.2 j h1 h2 h3
      by_cases z : popL (s 8) p lev0 = 0
      · rw [if_pos z]
        rcases hp0 z with q | q
        · rw [if_pos q] at h4; exact h4
        · by_cases z0 : lev0 = 0
          · rw [if_pos z0] at h4; exact h4
          · rw [if_neg z0, ← q] at h4; exact h4
      · rw [if_neg z]
        rw [if_neg (by omega)] at h4; exact h4
    rw [rdL]
    generalize popL (s 8) p lev0 = lev at hI hO ⊢
    dsimp only
    by_cases g1 : p = s 8 lev
    · rw [if_pos g1]; exact ⟨hO.2.1, hO.2.2.1⟩
    rw [if_neg g1]
    by_cases g2 : s 0 1 = 20
    · rw [if_pos g2]; exact ⟨hO.2.1, hO.2.2.1⟩
    rw [if_neg g2]
    by_cases hok : ¬ hdOk (s 1) p (s 8 lev - p) lev
    · rw [if_neg hok]; exact ⟨hO.2.1, hO.2.2.1⟩
    have hok : hdOk (s 1) p (s 8 lev - p) lev := Classical.byContradiction hok
    rw [if_pos hok]
    obtain ⟨h1, h2, h3, h4, h5, h6, h7, h8⟩ := id hI
    obtain ⟨o1, o2, o3, o4⟩ := hO
    have b8 : s 8 lev ≤ E ∧ (lev ≠ 0 → s 8 lev ≤ s 8 1) := by
      rcases (show lev = 0 ∨ lev = 1 ∨ lev = 2 by omega) with rfl | rfl | rfl
      · exact ⟨by simp at *; omega, fun q => absurd rfl q⟩
      · have := h6 (by omega); simp at *; omega
      · have := h6 (by omega); have := h7 (by omega); simp at *; omega
    have hw := hok.2.2.2
    have hHd : hdH (s 1) p = 2 ∨ hdH (s 1) p = 4 := by unfold hdH; split <;> omega
    generalize hdS (s 1) p (s 8 lev - p) = w at hw ⊢
    generalize hdH (s 1) p = h0 at hw hHd ⊢
    have e0 := addB_0 s p w (s 1 (p + 1)) h0 lev (s 9 lev)
    have eo := addB_o s p w (s 1 (p + 1)) h0 lev (s 9 lev)
    have e2 := addB_2 s p w (s 1 (p + 1)) h0 lev (s 9 lev)
    have e3 := addB_3 s p w (s 1 (p + 1)) h0 lev (s 9 lev)
    have e6 := addB_6 s p w (s 1 (p + 1)) h0 lev (s 9 lev)
    generalize addB s p w (s 1 (p + 1)) h0 lev (s 9 lev) = s1 at e0 eo e2 e3 e6 ⊢
    have ec : s1 0 1 = s 0 1 + 1 := by rw [e0, if_pos rfl]
    have q80 : s1 8 0 = s 8 0 := eo 0 8 (by omega)
    have q81 : s1 8 1 = s 8 1 := eo 1 8 (by omega)
    have q82 : s1 8 2 = s 8 2 := eo 2 8 (by omega)
    have hb1 : byOk s1 := fun j => by rw [eo j 1 (Or.inl rfl)]; exact hb j
    have r2 : ∀ k, 0 ≤ k → k < s1 0 1 → s1 2 k + s1 3 k ≤ E := by
      intro k k0 k1
      rw [e2, e3]
      by_cases hk : k = s 0 1
      · rw [if_pos hk, if_pos hk]; omega
      · rw [if_neg hk, if_neg hk]; exact o2 k k0 (by omega)
    have r3 : ∀ j k, 0 ≤ j → j < k → k < s1 0 1 → s1 6 j = 0 → s1 6 k = 0 → s1 2 j + s1 3 j ≤ s1 2 k := by
      intro j k j0 jk k1 j6 k6
      rw [e6, if_neg (by omega)] at j6
      rw [e2, e3, e2, if_neg (by omega), if_neg (by omega)]
      rw [e6] at k6
      by_cases hk : k = s 0 1
      · rw [if_pos hk] at k6 ⊢
        have := o4 j j0 (by omega) j6
        rw [if_pos (by omega)] at this
        omega
      · rw [if_neg hk] at k6 ⊢
        exact o3 j k j0 jk (by omega) j6 k6
    by_cases hh : isHold (lev : Int) (s 1 (p + 1))
    · rw [if_pos hh]
      have hlev : lev ≤ 1 := by unfold isHold at hh; omega
      refine rdL_ord f _ _ _ ?_ ?_ ?_
      · intro j
        simp only [sset_at, reduceIte, Nat.reduceEqDiff]
        exact hb1 j
      · rcases (show lev = 0 ∨ lev = 1 by omega) with rfl | rfl
        · refine ⟨?_, ?_, by omega, by omega, ?_, ?_, ?_, ?_⟩ <;> simp [sset_at, updI_at, q80, q81, ec] at * <;> omega
        · refine ⟨?_, ?_, by omega, by omega, ?_, ?_, ?_, ?_⟩ <;> simp [sset_at, updI_at, q80, q81, ec] at * <;> omega
      · unfold orI
        simp only [sset_at, updI_at, reduceIte, Nat.reduceEqDiff]
        refine ⟨by rw [if_neg (by omega), q80]; exact o1, r2, r3, fun j j0 j1 j6 => ?_⟩
        rw [e6] at j6
        rcases (show lev = 0 ∨ lev = 1 by omega) with rfl | rfl
        · rw [if_pos (show (1 : Int) = ((0 + 1 : Nat) : Int) from rfl), e2, e3]
          by_cases hj : j = s 0 1
          · rw [if_pos hj, if_pos hj]; omega
          · rw [if_neg hj] at j6
            rw [if_neg hj, if_neg hj]
            have := o4 j j0 (by omega) j6
            rw [if_pos rfl] at this
            omega
        · rw [if_neg (show ¬ (1 : Int) = ((1 + 1 : Nat) : Int) by omega), q81, e2, e3]
          by_cases hj : j = s 0 1
          · rw [if_pos hj] at j6; omega
          · rw [if_neg hj] at j6
            rw [if_neg hj, if_neg hj]
            have := o4 j j0 (by omega) j6
            rw [if_neg (by omega)] at this
            exact this
    · rw [if_neg hh]
      refine rdL_ord f s1 (p + w) lev hb1 ?_ ⟨by rw [q80]; exact o1, r2, r3, fun j j0 j1 j6 => ?_⟩
      · have ql : s1 8 lev = s 8 lev := eo lev 8 (by omega)
        refine ⟨by omega, by omega, by omega, by omega, by omega, by omega, by omega, by omega⟩
      · rw [e6] at j6
        rw [e2, e3, q81]
        by_cases hj : j = s 0 1
        · rw [if_pos hj] at j6
          rw [if_pos hj, if_pos hj, if_pos (by omega)]; omega
        · rw [if_neg hj] at j6
          rw [if_neg hj, if_neg hj]
          have := o4 j j0 (by omega) j6
          by_cases z : lev = 0
          · rw [if_pos z] at this ⊢; omega
          · rw [if_neg z] at this ⊢; exact this
theorem rd_ord (s : mS) (hm : mI s) : orOk (rdL 100 (rd0 s) 0 0).2 (s 0 0) := by
  have h01 : rd0 s 0 1 = 0 := by simp [rd0, sset_at, updI_at]
  refine rdL_ord 100 (rd0 s) 0 0 (fun j => by unfold rd0; simp only [sset_at, reduceIte, Nat.reduceEqDiff]; exact hm.2 j) (by have := hm.1; refine ⟨?_, ?_, by omega, by omega, ?_, ?_, ?_, ?_⟩ <;> simp [rd0, sset_at, updI_at] <;> omega) ⟨by simp [rd0, sset_at, updI_at], fun k h0 h1 => absurd h1 (by omega), fun j k h0 h1 h2 => absurd h2 (by omega), fun j h0 h1 => absurd h1 (by omega)⟩
theorem orOk_of {s u : mS} {E : Int} (h0 : u 0 1 = s 0 1) (h2 : u 2 = s 2) (h3 : u 3 = s 3) (h6 : u 6 = s 6) (h : orOk s E) : orOk u E := by
  unfold orOk
  rw [h0, h2, h3, h6]; exact h
/-- check has answered 0: the order -/
theorem ckR_o {s0 : mS} (hm : mI s0) {v : mS} (h : ckR s0 0 v) : orOk v (v 0 0) ∧ fsOk v := by
  have hh := ckR_h hm h
  have ht := ckR_t hm h
  have hi := ckR_i hm h
  refine ⟨?_, hh.1, hh.2.1, hh.2.2.1, ht.1, fun t q0 q1 => (ht.2 t q0 q1).1⟩
  have ho2 := rd_ord s0 hm
  obtain ⟨f1, hr, ho, hk1, hk0⟩ := rd_ok s0 hm
  rw [hi.2]
  unfold ckR at h
  generalize (rdL 100 (rd0 s0) 0 0).2 = s at hr ho hk1 hk0 h ho2
  dsimp only at h
  rcases h with h | ⟨-, h | ⟨g2, h | ⟨hw, h | ⟨hc, hv, h | h⟩⟩⟩⟩
  · omega
  · omega
  · omega
  · omega
  · omega
  obtain ⟨hI, hT⟩ := kdF_I s hr ho (s 0 1).toNat (by have := hr.1; omega)
  generalize (kdF s (s 0 1).toNat).1 = u at hI hv
  have ha := agr_stT u (u 0 3).toNat
  rw [← hv] at ha
  refine orOk_of ?_ ?_ ?_ ?_ ho2
  · rw [ha 0 (by omega)]; exact hI.2.2.1
  · rw [ha 2 (by omega)]; exact hI.1 2 (by omega) (by omega) (by omega)
  · rw [ha 3 (by omega)]; exact hI.1 3 (by omega) (by omega) (by omega)
  · rw [ha 6 (by omega)]; exact hI.1 6 (by omega) (by omega) (by omega)
