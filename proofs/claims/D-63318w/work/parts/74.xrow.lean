/-! ===== the component: readRow ===== -/
theorem popL_at {e : Int → Int} {p : Int} {lev : Nat} (h : p ≠ e lev) : popL e p lev = lev := by
  cases lev with
  | zero => rfl
  | succ j => unfold popL; rw [if_neg h]
theorem rdL_pop {f : Nat} {u : mS} {p : Int} {lev : Nat} (h : p = u 8 ((lev + 1 : Nat) : Int)) : rdL f u p (lev + 1) = rdL f u p lev := by
  have e : popL (u 8) p (lev + 1) = popL (u 8) p lev := by
    conv => lhs; unfold popL
    rw [if_pos h]
  cases f with
  | zero => rfl
  | succ f => unfold rdL; rw [e]
/-- the box at p, as the model adds it -/
def adU (u : mS) (p : Int) (lev : Nat) : mS := addB u p (hdS (u 1) p (u 8 lev - p)) (u 1 (p + 1)) (hdH (u 1) p) lev (u 9 lev)
/-- .. and opens its row -/
def opU (u : mS) (p : Int) (lev : Nat) : mS := sset (sset (adU u p lev) 8 ((lev + 1 : Nat) : Int) (p + hdS (u 1) p (u 8 lev - p))) 9 ((lev + 1 : Nat) : Int) (u 0 1)
theorem rdL_step {f : Nat} {u : mS} {p : Int} {lev : Nat} (h : p ≠ u 8 lev) : rdL (f + 1) u p lev = if u 0 1 = 20 then (2, u) else if hdOk (u 1) p (u 8 lev - p) lev then (if isHold lev (u 1 (p + 1)) then rdL f (opU u p lev) (p + hdH (u 1) p) (lev + 1) else rdL f (adU u p lev) (p + hdS (u 1) p (u 8 lev - p)) lev) else (1, u) := by
  conv => lhs; unfold rdL
  simp only [popL_at h]
  rw [if_neg h]
  rfl
theorem hold_cl {ty lev : Int} (h : 0 ≤ lev ∧ lev ≤ 2) : isHold lev ty ↔ clN (clO (knO ty lev)) = 1 := by
  unfold isHold clN clO knO
  rcases (by omega : lev = 0 ∨ lev = 1 ∨ lev = 2) with rfl | rfl | rfl
  · by_cases h1 : ty = 77
    · subst h1; simp
    · by_cases h2 : ty = 68
      · subst h2; simp
      · simp [h1, h2]
  · by_cases h1 : ty = 84
    · subst h1; simp
    · simp [h1]
  · simp
    repeat' split
    all_goals omega
/-- a row of boxes, read by recursion: the fault (0: none), and what was read -/
def rowL : Nat → mS → Int → Nat → Int × mS
  | 0, u, _, _ => (0, u)
  | f + 1, u, p, lev =>
    if p = u 8 lev then (0, u) else if u 0 1 = 20 then (2, u)
    else if hdOk (u 1) p (u 8 lev - p) lev then
      (if isHold lev (u 1 (p + 1)) then
        (if (rowL f (opU u p lev) (p + hdH (u 1) p) (lev + 1)).1 = 0
          then rowL f (rowL f (opU u p lev) (p + hdH (u 1) p) (lev + 1)).2 (p + hdS (u 1) p (u 8 lev - p)) lev
          else rowL f (opU u p lev) (p + hdH (u 1) p) (lev + 1))
      else rowL f (adU u p lev) (p + hdS (u 1) p (u 8 lev - p)) lev)
    else (1, u)
theorem fu_op (u : mS) (p : Int) (lev : Nat) : fu u (opU u p lev) lev := by
  refine ⟨fun i hi => ?_, fun j hj => ?_, ?_, fun c hc => ?_⟩
  · have h : fu u (adU u p lev) lev := fu_add u p (hdS (u 1) p (u 8 lev - p)) (u 1 (p + 1)) (hdH (u 1) p) lev (u 9 lev) lev
    have hne : (i : Int) ≠ ((lev + 1 : Nat) : Int) := by omega
    show sset (sset _ 8 _ _) 9 _ _ 8 (i : Int) = _ ∧ sset (sset _ 8 _ _) 9 _ _ 9 (i : Int) = _
    rw [sset_nj hne, sset_nj hne, sset_nj hne, sset_nj hne]
    exact h.1 i hi
  · show sset (sset _ 8 _ _) 9 _ _ 0 j = _
    rw [sset_ne (by omega), sset_ne (by omega)]; unfold adU; rw [addB_0, if_neg hj]
  · show sset (sset _ 8 _ _) 9 _ _ 1 = _
    rw [sset_ne (by omega), sset_ne (by omega)]
    funext j; exact addB_o u _ _ _ _ _ _ j 1 (by omega)
  · show sset (sset _ 8 _ _) 9 _ _ c = _
    rw [sset_ne (by omega), sset_ne (by omega)]
    funext j; exact addB_o u _ _ _ _ _ _ j c (by omega)
theorem ad_01 (u : mS) (p : Int) (lev : Nat) : adU u p lev 0 1 = u 0 1 + 1 := by unfold adU; rw [addB_0, if_pos rfl]
theorem op_01 (u : mS) (p : Int) (lev : Nat) : opU u p lev 0 1 = u 0 1 + 1 := by
  show sset (sset _ 8 _ _) 9 _ _ 0 1 = _
  rw [sset_ne (by omega), sset_ne (by omega)]; exact ad_01 u p lev
/-- rowL: what it keeps, the count grows, to 20 at most -/
theorem rowL_fu : ∀ (f : Nat) (u : mS) (p : Int) (lev : Nat), u 0 1 ≤ 20 → fu u (rowL f u p lev).2 lev ∧ u 0 1 ≤ (rowL f u p lev).2 0 1 ∧ (rowL f u p lev).2 0 1 ≤ 20 ∧ ((rowL f u p lev).1 = 0 ∨ (rowL f u p lev).1 = 1 ∨ (rowL f u p lev).1 = 2)
  | 0, u, p, lev, h => ⟨fu.rf _ _, Int.le_refl _, h, Or.inl rfl⟩
  | f + 1, u, p, lev, h => by
    unfold rowL
    split
    · exact ⟨fu.rf _ _, Int.le_refl _, h, Or.inl rfl⟩
    split
    · exact ⟨fu.rf _ _, Int.le_refl _, h, Or.inr (Or.inr rfl)⟩
    split
    · split
      · have a := rowL_fu f (opU u p lev) (p + hdH (u 1) p) (lev + 1) (by rw [op_01]; omega)
        have o1 := op_01 u p lev
        have b0 := (fu_op u p lev).tr a.1 (Nat.le_succ lev)
        split
        · have b := rowL_fu f (rowL f (opU u p lev) (p + hdH (u 1) p) (lev + 1)).2 (p + hdS (u 1) p (u 8 lev - p)) lev a.2.2.1
          exact ⟨b0.tr b.1 (Nat.le_refl _), by omega, b.2.2.1, b.2.2.2⟩
        · exact ⟨b0, by omega, a.2.2.1, a.2.2.2⟩
      · have a := rowL_fu f (adU u p lev) (p + hdS (u 1) p (u 8 lev - p)) lev (by rw [ad_01]; omega)
        have o1 := ad_01 u p lev
        exact ⟨(fu_add u _ _ _ _ _ _ lev).tr a.1 (Nat.le_refl _), by omega, a.2.2.1, a.2.2.2⟩
    · exact ⟨fu.rf _ _, Int.le_refl _, h, Or.inr (Or.inl rfl)⟩
/-- the model's loop does the same -/
theorem rowL_rdL : ∀ (f g : Nat) (u : mS) (p : Int) (lev : Nat), u 0 1 ≤ 20 → 21 - u 0 1 ≤ f → 21 - u 0 1 ≤ g → rdL g u p lev = if (rowL f u p lev).1 = 0 then rdL (g - ((rowL f u p lev).2 0 1 - u 0 1).toNat) (rowL f u p lev).2 (u 8 lev) lev else rowL f u p lev
  | 0, g, u, p, lev, h, hf, hg => by omega
  | f + 1, g, u, p, lev, h, hf, hg => by
    obtain ⟨g', rfl⟩ : ∃ g', g = g' + 1 := ⟨g - 1, by omega⟩
    by_cases h1 : p = u 8 lev
    · have e : rowL (f + 1) u p lev = (0, u) := by unfold rowL; rw [if_pos h1]
      rw [e, if_pos rfl, h1]
      show _ = rdL (g' + 1 - (u 0 1 - u 0 1).toNat) u (u 8 lev) lev
      rw [show (u 0 1 - u 0 1).toNat = 0 by omega, Nat.sub_zero]
    · rw [rdL_step h1]
      unfold rowL
      rw [if_neg h1]
      by_cases h2 : u 0 1 = 20
      · rw [if_pos h2, if_pos h2, if_neg (by show ¬ (2 : Int) = 0; omega)]
      · rw [if_neg h2, if_neg h2]
        by_cases h3 : hdOk (u 1) p (u 8 lev - p) lev
        · rw [if_pos h3, if_pos h3]
          by_cases h4 : isHold lev (u 1 (p + 1))
          · rw [if_pos h4, if_pos h4]
            have o1 := op_01 u p lev
            have ra := rowL_rdL f g' (opU u p lev) (p + hdH (u 1) p) (lev + 1) (by omega) (by omega) (by omega)
            have fa := rowL_fu f (opU u p lev) (p + hdH (u 1) p) (lev + 1) (by omega)
            show rdL g' (opU u p lev) (p + hdH (u 1) p) (lev + 1) = _
            rw [ra]
            have e8 : opU u p lev 8 ((lev + 1 : Nat) : Int) = p + hdS (u 1) p (u 8 lev - p) := by
              show sset (sset _ 8 _ _) 9 _ _ 8 _ = _
              rw [sset_ne (by omega), sset_eq]
            rw [e8]
            generalize hr : rowL f (opU u p lev) (p + hdH (u 1) p) (lev + 1) = r at fa ⊢
            show _ = if (if r.1 = 0 then rowL f r.2 (p + hdS (u 1) p (u 8 lev - p)) lev else r).1 = 0 then _ else (if r.1 = 0 then rowL f r.2 (p + hdS (u 1) p (u 8 lev - p)) lev else r)
            by_cases h5 : r.1 = 0
            · simp only [h5, if_true]
              have e9 : r.2 8 ((lev + 1 : Nat) : Int) = p + hdS (u 1) p (u 8 lev - p) := by rw [(fa.1.1 (lev + 1) (Nat.le_refl _)).1]; exact e8
              rw [rdL_pop e9.symm]
              have rb := rowL_rdL f (g' - (r.2 0 1 - opU u p lev 0 1).toNat) r.2 (p + hdS (u 1) p (u 8 lev - p)) lev fa.2.2.1 (by omega) (by omega)
              have fb := rowL_fu f r.2 (p + hdS (u 1) p (u 8 lev - p)) lev fa.2.2.1
              rw [rb]
              have e10 : r.2 8 (lev : Int) = u 8 lev := (fa.1.1 lev (by omega)).1.trans ((fu_op u p lev).1 lev (Nat.le_refl _)).1
              rw [e10]
              generalize rowL f r.2 (p + hdS (u 1) p (u 8 lev - p)) lev = r2 at fb ⊢
              by_cases h6 : r2.1 = 0
              · simp only [h6, if_true]
                congr 1
                omega
              · simp only [h6, if_false]
            · simp only [h5, if_false]
          · rw [if_neg h4, if_neg h4]
            have o1 := ad_01 u p lev
            have ra := rowL_rdL f g' (adU u p lev) (p + hdS (u 1) p (u 8 lev - p)) lev (by omega) (by omega) (by omega)
            have fa := rowL_fu f (adU u p lev) (p + hdS (u 1) p (u 8 lev - p)) lev (by omega)
            show rdL g' (adU u p lev) (p + hdS (u 1) p (u 8 lev - p)) lev = _
            rw [ra]
            have e8 : adU u p lev 8 (lev : Int) = u 8 lev := addB_o u _ _ _ _ _ _ _ 8 (by omega)
            rw [e8]
            show _ = if (rowL f (adU u p lev) (p + hdS (u 1) p (u 8 lev - p)) lev).1 = 0 then _ else rowL f (adU u p lev) (p + hdS (u 1) p (u 8 lev - p)) lev
            generalize rowL f (adU u p lev) (p + hdS (u 1) p (u 8 lev - p)) lev = r at fa ⊢
            by_cases h6 : r.1 = 0
            · simp only [h6, if_true]
              congr 1
              omega
            · simp only [h6, if_false]
        · rw [if_neg h3, if_neg h3, if_neg (by show ¬ (1 : Int) = 0; omega)]
