/-! ===== kinds: the model's loop and the component's, plain ===== -/
def pTm (s : mS) : Int → Bool := fun j => decide (s 6 j = 1 ∧ s 4 j = 84)
def pMm (s : mS) : Int → Bool := fun j => decide (s 6 j = 0 ∧ s 4 j = 77)
def pK (s : mS) (i kd : Int) : Int → Bool := fun j => decide (s 6 j = 2 ∧ kdO (s 4 j) = kd ∧ cnb (pTm s) j.toNat = i + 1)
theorem pTm_t {s : mS} {j : Int} : pTm s j = true ↔ s 6 j = 1 ∧ s 4 j = 84 := by unfold pTm; exact decide_eq_true_iff
theorem pMm_t {s : mS} {j : Int} : pMm s j = true ↔ s 6 j = 0 ∧ s 4 j = 77 := by unfold pMm; exact decide_eq_true_iff
theorem pK_t {s : mS} {i kd j : Int} : pK s i kd j = true ↔ s 6 j = 2 ∧ kdO (s 4 j) = kd ∧ cnb (pTm s) j.toNat = i + 1 := by unfold pK; exact decide_eq_true_iff
def dpM (s : mS) (m : Nat) : Prop := ∃ i kd a b : Int, (0 ≤ i ∧ i ≤ 1 ∧ 0 ≤ kd ∧ kd ≤ 7) ∧ 0 ≤ a ∧ a < b ∧ b < m ∧ pK s i kd a = true ∧ pK s i kd b = true
section KD
variable {t : mS} {k j : Int} {c : Nat}
theorem kdA_o (h : c ≠ 0) : kdA t k c = t c := by
  unfold kdA; split
  · exact sset_ne h
  · rfl
theorem kdA_3 : kdA t k 0 3 = t 0 3 := by
  unfold kdA; split
  · exact sset_nj (by omega)
  · rfl
theorem kdA_2 : kdA t k 0 2 = if t 6 k = 0 ∧ t 4 k = 77 then k else t 0 2 := by
  unfold kdA; split
  · exact sset_eq
  · rfl
theorem kdB_o (h : c ≠ 0) (h' : c ≠ 10) : kdB t k c = t c := by
  unfold kdB; split
  · rw [sset_ne h]; split
    · exact sset_ne h'
    · rfl
  · rfl
theorem kdB_2 : kdB t k 0 2 = t 0 2 := by
  unfold kdB; split
  · rw [sset_nj (by omega)]; split
    · rw [sset_ne (by omega)]
    · rfl
  · rfl
theorem kdB_3 : kdB t k 0 3 = if t 6 k = 1 ∧ t 4 k = 84 then t 0 3 + 1 else t 0 3 := by
  unfold kdB; split
  · exact sset_eq
  · rfl
theorem kdC_o (h : c ≠ 11) : kdC t k c = t c := by
  unfold kdC; split
  · exact sset_ne h
  · rfl
theorem kdC_11 : kdC t k 11 j = if (0 ≤ kdK t k ∧ t 0 3 ≤ 2) ∧ j = 8 * (t 0 3 - 1) + kdK t k then k else t 11 j := by
  unfold kdC
  by_cases h : 0 ≤ kdK t k ∧ t 0 3 ≤ 2
  · rw [if_pos h, sset_at, if_pos rfl, updI_at]
    by_cases q : j = 8 * (t 0 3 - 1) + kdK t k
    · rw [if_pos q, if_pos ⟨h, q⟩]
    · rw [if_neg q, if_neg (fun w => q w.2)]
  · rw [if_neg h, if_neg (fun w => h w.1)]
end KD
theorem fl16_o {s : mS} {c : Nat} (h : c ≠ 11) : ∀ n : Nat, fl16 s n c = s c
  | 0 => rfl
  | n + 1 => by unfold fl16; rw [sset_ne h]; exact fl16_o h n
theorem fl16_11 {s : mS} : ∀ (n : Nat) (j : Int), 0 ≤ j → j < n → fl16 s n 11 j = -1
  | 0, j, h0, h1 => by omega
  | n + 1, j, h0, h1 => by
    unfold fl16
    rw [sset_at, if_pos rfl, updI_at]
    split
    · rfl
    · exact fl16_11 n j h0 (by omega)
theorem lsb_ss (p : Int → Bool) (n : Nat) : lsb p (n + 1) = if p n = true then (n : Int) else lsb p n := rfl
theorem cnb_ss (p : Int → Bool) (n : Nat) : cnb p (n + 1) = if p n = true then cnb p n + 1 else cnb p n := rfl
theorem dpM_s (s : mS) (m : Nat) : dpM s (m + 1) ↔ dpM s m ∨ ∃ i kd : Int, (0 ≤ i ∧ i ≤ 1 ∧ 0 ≤ kd ∧ kd ≤ 7) ∧ pK s i kd m = true ∧ 0 ≤ lsb (pK s i kd) m := by
  constructor
  · rintro ⟨i, kd, a, b, h1, h2, h3, h4, h5, h6⟩
    by_cases hb : b < m
    · exact Or.inl ⟨i, kd, a, b, h1, h2, h3, hb, h5, h6⟩
    · have e : b = m := by omega
      subst e
      have := lsb_max (pK s i kd) m a h2 h3 h5
      exact Or.inr ⟨i, kd, h1, h6, by omega⟩
  · rintro (⟨i, kd, a, b, h1, h2, h3, h4, h5⟩ | ⟨i, kd, h1, h2, h3⟩)
    · exact ⟨i, kd, a, b, h1, h2, h3, by omega, h5⟩
    · rcases lsb_b (pK s i kd) m with e | ⟨e1, e2, e3⟩
      · omega
      · exact ⟨i, kd, _, m, h1, e1, e2, by omega, e3, h2⟩
theorem kdF_D (s : mS) (hr : rdOk s) (ho : hoOk s) : ∀ m : Nat, (m : Int) ≤ s 0 1 →
    (∀ c, c ≠ 0 → c ≠ 10 → c ≠ 11 → (kdF s m).1 c = s c) ∧ (kdF s m).1 0 3 = cnb (pTm s) m ∧ (kdF s m).2.1 = cnb (pMm s) m ∧ (0 < cnb (pMm s) m → (kdF s m).1 0 2 = lsb (pMm s) m) ∧ (∀ i kd, 0 ≤ i → i ≤ 1 → 0 ≤ kd → kd ≤ 7 → (kdF s m).1 11 (8 * i + kd) = lsb (pK s i kd) m) ∧ ((kdF s m).2.2 = 0 ↔ ¬ dpM s m)
  | 0, _ => by
    refine ⟨fun c h0 h10 h11 => ?_, ?_, rfl, fun h => ?_, fun i kd a b c d => ?_, ⟨fun _ => ?_, fun _ => rfl⟩⟩
    · show fl16 (sset s 0 3 0) 16 c = s c
      rw [fl16_o h11, sset_ne h0]
    · show fl16 (sset s 0 3 0) 16 0 3 = 0
      rw [fl16_o (by omega), sset_eq]
    · exact absurd h (by show ¬ (0 : Int) < 0; omega)
    · exact fl16_11 16 _ (by omega) (by omega)
    · rintro ⟨i, kd, a, b, h1, h2, h3, h4, -⟩
      omega
  | m + 1, hm => by
    obtain ⟨i1, i2, i3, i4, i5, i6⟩ := kdF_D s hr ho m (by omega)
    have hrm := hr.2 m (by omega) (by omega)
    generalize hF : kdF s m = F at i1 i2 i3 i4 i5 i6
    obtain ⟨t0, mv, wr⟩ := F
    change (∀ c, c ≠ 0 → c ≠ 10 → c ≠ 11 → t0 c = s c) at i1
    change t0 0 3 = _ at i2
    change mv = _ at i3
    change _ → t0 0 2 = _ at i4
    change ∀ i kd, _ → _ → _ → _ → t0 11 (8 * i + kd) = _ at i5
    change wr = 0 ↔ _ at i6
    have eF : kdF s (m + 1) = (kdC (kdB (kdA t0 m) m) m, kdM t0 mv m, kdW (kdB (kdA t0 m) m) wr m) := by
      show (kdC (kdB (kdA (kdF s m).1 m) m) m, kdM (kdF s m).1 (kdF s m).2.1 m, kdW (kdB (kdA (kdF s m).1 m) m) (kdF s m).2.2 m) = _
      rw [hF]
    rw [eF]
    show (∀ c, c ≠ 0 → c ≠ 10 → c ≠ 11 → kdC (kdB (kdA t0 m) m) m c = s c) ∧ kdC (kdB (kdA t0 m) m) m 0 3 = _ ∧ kdM t0 mv m = _ ∧ (_ → kdC (kdB (kdA t0 m) m) m 0 2 = _) ∧ (∀ i kd, _ → _ → _ → _ → kdC (kdB (kdA t0 m) m) m 11 (8 * i + kd) = _) ∧ (kdW (kdB (kdA t0 m) m) wr m = 0 ↔ _)
    have e6 : t0 6 = s 6 := i1 6 (by omega) (by omega) (by omega)
    have e4 : t0 4 = s 4 := i1 4 (by omega) (by omega) (by omega)
    have b6 : kdB (kdA t0 m) m 6 = s 6 := by rw [kdB_o (by omega) (by omega), kdA_o (by omega), e6]
    have b4 : kdB (kdA t0 m) m 4 = s 4 := by rw [kdB_o (by omega) (by omega), kdA_o (by omega), e4]
    have b11 : kdB (kdA t0 m) m 11 = t0 11 := by rw [kdB_o (by omega) (by omega), kdA_o (by omega)]
    have b3 : kdB (kdA t0 m) m 0 3 = cnb (pTm s) (m + 1) := by
      rw [kdB_3, kdA_o (by omega), kdA_o (by omega), kdA_3, e6, e4, i2, cnb_ss]
      by_cases q : s 6 m = 1 ∧ s 4 m = 84
      · rw [if_pos q, if_pos (pTm_t.mpr q)]
      · rw [if_neg q, if_neg (fun w => q (pTm_t.mp w))]
    have hKm : kdK (kdB (kdA t0 m) m) m = if s 6 m = 2 then kdO (s 4 m) else -1 := by unfold kdK; rw [b6, b4]
    have hKb := kdO_b (s 4 m)
    have hc2 : s 6 m = 2 → cnb (pTm s) (m + 1) = cnb (pTm s) m ∧ 1 ≤ cnb (pTm s) m := by
      intro q
      refine ⟨by rw [cnb_ss, if_neg (fun w => by have := (pTm_t.mp w).1; omega)], ?_⟩
      obtain ⟨h1, h2, h3, h4⟩ := (ho m (by omega) (by omega)).2.2 q
      have := cnb_lt (p := pTm s) (a := s 7 m) (n := m) h1 h2 (pTm_t.mpr ⟨h3, h4⟩)
      have := cnb_nn (pTm s) (s 7 m).toNat
      omega
    have hpK : ∀ i kd : Int, pK s i kd m = true ↔ s 6 m = 2 ∧ kdO (s 4 m) = kd ∧ cnb (pTm s) m = i + 1 := by
      intro i kd
      have := pK_t (s := s) (i := i) (kd := kd) (j := m)
      rw [show ((m : Int)).toNat = m by omega] at this
      exact this
    refine ⟨fun c h0 h10 h11 => ?_, ?_, ?_, fun h => ?_, fun i kd a b c d => ?_, ?_⟩
    · rw [kdC_o h11, kdB_o h0 h10, kdA_o h0]; exact i1 c h0 h10 h11
    · rw [kdC_o (by omega), b3]
    · unfold kdM
      rw [e6, e4, i3, cnb_ss]
      by_cases q : s 6 m = 0 ∧ s 4 m = 77
      · rw [if_pos q, if_pos (pMm_t.mpr q)]
      · rw [if_neg q, if_neg (fun w => q (pMm_t.mp w))]
    · rw [kdC_o (by omega), kdB_2, kdA_2, e6, e4, lsb_ss]
      by_cases q : s 6 m = 0 ∧ s 4 m = 77
      · rw [if_pos q, if_pos (pMm_t.mpr q)]
      · rw [if_neg q, if_neg (fun w => q (pMm_t.mp w))]
        rw [cnb_ss, if_neg (fun w => q (pMm_t.mp w))] at h
        exact i4 h
    · rw [kdC_11, b3, b11, hKm, i5 i kd a b c d, lsb_ss]
      by_cases q6 : s 6 m = 2
      · have := hc2 q6
        rw [if_pos q6]
        by_cases q : pK s i kd m = true
        · have q' := (hpK i kd).mp q
          rw [if_pos q, if_pos (by omega)]
        · rw [if_neg q, if_neg]
          intro w
          exact q ((hpK i kd).mpr ⟨q6, by omega, by omega⟩)
      · rw [if_neg q6, if_neg (by omega), if_neg (fun w => q6 ((hpK i kd).mp w).1)]
    · unfold kdW
      rw [b3, b11, hKm, dpM_s]
      by_cases q6 : s 6 m = 2
      · have hh := hc2 q6
        rw [if_pos q6]
        by_cases q : 0 ≤ kdO (s 4 m) ∧ cnb (pTm s) (m + 1) ≤ 2
        · rw [if_pos q, i5 (cnb (pTm s) (m + 1) - 1) (kdO (s 4 m)) (by omega) (by omega) q.1 hKb.2]
          have hpm : pK s (cnb (pTm s) (m + 1) - 1) (kdO (s 4 m)) m = true := (hpK _ _).mpr ⟨q6, rfl, by omega⟩
          by_cases w : ¬ wr = 0 ∨ 0 ≤ lsb (pK s (cnb (pTm s) (m + 1) - 1) (kdO (s 4 m))) m
          · rw [if_pos w]
            refine ⟨fun h => by omega, fun h => absurd ?_ h⟩
            rcases w with w | w
            · exact Or.inl (Classical.byContradiction fun w2 => w (i6.mpr w2))
            · exact Or.inr ⟨_, _, ⟨by omega, by omega, q.1, hKb.2⟩, hpm, w⟩
          · rw [if_neg w]
            refine ⟨fun _ h => ?_, fun _ => rfl⟩
            rcases h with h | ⟨i, kd, h1, h2, h3⟩
            · exact i6.mp (Classical.byContradiction fun w2 => w (Or.inl w2)) h
            · have h4 := (hpK i kd).mp h2
              have ei : i = cnb (pTm s) (m + 1) - 1 := by omega
              have ek : kd = kdO (s 4 m) := h4.2.1.symm
              subst ei; subst ek
              exact w (Or.inr h3)
        · rw [if_neg q, i6]
          refine not_congr ⟨Or.inl, fun h => ?_⟩
          rcases h with h | ⟨i, kd, h1, h2, h3⟩
          · exact h
          · have h4 := (hpK i kd).mp h2
            exact absurd ⟨by omega, by omega⟩ q
      · rw [if_neg q6, if_neg (by omega), i6]
        refine not_congr ⟨Or.inl, fun h => ?_⟩
        rcases h with h | ⟨i, kd, h1, h2, h3⟩
        · exact h
        · exact absurd ((hpK i kd).mp h2).1 q6
/-- a box of level 2 lies behind the track that holds it, with none of a lower level between -/
def o2Ok (s : mS) : Prop := ∀ k j : Int, 0 ≤ k → k < s 0 1 → s 6 k = 2 → s 7 k < j → j < k → s 6 j = 2
theorem adU_6 (u : mS) (p : Int) (lev : Nat) (k : Int) : adU u p lev 6 k = if k = u 0 1 then (lev : Int) else u 6 k := by unfold adU; rw [addB_6]
theorem adU_7 (u : mS) (p : Int) (lev : Nat) (k : Int) : adU u p lev 7 k = if k = u 0 1 then u 9 lev else u 7 k := by unfold adU; rw [addB_7]
theorem opU_67 (u : mS) (p : Int) (lev : Nat) : opU u p lev 6 = adU u p lev 6 ∧ opU u p lev 7 = adU u p lev 7 := by
  unfold opU
  exact ⟨by rw [sset_ne (by omega), sset_ne (by omega)], by rw [sset_ne (by omega), sset_ne (by omega)]⟩
theorem rowL_o2 : ∀ (f : Nat) (u : mS) (p : Int) (lev : Nat), lev ≤ 2 → 0 ≤ u 0 1 → u 0 1 ≤ 20 → (∀ k : Int, k < u 0 1 → (rowL f u p lev).2 6 k = u 6 k ∧ (rowL f u p lev).2 7 k = u 7 k) ∧ ∀ k : Int, u 0 1 ≤ k → k < (rowL f u p lev).2 0 1 → (lev = 2 → (rowL f u p lev).2 6 k = 2 ∧ (rowL f u p lev).2 7 k = u 9 2) ∧ (lev < 2 → (rowL f u p lev).2 6 k = 2 → u 0 1 ≤ (rowL f u p lev).2 7 k ∧ ∀ j : Int, (rowL f u p lev).2 7 k < j → j < k → (rowL f u p lev).2 6 j = 2)
  | 0, u, p, lev, hl, h0, h20 => ⟨fun _ _ => ⟨rfl, rfl⟩, fun k a b => absurd b (by show ¬ k < u 0 1; omega)⟩
  | f + 1, u, p, lev, hl, h0, h20 => by
    have triv : ∀ r : Int, (∀ k : Int, k < u 0 1 → (r, u).2 6 k = u 6 k ∧ (r, u).2 7 k = u 7 k) ∧ ∀ k : Int, u 0 1 ≤ k → k < (r, u).2 0 1 → (lev = 2 → (r, u).2 6 k = 2 ∧ (r, u).2 7 k = u 9 2) ∧ (lev < 2 → (r, u).2 6 k = 2 → u 0 1 ≤ (r, u).2 7 k ∧ ∀ j : Int, (r, u).2 7 k < j → j < k → (r, u).2 6 j = 2) :=
      fun r => ⟨fun _ _ => ⟨rfl, rfl⟩, fun k a b => absurd b (by show ¬ k < u 0 1; omega)⟩
    unfold rowL
    split
    · exact triv 0
    split
    · exact triv 2
    split
    · split
      · rename_i hh
        have hl1 : lev ≤ 1 := by unfold isHold at hh; omega
        have o1 := op_01 u p lev
        have g := opU_67 u p lev
        have ra := rowL_o2 f (opU u p lev) (p + hdH (u 1) p) (lev + 1) (by omega) (by omega) (by omega)
        have fa := rowL_fu f (opU u p lev) (p + hdH (u 1) p) (lev + 1) (by omega)
        have e9 : opU u p lev 9 2 = u 0 1 ∨ lev = 0 := by
          rcases (by omega : lev = 0 ∨ lev = 1) with q | q
          · exact Or.inr q
          · subst q
            left
            unfold opU
            exact sset_eq
        generalize rowL f (opU u p lev) (p + hdH (u 1) p) (lev + 1) = r at ra fa ⊢
        have A : (∀ k : Int, k < u 0 1 → r.2 6 k = u 6 k ∧ r.2 7 k = u 7 k) ∧ ∀ k : Int, u 0 1 ≤ k → k < r.2 0 1 → (lev = 2 → r.2 6 k = 2 ∧ r.2 7 k = u 9 2) ∧ (lev < 2 → r.2 6 k = 2 → u 0 1 ≤ r.2 7 k ∧ ∀ j : Int, r.2 7 k < j → j < k → r.2 6 j = 2) := by
          refine ⟨fun k hk => ?_, fun k a b => ⟨fun q => by omega, fun _ q6 => ?_⟩⟩
          · have := ra.1 k (by omega)
            rw [g.1, g.2, adU_6, adU_7, if_neg (by omega), if_neg (by omega)] at this
            exact this
          · by_cases e : k = u 0 1
            · have := (ra.1 k (by omega)).1
              rw [g.1, adU_6, if_pos e] at this
              omega
            · have hk := ra.2 k (by omega) b
              rcases (by omega : lev = 0 ∨ lev = 1) with q | q
              · have := hk.2 (by omega) q6
                exact ⟨by omega, this.2⟩
              · have h1 := hk.1 (by omega)
                rw [e9.resolve_right (by omega)] at h1
                rw [h1.2]
                refine ⟨by omega, fun j j1 j2 => ?_⟩
                exact ((ra.2 j (by omega) (by omega)).1 (by omega)).1
        split
        · have rb := rowL_o2 f r.2 (p + hdS (u 1) p (u 8 lev - p)) lev hl (by omega) fa.2.2.1
          have fb := rowL_fu f r.2 (p + hdS (u 1) p (u 8 lev - p)) lev fa.2.2.1
          generalize rowL f r.2 (p + hdS (u 1) p (u 8 lev - p)) lev = r2 at rb fb ⊢
          refine ⟨fun k hk => ?_, fun k a b => ⟨fun q => by omega, fun ql q6 => ?_⟩⟩
          · have h1 := rb.1 k (by omega)
            have h2 := A.1 k hk
            exact ⟨h1.1.trans h2.1, h1.2.trans h2.2⟩
          · by_cases e : k < r.2 0 1
            · have h1 := rb.1 k e
              have h2 := (A.2 k a e).2 ql (by rw [← h1.1]; exact q6)
              rw [h1.2]
              refine ⟨h2.1, fun j j1 j2 => ?_⟩
              rw [(rb.1 j (by omega)).1]
              exact h2.2 j j1 j2
            · have h2 := (rb.2 k (by omega) b).2 ql q6
              exact ⟨by omega, h2.2⟩
        · exact A
      · have o1 := ad_01 u p lev
        have ra := rowL_o2 f (adU u p lev) (p + hdS (u 1) p (u 8 lev - p)) lev hl (by omega) (by omega)
        have e9 : adU u p lev 9 2 = u 9 2 := by unfold adU; exact addB_o u _ _ _ _ _ _ _ 9 (by omega)
        rw [e9] at ra
        generalize rowL f (adU u p lev) (p + hdS (u 1) p (u 8 lev - p)) lev = r at ra ⊢
        refine ⟨fun k hk => ?_, fun k a b => ⟨fun q => ?_, fun ql q6 => ?_⟩⟩
        · have := ra.1 k (by omega)
          rw [adU_6, adU_7, if_neg (by omega), if_neg (by omega)] at this
          exact this
        · by_cases e : k = u 0 1
          · have := ra.1 k (by omega)
            rw [adU_6, adU_7, if_pos e, if_pos e, q] at this
            exact this
          · exact (ra.2 k (by omega) b).1 q
        · by_cases e : k = u 0 1
          · have := (ra.1 k (by omega)).1
            rw [adU_6, if_pos e] at this
            omega
          · have := (ra.2 k (by omega) b).2 ql q6
            exact ⟨by omega, this.2⟩
    · exact triv 1
/-- the model's reading, by rows -/
theorem rdL_rowL (s : mS) : rdL 100 (rd0 s) 0 0 = rowL 100 (rd0 s) 0 0 := by
  have h01 : rd0 s 0 1 = 0 := by unfold rd0; rw [sset_ne (by omega), sset_ne (by omega), sset_eq]
  have h := rowL_rdL 100 100 (rd0 s) 0 0 (by omega) (by omega) (by omega)
  have f := rowL_fu 100 (rd0 s) 0 0 (by omega)
  rw [h]
  generalize rowL 100 (rd0 s) 0 0 = r at f ⊢
  split
  · rename_i q
    have e8 : r.2 8 ((0 : Nat) : Int) = rd0 s 8 ((0 : Nat) : Int) := (f.1.1 0 (by omega)).1
    obtain ⟨g, hg⟩ : ∃ g, 100 - (r.2 0 1 - rd0 s 0 1).toNat = g + 1 := ⟨99 - (r.2 0 1 - rd0 s 0 1).toNat, by omega⟩
    rw [hg, ← e8]
    unfold rdL
    have e : popL (r.2 8) (r.2 8 ((0 : Nat) : Int)) 0 = 0 := rfl
    simp only [e]
    rw [if_pos trivial]
    rw [← q]
  · rfl
theorem rd_o2 (s : mS) : o2Ok (rdL 100 (rd0 s) 0 0).2 := by
  have h01 : rd0 s 0 1 = 0 := by unfold rd0; rw [sset_ne (by omega), sset_ne (by omega), sset_eq]
  rw [rdL_rowL]
  intro k j h0 h1 h6 hj1 hj2
  exact (((rowL_o2 100 (rd0 s) 0 0 (by omega) (by omega) (by omega)).2 k (by omega) h1).2 (by omega) h6).2 j hj1 hj2
