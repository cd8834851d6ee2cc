/-! ===== the model: what kindsWrong leaves ===== -/
/-- what the second loop leaves: kdI, and what the table holds -/
def kdT (s t : mS) : Prop := ∀ j, 0 ≤ j → j < 16 → 0 ≤ t 11 j → s 6 (t 11 j) = 2 ∧ kdO (s 4 (t 11 j)) = j % 8
theorem kdF_I (s : mS) (hr : rdOk s) (ho : hoOk s) : ∀ k : Nat, (k : Int) ≤ s 0 1 → kdI s (kdF s k).1 k (kdF s k).2.1 (kdF s k).2.2 ∧ kdT s (kdF s k).1
  | 0, _ => by
    have hf : ∀ (n c : Nat), c ≠ 11 → fl16 (sset s 0 3 0) n c = sset s 0 3 0 c := by
      intro n
      induction n with
      | zero => intro c _; rfl
      | succ n ihn =>
        intro c hc
        rw [← ihn c hc]
        funext j
        show sset (fl16 (sset s 0 3 0) n) 11 n (-1) c j = fl16 (sset s 0 3 0) n c j
        rw [sset_at, if_neg hc]
    have h11 : ∀ (n : Nat) (j : Int), 0 ≤ j → j < n → fl16 (sset s 0 3 0) n 11 j = -1 := by
      intro n
      induction n with
      | zero => intro j h1 h2; omega
      | succ n ihn =>
        intro j h1 h2
        unfold fl16
        simp only [sset_at, updI_at, reduceIte]
        split
        · rfl
        · exact ihn j h1 (by omega)
    refine ⟨⟨?_, ?_, ?_, ?_, ?_, ?_, ?_, ?_, by show (0 : Int) ≤ 0; omega, by show (0 : Int) ≤ 0; omega, Or.inl rfl⟩, ?_⟩
    · intro c hc h10 h11
      show fl16 (sset s 0 3 0) 16 c = s c
      rw [hf 16 c h11]
      funext j
      simp only [sset_at]
      rw [if_neg (by omega)]
    · show fl16 (sset s 0 3 0) 16 0 0 = s 0 0
      rw [hf 16 0 (by omega)]; simp only [sset_at, updI_at, reduceIte, Int.reduceEq]
    · show fl16 (sset s 0 3 0) 16 0 1 = s 0 1
      rw [hf 16 0 (by omega)]; simp only [sset_at, updI_at, reduceIte, Int.reduceEq]
    · show fl16 (sset s 0 3 0) 16 0 4 = s 0 4
      rw [hf 16 0 (by omega)]; simp only [sset_at, updI_at, reduceIte, Int.reduceEq]
    · show 0 ≤ fl16 (sset s 0 3 0) 16 0 3
      rw [hf 16 0 (by omega)]; simp only [sset_at, updI_at, reduceIte]; omega
    · show fl16 (sset s 0 3 0) 16 0 3 ≤ _
      rw [hf 16 0 (by omega)]; simp only [sset_at, updI_at, reduceIte]; omega
    · intro j h1 h2; omega
    · intro j h1 h2
      show -1 ≤ fl16 (sset s 0 3 0) 16 11 j ∧ _
      rw [show (kdF s 0).1 11 j = -1 from h11 16 j h1 (by omega), h11 16 j h1 (by omega)]; omega
    · intro j h1 h2 h3
      rw [show (kdF s 0).1 11 j = -1 from h11 16 j h1 (by omega)] at h3
      omega
  | k + 1, hk => by
    obtain ⟨⟨i1, i2, i3, i4, i5, i6, i7, i8, i9, i10, i11⟩, hT⟩ := kdF_I s hr ho k (by omega)
    have hb := hr.2 k (by omega) (by omega)
    have ho2 := (ho k (by omega) (by omega)).2.2
    rw [kdF]
    generalize (kdF s k).1 = t at i1 i2 i3 i4 i5 i6 i7 i8 hT ⊢
    generalize (kdF s k).2.1 = mv at i9 i10 ⊢
    generalize (kdF s k).2.2 = wr at i11 ⊢
    have e6 : t 6 = s 6 := i1 6 (by omega) (by omega) (by omega)
    have e4 : t 4 = s 4 := i1 4 (by omega) (by omega) (by omega)
    have hA : ∀ c j, c ≠ 0 → kdA t k c j = t c j := by
      intro c j hc
      unfold kdA
      split
      · simp only [sset_at]; rw [if_neg hc]
      · rfl
    have hA0 : ∀ j, j ≠ 2 → kdA t k 0 j = t 0 j := by
      intro j hj
      unfold kdA
      split
      · simp only [sset_at, updI_at, reduceIte]; rw [if_neg hj]
      · rfl
    generalize kdA t k = tA at hA hA0 ⊢
    have hA6 : tA 6 k = s 6 k := by rw [hA 6 k (by omega), e6]
    have hA4 : tA 4 k = s 4 k := by rw [hA 4 k (by omega), e4]
    have hA3 : tA 0 3 = t 0 3 := hA0 3 (by omega)
    have hB : ∀ c j, c ≠ 0 → c ≠ 10 → kdB tA k c j = t c j := by
      intro c j hc h10
      rw [← hA c j hc]
      unfold kdB
      split
      · simp only [sset_at]
        rw [if_neg hc]
        split
        · simp only [sset_at]; rw [if_neg h10]
        · rfl
      · rfl
    have hB0 : ∀ j, j ≠ 2 → j ≠ 3 → kdB tA k 0 j = t 0 j := by
      intro j hj hj3
      rw [← hA0 j hj]
      unfold kdB
      split
      · simp only [sset_at, updI_at, reduceIte]
        rw [if_neg hj3]
        split
        · simp only [sset_at, reduceIte, Nat.reduceEqDiff]
        · rfl
      · rfl
    have hB3 : kdB tA k 0 3 = if s 6 k = 1 ∧ s 4 k = 84 then t 0 3 + 1 else t 0 3 := by
      unfold kdB
      rw [hA6, hA4]
      split
      · simp only [sset_at, updI_at, reduceIte]; rw [hA3]
      · exact hA3
    generalize kdB tA k = tB at hB hB0 hB3 ⊢
    have hB6 : tB 6 k = s 6 k := by rw [hB 6 k (by omega) (by omega), e6]
    have hB4 : tB 4 k = s 4 k := by rw [hB 4 k (by omega) (by omega), e4]
    have hB3b : 0 ≤ tB 0 3 ∧ tB 0 3 ≤ (k : Int) + 1 := by rw [hB3]; split <;> omega
    have hC : ∀ c j, c ≠ 0 → c ≠ 10 → c ≠ 11 → kdC tB k c j = t c j := by
      intro c j h1 h2 h3
      rw [← hB c j h1 h2]
      unfold kdC
      split
      · simp only [sset_at]; rw [if_neg h3]
      · rfl
    have hC0 : ∀ j, kdC tB k 0 j = tB 0 j := by
      intro j
      unfold kdC
      split
      · simp only [sset_at, reduceIte, Nat.reduceEqDiff]
      · rfl
    show kdI s (kdC tB k) (k + 1) (kdM t mv k) (kdW tB wr k) ∧ kdT s (kdC tB k)
    refine ⟨⟨?_, ?_, ?_, ?_, ?_, ?_, ?_, ?_, ?_, ?_, ?_⟩, ?_⟩
    · intro c hc h10 h11
      rw [← i1 c hc h10 h11]
      funext j
      exact hC c j (by omega) h10 h11
    · rw [hC0, hB0 0 (by omega) (by omega), i2]
    · rw [hC0, hB0 1 (by omega) (by omega), i3]
    · rw [hC0, hB0 4 (by omega) (by omega), i4]
    · rw [hC0]; omega
    · rw [hC0]; omega
    · intro j h1 h2 h6 h4
      rw [hC0, hB3]
      by_cases hj : j = k
      · subst hj
        rw [if_pos ⟨h6, h4⟩]; omega
      · have := i7 j h1 (by omega) h6 h4
        split <;> omega
    · intro j h1 h2
      have h3 := i8 j h1 h2
      unfold kdC
      split
      · simp only [sset_at, updI_at, reduceIte]
        split
        · omega
        · rw [hB 11 j (by omega) (by omega)]; omega
      · rw [hB 11 j (by omega) (by omega)]; omega
    · unfold kdM; split <;> omega
    · unfold kdM; split <;> omega
    · unfold kdW
      split
      · split <;> omega
      · exact i11
    · intro j h1 h2 h3
      have hkb := kdK_b tB k
      unfold kdC at h3 ⊢
      by_cases hc : 0 ≤ kdK tB k ∧ tB 0 3 ≤ 2
      · rw [if_pos hc] at h3 ⊢
        simp only [sset_at, updI_at, reduceIte] at h3 ⊢
        have h6 : s 6 k = 2 := by
          have : kdK tB k = if s 6 k = 2 then kdO (s 4 k) else -1 := by unfold kdK; rw [hB6, hB4]
          by_cases h : s 6 k = 2
          · exact h
          · rw [if_neg h] at this; omega
        have hkk : kdK tB k = kdO (s 4 k) := by unfold kdK; rw [hB6, hB4, if_pos h6]
        by_cases hj : j = 8 * (tB 0 3 - 1) + kdK tB k
        · rw [if_pos hj]
          refine ⟨h6, ?_⟩
          rw [← hkk]; omega
        · rw [if_neg hj] at h3 ⊢
          rw [hB 11 j (by omega) (by omega)] at h3 ⊢
          exact hT j h1 h2 h3
      · rw [if_neg hc] at h3 ⊢
        rw [hB 11 j (by omega) (by omega)] at h3 ⊢
        exact hT j h1 h2 h3
theorem kdE_0 {t : mS} {wr : Int} : ∀ {n : Nat}, kdE t wr n = 0 → wr = 0 ∧ ∀ j : Nat, j < n → ¬ ((0 ≤ tb t j 4 ↔ 0 ≤ tb t j 5) ∨ tb t j 0 < 0 ∨ tb t j 2 < 0 ∨ tb t j 3 < 0)
  | 0, h => ⟨h, fun j hj => absurd hj (Nat.not_lt_zero j)⟩
  | n + 1, h => by
    have e : kdE t wr (n + 1) = if ¬ kdE t wr n = 0 ∨ (0 ≤ tb t n 4 ↔ 0 ≤ tb t n 5) ∨ tb t n 0 < 0 ∨ tb t n 2 < 0 ∨ tb t n 3 < 0 then 1 else 0 := rfl
    rw [e] at h
    by_cases hc : ¬ kdE t wr n = 0 ∨ (0 ≤ tb t n 4 ↔ 0 ≤ tb t n 5) ∨ tb t n 0 < 0 ∨ tb t n 2 < 0 ∨ tb t n 3 < 0
    · rw [if_pos hc] at h; omega
    · have h0 : kdE t wr n = 0 := Classical.byContradiction fun q => hc (Or.inl q)
      obtain ⟨hw, hj⟩ := kdE_0 h0
      refine ⟨hw, fun j hjn => ?_⟩
      rcases Nat.lt_or_ge j n with q | q
      · exact hj j q
      · have : j = n := by omega
        subst this
        exact fun h => hc (Or.inr h)
theorem kdR_b {s : mS} (hr : rdOk s) (ho : hoOk s) : kdR s = 0 ∨ kdR s = 1 := by
  unfold kdR
  split
  · exact Or.inr rfl
  · exact kdE_b _ _ (kdF_I s hr ho (s 0 1).toNat (by have := hr.1; omega)).1.2.2.2.2.2.2.2.2.2.2 _
/-- kinds are right: what is known then -/
theorem kdR_0 {s : mS} (hr : rdOk s) (ho : hoOk s) (h : kdR s = 0) : (kdF s (s 0 1).toNat).2.1 = 1 ∧ 1 ≤ (kdF s (s 0 1).toNat).1 0 3 ∧ (kdF s (s 0 1).toNat).1 0 3 ≤ 2 ∧ (kdF s (s 0 1).toNat).2.2 = 0 ∧ ∀ t, 0 ≤ t → t < (kdF s (s 0 1).toNat).1 0 3 → ¬ (0 ≤ tb (kdF s (s 0 1).toNat).1 t 4 ↔ 0 ≤ tb (kdF s (s 0 1).toNat).1 t 5) ∧ 0 ≤ tb (kdF s (s 0 1).toNat).1 t 0 ∧ 0 ≤ tb (kdF s (s 0 1).toNat).1 t 2 ∧ 0 ≤ tb (kdF s (s 0 1).toNat).1 t 3 := by
  unfold kdR at h
  by_cases hc : ¬ (kdF s (s 0 1).toNat).2.1 = 1 ∨ (kdF s (s 0 1).toNat).1 0 3 < 1 ∨ 2 < (kdF s (s 0 1).toNat).1 0 3
  · rw [if_pos hc] at h; omega
  rw [if_neg hc] at h
  obtain ⟨hw, hj⟩ := kdE_0 h
  generalize (kdF s (s 0 1).toNat).1 = t at hc hj ⊢
  refine ⟨by omega, by omega, by omega, hw, fun j h0 h1 => ?_⟩
  obtain ⟨n, rfl⟩ := Int.eq_ofNat_of_zero_le h0
  have := hj n (by omega)
  refine ⟨fun q => this (Or.inl q), ?_, ?_, ?_⟩
  · exact Int.not_lt.mp fun q => this (Or.inr (Or.inl q))
  · exact Int.not_lt.mp fun q => this (Or.inr (Or.inr (Or.inl q)))
  · exact Int.not_lt.mp fun q => this (Or.inr (Or.inr (Or.inr q)))
def rowsAny (s : mS) : Prop := exB (fun k => k < 8 * s 0 3 ∧ 0 ≤ s 11 k ∧ rowsBad s (s 11 k) (k % 8)) 16
def cntAny (s : mS) : Prop := exB (fun t => cntBad s t) (s 0 3).toNat
def datBad (s : mS) (t : Int) : Prop := exB (fun c => hmO s t c.toNat < 0) (pv s (pbx s t) 0).toNat
def datAny (s : mS) : Prop := exB (fun t => datBad s t) (s 0 3).toNat
noncomputable def stT (s : mS) : Nat → mS
  | 0 => s
  | t + 1 => stS (stT s t) t (pv s (pbx s t) 0).toNat
theorem agr_stT (s : mS) : ∀ t : Nat, agr s (stT s t)
  | 0 => agr_rf s
  | t + 1 => agr_tr (agr_stT s t) (agr_st _ _ _)
theorem kW_row {s : mS} {k kd : Int} (h3 : ¬ kd = 3) (h : ¬ rowsBad s k kd) : 1 ≤ s 3 k - s 5 k ∧ s 3 k - s 5 k = 1 + kW kd * pv s k 0 ∧ ¬ exB (fun r => (kd = 2 ∧ badC s k r) ∨ (kd = 6 ∧ badS s k r)) (pv s k 0).toNat := by
  unfold rowsBad at h
  refine ⟨?_, ?_, ?_⟩
  · exact Int.not_lt.mp fun q => h (Or.inr ⟨h3, Or.inl q⟩)
  · exact Classical.byContradiction fun q => h (Or.inr ⟨h3, Or.inr (Or.inl q)⟩)
  · exact fun q => h (Or.inr ⟨h3, Or.inr (Or.inr q)⟩)
/-- kinds and rows are right: the tables of a track -/
theorem trOk_of {s u : mS} (hr : rdOk s) (ho : hoOk s) (hk : kdR s = 0) (hu : u = (kdF s (s 0 1).toNat).1) (hb : byOk u) (hw : ¬ rowsAny u) : rdOk u ∧ hoOk u ∧ ∀ t, 0 ≤ t → t < u 0 3 → trOk u t := by
  obtain ⟨hI, hT⟩ := kdF_I s hr ho (s 0 1).toNat (by have := hr.1; omega)
  obtain ⟨-, k1, k2, -, k4⟩ := kdR_0 hr ho hk
  rw [← hu] at hI hT k1 k2 k4
  obtain ⟨i1, i2, i3, i4, i5, i6, i7, i8, i9, i10, i11⟩ := hI
  have e2 : u 2 = s 2 := i1 2 (by omega) (by omega) (by omega)
  have e3 : u 3 = s 3 := i1 3 (by omega) (by omega) (by omega)
  have e4 : u 4 = s 4 := i1 4 (by omega) (by omega) (by omega)
  have e5 : u 5 = s 5 := i1 5 (by omega) (by omega) (by omega)
  have e6 : u 6 = s 6 := i1 6 (by omega) (by omega) (by omega)
  have e7 : u 7 = s 7 := i1 7 (by omega) (by omega) (by omega)
  have hru : rdOk u := by
    unfold rdOk
    rw [i3, e2, e3, e4, e5, e6, e7]; exact hr
  have hou : hoOk u := by
    unfold hoOk
    rw [i3, e4, e6, e7]; exact ho
  refine ⟨hru, hou, fun t h0 h1 => ?_⟩
  have hcn := hr.1
  have hx : ∀ kd, 0 ≤ kd → kd < 8 → 0 ≤ tb u t kd → bxok u (tb u t kd) ∧ ¬ rowsBad u (tb u t kd) kd ∧ u 6 (tb u t kd) = 2 ∧ kdO (u 4 (tb u t kd)) = kd ∧ (0 ≤ u 4 (tb u t kd) ∧ u 4 (tb u t kd) < 256) := by
    intro kd q0 q1 q2
    have hlt := i8 (8 * t + kd) (by omega) (by omega)
    have hb := hru.2 (tb u t kd) q2 (by show u 11 _ < _; omega)
    have ht := hT (8 * t + kd) (by omega) (by omega) q2
    refine ⟨⟨q2, by show u 11 _ < _; omega, by omega, by omega, by omega⟩, ?_, by rw [e6]; exact ht.1, ?_, by omega⟩
    · intro hbad
      refine hw ⟨(8 * t + kd).toNat, by omega, ?_⟩
      rw [show (((8 * t + kd).toNat : Nat) : Int) = 8 * t + kd by omega]
      refine ⟨by omega, q2, ?_⟩
      rw [show (8 * t + kd) % 8 = kd by omega]
      exact hbad
    · rw [e4]
      have := ht.2
      rw [show (8 * t + kd) % 8 = kd by omega] at this
      exact this
  obtain ⟨a1, a2, a3, a4⟩ := k4 t h0 h1
  have x0 := hx 0 (by omega) (by omega) a2
  have x2 := hx 2 (by omega) (by omega) a3
  have x3 := hx 3 (by omega) (by omega) a4
  have r0 := kW_row (by omega) x0.2.1
  have r2 := kW_row (by omega) x2.2.1
  refine ⟨⟨x0.1, r0.2.1⟩, fun q => ?_, ⟨x2.1, r2.2.1⟩, ⟨x3.1, ?_, ?_⟩, ?_, fun q => ?_, fun q => ?_, fun j h0 h1 => by have := i8 j h0 h1; omega⟩
  · have x := hx 1 (by omega) (by omega) q
    exact ⟨x.1, (kW_row (by omega) x.2.1).2.1⟩
  · exact Int.not_lt.mp fun q => x3.2.1 (Or.inl ⟨rfl, Or.inl q⟩)
  · intro hz
    have : u 3 (tb u t 3) - u 5 (tb u t 3) = (if pv u (tb u t 3) 0 = 0 then 2 + pv u (tb u t 3) 1 else 2) := Classical.byContradiction fun q => x3.2.1 (Or.inl ⟨rfl, Or.inr q⟩)
    rw [if_pos hz] at this
    exact this
  · unfold pbx
    by_cases h4 : tb u t 4 < 0
    · rw [if_pos h4]
      have h5 : 0 ≤ tb u t 5 := Classical.byContradiction fun q => a1 ⟨fun z => absurd z (by omega), fun z => absurd z q⟩
      have x := hx 5 (by omega) (by omega) h5
      have r := kW_row (by omega) x.2.1
      have hty : ¬ u 4 (tb u t 5) = 111 := fun z => by have := x.2.2.2.1; rw [z] at this; simp [kdO] at this
      refine ⟨x.1, r.1, fun z => absurd z hty, fun _ => r.2.1, x.2.2.2.2⟩
    · rw [if_neg h4]
      have x := hx 4 (by omega) (by omega) (by omega)
      have r := kW_row (by omega) x.2.1
      have hty : u 4 (tb u t 4) = 111 := by
        have := x.2.2.2.1
        unfold kdO at this
        (repeat' split at this) <;> omega
      refine ⟨x.1, r.1, fun _ => ?_, fun z => absurd hty z, x.2.2.2.2⟩
      rw [r.2.1]; unfold kW; rw [if_neg (by omega), if_pos (Or.inl rfl)]; omega
  · have x := hx 6 (by omega) (by omega) q
    exact ⟨x.1, (kW_row (by omega) x.2.1).2.1⟩
  · have x := hx 7 (by omega) (by omega) q
    exact ⟨x.1, (kW_row (by omega) x.2.1).2.1⟩
