/-! ===== the model: the movie, the chunks' boxes; states that agree; lengths ===== -/
theorem kdF_M (s : mS) (hr : rdOk s) (ho : hoOk s) : ∀ k : Nat, (k : Int) ≤ s 0 1 → 0 ≤ (kdF s k).2.1 ∧ ((kdF s k).2.1 = 0 → ∀ j : Int, 0 ≤ j → j < k → ¬ (s 6 j = 0 ∧ s 4 j = 77)) ∧ ((kdF s k).2.1 = 1 → 0 ≤ (kdF s k).1 0 2 ∧ (kdF s k).1 0 2 < k ∧ s 6 ((kdF s k).1 0 2) = 0 ∧ s 4 ((kdF s k).1 0 2) = 77 ∧ ∀ j : Int, 0 ≤ j → j < k → s 6 j = 0 → s 4 j = 77 → j = (kdF s k).1 0 2)
  | 0, _ => ⟨Int.le_refl 0, fun _ j h1 h2 => absurd h2 (by omega), fun h => absurd h (by show ¬ (0 : Int) = 1; omega)⟩
  | k + 1, hk => by
    obtain ⟨m0, m1, m2⟩ := kdF_M s hr ho k (by omega)
    obtain ⟨⟨i1, -⟩, -⟩ := kdF_I s hr ho k (by omega)
    rw [kdF]
    dsimp only
    generalize (kdF s k).1 = t at i1 m1 m2 ⊢
    generalize (kdF s k).2.1 = mv at m0 m1 m2 ⊢
    generalize (kdF s k).2.2 = wr
    have e6 : t 6 k = s 6 k := by rw [i1 6 (by omega) (by omega) (by omega)]
    have e4 : t 4 k = s 4 k := by rw [i1 4 (by omega) (by omega) (by omega)]
    have h2 : kdC (kdB (kdA t k) k) k 0 2 = if s 6 k = 0 ∧ s 4 k = 77 then (k : Int) else t 0 2 := by
      have c1 : ∀ u : mS, kdC u k 0 2 = u 0 2 := by
        intro u; unfold kdC
        split
        · simp only [sset_at, reduceIte, Nat.reduceEqDiff]
        · rfl
      have c2 : ∀ u : mS, kdB u k 0 2 = u 0 2 := by
        intro u; unfold kdB
        split
        · simp only [sset_at, updI_at, reduceIte, Int.reduceEq]
          split
          · simp only [sset_at, reduceIte, Nat.reduceEqDiff]
          · rfl
        · rfl
      rw [c1, c2]
      unfold kdA
      rw [e6, e4]
      split
      · simp only [sset_at, updI_at, reduceIte]
      · rfl
    rw [h2]
    unfold kdM
    rw [e6, e4]
    by_cases hc : s 6 k = 0 ∧ s 4 k = 77
    · rw [if_pos hc, if_pos hc]
      refine ⟨by omega, fun h => absurd h (by omega), fun h => ⟨by omega, by omega, hc.1, hc.2, fun j h1 h3 h6 h4 => ?_⟩⟩
      by_cases hj : j = k
      · exact hj
      · exact absurd ⟨h6, h4⟩ (m1 (by omega) j h1 (by omega))
    · rw [if_neg hc, if_neg hc]
      refine ⟨m0, fun h j h1 h3 => ?_, fun h => ?_⟩
      · by_cases hj : j = k
        · rw [hj]; exact hc
        · exact m1 h j h1 (by omega)
      · obtain ⟨a1, a2, a3, a4, a5⟩ := m2 h
        refine ⟨a1, by omega, a3, a4, fun j h1 h3 h6 h4 => ?_⟩
        by_cases hj : j = k
        · subst hj; exact absurd ⟨h6, h4⟩ hc
        · exact a5 j h1 (by omega) h6 h4
/-- the movie: the only box of its kind; all boxes within boxes come behind it -/
def mvOk (s : mS) : Prop := (0 ≤ s 0 2 ∧ s 0 2 < s 0 1 ∧ s 6 (s 0 2) = 0 ∧ s 4 (s 0 2) = 77) ∧ (∀ j, 0 ≤ j → j < s 0 1 → s 6 j = 0 → s 4 j = 77 → j = s 0 2) ∧ ∀ k, 0 ≤ k → k < s 0 1 → 0 < s 6 k → s 0 2 < k
theorem mvOk_of {s u : mS} (hr : rdOk s) (ho : hoOk s) (hk : kdR s = 0) (hu : u = (kdF s (s 0 1).toNat).1) : mvOk u := by
  obtain ⟨hI, hT⟩ := kdF_I s hr ho (s 0 1).toNat (by have := hr.1; omega)
  obtain ⟨-, -, m2⟩ := kdF_M s hr ho (s 0 1).toNat (by have := hr.1; omega)
  obtain ⟨a1, a2, a3, a4, a5⟩ := m2 (kdR_0 hr ho hk).1
  rw [← hu] at hI a1 a2 a3 a4 a5
  have hcn := hr.1
  have e6 : u 6 = s 6 := hI.1 6 (by omega) (by omega) (by omega)
  have e4 : u 4 = s 4 := hI.1 4 (by omega) (by omega) (by omega)
  have e1 : u 0 1 = s 0 1 := hI.2.2.1
  unfold mvOk
  rw [e6, e4, e1]
  have one : ∀ k, 0 ≤ k → k < s 0 1 → s 6 k = 1 → u 0 2 < k := by
    intro k h0 h1 h6
    obtain ⟨-, b2, -⟩ := ho k h0 h1
    obtain ⟨c1, c2, c3, c4⟩ := b2 h6
    have := a5 (s 7 k) c1 (by omega) c3 c4
    omega
  refine ⟨⟨a1, by omega, a3, a4⟩, fun j h0 h1 h6 h4 => a5 j h0 (by omega) h6 h4, fun k h0 h1 h6 => ?_⟩
  have hb := hr.2 k h0 h1
  rcases (show s 6 k = 1 ∨ s 6 k = 2 by omega) with q | q
  · exact one k h0 h1 q
  · obtain ⟨-, -, b3⟩ := ho k h0 h1
    obtain ⟨c1, c2, c3, c4⟩ := b3 q
    have := one (s 7 k) c1 (by omega) c3
    omega
theorem mvOk_cg {s u : mS} (h : agr s u) (hs : mvOk s) : mvOk u := by
  unfold mvOk
  rw [h 0 (by omega), h 4 (by omega), h 6 (by omega)]
  exact hs
theorem stS_12 (s : mS) (t : Int) : ∀ (m : Nat) (j : Int), (∀ c : Nat, c < m → j = 256 * t + (1 + c) → stS s t m 12 j = hmO s t c) ∧ ((∀ c : Nat, c < m → j ≠ 256 * t + (1 + c)) → stS s t m 12 j = s 12 j)
  | 0, j => ⟨fun c h => absurd h (Nat.not_lt_zero c), fun _ => rfl⟩
  | m + 1, j => by
    obtain ⟨h1, h2⟩ := stS_12 s t m j
    have e : stS s t (m + 1) 12 j = if j = 256 * t + (1 + m) then hmO s t m else stS s t m 12 j := by
      show sset (stS s t m) 12 (256 * t + (1 + m)) (hmO s t m) 12 j = _
      simp only [sset_at, updI_at, reduceIte]
    rw [e]
    refine ⟨fun c hc hj => ?_, fun hn => ?_⟩
    · by_cases hm : c = m
      · subst hm; rw [if_pos hj]
      · rw [if_neg (by omega)]; exact h1 c (by omega) hj
    · rw [if_neg (hn m (by omega))]
      exact h2 (fun c hc => hn c (by omega))
theorem stT_12 {u : mS} (hb : byOk u) : ∀ (n : Nat) (t c : Nat), t < n → (c : Int) < pv u (pbx u t) 0 → stT u n 12 (256 * t + (1 + c)) = hmO u t c
  | 0, t, c, h, _ => absurd h (Nat.not_lt_zero t)
  | n + 1, t, c, ht, hc => by
    have hpb := pv_b hb (pbx u t) 0
    have hpn := pv_b hb (pbx u n) 0
    show stS (stT u n) n (pv u (pbx u n) 0).toNat 12 (256 * t + (1 + c)) = _
    obtain ⟨h1, h2⟩ := stS_12 (stT u n) n (pv u (pbx u n) 0).toNat (256 * t + (1 + c))
    by_cases hn : t = n
    · subst hn
      rw [h1 c (by omega) rfl, hmO_cg (agr_stT u t)]
    · rw [h2 (fun c' hc' => by omega)]
      exact stT_12 hb n t c (by omega) hc
theorem dbx_C (s : mS) (p b : Int) : ∀ (n : Nat) (k : Int), 0 ≤ dbx s p b n k → dbC s p b (dbx s p b n k)
  | 0, k, h => absurd h (by unfold dbx; omega)
  | n + 1, k, h => by
    unfold dbx at h ⊢
    by_cases hc : dbC s p b k
    · rw [if_pos hc]; exact hc
    · rw [if_neg hc] at h ⊢
      exact dbx_C s p b n (k + 1) h
/-- check has answered 0: all that is known -/
theorem ckR_h {s0 : mS} (hm : mI s0) {v : mS} (h : ckR s0 0 v) : ckOk v ∧ mvOk v ∧ hmOk v ∧ (∀ t, 0 ≤ t → t < v 0 3 → ¬ datBad v t) ∧ ∀ t c : Nat, (t : Int) < v 0 3 → (c : Int) < pv v (pbx v t) 0 → v 12 (256 * t + (1 + c)) = hmO v t c := by
  have hck := (ckR_0 hm h).1
  obtain ⟨f1, hr, ho, hk1, hk0⟩ := rd_ok s0 hm
  unfold ckR at h
  generalize (rdL 100 (rd0 s0) 0 0).2 = s at hr ho hk1 hk0 h
  dsimp only at h
  have hb : byOk s := fun j => by rw [hk1 1 (Or.inl rfl)]; exact hm.2 j
  rcases h with h | ⟨-, h | ⟨g2, h | ⟨hw, h | ⟨hc, hv, h | h⟩⟩⟩⟩
  · omega
  · omega
  · omega
  · omega
  · omega
  have hmv := mvOk_of hr ho g2 rfl
  obtain ⟨hI, hT⟩ := kdF_I s hr ho (s 0 1).toNat (by have := hr.1; omega)
  have hbu : byOk (kdF s (s 0 1).toNat).1 := fun j => by rw [hI.1 1 (by omega) (by omega) (by omega)]; exact hb j
  generalize (kdF s (s 0 1).toNat).1 = u at hmv hbu hw hc hv h
  have ha := agr_stT u (u 0 3).toNat
  have h12 := stT_12 hbu (u 0 3).toNat
  rw [← hv] at ha h12
  have e0 : v 0 = u 0 := ha 0 (by omega)
  have hnd : ∀ t, 0 ≤ t → t < v 0 3 → ¬ datBad v t := by
    intro t q0 q1 hbad
    refine h.1 ⟨t.toNat, by rw [e0] at q1; omega, ?_⟩
    show datBad u ((t.toNat : Nat) : Int)
    rw [show ((t.toNat : Nat) : Int) = t by omega]
    unfold datBad at hbad ⊢
    rw [pbx_cg ha, pv_cg ha, show (fun c : Int => hmO v t c.toNat < 0) = (fun c : Int => hmO u t c.toNat < 0) from by funext c; rw [hmO_cg ha]] at hbad
    exact hbad
  have hhome : ∀ t c : Nat, (t : Int) < v 0 3 → (c : Int) < pv v (pbx v t) 0 → v 12 (256 * t + (1 + c)) = hmO v t c := by
    intro t c ht hc2
    rw [e0] at ht
    rw [pbx_cg ha, pv_cg ha] at hc2
    rw [h12 t c (by omega) hc2, hmO_cg ha]
  refine ⟨hck, mvOk_cg ha hmv, ⟨(mvOk_cg ha hmv).1, fun t q0 q1 c q2 q3 => ?_⟩, hnd, hhome⟩
  obtain ⟨tn, rfl⟩ := Int.eq_ofNat_of_zero_le q0
  obtain ⟨cn, rfl⟩ := Int.eq_ofNat_of_zero_le q2
  have e := hhome tn cn q1 q3
  have hpos : 0 ≤ hmO v tn cn := Int.not_lt.mp fun q => hnd tn q0 q1 ⟨cn, by omega, q⟩
  have hbd := dbx_b v (cpl v tn (1 + cn)) (cby v tn cn) (v 0 1).toNat 0 (by omega)
  have hC := dbx_C v (cpl v tn (1 + cn)) (cby v tn cn) (v 0 1).toNat 0 hpos
  have hcb : 0 ≤ cby v tn cn := by
    unfold cby
    exact (sumI_le (B := 255) (fun i => by have := szO_b hck.1 tn (smp v tn cn + i); omega) _).1
  have hcn := hck.2.1.1
  rw [e]
  refine ⟨hpos, ?_, ?_⟩
  · unfold hmO; omega
  · unfold hmO
    unfold dbC at hC ⊢
    omega
theorem lyN_cg {s u : mS} (h : agr s u) (w k n0 : Int) (t : Nat) : lyN u w k n0 t = lyN s w k n0 t := by
  induction t with
  | zero => rfl
  | succ t ih => unfold lyN; rw [tb_cg h, pv_cg h, ih]
theorem nlF_cg {s u : mS} (h : agr s u) (w : Int) (f : Nat) (k : Int) : nlF u w f k = nlF s w f k := by
  induction f generalizing k with
  | zero => rfl
  | succ f ih =>
    unfold nlF nhO
    simp only [ih, lyN_cg h]
    rw [h 0 (by omega), h 3 (by omega), h 4 (by omega), h 5 (by omega), h 6 (by omega), h 7 (by omega)]
theorem pyF_cg {s u : mS} (h : agr s u) (w k : Int) : pyF u w k = pyF s w k := by
  unfold pyF
  simp only [nlF_cg h, lyN_cg h]
  rw [h 0 (by omega), h 3 (by omega), h 4 (by omega), h 5 (by omega), h 6 (by omega), h 7 (by omega)]
theorem npO_cg {s u : mS} (h : agr s u) (h12 : u 12 = s 12) (t c ML : Int) : npO u t c ML = npO s t c ML := by
  unfold npO
  rw [cpl_cg h, h 2 (by omega), h 3 (by omega), h12, h 0 (by omega)]
theorem tnB_cg {s u : mS} (h : agr s u) (h12 : u 12 = s 12) (t ML : Int) : tnB u t ML ↔ tnB s t ML := by
  unfold tnB
  rw [tb_cg h, pbx_cg h, pv_cg h, show (fun c => 255 < npO u t (1 + c) ML) = (fun c => 255 < npO s t (1 + c) ML) from by funext c; rw [npO_cg h h12]]
theorem tnO_cg {s u : mS} (h : agr s u) (h12 : u 12 = s 12) (ML : Int) : tnO u ML = tnO s ML := by
  unfold tnO
  rw [b2_c (tnB_cg h h12 0 ML), b2_c (tnB_cg h h12 1 ML), h 0 (by omega)]
theorem hmOk_cg {s u : mS} (h : agr s u) (h12 : u 12 = s 12) (hs : hmOk s) : hmOk u := by
  unfold hmOk dbC
  simp only [cpl_cg h, pbx_cg h]
  rw [pv_cg h, h 0 (by omega), h 2 (by omega), h 3 (by omega), h 4 (by omega), h 5 (by omega), h 6 (by omega), h12]
  exact hs
