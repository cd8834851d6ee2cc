/-! ===== what was read stays true for every state of the model with the same bytes ===== -/
theorem ck_tr {G : gG} {y : xP} {z s0 s0' : mS} (hm : mI s0) (hm' : mI s0') (h0 : s0 0 0 = s0' 0 0) (h1 : s0 1 = s0' 1) {f : Int} {v : mS} (hc : ckR s0 f v) (hj : jQ G y z f v) : ∃ v', ckR s0' f v' ∧ jQ G y z f v' := by
  obtain ⟨e1, e2⟩ := rd_cg h0 h1
  obtain ⟨m1, m2, m3, -, -⟩ := rd_ok s0 hm
  obtain ⟨m1', m2', m3', -, -⟩ := rd_ok s0' hm'
  have m6 := rd_o2 s0
  have m6' := rd_o2 s0'
  have hrd := ckR_rd hm hc
  unfold ckR at hc ⊢
  dsimp only at hc ⊢
  rw [← e1]
  generalize (rdL 100 (rd0 s0) 0 0).2 = s at *
  generalize (rdL 100 (rd0 s0') 0 0).2 = s' at *
  generalize (rdL 100 (rd0 s0) 0 0).1 = F at *
  rcases hc with ⟨a, b, -⟩ | ⟨hF, hc⟩
  · exact ⟨s', Or.inl ⟨a, b, rfl⟩, hj.1, fun q1 q2 => by omega, fun q => by omega⟩
  · have hfne : f ≠ 1 ∧ f ≠ 2 := by
      have := hrd.1
      constructor
      · intro q; have := this.mpr (Or.inl q); omega
      · intro q; have := this.mpr (Or.inr q); omega
    obtain ⟨c9, c01⟩ := hrd.2 hfne.1 hfne.2
    have hqv := hj.2.1 hfne.1 hfne.2
    have hqs : qI G y z s := qI_eq (lev := 0) ⟨c01, c9 1 (by omega) (by omega), fun c k a b _ _ => congrFun (c9 c (by omega) (by omega)) k, fun i _ => ⟨congrFun (c9 8 (by omega) (by omega)) i, congrFun (c9 9 (by omega) (by omega)) i⟩⟩ hqv
    have hqs' : qI G y z s' := qI_eq e2 hqs
    have hn : s 0 1 = yn y := hqs.1.2.2.1
    have huc := kc_u m2 m3 (u := (kdF s (s 0 1).toNat).1) rfl
    have huc' := kc_u m2' m3' (u := (kdF s' (s' 0 1).toNat).1) rfl
    have hI := (kdF_I s m2 m3 (s 0 1).toNat (by have := m2.1.1; omega)).1
    have hI' := (kdF_I s' m2' m3' (s' 0 1).toNat (by have := m2'.1.1; omega)).1
    have hu01 := hI.2.2.1
    have hu01' := hI'.2.2.1
    have hkc := (kc_all hqs m2 m3 m6).1
    have hkc' := (kc_all hqs' m2' m3' m6').1
    by_cases hk : kdR s = 0
    · obtain ⟨hk', t2, t3, tts⟩ := ts_e hqs m2 m3 m6 hqs' m2' m3' m6' hk
      obtain ⟨-, c1, c2, -, c4⟩ := kdR_0 m2 m3 hk
      have hrows := kc_rows hqs m2 m3 m6 hk (u := (kdF s (s 0 1).toNat).1) rfl
      have hrows' := kc_rows hqs' m2' m3' m6' hk' (u := (kdF s' (s' 0 1).toNat).1) rfl
      have hra : rowsAny (kdF s (s 0 1).toNat).1 ↔ rowsAny (kdF s' (s' 0 1).toNat).1 := hrows.trans hrows'.symm
      have h11 : ∀ j, 0 ≤ j → j < 16 → (kdF s (s 0 1).toNat).1 11 j < yn y := fun j a b => by
        have := (hI.2.2.2.2.2.2.2.1 j a b).2
        omega
      generalize (kdF s (s 0 1).toNat).1 = u at *
      generalize (kdF s' (s' 0 1).toNat).1 = u' at *
      have hcell : ∀ k : Int, 0 ≤ k → k < yn y → ∀ c, 2 ≤ c → c ≤ 7 → u' c k = u c k := fun k k0 k1 c a b => by
        rw [huc c (by omega) (by omega) (by omega), huc' c (by omega) (by omega) (by omega)]
        exact (e2.2.2.1 c k a b k0 (by omega)).symm
      have hpv : ∀ k : Int, 0 ≤ k → k < yn y → pv u' k = pv u k := fun k k0 k1 => (kc_pv hqs' huc' k0 k1).symm.trans (kc_pv hqs huc k0 k1)
      have hu1 : u' 1 = u 1 := by rw [huc 1 (by omega) (by omega) (by omega), huc' 1 (by omega) (by omega) (by omega)]; exact e2.2.1.symm
      have hwE : ∀ t : Nat, (t : Int) < u 0 3 → wE u u' t := by
        intro t ht
        have q : ∀ sl, 0 ≤ sl → sl < 7 → ts u' t sl = ts u t sl := tts t ht
        obtain ⟨w1, w2, w3, w4⟩ := c4 t (by omega) ht
        have l : ∀ kd, 0 ≤ kd → kd < 8 → tb u t kd < yn y := fun kd a b => h11 (8 * t + kd) (by omega) (by omega)
        have lp : pbx u t < yn y := by unfold pbx; split; exact l 5 (by omega) (by omega); exact l 4 (by omega) (by omega)
        have p0 : 0 ≤ pbx u t := by
          unfold pbx
          split
          · exact Classical.byContradiction fun x => w1 ⟨fun _ => by omega, fun _ => by omega⟩
          · omega
        refine ⟨⟨q 0 (by omega) (by omega), q 1 (by omega) (by omega), q 2 (by omega) (by omega), q 3 (by omega) (by omega), q 4 (by omega) (by omega), q 5 (by omega) (by omega), q 6 (by omega) (by omega)⟩, ⟨hpv _ w2 (l 0 (by omega) (by omega)), fun x => hpv _ x (l 1 (by omega) (by omega)), hpv _ w3 (l 2 (by omega) (by omega)), hpv _ w4 (l 3 (by omega) (by omega)), hpv _ p0 lp, fun x => hpv _ x (l 6 (by omega) (by omega))⟩, hcell _ p0 lp 4 (by omega) (by omega), fun p b => ?_⟩
        rw [show (u' 0 1).toNat = yn y by rw [hu01', ← e2.1, hn]; omega, show (u 0 1).toNat = yn y by rw [hu01, hn]; omega]
        exact dbx_e (n := yn y) hcell p b (yn y) 0 (by omega) (by omega)
      have hca : cntAny u ↔ cntAny u' := by
        unfold cntAny
        rw [t3]
        constructor
        · rintro ⟨i, i1, i2⟩; exact ⟨i, i1, (cnt_e (hwE i (by omega))).mpr i2⟩
        · rintro ⟨i, i1, i2⟩; exact ⟨i, i1, (cnt_e (hwE i (by omega))).mp i2⟩
      have hda : datAny u ↔ datAny u' := by
        unfold datAny
        rw [t3]
        constructor
        · rintro ⟨i, i1, i2⟩; exact ⟨i, i1, (dat_e (hwE i (by omega))).mpr i2⟩
        · rintro ⟨i, i1, i2⟩; exact ⟨i, i1, (dat_e (hwE i (by omega))).mp i2⟩
      have hqu' : qI G y z u' := qI_u hqs' huc' hu01'
      have hag := agr_stT u (u 0 3).toNat
      have hag' := agr_stT u' (u' 0 3).toNat
      have hqv' : qI G y z (stT u' (u' 0 3).toNat) := qI_cg2 (fun c hc => hag' c (by omega)) hqu'
      rcases hc with ⟨q, -⟩ | ⟨-, ⟨q2, qf, qv⟩ | ⟨q2, ⟨q3, qf, qv⟩ | ⟨q3, qv, ⟨q4, qf⟩ | ⟨q4, qf⟩⟩⟩⟩
      · omega
      · exact ⟨u', Or.inr ⟨hF, Or.inr ⟨hk', Or.inl ⟨hra.mp q2, qf, rfl⟩⟩⟩, hj.1, fun _ _ => hqu', fun q => by omega⟩
      · exact ⟨u', Or.inr ⟨hF, Or.inr ⟨hk', Or.inr ⟨fun x => q2 (hra.mpr x), Or.inl ⟨hca.mp q3, qf, rfl⟩⟩⟩⟩, hj.1, fun _ _ => hqu', fun q => by omega⟩
      · exact ⟨stT u' (u' 0 3).toNat, Or.inr ⟨hF, Or.inr ⟨hk', Or.inr ⟨fun x => q2 (hra.mpr x), Or.inr ⟨fun x => q3 (hca.mpr x), rfl, Or.inl ⟨hda.mp q4, qf⟩⟩⟩⟩⟩, hj.1, fun _ _ => hqv', fun q => by omega⟩
      · refine ⟨stT u' (u' 0 3).toNat, Or.inr ⟨hF, Or.inr ⟨hk', Or.inr ⟨fun x => q2 (hra.mpr x), Or.inr ⟨fun x => q3 (hca.mpr x), rfl, Or.inr ⟨fun x => q4 (hda.mpr x), qf⟩⟩⟩⟩⟩, hj.1, fun _ _ => hqv', fun q => ?_⟩
        obtain ⟨z2, z3, z18, zT⟩ := hj.2.2 q
        rw [qv] at z2 z3 zT
        rw [hag 0 (by omega)] at z2 z3 zT
        refine ⟨by rw [hag' 0 (by omega), t2]; exact z2, by rw [hag' 0 (by omega), t3]; exact z3, z18, fun t ht => ?_⟩
        rw [hag' 0 (by omega), t3] at ht
        obtain ⟨k1, k2, k3⟩ := zT t ht
        have hs : agr (stT u (u 0 3).toNat) u := fun c hc => (hag c hc).symm
        have K := tK_cg hs k1
        have A := chA_cg hs k2
        have hw := hwE t ht
        have tse : ∀ sl, 0 ≤ sl → sl < 7 → ts u' t sl = ts u t sl := tts t ht
        have K' : tK y z u' t := by
          obtain ⟨⟨a1, a2, a3⟩, b, c, d⟩ := K
          refine ⟨⟨a1, a2, by unfold byOk; rw [hu1]; exact a3⟩, fun sl s0 s1 => by rw [tse sl s0 s1]; exact b sl s0 s1, fun sl s0 s1 hp => ?_, ?_⟩
          · rw [tse sl s0 s1] at hp ⊢
            have hX := c sl s0 s1 hp
            have k0 := hX.1.1
            have k1 := hX.1.2
            unfold tX at hX ⊢
            rw [hu1, hcell _ k0 k1 2 (by omega) (by omega), hcell _ k0 k1 5 (by omega) (by omega), hcell _ k0 k1 4 (by omega) (by omega), hpv _ k0 k1]
            exact hX
          · rw [tse 0 (by omega) (by omega), tse 2 (by omega) (by omega), tse 3 (by omega) (by omega), tse 4 (by omega) (by omega)]
            exact d
        refine ⟨tK_cg hag' K', chA_cg hag' (chA_e hw A), fun x => syA_cg hag' ?_⟩
        rw [tb_cg hag', hw.1.2.2.2.2.2.1] at x
        exact syA_e hw x (syA_cg hs (k3 (by rw [tb_cg hag]; exact x)))
    · have hk1 := (kdR_b m2 m3).resolve_left hk
      have hk1' : kdR s' = 1 := (kdR_b m2' m3').resolve_left (fun q => hk (hkc.mp (hkc'.mpr q)))
      rcases hc with ⟨q, qf, qv⟩ | ⟨q, -⟩
      · exact ⟨(kdF s' (s' 0 1).toNat).1, Or.inr ⟨hF, Or.inl ⟨hk1', qf, rfl⟩⟩, hj.1, fun _ _ => qI_u hqs' huc' hu01', fun q => by omega⟩
      · omega
/-- check's answer is one -/
theorem ck_fun {s0 : mS} (hm : mI s0) {f f' : Int} {v v' : mS} (h : ckR s0 f v) (h' : ckR s0 f' v') : f = f' ∧ v = v' := by
  obtain ⟨m1, m2, m3, -, -⟩ := rd_ok s0 hm
  unfold ckR at h h'
  dsimp only at h h'
  generalize (rdL 100 (rd0 s0) 0 0).2 = s at *
  generalize (rdL 100 (rd0 s0) 0 0).1 = F at *
  rcases h with ⟨a, b, c⟩ | ⟨a, ⟨k, b, c⟩ | ⟨k, ⟨r, b, c⟩ | ⟨r, ⟨n, b, c⟩ | ⟨n, c, ⟨d, b⟩ | ⟨d, b⟩⟩⟩⟩⟩ <;> rcases h' with ⟨a', b', c'⟩ | ⟨a', ⟨k', b', c'⟩ | ⟨k', ⟨r', b', c'⟩ | ⟨r', ⟨n', b', c'⟩ | ⟨n', c', ⟨d', b'⟩ | ⟨d', b'⟩⟩⟩⟩⟩ <;> first | (exfalso; omega) | exact absurd r r' | exact absurd r' r | exact absurd n n' | exact absurd n' n | exact absurd d d' | exact absurd d' d | exact ⟨b.trans b'.symm, c.trans c'.symm⟩
/-- .. and fastStart's -/
theorem fs_fun {s0 : mS} (hm : mI s0) {n n' : Int} {x x' : mS} (h : fsR s0 n x) (h' : fsR s0 n' x') : n = n' ∧ x 0 0 = x' 0 0 ∧ x 1 = x' 1 := by
  obtain ⟨f, v, hc, hd⟩ := h
  obtain ⟨f', v', hc', hd'⟩ := h'
  obtain ⟨e1, e2⟩ := ck_fun hm hc hc'
  subst e1; subst e2
  rcases hd with ⟨a, b, c⟩ | ⟨a, a2, b, c⟩ | ⟨a, a2, ⟨a3, b, c⟩ | ⟨a3, b, c, c2, c3⟩⟩ <;> rcases hd' with ⟨a', b', c'⟩ | ⟨a', a2', b', c'⟩ | ⟨a', a2', ⟨a3', b', c'⟩ | ⟨a3', b', c', c2', c3'⟩⟩
  · exact ⟨by omega, by rw [c, c'], by rw [c, c']⟩
  · omega
  · omega
  · omega
  · omega
  · exact ⟨by omega, by rw [c, c'], by rw [c, c']⟩
  · omega
  · omega
  · omega
  · omega
  · exact ⟨by omega, by rw [c 0 (by omega), c' 0 (by omega)], by rw [c 1 (by omega), c' 1 (by omega)]⟩
  · omega
  · omega
  · omega
  · omega
  · refine ⟨by omega, by rw [c, c'], funext fun j => ?_⟩
    by_cases q : j < 0
    · rw [c3 j q, c3' j q]
    · have e := c2 j.toNat
      have e' := c2' j.toNat
      rw [show ((j.toNat : Nat) : Int) = j by omega] at e e'
      rw [e, e']
