/-! ===== kinds: sorted answers as the model does ===== -/
theorem cnb_at {p : Int → Bool} : ∀ {n : Nat} {i : Int}, 0 ≤ i → i < cnb p n → ∃ h : Int, 0 ≤ h ∧ h < n ∧ p h = true ∧ cnb p h.toNat = i
  | 0, i, h0, h1 => absurd h1 (by show ¬ i < 0; omega)
  | n + 1, i, h0, h1 => by
    rw [cnb_ss] at h1
    by_cases q : i < cnb p n
    · obtain ⟨h, a, b, c⟩ := cnb_at h0 q
      exact ⟨h, a, by omega, c⟩
    · split at h1
      · rename_i hp
        exact ⟨n, by omega, by omega, hp, by rw [show ((n : Int)).toNat = n by omega]; omega⟩
      · omega
theorem cnb_inj {p : Int → Bool} {a b : Int} (h0 : 0 ≤ a) (h1 : 0 ≤ b) (ha : p a = true) (hb : p b = true) (h : cnb p a.toNat = cnb p b.toNat) : a = b := by
  rcases (by omega : a < b ∨ a = b ∨ b < a) with q | q | q
  · have := cnb_lt (p := p) (a := a) (n := b.toNat) h0 (by omega) ha; omega
  · exact q
  · have := cnb_lt (p := p) (a := b) (n := a.toNat) h1 (by omega) hb; omega
theorem cnb_one {p : Int → Bool} {n : Nat} (h : cnb p n = 1) {j : Int} (h0 : 0 ≤ j) (h1 : j < n) (hp : p j = true) : j = lsb p n := by
  have hl : ¬ lsb p n = -1 := fun q => by have := cnb_0.mpr q; omega
  obtain ⟨e1, e2, e3⟩ := (lsb_b p n).resolve_left hl
  refine cnb_inj h0 e1 hp e3 ?_
  have := cnb_lt h0 h1 hp
  have := cnb_lt e1 e2 e3
  have := cnb_nn p j.toNat
  have := cnb_nn p (lsb p n).toNat
  omega
theorem kn_sl {ty lev : Int} (h : 0 ≤ lev ∧ lev ≤ 2) : 0 ≤ slO (knO ty lev) ↔ lev = 2 ∧ 0 ≤ kdO ty := by
  unfold knO kdO slO
  repeat' split
  all_goals omega
theorem kn_sl2 {ty : Int} {sl : Int} (h : 0 ≤ sl) : slO (knO ty 2) = sl ↔ (sl = 0 ∧ kdO ty = 0) ∨ (sl = 1 ∧ kdO ty = 1) ∨ (sl = 2 ∧ kdO ty = 2) ∨ (sl = 3 ∧ kdO ty = 3) ∨ (sl = 4 ∧ (kdO ty = 4 ∨ kdO ty = 5)) ∨ (sl = 5 ∧ kdO ty = 6) ∨ (sl = 6 ∧ kdO ty = 7) := by
  unfold knO kdO slO
  rw [if_neg (show ¬ (2 : Int) < 2 by omega)]
  repeat' split
  all_goals omega
theorem kdE_1 {t : mS} {wr : Int} : ∀ {n : Nat}, wr = 0 → (∀ j : Nat, j < n → ¬ ((0 ≤ tb t j 4 ↔ 0 ≤ tb t j 5) ∨ tb t j 0 < 0 ∨ tb t j 2 < 0 ∨ tb t j 3 < 0)) → kdE t wr n = 0
  | 0, h, _ => h
  | n + 1, h, hj => by
    unfold kdE
    have := kdE_1 (n := n) h (fun j a => hj j (by omega))
    rw [if_neg]
    rintro (q | q)
    · exact q this
    · exact hj n (by omega) q
section KC
variable {G : gG} {y : xP} {z s : mS}
theorem kc_n (hq : qI G y z s) (hr : rdOk s) (ho : hoOk s) (h2 : o2Ok s) : (s 0 1).toNat = yn y := by rw [hq.1.2.2.1]; omega
theorem kc_hold (hq : qI G y z s) (hr : rdOk s) (ho : hoOk s) (h2 : o2Ok s) {j : Int} (h0 : 0 ≤ j) (h1 : j < yn y) : z 27 j = 1 ↔ isHold (s 6 j) (s 4 j) := by
  obtain ⟨⟨-, -, g4, -, g6, -⟩, g26, g27, -⟩ := hq.2.2.2.2.2 j h0 h1
  have := hr.2 j h0 (by rw [hq.1.2.2.1]; exact h1)
  rw [g27, g26, g4, g6]
  exact (hold_cl (by omega)).symm
theorem kc_M (hq : qI G y z s) (hr : rdOk s) (ho : hoOk s) (h2 : o2Ok s) {j : Int} (h0 : 0 ≤ j) (h1 : j < yn y) : chH z (-1) j = pMm s j := by
  have g7 := (hq.2.2.2.2.2 j h0 h1).1.2.2.2.2.2
  have hh := kc_hold hq hr ho h2 h0 h1
  have hroot := ho_root hr ho h0 (by rw [hq.1.2.2.1]; exact h1)
  have : chH z (-1) j = true ↔ pMm s j = true := by
    rw [chH_t, pMm_t, g7, hroot, hh]
    constructor
    · rintro ⟨a, b⟩; exact ⟨a, by rcases b with b | b <;> omega⟩
    · rintro ⟨a, b⟩; exact ⟨a, Or.inl ⟨a, b⟩⟩
  exact Bool.eq_iff_iff.mpr this
theorem kc_T (hq : qI G y z s) (hr : rdOk s) (ho : hoOk s) (h2 : o2Ok s) (hc : cnb (pMm s) (yn y) = 1) {j : Int} (h0 : 0 ≤ j) (h1 : j < yn y) : chH z (mvZ z (yn y)) j = pTm s j := by
  have g7 := (hq.2.2.2.2.2 j h0 h1).1.2.2.2.2.2
  have hh := kc_hold hq hr ho h2 h0 h1
  have hn1 : j < s 0 1 := by rw [hq.1.2.2.1]; exact h1
  have hj := ho j h0 hn1
  have emv : mvZ z (yn y) = lsb (pMm s) (yn y) := lsb_cg (fun i a b => kc_M hq hr ho h2 a b)
  have hl : ¬ lsb (pMm s) (yn y) = -1 := fun q => by have := cnb_0.mpr q; omega
  obtain ⟨e1, e2, e3⟩ := (lsb_b (pMm s) (yn y)).resolve_left hl
  have : chH z (mvZ z (yn y)) j = true ↔ pTm s j = true := by
    rw [chH_t, pTm_t, g7, hh, emv]
    constructor
    · rintro ⟨a, b⟩
      rcases b with b | b
      · have := hj.1 b.1; omega
      · exact b
    · rintro ⟨a, b⟩
      refine ⟨?_, Or.inr ⟨a, b⟩⟩
      obtain ⟨q1, q2, q3, q4⟩ := hj.2.1 a
      exact cnb_one hc q1 (by omega) (pMm_t.mpr ⟨q3, q4⟩)
  exact Bool.eq_iff_iff.mpr this
/-- a box of level 2 and the track that holds it -/
theorem kc_2 (hq : qI G y z s) (hr : rdOk s) (ho : hoOk s) (h2 : o2Ok s) {j h : Int} (h0 : 0 ≤ j) (h1 : j < yn y) (h6 : s 6 j = 2) (hh0 : 0 ≤ h) (hh1 : h < yn y) (hT : pTm s h = true) : s 7 j = h ↔ cnb (pTm s) j.toNat = cnb (pTm s) h.toNat + 1 := by
  have hn1 : j < s 0 1 := by rw [hq.1.2.2.1]; exact h1
  obtain ⟨q1, q2, q3, q4⟩ := (ho j h0 hn1).2.2 h6
  have hT2 : pTm s (s 7 j) = true := pTm_t.mpr ⟨q3, q4⟩
  have e : cnb (pTm s) j.toNat = cnb (pTm s) (s 7 j).toNat + 1 := by
    have a := cnb_s (p := pTm s) (n := (s 7 j).toNat) (by rw [show (((s 7 j).toNat : Nat) : Int) = s 7 j by omega]; exact hT2)
    have b := cnb_cut (p := pTm s) (m := (s 7 j).toNat + 1) (n := j.toNat) (by omega) (fun i a b => by
      have := h2 j i h0 hn1 h6 (by omega) (by omega)
      cases hp : pTm s i with
      | false => rfl
      | true => have := (pTm_t.mp hp).1; omega)
    omega
  constructor
  · intro q; rw [e, q]
  · intro q; exact cnb_inj q1 hh0 hT2 hT (by omega)
/-- the tables of a track, one kind of table a slot -/
theorem kc_sl (hq : qI G y z s) (hr : rdOk s) (ho : hoOk s) (h2 : o2Ok s) {j h : Int} (h0 : 0 ≤ j) (h1 : j < yn y) (hh0 : 0 ≤ h) (hh1 : h < yn y) (hT : pTm s h = true) {sl : Int} (hs : 0 ≤ sl) : (z 7 j = h ∧ slO (z 26 j) = sl) ↔ (s 6 j = 2 ∧ cnb (pTm s) j.toNat = cnb (pTm s) h.toNat + 1) ∧ ((sl = 0 ∧ kdO (s 4 j) = 0) ∨ (sl = 1 ∧ kdO (s 4 j) = 1) ∨ (sl = 2 ∧ kdO (s 4 j) = 2) ∨ (sl = 3 ∧ kdO (s 4 j) = 3) ∨ (sl = 4 ∧ (kdO (s 4 j) = 4 ∨ kdO (s 4 j) = 5)) ∨ (sl = 5 ∧ kdO (s 4 j) = 6) ∨ (sl = 6 ∧ kdO (s 4 j) = 7)) := by
  obtain ⟨⟨-, -, g4, -, g6, g7⟩, g26, -⟩ := hq.2.2.2.2.2 j h0 h1
  have hb := hr.2 j h0 (by rw [hq.1.2.2.1]; exact h1)
  rw [g26, g4, g6, g7]
  constructor
  · rintro ⟨a, b⟩
    have h6 := ((kn_sl (ty := s 4 j) (lev := s 6 j) (by omega)).mp (by omega)).1
    rw [h6] at b
    exact ⟨⟨h6, (kc_2 hq hr ho h2 h0 h1 h6 hh0 hh1 hT).mp a⟩, (kn_sl2 hs).mp b⟩
  · rintro ⟨⟨h6, a⟩, b⟩
    rw [h6]
    exact ⟨(kc_2 hq hr ho h2 h0 h1 h6 hh0 hh1 hT).mpr a, (kn_sl2 hs).mpr b⟩
theorem kc_gk (hq : qI G y z s) (hr : rdOk s) (ho : hoOk s) (h2 : o2Ok s) {h : Int} (hh0 : 0 ≤ h) (hh1 : h < yn y) (hT : pTm s h = true) {sl kd : Int} (hs : (sl = 0 ∧ kd = 0) ∨ (sl = 1 ∧ kd = 1) ∨ (sl = 2 ∧ kd = 2) ∨ (sl = 3 ∧ kd = 3) ∨ (sl = 5 ∧ kd = 6) ∨ (sl = 6 ∧ kd = 7)) : gk z h sl (yn y) = lsb (pK s (cnb (pTm s) h.toNat) kd) (yn y) := by
  have hD : ∀ x : Int, ((sl = 0 ∧ x = 0) ∨ (sl = 1 ∧ x = 1) ∨ (sl = 2 ∧ x = 2) ∨ (sl = 3 ∧ x = 3) ∨ (sl = 4 ∧ (x = 4 ∨ x = 5)) ∨ (sl = 5 ∧ x = 6) ∨ (sl = 6 ∧ x = 7)) ↔ x = kd := by
    intro x
    rcases hs with ⟨rfl, rfl⟩ | ⟨rfl, rfl⟩ | ⟨rfl, rfl⟩ | ⟨rfl, rfl⟩ | ⟨rfl, rfl⟩ | ⟨rfl, rfl⟩ <;> simp
  have hs0 : 0 ≤ sl := by rcases hs with h | h | h | h | h | h <;> omega
  unfold gk
  refine lsb_cg (fun j a b => ?_)
  have e : (decide (z 7 j = h ∧ slO (z 26 j) = sl)) = true ↔ pK s (cnb (pTm s) h.toNat) kd j = true := by
    rw [decide_eq_true_iff, kc_sl hq hr ho h2 a b hh0 hh1 hT hs0, pK_t, hD]
    constructor
    · rintro ⟨⟨a, b⟩, c⟩; exact ⟨a, c, b⟩
    · rintro ⟨a, b, c⟩; exact ⟨⟨a, c⟩, b⟩
  exact Bool.eq_iff_iff.mpr e
theorem kc_g4 (hq : qI G y z s) (hr : rdOk s) (ho : hoOk s) (h2 : o2Ok s) {h : Int} (hh0 : 0 ≤ h) (hh1 : h < yn y) (hT : pTm s h = true) {j : Int} (h0 : 0 ≤ j) (h1 : j < yn y) : (z 7 j = h ∧ slO (z 26 j) = 4) ↔ (pK s (cnb (pTm s) h.toNat) 4 j = true ∨ pK s (cnb (pTm s) h.toNat) 5 j = true) := by
  rw [kc_sl hq hr ho h2 h0 h1 hh0 hh1 hT (by omega), pK_t, pK_t]
  constructor
  · rintro ⟨⟨a, b⟩, c⟩
    have d : kdO (s 4 j) = 4 ∨ kdO (s 4 j) = 5 := by simpa using c
    rcases d with d | d
    · exact Or.inl ⟨a, d, b⟩
    · exact Or.inr ⟨a, d, b⟩
  · rintro (⟨a, b, c⟩ | ⟨a, b, c⟩)
    · exact ⟨⟨a, c⟩, by omega⟩
    · exact ⟨⟨a, c⟩, by omega⟩
theorem kc_gd (hq : qI G y z s) (hr : rdOk s) (ho : hoOk s) (h2 : o2Ok s) (hd : ¬ dpM s (yn y)) {h : Int} (hh0 : 0 ≤ h) (hh1 : h < yn y) (hT : pTm s h = true) (hi : cnb (pTm s) h.toNat ≤ 1) (h45 : ¬ (0 ≤ lsb (pK s (cnb (pTm s) h.toNat) 4) (yn y) ∧ 0 ≤ lsb (pK s (cnb (pTm s) h.toNat) 5) (yn y))) : ¬ gd z h (yn y) := by
  rintro ⟨a, b, a0, ab, b1, ha, hb, hsa, hsb⟩
  have qa := (kc_sl hq hr ho h2 a0 (by omega) hh0 hh1 hT hsa).mp ⟨ha, rfl⟩
  have qb := (kc_sl hq hr ho h2 (by omega : 0 ≤ b) b1 hh0 hh1 hT hsa).mp ⟨hb, hsb.symm⟩
  have hi0 := cnb_nn (pTm s) h.toNat
  have ka := kdO_b (s 4 a)
  by_cases e : kdO (s 4 a) = kdO (s 4 b)
  · exact hd ⟨cnb (pTm s) h.toNat, kdO (s 4 a), a, b, ⟨hi0, hi, by omega, ka.2⟩, a0, ab, b1, pK_t.mpr ⟨qa.1.1, rfl, qa.1.2⟩, pK_t.mpr ⟨qb.1.1, e.symm, qb.1.2⟩⟩
  · have h4 : ∀ j : Int, 0 ≤ j → j < yn y → s 6 j = 2 → cnb (pTm s) j.toNat = cnb (pTm s) h.toNat + 1 → ∀ kd, kdO (s 4 j) = kd → 0 ≤ lsb (pK s (cnb (pTm s) h.toNat) kd) (yn y) := by
      intro j j0 j1 j6 jc kd hk
      have := lsb_max (pK s (cnb (pTm s) h.toNat) kd) (yn y) j j0 j1 (pK_t.mpr ⟨j6, hk, jc⟩)
      omega
    apply h45
    have w45 : (kdO (s 4 a) = 4 ∧ kdO (s 4 b) = 5) ∨ (kdO (s 4 a) = 5 ∧ kdO (s 4 b) = 4) := by
      have qa2 := qa.2
      have qb2 := qb.2
      clear qa qb h4 ka hi0 hi
      generalize slO (z 26 a) = sl at qa2 qb2
      rcases qa2 with w | w | w | w | w | w | w <;> (rcases qb2 with x | x | x | x | x | x | x <;> omega)
    rcases w45 with ⟨w1, w2⟩ | ⟨w1, w2⟩
    · exact ⟨h4 a a0 (by omega) qa.1.1 qa.1.2 4 w1, h4 b (by omega) b1 qb.1.1 qb.1.2 5 w2⟩
    · exact ⟨h4 b (by omega) b1 qb.1.1 qb.1.2 4 w2, h4 a a0 (by omega) qa.1.1 qa.1.2 5 w1⟩
theorem kc_gk4 (hq : qI G y z s) (hr : rdOk s) (ho : hoOk s) (h2 : o2Ok s) {h : Int} (hh0 : 0 ≤ h) (hh1 : h < yn y) (hT : pTm s h = true) : (0 ≤ gk z h 4 (yn y) ↔ (0 ≤ lsb (pK s (cnb (pTm s) h.toNat) 4) (yn y) ∨ 0 ≤ lsb (pK s (cnb (pTm s) h.toNat) 5) (yn y))) ∧ (lsb (pK s (cnb (pTm s) h.toNat) 4) (yn y) < 0 → gk z h 4 (yn y) = lsb (pK s (cnb (pTm s) h.toNat) 5) (yn y)) ∧ (lsb (pK s (cnb (pTm s) h.toNat) 5) (yn y) < 0 → gk z h 4 (yn y) = lsb (pK s (cnb (pTm s) h.toNat) 4) (yn y)) := by
  have key : ∀ j : Int, 0 ≤ j → j < yn y → (decide (z 7 j = h ∧ slO (z 26 j) = 4) = true ↔ (pK s (cnb (pTm s) h.toNat) 4 j = true ∨ pK s (cnb (pTm s) h.toNat) 5 j = true)) := by
    intro j a b
    rw [decide_eq_true_iff]
    exact kc_g4 hq hr ho h2 hh0 hh1 hT a b
  refine ⟨⟨fun q => ?_, fun q => ?_⟩, fun q => ?_, fun q => ?_⟩
  · unfold gk at q
    obtain ⟨e1, e2, e3⟩ := (lsb_b (fun j => decide (z 7 j = h ∧ slO (z 26 j) = 4)) (yn y)).resolve_left (by omega)
    rcases (key _ e1 e2).mp e3 with w | w
    · have := lsb_max _ (yn y) _ e1 e2 w; omega
    · have := lsb_max _ (yn y) _ e1 e2 w; omega
  · unfold gk
    rcases q with q | q
    · obtain ⟨e1, e2, e3⟩ := (lsb_b (pK s (cnb (pTm s) h.toNat) 4) (yn y)).resolve_left (by omega)
      have := lsb_max (fun j => decide (z 7 j = h ∧ slO (z 26 j) = 4)) (yn y) _ e1 e2 ((key _ e1 e2).mpr (Or.inl e3))
      omega
    · obtain ⟨e1, e2, e3⟩ := (lsb_b (pK s (cnb (pTm s) h.toNat) 5) (yn y)).resolve_left (by omega)
      have := lsb_max (fun j => decide (z 7 j = h ∧ slO (z 26 j) = 4)) (yn y) _ e1 e2 ((key _ e1 e2).mpr (Or.inr e3))
      omega
  · unfold gk
    have hb := lsb_b (pK s (cnb (pTm s) h.toNat) 4) (yn y)
    refine lsb_cg (fun j a b => Bool.eq_iff_iff.mpr ((key j a b).trans ⟨fun w => ?_, Or.inr⟩))
    rcases w with w | w
    · have := lsb_none (show lsb (pK s (cnb (pTm s) h.toNat) 4) (yn y) = -1 by omega) j a b
      rw [w] at this; cases this
    · exact w
  · unfold gk
    have hb := lsb_b (pK s (cnb (pTm s) h.toNat) 5) (yn y)
    refine lsb_cg (fun j a b => Bool.eq_iff_iff.mpr ((key j a b).trans ⟨fun w => ?_, Or.inl⟩))
    rcases w with w | w
    · exact w
    · have := lsb_none (show lsb (pK s (cnb (pTm s) h.toNat) 5) (yn y) = -1 by omega) j a b
      rw [w] at this; cases this
/-- sorted against kindsWrong -/
theorem kc_all (hq : qI G y z s) (hr : rdOk s) (ho : hoOk s) (h2 : o2Ok s) : (sdO z (yn y) ↔ kdR s = 0) ∧ (kdR s = 0 → mvZ z (yn y) = (kdF s (s 0 1).toNat).1 0 2 ∧ cnb (chH z (mvZ z (yn y))) (yn y) = (kdF s (s 0 1).toNat).1 0 3 ∧ ∀ i : Nat, (i : Int) < (kdF s (s 0 1).toNat).1 0 3 → ∃ j : Int, 0 ≤ j ∧ j < yn y ∧ chH z (mvZ z (yn y)) j = true ∧ (cnb (chH z (mvZ z (yn y))) j.toNat).toNat = i ∧ ∀ sl, 0 ≤ sl → sl < 7 → gk z j sl (yn y) = ts (kdF s (s 0 1).toNat).1 i sl) := by
  have hn := kc_n hq hr ho h2
  obtain ⟨k1, k2, k3, k4, k5, k6⟩ := kdF_D s hr ho (s 0 1).toNat (by have := hr.1.1; omega)
  rw [hn] at k1 k2 k3 k4 k5 k6 ⊢
  have eM : cnb (chH z (-1)) (yn y) = cnb (pMm s) (yn y) := cnb_cg (fun j a b => kc_M hq hr ho h2 a b)
  have eMv : mvZ z (yn y) = lsb (pMm s) (yn y) := lsb_cg (fun i a b => kc_M hq hr ho h2 a b)
  have hR : kdR s = 0 ↔ cnb (pMm s) (yn y) = 1 ∧ (1 ≤ cnb (pTm s) (yn y) ∧ cnb (pTm s) (yn y) ≤ 2) ∧ ¬ dpM s (yn y) ∧ ∀ i : Int, 0 ≤ i → i < cnb (pTm s) (yn y) → ¬ (0 ≤ lsb (pK s i 4) (yn y) ↔ 0 ≤ lsb (pK s i 5) (yn y)) ∧ 0 ≤ lsb (pK s i 0) (yn y) ∧ 0 ≤ lsb (pK s i 2) (yn y) ∧ 0 ≤ lsb (pK s i 3) (yn y) := by
    unfold kdR
    rw [hn, k3, k2]
    constructor
    · intro h
      split at h
      · omega
      · rename_i q
        obtain ⟨e1, e2⟩ := kdE_0 h
        refine ⟨by omega, by omega, k6.mp e1, fun i a b => ?_⟩
        have := e2 i.toNat (by omega)
        rw [show ((i.toNat : Nat) : Int) = i by omega] at this
        have t : ∀ kd, 0 ≤ kd → kd ≤ 7 → tb (kdF s (yn y)).1 i kd = lsb (pK s i kd) (yn y) := fun kd c d => k5 i kd a (by omega) c d
        rw [t 0 (by omega) (by omega), t 2 (by omega) (by omega), t 3 (by omega) (by omega), t 4 (by omega) (by omega), t 5 (by omega) (by omega)] at this
        refine ⟨fun w => this (Or.inl w), ?_, ?_, ?_⟩
        · exact Classical.byContradiction fun w => this (Or.inr (Or.inl (by omega)))
        · exact Classical.byContradiction fun w => this (Or.inr (Or.inr (Or.inl (by omega))))
        · exact Classical.byContradiction fun w => this (Or.inr (Or.inr (Or.inr (by omega))))
    · rintro ⟨e1, e2, e3, e4⟩
      rw [if_neg (by omega)]
      refine kdE_1 (k6.mpr e3) (fun j hj => ?_)
      have := e4 j (by omega) (by omega)
      have t : ∀ kd, 0 ≤ kd → kd ≤ 7 → tb (kdF s (yn y)).1 j kd = lsb (pK s j kd) (yn y) := fun kd c d => k5 j kd (by omega) (by omega) c d
      rw [t 0 (by omega) (by omega), t 2 (by omega) (by omega), t 3 (by omega) (by omega), t 4 (by omega) (by omega), t 5 (by omega) (by omega)]
      rintro (w | w | w | w)
      · exact this.1 w
      · omega
      · omega
      · omega
  have bwd : kdR s = 0 → sdO z (yn y) := by
    intro h
    obtain ⟨e1, e2, e3, e4⟩ := hR.mp h
    have eT : ∀ j : Int, 0 ≤ j → j < yn y → chH z (mvZ z (yn y)) j = pTm s j := fun j a b => kc_T hq hr ho h2 e1 a b
    have eTn : cnb (chH z (mvZ z (yn y))) (yn y) = cnb (pTm s) (yn y) := cnb_cg eT
    refine ⟨by rw [eM]; exact e1, by rw [eTn]; exact e2, fun j a b c => ?_⟩
    rw [eT j a b] at c
    have hlt := cnb_lt (p := pTm s) (a := j) (n := yn y) a b c
    have h0 := cnb_nn (pTm s) j.toNat
    obtain ⟨w1, w2, w3, w4⟩ := e4 (cnb (pTm s) j.toNat) h0 (by omega)
    refine ⟨kc_gd hq hr ho h2 e3 a b c (by omega) (fun w => w1 ⟨fun _ => w.2, fun _ => w.1⟩), ?_, ?_, ?_, ?_⟩
    · rw [kc_gk hq hr ho h2 a b c (kd := 0) (by omega)]; exact w2
    · rw [kc_gk hq hr ho h2 a b c (kd := 2) (by omega)]; exact w3
    · rw [kc_gk hq hr ho h2 a b c (kd := 3) (by omega)]; exact w4
    · exact (kc_gk4 hq hr ho h2 a b c).1.mpr (Classical.byContradiction fun w => w1 ⟨fun q => absurd (Or.inl q) w, fun q => absurd (Or.inr q) w⟩)
  refine ⟨⟨fun h => ?_, bwd⟩, fun h => ?_⟩
  · obtain ⟨e1, e2, e3⟩ := h
    rw [eM] at e1
    have eT : ∀ j : Int, 0 ≤ j → j < yn y → chH z (mvZ z (yn y)) j = pTm s j := fun j a b => kc_T hq hr ho h2 e1 a b
    have eTn : cnb (chH z (mvZ z (yn y))) (yn y) = cnb (pTm s) (yn y) := cnb_cg eT
    rw [eTn] at e2
    have g : ∀ i : Int, 0 ≤ i → i < cnb (pTm s) (yn y) → ∃ h : Int, 0 ≤ h ∧ h < yn y ∧ pTm s h = true ∧ cnb (pTm s) h.toNat = i ∧ gOk z h (yn y) := by
      intro i a b
      obtain ⟨h, h0, h1, hT, hc⟩ := cnb_at (p := pTm s) a b
      exact ⟨h, h0, h1, hT, hc, e3 h h0 h1 (by rw [eT h h0 h1]; exact hT)⟩
    have dd : ∀ (h : Int), 0 ≤ h → h < yn y → pTm s h = true → gOk z h (yn y) → ∀ a b : Int, 0 ≤ a → a < yn y → 0 ≤ b → b < yn y → a ≠ b → z 7 a = h → z 7 b = h → 0 ≤ slO (z 26 a) → slO (z 26 a) = slO (z 26 b) → False := by
      intro h h0 h1 hT hg a b a0 a1 b0 b1 ab ha hb hs he
      rcases (by omega : a < b ∨ b < a) with q | q
      · exact hg.1 ⟨a, b, a0, q, b1, ha, hb, hs, he⟩
      · exact hg.1 ⟨b, a, b0, q, a1, hb, ha, by omega, he.symm⟩
    refine hR.mpr ⟨e1, e2, ?_, fun i a b => ?_⟩
    · rintro ⟨i, kd, a, b, ⟨i0, i1, kd0, kd1⟩, a0, ab, b1, pa, pb⟩
      have pa' := pK_t.mp pa
      have pb' := pK_t.mp pb
      have hn1 : b < s 0 1 := by rw [hq.1.2.2.1]; exact b1
      obtain ⟨q1, q2, q3, q4⟩ := (ho a a0 (by omega)).2.2 pa'.1
      have hT : pTm s (s 7 a) = true := pTm_t.mpr ⟨q3, q4⟩
      have hcc := (kc_2 hq hr ho h2 a0 (by omega) pa'.1 q1 (by omega) hT).mp rfl
      have hg := e3 (s 7 a) q1 (by omega) (by rw [eT _ q1 (by omega)]; exact hT)
      obtain ⟨sl, hsl0, hsl⟩ : ∃ sl : Int, 0 ≤ sl ∧ ((sl = 0 ∧ kd = 0) ∨ (sl = 1 ∧ kd = 1) ∨ (sl = 2 ∧ kd = 2) ∨ (sl = 3 ∧ kd = 3) ∨ (sl = 4 ∧ (kd = 4 ∨ kd = 5)) ∨ (sl = 5 ∧ kd = 6) ∨ (sl = 6 ∧ kd = 7)) := by
        rcases (by omega : kd ≤ 3 ∨ kd = 4 ∨ kd = 5 ∨ kd = 6 ∨ kd = 7) with w | w | w | w | w
        · exact ⟨kd, by omega, by omega⟩
        · exact ⟨4, by omega, by omega⟩
        · exact ⟨4, by omega, by omega⟩
        · exact ⟨5, by omega, by omega⟩
        · exact ⟨6, by omega, by omega⟩
      have ra := (kc_sl hq hr ho h2 a0 (by omega) q1 (by omega) hT hsl0).mpr ⟨⟨pa'.1, hcc⟩, by rw [pa'.2.1]; exact hsl⟩
      have rb := (kc_sl hq hr ho h2 (by omega : 0 ≤ b) b1 q1 (by omega) hT hsl0).mpr ⟨⟨pb'.1, by omega⟩, by rw [pb'.2.1]; exact hsl⟩
      exact dd (s 7 a) q1 (by omega) hT hg a b a0 (by omega) (by omega) b1 (by omega) ra.1 rb.1 (by omega) (by omega)
    · obtain ⟨h, h0, h1, hT, hc, hg⟩ := g i a b
      subst hc
      obtain ⟨g1, g2, g3, g4, g5⟩ := hg
      rw [kc_gk hq hr ho h2 h0 h1 hT (kd := 0) (by omega)] at g2
      rw [kc_gk hq hr ho h2 h0 h1 hT (kd := 2) (by omega)] at g3
      rw [kc_gk hq hr ho h2 h0 h1 hT (kd := 3) (by omega)] at g4
      refine ⟨fun w => ?_, g2, g3, g4⟩
      have w4 := (kc_gk4 hq hr ho h2 h0 h1 hT).1.mp g5
      have w5 : 0 ≤ lsb (pK s (cnb (pTm s) h.toNat) 4) (yn y) ∧ 0 ≤ lsb (pK s (cnb (pTm s) h.toNat) 5) (yn y) := by
        rcases w4 with q | q
        · exact ⟨q, w.mp q⟩
        · exact ⟨w.mpr q, q⟩
      obtain ⟨x1, x2, x3⟩ := (lsb_b (pK s (cnb (pTm s) h.toNat) 4) (yn y)).resolve_left (by omega)
      obtain ⟨y1, y2, y3⟩ := (lsb_b (pK s (cnb (pTm s) h.toNat) 5) (yn y)).resolve_left (by omega)
      have za := (kc_g4 hq hr ho h2 h0 h1 hT x1 x2).mpr (Or.inl x3)
      have zb := (kc_g4 hq hr ho h2 h0 h1 hT y1 y2).mpr (Or.inr y3)
      have ne : lsb (pK s (cnb (pTm s) h.toNat) 4) (yn y) ≠ lsb (pK s (cnb (pTm s) h.toNat) 5) (yn y) := fun e => by
        have u1 := (pK_t.mp x3).2.1
        have u2 := (pK_t.mp y3).2.1
        rw [e] at u1
        omega
      exact dd h h0 h1 hT ⟨g1, by rw [kc_gk hq hr ho h2 h0 h1 hT (kd := 0) (by omega)]; exact g2, by rw [kc_gk hq hr ho h2 h0 h1 hT (kd := 2) (by omega)]; exact g3, by rw [kc_gk hq hr ho h2 h0 h1 hT (kd := 3) (by omega)]; exact g4, g5⟩ _ _ x1 x2 y1 y2 ne za.1 zb.1 (by rw [za.2]; omega) (by rw [za.2, zb.2])
  · obtain ⟨e1, e2, e3, e4⟩ := hR.mp h
    have eT : ∀ j : Int, 0 ≤ j → j < yn y → chH z (mvZ z (yn y)) j = pTm s j := fun j a b => kc_T hq hr ho h2 e1 a b
    have eTn : ∀ m : Nat, m ≤ yn y → cnb (chH z (mvZ z (yn y))) m = cnb (pTm s) m := fun m hm => cnb_cg (fun j a b => eT j a (by omega))
    refine ⟨by rw [eMv, k4 (by omega)], by rw [eTn _ (Nat.le_refl _), k2], fun i hi => ?_⟩
    rw [k2] at hi
    obtain ⟨h, h0, h1, hT, hc⟩ := cnb_at (p := pTm s) (n := yn y) (i := i) (by omega) hi
    refine ⟨h, h0, h1, by rw [eT h h0 h1]; exact hT, by rw [eTn _ (by omega), hc]; omega, fun sl s0 s1 => ?_⟩
    have t : ∀ kd, 0 ≤ kd → kd ≤ 7 → tb (kdF s (yn y)).1 i kd = lsb (pK s i kd) (yn y) := fun kd c d => k5 i kd (by omega) (by omega) c d
    have e4' := (e4 i (by omega) hi).1
    have gk4 := kc_gk4 hq hr ho h2 h0 h1 hT
    rw [hc] at gk4
    unfold ts
    rcases (by omega : sl = 0 ∨ sl = 1 ∨ sl = 2 ∨ sl = 3 ∨ sl = 4 ∨ sl = 5 ∨ sl = 6) with w | w | w | w | w | w | w
    · subst w; rw [if_neg (by omega), if_neg (by omega), if_neg (by omega), t 0 (by omega) (by omega), kc_gk hq hr ho h2 h0 h1 hT (kd := 0) (by omega), hc]
    · subst w; rw [if_neg (by omega), if_neg (by omega), if_neg (by omega), t 1 (by omega) (by omega), kc_gk hq hr ho h2 h0 h1 hT (kd := 1) (by omega), hc]
    · subst w; rw [if_neg (by omega), if_neg (by omega), if_neg (by omega), t 2 (by omega) (by omega), kc_gk hq hr ho h2 h0 h1 hT (kd := 2) (by omega), hc]
    · subst w; rw [if_neg (by omega), if_neg (by omega), if_neg (by omega), t 3 (by omega) (by omega), kc_gk hq hr ho h2 h0 h1 hT (kd := 3) (by omega), hc]
    · subst w
      rw [if_pos rfl]
      unfold pbx
      rw [t 4 (by omega) (by omega), t 5 (by omega) (by omega)]
      by_cases q : lsb (pK s i 4) (yn y) < 0
      · rw [if_pos q]; exact gk4.2.1 q
      · rw [if_neg q]
        refine gk4.2.2 (Classical.byContradiction fun q2 => e4' ⟨fun _ => by omega, fun _ => by omega⟩)
    · subst w; rw [if_neg (by omega), if_pos rfl, t 6 (by omega) (by omega), kc_gk hq hr ho h2 h0 h1 hT (kd := 6) (by omega), hc]
    · subst w; rw [if_neg (by omega), if_neg (by omega), if_pos rfl, t 7 (by omega) (by omega), kc_gk hq hr ho h2 h0 h1 hT (kd := 7) (by omega), hc]
end KC
