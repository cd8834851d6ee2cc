/-! ===== two states of the model with the same bytes: checked alike ===== -/
def wE (u u' : mS) (t : Int) : Prop := (tb u' t 0 = tb u t 0 ∧ tb u' t 1 = tb u t 1 ∧ tb u' t 2 = tb u t 2 ∧ tb u' t 3 = tb u t 3 ∧ pbx u' t = pbx u t ∧ tb u' t 6 = tb u t 6 ∧ tb u' t 7 = tb u t 7) ∧ (pv u' (tb u t 0) = pv u (tb u t 0) ∧ (0 ≤ tb u t 1 → pv u' (tb u t 1) = pv u (tb u t 1)) ∧ pv u' (tb u t 2) = pv u (tb u t 2) ∧ pv u' (tb u t 3) = pv u (tb u t 3) ∧ pv u' (pbx u t) = pv u (pbx u t) ∧ (0 ≤ tb u t 6 → pv u' (tb u t 6) = pv u (tb u t 6))) ∧ u' 4 (pbx u t) = u 4 (pbx u t) ∧ ∀ p b, dbx u' p b (u' 0 1).toNat 0 = dbx u p b (u 0 1).toNat 0
section WE
variable {u u' : mS} {t : Int}
theorem rowU_e {k c : Int} (h : pv u' k = pv u k) : ∀ n : Nat, rowU u' k c n = rowU u k c n
  | 0 => rfl
  | n + 1 => by unfold rowU; rw [h, rowU_e h n]
theorem mn_e (h : wE u u' t) (c : Int) : mnO u' t c = mnO u t c := by
  unfold mnO
  rw [h.1.2.2.1, h.2.1.2.2.1, rowU_e h.2.1.2.2.1]
theorem smp_e (h : wE u u' t) (c : Nat) : smp u' t c = smp u t c := by
  unfold smp
  exact sumI_cg (fun i _ => mn_e h (1 + i))
theorem sz_e (h : wE u u' t) (i : Int) : szO u' t i = szO u t i := by
  unfold szO
  rw [h.1.2.2.2.1, h.2.1.2.2.2.1]
theorem cpl_e (h : wE u u' t) (c : Int) : cpl u' t c = cpl u t c := by
  unfold cpl
  rw [h.1.2.2.2.2.1, h.2.1.2.2.2.2.1, h.2.2.1]
theorem cby_e (h : wE u u' t) (c : Nat) : cby u' t c = cby u t c := by
  unfold cby
  rw [mn_e h, smp_e h]
  exact sumI_cg (fun i _ => sz_e h _)
theorem hm_e (h : wE u u' t) (c : Nat) : hmO u' t c = hmO u t c := by
  unfold hmO
  rw [cpl_e h, cby_e h, h.2.2.2]
theorem cnt_e (h : wE u u' t) : cntBad u' t ↔ cntBad u t := by
  obtain ⟨⟨e0, e1, e2, e3, e4, e6, -⟩, ⟨p0, p1, p2, p3, p4, p6⟩, -⟩ := id h
  unfold cntBad
  rw [e0, e1, e2, e3, e4, e6, smp_e h]
  unfold totO
  rw [p0, p2, p3, p4]
  refine or_congr Iff.rfl (or_congr ?_ (or_congr Iff.rfl (or_congr Iff.rfl (or_congr Iff.rfl ?_))))
  · constructor
    · rintro ⟨a, b⟩; rw [p1 a] at b; exact ⟨a, b⟩
    · rintro ⟨a, b⟩; rw [← p1 a] at b; exact ⟨a, b⟩
  · constructor
    · rintro ⟨a, b⟩; rw [p6 a] at b; exact ⟨a, b⟩
    · rintro ⟨a, b⟩; rw [← p6 a] at b; exact ⟨a, b⟩
theorem dat_e (h : wE u u' t) : datBad u' t ↔ datBad u t := by
  unfold datBad
  rw [h.1.2.2.2.2.1, h.2.1.2.2.2.2.1]
  constructor
  · rintro ⟨c, c1, c2⟩
    refine ⟨c, c1, ?_⟩
    have c2 : hmO u' t ((c : Int)).toNat < 0 := c2
    rw [hm_e h] at c2
    exact c2
  · rintro ⟨c, c1, c2⟩
    refine ⟨c, c1, ?_⟩
    show hmO u' t ((c : Int)).toNat < 0
    rw [hm_e h]
    exact c2
theorem chA_e (h : wE u u' t) (hA : chA u t) : chA u' t := by
  unfold chA cR cF cM at hA ⊢
  rw [h.1.2.2.1, h.2.1.2.2.1]
  exact hA
theorem syA_e (h : wE u u' t) (h6 : 0 ≤ tb u t 6) (hA : syA u t) : syA u' t := by
  unfold syA at hA ⊢
  rw [h.1.2.2.2.2.2.1, h.2.1.2.2.2.2.2 h6]
  exact hA
end WE
theorem dbx_e {u u' : mS} {n : Nat} (h : ∀ k : Int, 0 ≤ k → k < n → ∀ c, 2 ≤ c → c ≤ 7 → u' c k = u c k) (p b : Int) : ∀ (m : Nat) (k : Int), 0 ≤ k → k + m ≤ n → dbx u' p b m k = dbx u p b m k
  | 0, k, _, _ => rfl
  | m + 1, k, h0, h1 => by
    unfold dbx dbC
    rw [h k h0 (by omega) 6 (by omega) (by omega), h k h0 (by omega) 4 (by omega) (by omega), h k h0 (by omega) 2 (by omega) (by omega), h k h0 (by omega) 5 (by omega) (by omega), h k h0 (by omega) 3 (by omega) (by omega), dbx_e h p b m (k + 1) (by omega) (by omega)]
/-- the tables of the same boxes are the same -/
theorem ts_e {G : gG} {y : xP} {z s s' : mS} (hq : qI G y z s) (hr : rdOk s) (ho : hoOk s) (h2 : o2Ok s) (hq' : qI G y z s') (hr' : rdOk s') (ho' : hoOk s') (h2' : o2Ok s') (hk : kdR s = 0) : kdR s' = 0 ∧ (kdF s' (s' 0 1).toNat).1 0 2 = (kdF s (s 0 1).toNat).1 0 2 ∧ (kdF s' (s' 0 1).toNat).1 0 3 = (kdF s (s 0 1).toNat).1 0 3 ∧ ∀ i : Nat, (i : Int) < (kdF s (s 0 1).toNat).1 0 3 → ∀ sl, 0 ≤ sl → sl < 7 → ts (kdF s' (s' 0 1).toNat).1 i sl = ts (kdF s (s 0 1).toNat).1 i sl := by
  have a := kc_all hq hr ho h2
  have b := kc_all hq' hr' ho' h2'
  have hk' : kdR s' = 0 := b.1.mp (a.1.mpr hk)
  obtain ⟨a1, a2, a3⟩ := a.2 hk
  obtain ⟨b1, b2, b3⟩ := b.2 hk'
  refine ⟨hk', by rw [← a1, ← b1], by rw [← a2, ← b2], fun i hi sl s0 s1 => ?_⟩
  obtain ⟨j, j0, j1, j2, j3, j4⟩ := a3 i hi
  obtain ⟨k, k0, k1, k2, k3, k4⟩ := b3 i (by rw [← b2, a2]; exact hi)
  have e : j = k := cnb_inj j0 k0 j2 k2 (by
    have := cnb_nn (chH z (mvZ z (yn y))) j.toNat
    have := cnb_nn (chH z (mvZ z (yn y))) k.toNat
    omega)
  rw [← j4 sl s0 s1, ← k4 sl s0 s1, e]
