/-! ===== the component: readRow on the three levels ===== -/
theorem c_X_readRow0 (G : gG) (l : Launch) (F : Nat) : RR G l F 0 := by
  have h2 : ∀ F, RR G l F 2 := fun F => c_X_readRow G l F 2 (by omega) (fun _ h => by omega)
  have h1 : ∀ F, RR G l F 1 := fun F => c_X_readRow G l F 1 (by omega) (fun F _ => h2 F)
  exact c_X_readRow G l F 0 (by omega) (fun F _ => h1 F)
/-- what is known of boxes that have been read: z as the component has them, u as the model does -/
def qI (G : gG) (y : xP) (z u : mS) : Prop :=
  (yn y ≤ 20 ∧ z 0 1 = yn y ∧ u 0 1 = yn y ∧ u 1 = z 1 ∧ byOk z) ∧ kI G y z ∧ tI z (yn y) ∧ elO G y (yn y) ∧ (z 27 (-1) = 1 ∧ z 23 (-1) = -1) ∧ ∀ k : Int, 0 ≤ k → k < yn y → (z 2 k = u 2 k ∧ z 3 k = u 3 k ∧ z 4 k = u 4 k ∧ z 5 k = u 5 k ∧ z 6 k = u 6 k ∧ z 7 k = u 7 k) ∧ (z 26 k = knO (z 4 k) (z 6 k) ∧ z 27 k = clN (clO (z 26 k)) ∧ z 28 k = k)
theorem pI_q {G : gG} {y : xP} {z u : mS} (h : pI G y z u) : qI G y z u := by
  obtain ⟨⟨a1, a2, a3, a4, a5, a6⟩, h2, h3, h4, h5, h6⟩ := h
  exact ⟨⟨a1, a2, a3, a4, a5⟩, h2, h3, h4, h5, fun k k0 k1 => ⟨(h6 k k0 k1).1, (h6 k k0 k1).2.1, (h6 k k0 k1).2.2.1, (h6 k k0 k1).2.2.2.1⟩⟩
/-- .. kept by changes of other cells -/
theorem qI_cg {G : gG} {y y' : xP} {z z' u : mS} (hy : yo y' = yo y ∧ yk y' = yk y ∧ yn y' = yn y ∧ yR y' = yR y ∧ ye y' = ye y ∧ yE y' = yE y) (h01 : z' 0 1 = z 0 1) (hc : ∀ c, c ∈ [1, 2, 3, 4, 5, 6, 7, 21, 23, 24, 25, 26, 27, 28] → z' c = z c) (h : qI G y z u) : qI G y' z' u := by
  obtain ⟨ca, oa, kp, n, R, ea, E, tb⟩ := y
  obtain ⟨ca', oa', kp', n', R', ea', E', tb'⟩ := y'
  obtain ⟨e1, e2, e3, e4, e5, e6⟩ := hy
  change oa' = oa at e1; change kp' = kp at e2; change n' = n at e3; change R' = R at e4; change ea' = ea at e5; change E' = E at e6
  subst e1; subst e2; subst e3; subst e4; subst e5; subst e6
  obtain ⟨⟨a1, a2, a3, a4, a5⟩, h2, h3, h4, ⟨h5, h5'⟩, h6⟩ := h
  refine ⟨⟨a1, by rw [h01]; exact a2, a3, by rw [hc 1 (by decide)]; exact a4, ?_⟩, ?_, ?_, h4, ⟨by rw [hc 27 (by decide)]; exact h5, by rw [hc 23 (by decide)]; exact h5'⟩, fun k k0 k1 => ?_⟩
  · unfold byOk; rw [hc 1 (by decide)]; exact a5
  · unfold kI at h2 ⊢; rw [hc 21 (by decide), hc 27 (by decide)]; exact h2
  · unfold tI at h3 ⊢; rw [hc 7 (by decide), hc 23 (by decide), hc 24 (by decide), hc 25 (by decide)]; exact h3
  · rw [hc 2 (by decide), hc 3 (by decide), hc 4 (by decide), hc 5 (by decide), hc 6 (by decide), hc 7 (by decide), hc 26 (by decide), hc 27 (by decide), hc 28 (by decide)]; exact h6 k k0 k1
theorem qI_cl {G : gG} {y : xP} {z u : mS} (h : qI G y z u) {k : Int} (h0 : -1 ≤ k) (h1 : k < yn y) : 1 ≤ z 27 k ∧ z 27 k ≤ 5 := by
  by_cases hk : k = -1
  · subst hk; rw [h.2.2.2.2.1.1]; omega
  · rw [(h.2.2.2.2.2 k (by omega) h1).2.2.1]; exact clN_b _
