/-! ===== the law: what holds between the calls ===== -/
theorem pre_0 (G : gG) (y : xP) (h1 : yn y = 0) (h2 : yR y = []) (h3 : yE y = []) (h4 : ye y = gS G 0) (h5 : yk y = fun _ => none) : xPre G y xZ0 mZ0 := by
  refine ⟨⟨⟨by show (0 : Int) ≤ 0; omega, by show (0 : Int) ≤ 1000; omega⟩, fun j => ⟨by show (0 : Int) ≤ 0; omega, by show (0 : Int) < 256; omega⟩, ⟨by omega, by rw [h1]; rfl⟩, ⟨fun k k0 k1 => ⟨by show (0 : Int) ≤ 0; omega, by show (0 : Int) ≤ yn y; omega⟩, fun u a _ _ hu => (by rw [h5] at hu; cases hu), fun u u' a _ _ _ _ hu _ => (by rw [h5] at hu; cases hu)⟩, Or.inl ⟨h3, h4, by rw [h1]; rfl⟩, fun k k0 k1 => by
    show (1 : Int) ≤ 1 ∧ (1 : Int) ≤ 5
    omega, ⟨rfl, rfl, rfl⟩, Or.inl rfl⟩, ⟨⟨by show (0 : Int) ≤ 0; omega, by show (0 : Int) ≤ 1000; omega⟩, fun j => ⟨by show (0 : Int) ≤ 0; omega, by show (0 : Int) < 256; omega⟩⟩, rfl, rfl, fun q => ?_⟩
  have q : (0 : Int) = 1 := q
  omega
theorem mI_eq {s s' : mS} (h : mI s) (h0 : s' 0 0 = s 0 0) (h1 : s' 1 = s 1) : mI s' := by
  unfold mI at h ⊢
  rw [h0, h1]
  exact h
/-- after a question -/
theorem pre_q {G : gG} {y y' : xP} {z z' s s' v : mS} {f : Int} (h : xPre G y z s) (hp : xPo G y z s y' z' f v) (h0 : s' 0 0 = s 0 0) (h1 : s' 1 = s 1) : xPre G y' z' s' := by
  obtain ⟨a1, a2, a3, a4, a5⟩ := h
  obtain ⟨b1, b2, b3, b4, b5, b6, b7⟩ := hp
  have hm' := mI_eq a2 h0 h1
  refine ⟨b3, hm', by rw [h0, a3, b4], by rw [h1, a4, b5], fun _ => ?_⟩
  obtain ⟨v', c1, c2⟩ := ck_tr a2 hm' h0.symm h1.symm b1 b2
  exact ⟨f, v', c1, c2⟩
/-- after the component was changed: nothing that was read counts -/
theorem pre_w {G : gG} {y : xP} {z z' s s' : mS} (h : xPre G y z s) (hz : ∀ c, c ≠ 0 → c ≠ 1 → z' c = z c) (h01 : z' 0 1 = z 0 1) (h5 : z' 0 5 = 0) (hm : mI s') (h0 : s' 0 0 = z' 0 0) (h1 : s' 1 = z' 1) : xPre G y z' s' := by
  refine ⟨xI_cz h.1 (fun c hc => hz c (by omega) (by omega)) h01 (by rw [← h0]; exact hm.1) (fun j => by rw [← h1]; exact hm.2 j) (Or.inl h5), hm, h0, h1, fun q => by omega⟩
/-- after fastStart -/
theorem pre_f {G : gG} {y y' : xP} {z z' s x x' : mS} {n n' : Int} (h : xPre G y z s) (hf : fsR s n x) (h0 : x 0 0 = z' 0 0) (h1 : x 1 = z' 1) (hI : xI G y' z') (h5 : z' 0 5 = 1 → z' 0 0 = z 0 0 ∧ z' 1 = z 1 ∧ ∃ f v, ckR s f v ∧ jQ G y' z' f v) (hf' : fsR s n' x') : n = n' ∧ xPre G y' z' x' := by
  obtain ⟨a1, a2, a3, a4, a5⟩ := h
  obtain ⟨e1, e2, e3⟩ := fs_fun a2 hf hf'
  have hm' : mI x' := ⟨by rw [← e2, h0]; exact hI.1, fun j => by rw [← e3, h1]; exact hI.2.1 j⟩
  refine ⟨e1, hI, hm', by rw [← e2, h0], by rw [← e3, h1], fun q => ?_⟩
  obtain ⟨b1, b2, f, v, b3, b4⟩ := h5 q
  obtain ⟨v', c1, c2⟩ := ck_tr a2 hm' (by rw [a3, ← b1, ← h0, e2]) (by rw [a4, ← b2, ← h1, e3]) b3 b4
  exact ⟨f, v', c1, c2⟩
/-- append on states with the same length and bytes -/
theorem ap_eq (w : Int64) : ∀ (n : Nat) (s t : mS), s 0 0 = t 0 0 → s 1 = t 1 → apS w n s 0 0 = apS w n t 0 0 ∧ apS w n s 1 = apS w n t 1
  | 0, s, t, h0, h1 => ⟨h0, h1⟩
  | n + 1, s, t, h0, h1 => by
    unfold apS
    refine ap_eq w n _ _ ?_ ?_
    · simp only [sset_at, updI_at, h0, reduceIte, Nat.reduceEqDiff]
    · funext j
      simp only [sset_at, updI_at, h0, h1, reduceIte, Nat.reduceEqDiff]
