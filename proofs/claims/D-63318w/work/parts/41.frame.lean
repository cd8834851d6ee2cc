/-! ===== the frame rule for contracts ===== -/
theorem Ct.post {G : gG} {l : Launch} {M : Mi} {d mc ms : Nat} {av : List Value} {ws : va_W} {Q Q' : Option Value → va_W → Prop} (h : Ct G l M d mc ms av ws Q) (hQ : ∀ r w, Q r w → Q' r w) : Ct G l M d mc ms av ws Q' := by
  intro sz p e h1 h2 h3 s m args below hf ha hP hk
  obtain ⟨n, o, a1, a2, a3, ⟨⟨r, w, b1, b2, b3, b4⟩, b5⟩, a5⟩ := h sz p e h1 h2 h3 s m args below hf ha hP hk
  exact ⟨n, o, a1, a2, a3, ⟨⟨r, w, b1, hQ r w b2, b3, b4⟩, b5⟩, a5⟩
theorem va_A_l {X ws : va_W} {sz q : Nat} (h : va_A ws sz q) : va_A (X ++ ws) sz q := by
  rcases h with ⟨k, e, h⟩ | h
  · refine Or.inl ⟨X.length + k, e, ?_⟩
    rw [List.getElem?_append_right (by omega), Nat.add_sub_cancel_left]; exact h
  · exact Or.inr h
theorem va_A_r {X ws : va_W} {sz q : Nat} (h : va_A ws sz q) : va_A (ws ++ X) sz q := by
  rcases h with ⟨k, e, h⟩ | h
  · refine Or.inl ⟨k, e, ?_⟩
    rw [List.getElem?_append_left (List.getElem?_eq_some_iff.mp h).1]; exact h
  · exact Or.inr h
theorem Sts.nar {G : gG} {A B : Nat → Prop} {U : State} {H : Heap} (h : Sts G A U H) (hAB : ∀ q, B q → A q) : Sts G B U H := by
  obtain ⟨h1, h2, h3, h4, h5, h6, h7, h8⟩ := h
  exact ⟨h1.narrow hAB, h2.narrow hAB, h3.narrow hAB, h4, h5, h6, h7, h8⟩
/-- the callee's cells stand behind others -/
theorem Ct.frameL {G : gG} {l : Launch} {M : Mi} {d mc ms : Nat} {av : List Value} {ws : va_W} {Q : Option Value → va_W → Prop} (X : va_W) (h : Ct G l M d mc ms av ws Q) : Ct G l M d mc ms av (X ++ ws) (fun r w => ∃ w', w = X ++ w' ∧ Q r w') := by
  intro sz p e h1 h2 h3 s m args below hf ha hP hk
  obtain ⟨c1, c2, c3, c4, c5, c6⟩ := hP
  have hX : ∀ (i : Nat) (q : Nat × va_E), X[i]? = some q → q.1 < sz ∧ ¬ va_A ws sz q.1 := by
    intro i q hi
    have hi2 : (X ++ ws)[i]? = some q := by rw [List.getElem?_append_left (List.getElem?_eq_some_iff.mp hi).1]; exact hi
    have hlt := (c3 i q hi2).lt
    refine ⟨by omega, ?_⟩
    rintro (⟨k, e, hk⟩ | hk)
    · have hk2 : (X ++ ws)[X.length + k]? = some (q.1, e) := by rw [List.getElem?_append_right (by omega), Nat.add_sub_cancel_left]; exact hk
      have := c5.1 i (X.length + k) q (q.1, e) hi2 hk2 rfl
      have := (List.getElem?_eq_some_iff.mp hi).1
      omega
    · omega
  have hsub : ∀ (k : Nat) (q : Nat × va_E), ws[k]? = some q → (X ++ ws)[X.length + k]? = some q := fun k q hq => by rw [List.getElem?_append_right (by omega), Nat.add_sub_cancel_left]; exact hq
  have hP2 : va_P (gD G) cls ws s.heap := fun k q hq => c3 (X.length + k) q (hsub k q hq)
  have hD2 : va_D (va_A ws sz) ws := ⟨fun i j p q hi hj hpq => by have := c5.1 _ _ p q (hsub i p hi) (hsub j q hj) hpq; omega, fun k q hq => va_A.in hq⟩
  obtain ⟨n, o, a1, a2, a3, ⟨⟨r, w, b1, b2, b3, b4⟩, b5⟩, L, a5, a6⟩ := h sz p e h1 h2 h3 s m args below hf ha ⟨c1, c2, hP2, c4, hD2, c6.nar (fun q => va_A_l)⟩ hk
  refine ⟨n, o, a1, a2, a3, ⟨⟨r, X ++ w, b1, ⟨w, rfl, b2⟩, ?_, ?_⟩, ⟨b5.1, fun q q1 q2 => b5.2 q q1 (fun z => q2 (va_A_l z))⟩⟩, L, a5, fun q hq => va_A_l (a6 q hq)⟩
  · refine va_P.app (fun i q hi => ?_) b3
    have hi2 : (X ++ ws)[i]? = some q := by rw [List.getElem?_append_left (List.getElem?_eq_some_iff.mp hi).1]; exact hi
    exact (c3 i q hi2).kept (b5.2 q.1 (by rw [c2]; exact (hX i q hi).1) (hX i q hi).2)
  · refine va_D.app ⟨fun i j p q hi hj hpq => ?_, fun k q hq => ?_⟩ (b4.weaken (fun _ _ _ z => va_A_l z)) (fun i j p q hi hj hpq => ?_)
    · have hi2 : (X ++ ws)[i]? = some p := by rw [List.getElem?_append_left (List.getElem?_eq_some_iff.mp hi).1]; exact hi
      have hj2 : (X ++ ws)[j]? = some q := by rw [List.getElem?_append_left (List.getElem?_eq_some_iff.mp hj).1]; exact hj
      exact c5.1 i j p q hi2 hj2 hpq
    · exact va_A_r (va_A.in hq)
    · exact (hX i p hi).2 (by rw [hpq]; exact b4.2 j q hj)
/-- the callee's cells stand ahead of others -/
theorem Ct.frameR {G : gG} {l : Launch} {M : Mi} {d mc ms : Nat} {av : List Value} {ws : va_W} {Q : Option Value → va_W → Prop} (X : va_W) (h : Ct G l M d mc ms av ws Q) : Ct G l M d mc ms av (ws ++ X) (fun r w => ∃ w', w = w' ++ X ∧ Q r w') := by
  intro sz p e h1 h2 h3 s m args below hf ha hP hk
  obtain ⟨c1, c2, c3, c4, c5, c6⟩ := hP
  have hsubX : ∀ (k : Nat) (q : Nat × va_E), X[k]? = some q → (ws ++ X)[ws.length + k]? = some q := fun k q hq => by rw [List.getElem?_append_right (by omega), Nat.add_sub_cancel_left]; exact hq
  have hsub : ∀ (k : Nat) (q : Nat × va_E), ws[k]? = some q → (ws ++ X)[k]? = some q := fun k q hq => by rw [List.getElem?_append_left (List.getElem?_eq_some_iff.mp hq).1]; exact hq
  have hX : ∀ (i : Nat) (q : Nat × va_E), X[i]? = some q → q.1 < sz ∧ ¬ va_A ws sz q.1 := by
    intro i q hi
    have hlt := (c3 _ q (hsubX i q hi)).lt
    refine ⟨by omega, ?_⟩
    rintro (⟨k, e, hk⟩ | hk)
    · have := c5.1 (ws.length + i) k q (q.1, e) (hsubX i q hi) (hsub k _ hk) rfl
      have := (List.getElem?_eq_some_iff.mp hk).1
      omega
    · omega
  have hP2 : va_P (gD G) cls ws s.heap := fun k q hq => c3 k q (hsub k q hq)
  have hD2 : va_D (va_A ws sz) ws := ⟨fun i j p q hi hj hpq => c5.1 _ _ p q (hsub i p hi) (hsub j q hj) hpq, fun k q hq => va_A.in hq⟩
  obtain ⟨n, o, a1, a2, a3, ⟨⟨r, w, b1, b2, b3, b4⟩, b5⟩, L, a5, a6⟩ := h sz p e h1 h2 h3 s m args below hf ha ⟨c1, c2, hP2, c4, hD2, c6.nar (fun q => va_A_r)⟩ hk
  refine ⟨n, o, a1, a2, a3, ⟨⟨r, w ++ X, b1, ⟨w, rfl, b2⟩, ?_, ?_⟩, ⟨b5.1, fun q q1 q2 => b5.2 q q1 (fun z => q2 (va_A_r z))⟩⟩, L, a5, fun q hq => va_A_r (a6 q hq)⟩
  · refine va_P.app b3 (fun i q hi => ?_)
    exact (c3 _ q (hsubX i q hi)).kept (b5.2 q.1 (by rw [c2]; exact (hX i q hi).1) (hX i q hi).2)
  · refine va_D.app (b4.weaken (fun _ _ _ z => va_A_r z)) ⟨fun i j p q hi hj hpq => ?_, fun k q hq => ?_⟩ (fun i j p q hi hj hpq => ?_)
    · have := c5.1 _ _ p q (hsubX i p hi) (hsubX j q hj) hpq; omega
    · exact va_A_l (va_A.in hq)
    · exact (hX j q hj).2 (by rw [← hpq]; exact b4.2 i p hi)
