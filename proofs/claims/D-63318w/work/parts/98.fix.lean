/-! ===== widening: the least set that is wide enough, plain ===== -/
def subW (w w' : Int) : Prop := (wbit w 0 → wbit w' 0) ∧ (wbit w 1 → wbit w' 1)
noncomputable def setb (w t : Int) (P : Prop) : Int := if t = 0 then b2 P + 2 * (w / 2) else w % 2 + 2 * b2 P
theorem setb_at {w t : Int} {P : Prop} (hw : 0 ≤ w ∧ w ≤ 3) (ht : t = 0 ∨ t = 1) : (wbit (setb w t P) t ↔ P) ∧ (∀ t', t' = 0 ∨ t' = 1 → t' ≠ t → (wbit (setb w t P) t' ↔ wbit w t')) ∧ 0 ≤ setb w t P ∧ setb w t P ≤ 3 := by
  unfold setb wbit
  by_cases hP : P
  · rw [b2_t hP]
    rcases ht with rfl | rfl <;> rcases (by omega : w = 0 ∨ w = 1 ∨ w = 2 ∨ w = 3) with rfl | rfl | rfl | rfl <;> refine ⟨⟨fun _ => hP, fun _ => by simp⟩, fun t' h1 h2 => ?_, by simp⟩ <;> rcases h1 with rfl | rfl <;> simp at h2 ⊢
  · rw [b2_f hP]
    rcases ht with rfl | rfl <;> rcases (by omega : w = 0 ∨ w = 1 ∨ w = 2 ∨ w = 3) with rfl | rfl | rfl | rfl <;> refine ⟨⟨fun h => absurd h (by simp), fun h => absurd h hP⟩, fun t' h1 h2 => ?_, by simp⟩ <;> rcases h1 with rfl | rfl <;> simp at h2 ⊢
theorem setb_or {w t : Int} {P : Prop} (hw : 0 ≤ w ∧ w ≤ 3) (ht : t = 0 ∨ t = 1) : w ≤ setb w t (wbit w t ∨ P) ∧ (setb w t (wbit w t ∨ P) = w ↔ (P → wbit w t)) := by
  unfold setb wbit
  rcases ht with rfl | rfl <;> rcases (by omega : w = 0 ∨ w = 1 ∨ w = 2 ∨ w = 3) with rfl | rfl | rfl | rfl <;> by_cases hP : P <;> simp [b2, hP]
theorem sub_le {w w' : Int} (hw : 0 ≤ w ∧ w ≤ 3) (hw' : 0 ≤ w' ∧ w' ≤ 3) (h : subW w w') : w ≤ w' := by
  unfold subW wbit at h
  omega
theorem tnO_w {v : mS} {ML w : Int} (h3 : 1 ≤ v 0 3 ∧ v 0 3 ≤ 2) (hw : 0 ≤ w ∧ w ≤ 3 ∧ (v 0 3 = 1 → w ≤ 1)) : tnO v ML = w ↔ ∀ t : Nat, (t : Int) < v 0 3 → (tnB v t ML ↔ wbit w t) := by
  have b0 := b2_b (tnB v 0 ML)
  have b1 := b2_b (tnB v 1 ML)
  have e0 := b2_1 (P := tnB v 0 ML)
  have e1 := b2_1 (P := tnB v 1 ML)
  unfold tnO
  constructor
  · intro h t ht
    rcases (by omega : t = 0 ∨ t = 1) with rfl | rfl
    · show tnB v 0 ML ↔ wbit w 0
      rw [← e0]
      unfold wbit
      split at h <;> omega
    · show tnB v 1 ML ↔ wbit w 1
      rw [← e1]
      unfold wbit
      rw [if_pos (by omega)] at h
      omega
  · intro h
    have h0 : tnB v 0 ML ↔ wbit w 0 := h 0 (by omega)
    rw [← e0] at h0
    unfold wbit at h0
    split
    · have h1 : tnB v 1 ML ↔ wbit w 1 := h 1 (by omega)
      rw [← e1] at h1
      unfold wbit at h1
      omega
    · have := hw.2.2 (by omega)
      omega
theorem stq_eq {v : mS} {w : Nat} (hw : w ≤ 3) (hf : tnO v (nlF v w 3 (v 0 2)) = w) (hl : ∀ x : Nat, x < w → tnO v (nlF v x 3 (v 0 2)) ≠ x) : stq v 4 = w := by
  have key : ∀ n : Nat, stq v n = if n ≤ w then -1 else (w : Int) := by
    intro n
    induction n with
    | zero => rw [if_pos (by omega)]; rfl
    | succ n ih =>
      unfold stq
      rw [ih]
      by_cases h : n ≤ w
      · rw [if_pos h]
        by_cases e : n = w
        · subst e
          rw [if_pos ⟨by omega, hf⟩, if_neg (by omega)]
        · rw [if_neg (fun q => hl n (by omega) q.2), if_pos (by omega)]
      · rw [if_neg h, if_neg (by omega), if_neg (by omega)]
  rw [key, if_neg (by omega)]
section MONO
variable {G : gG} {y : xP} {z v : mS}
theorem lyN_mono {w w' : Int} (hw : 0 ≤ w ∧ w ≤ 3) (hw' : 0 ≤ w' ∧ w' ≤ 3) (hs : subW w w') {k n0 n0' : Int} (h : n0 ≤ n0') (hT : v 0 3 ≤ 2) (hk : ∀ t : Nat, (t : Int) < v 0 3 → tb v t 4 = k → n0 ≤ 1 + 2 * pv v k 0) : ∀ t : Nat, (t : Int) ≤ v 0 3 → lyN v w k n0 t ≤ lyN v w' k n0' t
  | 0, _ => h
  | t + 1, ht => by
    have ih := lyN_mono hw hw' hs h hT hk t (by omega)
    unfold lyN
    have hst : wbit w t → wbit w' t := by
      rcases (by omega : t = 0 ∨ t = 1) with rfl | rfl
      · exact hs.1
      · exact hs.2
    by_cases c1 : wbit w' t ∧ tb v t 4 = k
    · rw [if_pos c1]
      split
      · omega
      · have : ∀ m : Nat, (m : Int) ≤ v 0 3 → lyN v w k n0 m ≤ 1 + 2 * pv v k 0 := by
          intro m
          induction m with
          | zero => intro _; exact hk t (by omega) c1.2
          | succ m ihm =>
            intro hm
            unfold lyN
            split
            · omega
            · exact ihm (by omega)
        exact this t (by omega)
    · rw [if_neg c1, if_neg (fun q => c1 ⟨hst q.1, q.2⟩)]
      exact ih
theorem nlF_mono (hf : fsOk v) {w w' : Int} (hw : 0 ≤ w ∧ w ≤ 3) (hw' : 0 ≤ w' ∧ w' ≤ 3) (hs : subW w w') : ∀ (f : Nat) (k : Int), 0 ≤ k → k < v 0 1 → nlF v w f k ≤ nlF v w' f k
  | 0, k, _, _ => Int.le_refl _
  | f + 1, k, h0, h1 => by
    have hr : rdOk v := hf.1.2.1
    have h3 := hf.1.2.2.2.1
    have hrk := hr.2 k h0 h1
    have h20 := hr.1
    have hpk := pv_b hf.1.1 k 0
    unfold nlF
    generalize hn : (if isHold (v 6 k) (v 4 k) then sumI (fun i => if v 7 (v 0 1 - 1 - i) = k then nlF v w f (v 0 1 - 1 - i) else 0) (v 0 1 - 1 - k).toNat else v 3 k - v 5 k) = n0
    generalize hn' : (if isHold (v 6 k) (v 4 k) then sumI (fun i => if v 7 (v 0 1 - 1 - i) = k then nlF v w' f (v 0 1 - 1 - i) else 0) (v 0 1 - 1 - k).toNat else v 3 k - v 5 k) = n0'
    have hle : n0 ≤ n0' := by
      rw [← hn, ← hn']
      split
      · have key : ∀ m : Nat, (m : Int) ≤ v 0 1 - 1 - k → sumI (fun i => if v 7 (v 0 1 - 1 - i) = k then nlF v w f (v 0 1 - 1 - i) else 0) m ≤ sumI (fun i => if v 7 (v 0 1 - 1 - i) = k then nlF v w' f (v 0 1 - 1 - i) else 0) m := by
          intro m
          induction m with
          | zero => intro _; exact Int.le_refl _
          | succ m ih =>
            intro hm
            have a := ih (by omega)
            have b := nlF_mono hf hw hw' hs f (v 0 1 - 1 - m) (by omega) (by omega)
            show sumI _ m + (if v 7 (v 0 1 - 1 - (m : Int)) = k then nlF v w f (v 0 1 - 1 - m) else 0) ≤ sumI _ m + (if v 7 (v 0 1 - 1 - (m : Int)) = k then nlF v w' f (v 0 1 - 1 - m) else 0)
            split <;> omega
        exact key _ (by omega)
      · exact Int.le_refl _
    have hly := lyN_mono (v := v) hw hw' hs (k := k) hle h3.2 (fun t ht e => by
      have htr := (hf.1.2.2.2.2 t (by omega) ht).1
      have p4 : pbx v t = k := by rw [pbx_4 (by rw [e]; exact h0)]; exact e
      obtain ⟨j, j1, j2, j3, j4, j5, j6⟩ := pbx_in hf (t := t) (by omega) ht
      have ej := j6.mpr (by rw [e]; exact h0)
      rw [ej, show (8 * (t : Int) + 4) % 8 = 4 by omega] at j5
      have ety := kdO_4.1 j5
      have hlen := htr.2.2.2.2.1.2.2.1 ety
      rw [p4] at hlen j4 ety
      rw [← hn, if_neg (by unfold isHold; omega), hlen]
      omega) (v 0 3).toNat (by omega)
    show nhO v k _ + _ ≤ nhO v k _ + _
    unfold nhO
    split <;> split <;> omega
theorem tnB_mono {t ML ML' : Int} (h : ML ≤ ML') (hb : tnB v t ML) : tnB v t ML' := by
  obtain ⟨a, c, c1, c2⟩ := hb
  refine ⟨a, c, c1, ?_⟩
  unfold npO at c2 ⊢
  split at c2 <;> split <;> omega
end MONO
/-- a set on the way: within every fixed one, and asked for by itself -/
def wyI (v : mS) (w : Int) : Prop := (∀ x : Nat, x ≤ 3 → (v 0 3 = 1 → x ≤ 1) → tnO v (nlF v x 3 (v 0 2)) = x → subW w x) ∧ ∀ t : Nat, (t : Int) < v 0 3 → wbit w t → tnB v t (nlF v w 3 (v 0 2))
theorem wyI_0 (v : mS) : wyI v 0 := by
  refine ⟨fun x _ _ _ => ⟨fun h => ?_, fun h => ?_⟩, fun t _ h => ?_⟩
  · unfold wbit at h; omega
  · unfold wbit at h; omega
  · unfold wbit at h; omega
theorem wyI_s {v : mS} (hf : fsOk v) {w w' : Int} (hw : 0 ≤ w ∧ w ≤ 3) (hw' : 0 ≤ w' ∧ w' ≤ 3) (h1 : v 0 3 = 1 → ¬ wbit w' 1) (h : wyI v w) (hs : ∀ t : Nat, (t : Int) < v 0 3 → (wbit w' t ↔ wbit w t ∨ tnB v t (nlF v w 3 (v 0 2)))) (h1' : v 0 3 = 1 → ¬ wbit w 1) : wyI v w' := by
  have h3 := hf.1.2.2.2.1
  obtain ⟨m0, m1, -, -⟩ := hf.2.1.1
  have sww : subW w w' := by
    refine ⟨fun q => (hs 0 (by omega)).mpr (Or.inl q), fun q => ?_⟩
    by_cases e : v 0 3 = 1
    · exact absurd q (h1' e)
    · exact (hs 1 (by omega)).mpr (Or.inl q)
  have hml := nlF_mono hf hw hw' sww 3 (v 0 2) m0 m1
  refine ⟨fun x x1 x2 hx => ?_, fun t ht hb => ?_⟩
  · have sx := h.1 x x1 x2 hx
    have hmx := nlF_mono hf hw (w' := x) (by omega) sx 3 (v 0 2) m0 m1
    have fx := (tnO_w h3 (w := x) ⟨by omega, by omega, fun q => by have := x2 q; omega⟩).mp hx
    have key : ∀ t : Nat, (t : Int) < v 0 3 → wbit w' t → wbit x t := by
      intro t ht q
      rcases (hs t ht).mp q with q | q
      · rcases (by omega : t = 0 ∨ t = 1) with rfl | rfl
        · exact sx.1 q
        · exact sx.2 q
      · exact (fx t ht).mp (tnB_mono hmx q)
    refine ⟨key 0 (by omega), fun q => ?_⟩
    by_cases e : v 0 3 = 1
    · exact absurd q (h1 e)
    · exact key 1 (by omega) q
  · rcases (hs t ht).mp hb with q | q
    · exact tnB_mono hml (h.2 t ht q)
    · exact tnB_mono hml q
theorem wyI_end {v : mS} (hf : fsOk v) {w : Int} (hw : 0 ≤ w ∧ w ≤ 3 ∧ (v 0 3 = 1 → w ≤ 1)) (h : wyI v w) (hs : ∀ t : Nat, (t : Int) < v 0 3 → tnB v t (nlF v w 3 (v 0 2)) → wbit w t) : stq v 4 = w := by
  have h3 := hf.1.2.2.2.1
  obtain ⟨n, hn⟩ : ∃ n : Nat, w = n := ⟨w.toNat, by omega⟩
  subst hn
  refine stq_eq (by omega) ((tnO_w h3 hw).mpr (fun t ht => ⟨hs t ht, h.2 t ht⟩)) (fun x hx q => ?_)
  have := sub_le ⟨by omega, by omega⟩ (w' := x) (by omega) (h.1 x (by omega) (fun e => by have := hw.2.2 e; omega) q)
  omega
