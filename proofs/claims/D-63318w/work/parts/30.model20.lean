/-! ===== sums; the table's entries differ; the length of what is written ===== -/
theorem sumI_add (f g : Int → Int) : ∀ n : Nat, sumI (fun i => f i + g i) n = sumI f n + sumI g n
  | 0 => rfl
  | n + 1 => by
    show sumI (fun i => f i + g i) n + (f n + g n) = sumI f n + f n + (sumI g n + g n)
    rw [sumI_add f g n]; omega
theorem sumI_0 {f : Int → Int} : ∀ {n : Nat}, (∀ i : Nat, i < n → f i = 0) → sumI f n = 0
  | 0, _ => rfl
  | n + 1, h => by
    show sumI f n + f n = 0
    rw [sumI_0 (fun i hi => h i (by omega)), h n (by omega)]; rfl
theorem sumI_first (f : Int → Int) : ∀ n : Nat, sumI f (n + 1) = f 0 + sumI (fun i => f (i + 1)) n
  | 0 => by show (0 : Int) + f 0 = f 0 + 0; omega
  | n + 1 => by
    show sumI f (n + 1) + f ((n + 1 : Nat) : Int) = f 0 + (sumI (fun i => f (i + 1)) n + f ((n : Int) + 1))
    rw [sumI_first f n, show ((n + 1 : Nat) : Int) = (n : Int) + 1 by omega]; omega
theorem sumI_rev : ∀ (n : Nat) (g : Int → Int), sumI (fun i => g ((n : Int) - 1 - i)) n = sumI g n
  | 0, _ => rfl
  | n + 1, g => by
    have h := sumI_rev n (fun i => g (i + 1))
    rw [sumI_first g n, ← h]
    show sumI (fun i => g (((n + 1 : Nat) : Int) - 1 - i)) n + g (((n + 1 : Nat) : Int) - 1 - (n : Int)) = _
    rw [show ((n + 1 : Nat) : Int) - 1 - (n : Int) = 0 by omega, show (fun i : Int => g (((n + 1 : Nat) : Int) - 1 - i)) = (fun i => g ((n : Int) - 1 - i + 1)) from by funext i; congr 1; omega]
    omega
theorem sumI_cut {f : Int → Int} {m : Nat} : ∀ {n : Nat}, m ≤ n → (∀ i : Nat, m ≤ i → i < n → f i = 0) → sumI f n = sumI f m
  | 0, h, _ => by have : m = 0 := by omega
                  subst this; rfl
  | n + 1, h, hz => by
    rcases Nat.lt_or_ge m (n + 1) with q | q
    · show sumI f n + f n = sumI f m
      rw [sumI_cut (by omega) (fun i h1 h2 => hz i h1 (by omega)), hz n (by omega) (by omega)]; omega
    · have : m = n + 1 := by omega
      subst this; rfl
theorem sumI_swap (F : Int → Int → Int) (m : Nat) : ∀ n : Nat, sumI (fun a => sumI (fun b => F a b) m) n = sumI (fun b => sumI (fun a => F a b) n) m
  | 0 => (sumI_0 (fun _ _ => rfl)).symm
  | n + 1 => by
    show sumI (fun a => sumI (fun b => F a b) m) n + sumI (fun b => F n b) m = _
    rw [sumI_swap F m n, ← sumI_add]
    rfl
theorem sumI_one {c x : Int} : ∀ {n : Nat}, 0 ≤ c → c < n → sumI (fun a => if c = a then x else 0) n = x
  | 0, h0, h1 => absurd h1 (by omega)
  | n + 1, h0, h1 => by
    show sumI (fun a => if c = a then x else 0) n + (if c = (n : Int) then x else 0) = x
    by_cases hc : c = n
    · rw [if_pos hc, sumI_0 (fun i hi => if_neg (by omega))]; omega
    · rw [if_neg hc, sumI_one h0 (by omega)]; omega
/-- over the boxes that box k holds -/
def chS (s : mS) (k : Int) (g : Int → Int) : Int := sumI (fun j => if s 7 j = k then g j else 0) (s 0 1).toNat
theorem chS_of {s : mS} (hr : rdOk s) (ho : hoOk s) (k : Int) (h0 : 0 ≤ k) (h1 : k < s 0 1) (g : Int → Int) : sumI (fun i => if s 7 (s 0 1 - 1 - i) = k then g (s 0 1 - 1 - i) else 0) (s 0 1 - 1 - k).toNat = chS s k g := by
  have hcn := hr.1
  unfold chS
  have h := sumI_rev (s 0 1).toNat (fun j => if s 7 j = k then g j else 0)
  rw [← h, show (((s 0 1).toNat : Nat) : Int) = s 0 1 by omega]
  refine (sumI_cut (by omega) (fun i q1 q2 => ?_)).symm
  refine if_neg (fun q => ?_)
  obtain ⟨a1, a2, a3⟩ := ho (s 0 1 - 1 - i) (by omega) (by omega)
  have hb := hr.2 (s 0 1 - 1 - i) (by omega) (by omega)
  rcases (show s 6 (s 0 1 - 1 - i) = 0 ∨ s 6 (s 0 1 - 1 - i) = 1 ∨ s 6 (s 0 1 - 1 - i) = 2 by omega) with z | z | z
  · have := a1 z; omega
  · have := a2 z; omega
  · have := a3 z; omega
/-- the table's entries: level 2, of their kinds, all different -/
def tbOk (v : mS) : Prop := (∀ j, 0 ≤ j → j < 16 → 0 ≤ v 11 j → v 11 j < v 0 1 ∧ v 6 (v 11 j) = 2 ∧ kdO (v 4 (v 11 j)) = j % 8) ∧ ∀ i j, 0 ≤ i → i < 16 → 0 ≤ j → j < 16 → 0 ≤ v 11 i → v 11 i = v 11 j → i = j
theorem kdF_inj (s : mS) (hr : rdOk s) (ho : hoOk s) : ∀ k : Nat, (k : Int) ≤ s 0 1 → ∀ i j, 0 ≤ i → i < 16 → 0 ≤ j → j < 16 → 0 ≤ (kdF s k).1 11 i → (kdF s k).1 11 i = (kdF s k).1 11 j → i = j
  | 0, hk, i, j, h1, h2, h3, h4, h5, _ => by
    have := (kdF_I s hr ho 0 (by omega)).1.2.2.2.2.2.2.2.1 i h1 h2
    omega
  | k + 1, hk, i, j, h1, h2, h3, h4, h5, h6 => by
    have ih := kdF_inj s hr ho k (by omega) i j h1 h2 h3 h4
    have i8 := (kdF_I s hr ho k (by omega)).1.2.2.2.2.2.2.2.1
    rw [kdF] at h5 h6
    dsimp only at h5 h6
    generalize (kdF s k).1 = t at ih i8 h5 h6
    have hA : ∀ j, kdB (kdA t k) k 11 j = t 11 j := by
      intro j
      have c1 : ∀ u : mS, kdB u k 11 j = u 11 j := by
        intro u; unfold kdB
        split
        · simp only [sset_at, reduceIte, Nat.reduceEqDiff]
          split
          · simp only [sset_at, reduceIte, Nat.reduceEqDiff]
          · rfl
        · rfl
      rw [c1]
      unfold kdA
      split
      · simp only [sset_at, reduceIte, Nat.reduceEqDiff]
      · rfl
    generalize kdB (kdA t k) k = tB at hA h5 h6
    unfold kdC at h5 h6
    by_cases hc : 0 ≤ kdK tB k ∧ tB 0 3 ≤ 2
    · rw [if_pos hc] at h5 h6
      simp only [sset_at, updI_at, reduceIte] at h5 h6
      rw [hA i] at h5 h6
      rw [hA j] at h6
      have b1 := i8 i h1 h2
      have b2 := i8 j h3 h4
      by_cases e1 : i = 8 * (tB 0 3 - 1) + kdK tB k
      · by_cases e2 : j = 8 * (tB 0 3 - 1) + kdK tB k
        · omega
        · rw [if_pos e1, if_neg e2] at h6; omega
      · by_cases e2 : j = 8 * (tB 0 3 - 1) + kdK tB k
        · rw [if_neg e1, if_pos e2] at h6; omega
        · rw [if_neg e1] at h5
          rw [if_neg e1, if_neg e2] at h6
          exact ih h5 h6
    · rw [if_neg hc] at h5 h6
      rw [hA i] at h5 h6
      rw [hA j] at h6
      exact ih h5 h6
theorem tbOk_cg {s u : mS} (h : agr s u) (hs : tbOk s) : tbOk u := by
  unfold tbOk
  rw [h 0 (by omega), h 4 (by omega), h 6 (by omega), h 11 (by omega)]
  exact hs
theorem rowsBad_cg {s u : mS} (h : agr s u) (k kd : Int) : rowsBad u k kd ↔ rowsBad s k kd := by
  unfold rowsBad badC badS
  rw [pv_cg h, h 3 (by omega), h 5 (by omega)]
theorem ckR_t {s0 : mS} (hm : mI s0) {v : mS} (h : ckR s0 0 v) : tbOk v ∧ ∀ t, 0 ≤ t → t < v 0 3 → ¬ (0 ≤ tb v t 4 ↔ 0 ≤ tb v t 5) ∧ 0 ≤ tb v t 0 ∧ 0 ≤ tb v t 2 ∧ 0 ≤ tb v t 3 ∧ ∀ kd, 0 ≤ kd → kd < 8 → 0 ≤ tb v t kd → ¬ rowsBad v (tb v t kd) kd := by
  obtain ⟨f1, hr, ho, hk1, hk0⟩ := rd_ok s0 hm
  unfold ckR at h
  generalize (rdL 100 (rd0 s0) 0 0).2 = s at hr ho hk1 hk0 h
  dsimp only at h
  rcases h with h | ⟨-, h | ⟨g2, h | ⟨hw, h | ⟨hc, hv, h | h⟩⟩⟩⟩
  · omega
  · omega
  · omega
  · omega
  · omega
  obtain ⟨hI, hT⟩ := kdF_I s hr ho (s 0 1).toNat (by have := hr.1; omega)
  have hinj := kdF_inj s hr ho (s 0 1).toNat (by have := hr.1; omega)
  have k2 := (kdR_0 hr ho g2).2.2.1
  have k4 := (kdR_0 hr ho g2).2.2.2.2
  have hcn := hr.1
  generalize (kdF s (s 0 1).toNat).1 = u at hI hT hinj k2 k4 hw hv
  have ha := agr_stT u (u 0 3).toNat
  rw [← hv] at ha
  have e6 : u 6 = s 6 := hI.1 6 (by omega) (by omega) (by omega)
  have e4 : u 4 = s 4 := hI.1 4 (by omega) (by omega) (by omega)
  have hu : tbOk u := by
    refine ⟨fun j h0 h1 h2 => ?_, hinj⟩
    have h3 := hT j h0 h1 h2
    have h4 := hI.2.2.2.2.2.2.2.1 j h0 h1
    rw [e6, e4, hI.2.2.1]
    exact ⟨by omega, h3⟩
  refine ⟨tbOk_cg ha hu, fun t h0 h1 => ?_⟩
  rw [ha 0 (by omega)] at h1
  have hx := k4 t h0 h1
  rw [tb_cg ha, tb_cg ha, tb_cg ha, tb_cg ha, tb_cg ha]
  refine ⟨hx.1, hx.2.1, hx.2.2.1, hx.2.2.2, fun kd q0 q1 q2 hbad => ?_⟩
  rw [tb_cg ha] at q2 hbad
  refine hw ⟨(8 * t + kd).toNat, by omega, ?_⟩
  rw [show (((8 * t + kd).toNat : Nat) : Int) = 8 * t + kd by omega]
  refine ⟨by omega, q2, ?_⟩
  rw [show (8 * t + kd) % 8 = kd by omega]
  exact (rowsBad_cg ha _ kd).mp hbad
theorem bL_len (s : mS) (k : Int) : ∀ n : Nat, (bL s k n).length = n
  | 0 => rfl
  | n + 1 => by unfold bL; rw [List.length_append, bL_len s k n]; rfl
theorem cL_len (s : mS) (t wd gr : Int) : ∀ n : Nat, (cL s t wd gr n).length = if wd = 0 then n else 2 * n
  | 0 => by unfold cL; split <;> rfl
  | n + 1 => by
    unfold cL
    rw [List.length_append, cL_len s t wd gr n, List.length_append]
    by_cases h : wd = 0
    · simp only [if_pos h]; rfl
    · simp only [if_neg h, List.length_singleton]; omega
theorem tkF_no {s : mS} {k : Int} : ∀ {n : Nat}, (∀ t : Nat, t < n → pbx s t ≠ k) → tkF s k n = -1
  | 0, _ => rfl
  | n + 1, h => by
    unfold tkF
    rw [if_neg (h n (by omega))]
    exact tkF_no (fun t ht => h t (by omega))
theorem lyN_no {s : mS} {w k n0 : Int} : ∀ {n : Nat}, (∀ t : Nat, t < n → ¬ (wbit w t ∧ tb s t 4 = k)) → lyN s w k n0 n = n0
  | 0, _ => rfl
  | n + 1, h => by
    unfold lyN
    rw [if_neg (h n (by omega))]
    exact lyN_no (fun t ht => h t (by omega))
theorem tkF_all {s : mS} {k : Int} : ∀ {n : Nat}, tkF s k n < 0 → ∀ t : Nat, t < n → pbx s t ≠ k
  | 0, _, t, ht => absurd ht (Nat.not_lt_zero t)
  | n + 1, h, t, ht => by
    unfold tkF at h
    by_cases q : pbx s n = k
    · rw [if_pos q] at h; omega
    · rw [if_neg q] at h
      rcases Nat.lt_or_ge t n with z | z
      · exact tkF_all h t z
      · have : t = n := by omega
        subst this; exact q
theorem lyN_yes {s : mS} {w k n0 : Int} {t : Nat} : ∀ {n : Nat}, t < n → (wbit w t ∧ tb s t 4 = k) → lyN s w k n0 n = 1 + 2 * pv s k 0
  | 0, h, _ => absurd h (Nat.not_lt_zero t)
  | n + 1, h, hq => by
    unfold lyN
    by_cases c : wbit w n ∧ tb s n 4 = k
    · rw [if_pos c]
    · rw [if_neg c]
      have : t ≠ n := fun e => by subst e; exact c hq
      exact lyN_yes (by omega) hq
/-- what is known of a checked state -/
def fsOk (v : mS) : Prop := ckOk v ∧ mvOk v ∧ hmOk v ∧ tbOk v ∧ ∀ t, 0 ≤ t → t < v 0 3 → ¬ (0 ≤ tb v t 4 ↔ 0 ≤ tb v t 5)
theorem pbx_in {v : mS} (h : fsOk v) {t : Int} (h0 : 0 ≤ t) (h1 : t < v 0 3) : ∃ j, (j = 8 * t + 4 ∨ j = 8 * t + 5) ∧ pbx v t = v 11 j ∧ 0 ≤ v 11 j ∧ v 6 (pbx v t) = 2 ∧ kdO (v 4 (pbx v t)) = j % 8 ∧ (j = 8 * t + 4 ↔ 0 ≤ tb v t 4) := by
  obtain ⟨⟨-, -, -, h3, h4⟩, -, -, ht, hx⟩ := h
  have hT := (h4 t h0 h1).1
  have hp := hT.2.2.2.2.1.1
  unfold pbx at hp ⊢
  by_cases h4 : tb v t 4 < 0
  · rw [if_pos h4] at hp ⊢
    have := ht.1 (8 * t + 5) (by omega) (by omega) hp.1
    exact ⟨8 * t + 5, Or.inr rfl, rfl, hp.1, this.2.1, this.2.2, by omega⟩
  · rw [if_neg h4] at hp ⊢
    have := ht.1 (8 * t + 4) (by omega) (by omega) hp.1
    exact ⟨8 * t + 4, Or.inl rfl, rfl, hp.1, this.2.1, this.2.2, by omega⟩
/-- the length of what is written of box k -/
theorem wbL_len {v : mS} (h : fsOk v) {w : Int} (gr : Int) {k : Int} (h0 : 0 ≤ k) (h1 : k < v 0 1) : ((wbL v w gr k).length : Int) = nhO v k (pyF v w k) + (if isHold (v 6 k) (v 4 k) then 0 else pyF v w k) := by
  have hh := h
  obtain ⟨⟨hb, hr, ho, h3, h4⟩, hmv, -, ht, hx⟩ := h
  have hbx := hr.2 k h0 h1
  have hnh : nhO v k (pyF v w k) = 2 ∨ nhO v k (pyF v w k) = 4 := by unfold nhO; split <;> omega
  have hhd : ((hdL v w k).length : Int) = nhO v k (pyF v w k) := by
    unfold hdL
    by_cases q : nhO v k (pyF v w k) = 4
    · rw [if_pos q, if_pos q, q]; rfl
    · rw [if_neg q, if_neg q]
      have : nhO v k (pyF v w k) = 2 := by omega
      rw [this]; rfl
  have htk : -1 ≤ tkO v k ∧ tkO v k < ((v 0 3).toNat : Nat) ∧ (0 ≤ tkO v k → pbx v (tkO v k) = k) := tkF_b v k _
  unfold wbL
  rw [List.length_append, Int.natCast_add, hhd]
  congr 1
  by_cases ht0 : 0 ≤ tkO v k
  · rw [if_pos ht0, List.length_cons, cL_len]
    rw [htk.2.2 ht0]
    obtain ⟨t, hte⟩ : ∃ t, t = tkO v k := ⟨_, rfl⟩
    rw [← hte] at ht0 htk
    have hpk := htk.2.2 ht0
    have hT := (h4 t ht0 (by omega)).1
    obtain ⟨j, j1, j2, j3, j4, j5, j6⟩ := pbx_in hh ht0 (by omega)
    have k4 := hT.2.2.2.2.1
    rw [hpk] at j2 j4 j5 k4
    have hpv := pv_b hb k 0
    have hnho : ¬ isHold (v 6 k) (v 4 k) := by unfold isHold; omega
    rw [if_neg hnho]
    unfold pyF
    rw [if_neg hnho]
    rcases j1 with rfl | rfl
    · -- narrow
      have ht4 : tb v t 4 = k := j2.symm
      have hty : v 4 k = 111 := by
        rw [show (8 * t + 4) % 8 = 4 by omega] at j5
        unfold kdO at j5
        (repeat' split at j5) <;> omega
      have hpl := k4.2.2.1 hty
      by_cases hwb : wbit w t
      · have hw : wider v w k := by unfold wider; rw [← hte]; exact ⟨ht0, Or.inr hwb⟩
        rw [if_pos hw, if_neg (by omega), lyN_yes (t := t.toNat) (by omega) (by rw [show ((t.toNat : Nat) : Int) = t by omega]; exact ⟨hwb, ht4⟩)]
        omega
      · have hw : ¬ wider v w k := by unfold wider; rw [← hte]; exact fun q => q.2.elim (fun z => by omega) hwb
        rw [if_neg hw, if_pos rfl, lyN_no (fun t' ht' hq => ?_), hpl]
        · omega
        · have := ht.2 (8 * t + 4) (8 * (t' : Int) + 4) (by omega) (by omega) (by omega) (by omega) j3 (by rw [← j2]; exact hq.2.symm)
          rw [show (t' : Int) = t by omega] at hq
          exact hwb hq.1
    · -- wide
      have hty : v 4 k = 79 := by
        rw [show (8 * t + 5) % 8 = 5 by omega] at j5
        unfold kdO at j5
        (repeat' split at j5) <;> omega
      have hw : wider v w k := by unfold wider; rw [← hte]; exact ⟨ht0, Or.inl hty⟩
      have hpl := k4.2.2.2.1 (by omega)
      rw [if_pos hw, if_neg (by omega), lyN_no (fun t' ht' hq => ?_), hpl]
      · omega
      · have := (ht.1 (8 * (t' : Int) + 4) (by omega) (by omega) (by have := hq.2; unfold tb at this; omega)).2.2
        rw [show v 11 (8 * (t' : Int) + 4) = k from hq.2, hty, show (8 * (t' : Int) + 4) % 8 = 4 by omega] at this
        simp [kdO] at this
  · rw [if_neg ht0]
    have hall := tkF_all (s := v) (k := k) (n := (v 0 3).toNat) (by show tkO v k < 0; omega)
    have hly : ∀ n0, lyN v w k n0 (v 0 3).toNat = n0 := by
      intro n0
      refine lyN_no (fun t' ht' hq => hall t' ht' ?_)
      unfold pbx
      rw [if_neg (by have := hq.2; omega)]
      exact hq.2
    by_cases hho : isHold (v 6 k) (v 4 k)
    · rw [if_pos hho, if_pos hho]; rfl
    · rw [if_neg hho, if_neg hho, bL_len]
      unfold pyF
      rw [if_neg hho, hly]
      omega
/-- what is written of the boxes of the movie, one behind another -/
def bxL (s : mS) (w gr : Int) : Nat → List Int
  | 0 => []
  | k + 1 => bxL s w gr k ++ (if (k : Int) = s 0 2 ∨ 0 < s 6 k then wbL s w gr k else [])
theorem bxL_sum (s : mS) (w gr : Int) : ∀ n : Nat, ((bxL s w gr n).length : Int) = sumI (fun k => if k = s 0 2 ∨ 0 < s 6 k then ((wbL s w gr k).length : Int) else 0) n
  | 0 => rfl
  | n + 1 => by
    unfold bxL
    rw [List.length_append, Int.natCast_add, bxL_sum s w gr n]
    show _ = _ + (if (n : Int) = s 0 2 ∨ 0 < s 6 n then ((wbL s w gr n).length : Int) else 0)
    congr 1
    split <;> rfl
theorem pyF_h {v : mS} (h : fsOk v) {w k : Int} (h0 : 0 ≤ k) (h1 : k < v 0 1) (hh : isHold (v 6 k) (v 4 k)) : pyF v w k = chS v k (nlF v w 3) := by
  obtain ⟨⟨hb, hr, ho, h3, h4⟩, hmv, -, ht, hx⟩ := h
  unfold pyF
  rw [if_pos hh, chS_of hr ho k h0 h1]
  refine lyN_no (fun t' ht' hq => ?_)
  have := (ht.1 (8 * (t' : Int) + 4) (by omega) (by omega) (by have := hq.2; unfold tb at this; omega)).2.1
  rw [show v 11 (8 * (t' : Int) + 4) = k from hq.2] at this
  unfold isHold at hh
  omega
/-- the movie's new length is the length of what is written of it -/
theorem bxL_len {v : mS} (h : fsOk v) (w gr : Int) : ((bxL v w gr (v 0 1).toNat).length : Int) = nlF v w 3 (v 0 2) := by
  have hh := h
  obtain ⟨⟨hb, hr, ho, h3, h4⟩, hmv, -, ht, hx⟩ := h
  have hcn := hr.1
  obtain ⟨⟨m1, m2, m3, m4⟩, m5, m6⟩ := id hmv
  obtain ⟨own, hown⟩ : ∃ own : Int → Int, own = fun k => nhO v k (pyF v w k) + (if isHold (v 6 k) (v 4 k) then 0 else pyF v w k) := ⟨_, rfl⟩
  have nl : ∀ k, 0 ≤ k → k < v 0 1 → nlF v w 3 k = own k + (if isHold (v 6 k) (v 4 k) then chS v k (nlF v w 3) else 0) := by
    intro k q0 q1
    rw [nlF_3 hr ho w k q0 q1, hown]
    dsimp only
    by_cases c : isHold (v 6 k) (v 4 k)
    · rw [if_pos c, if_pos c, ← pyF_h hh q0 q1 c]; omega
    · rw [if_neg c, if_neg c]; omega
  have nl2 : ∀ k, 0 ≤ k → k < v 0 1 → v 6 k = 2 → nlF v w 3 k = own k := by
    intro k q0 q1 q2
    rw [nl k q0 q1, if_neg (by unfold isHold; omega)]; omega
  -- by levels
  have e0 : ((bxL v w gr (v 0 1).toNat).length : Int) = own (v 0 2) + (sumI (fun k => if v 6 k = 1 then own k else 0) (v 0 1).toNat + sumI (fun k => if v 6 k = 2 then own k else 0) (v 0 1).toNat) := by
    rw [bxL_sum, ← sumI_one (c := v 0 2) (x := own (v 0 2)) (n := (v 0 1).toNat) m1 (by omega), ← sumI_add, ← sumI_add]
    refine sumI_cg (fun i hi => ?_)
    have hb2 := hr.2 i (by omega) (by omega)
    have hl := wbL_len hh (w := w) gr (k := i) (by omega) (by omega)
    have hl2 : ((wbL v w gr i).length : Int) = own i := by rw [hl, hown]
    rw [hl2]
    rcases (show v 6 i = 0 ∨ v 6 i = 1 ∨ v 6 i = 2 by omega) with z | z | z
    · rw [if_neg (show ¬ v 6 i = 1 by omega), if_neg (show ¬ v 6 i = 2 by omega)]
      by_cases c : (i : Int) = v 0 2
      · rw [if_pos (Or.inl c), if_pos c.symm, c]; omega
      · rw [if_neg (by omega), if_neg (by omega)]; rfl
    · have : v 0 2 ≠ i := fun c => by rw [c] at m3; omega
      rw [if_pos (by omega), if_neg this, if_pos z, if_neg (by omega)]; omega
    · have : v 0 2 ≠ i := fun c => by rw [c] at m3; omega
      rw [if_pos (by omega), if_neg this, if_neg (by omega), if_pos z]; omega
  -- the movie
  have e1 : nlF v w 3 (v 0 2) = own (v 0 2) + sumI (fun k => if v 6 k = 1 then nlF v w 3 k else 0) (v 0 1).toNat := by
    rw [nl (v 0 2) m1 m2, if_pos (Or.inl ⟨m3, m4⟩)]
    congr 1
    unfold chS
    refine sumI_cg (fun i hi => ?_)
    have hb2 := hr.2 i (by omega) (by omega)
    obtain ⟨a1, a2, a3⟩ := ho i (by omega) (by omega)
    by_cases c : v 6 i = 1
    · obtain ⟨b1, b2, b3, b4⟩ := a2 c
      have := m5 (v 7 i) b1 (by omega) b3 b4
      rw [if_pos c, if_pos this]
    · rw [if_neg c, if_neg]
      intro q
      rcases (show v 6 i = 0 ∨ v 6 i = 2 by omega) with z | z
      · have := a1 z; omega
      · have := a3 z; rw [q] at this; omega
  -- the tracks
  have e2 : sumI (fun k => if v 6 k = 1 then nlF v w 3 k else 0) (v 0 1).toNat = sumI (fun k => if v 6 k = 1 then own k else 0) (v 0 1).toNat + sumI (fun k => if v 6 k = 2 then own k else 0) (v 0 1).toNat := by
    have e3 : sumI (fun k => if v 6 k = 1 then nlF v w 3 k else 0) (v 0 1).toNat = sumI (fun k => (if v 6 k = 1 then own k else 0) + sumI (fun i => if v 7 i = k ∧ v 6 i = 2 then own i else 0) (v 0 1).toNat) (v 0 1).toNat := by
      refine sumI_cg (fun k hk => ?_)
      have hb2 := hr.2 k (by omega) (by omega)
      by_cases c : v 6 k = 1
      · rw [if_pos c, if_pos c, nl k (by omega) (by omega)]
        congr 1
        by_cases d : isHold (v 6 k) (v 4 k)
        · rw [if_pos d]
          unfold chS
          refine sumI_cg (fun i hi => ?_)
          obtain ⟨a1, a2, a3⟩ := ho i (by omega) (by omega)
          have hb3 := hr.2 i (by omega) (by omega)
          by_cases q : v 7 i = k
          · have : v 6 i = 2 := by
              rcases (show v 6 i = 0 ∨ v 6 i = 1 ∨ v 6 i = 2 by omega) with z | z | z
              · have := a1 z; omega
              · have := a2 z; rw [q] at this; omega
              · exact z
            rw [if_pos q, if_pos ⟨q, this⟩, nl2 i (by omega) (by omega) this]
          · rw [if_neg q, if_neg (fun z => q z.1)]
        · rw [if_neg d]
          refine (sumI_0 (fun i hi => if_neg (fun q => ?_))).symm
          obtain ⟨a1, a2, a3⟩ := ho i (by omega) (by omega)
          have := a3 q.2
          rw [q.1] at this
          exact d (Or.inr ⟨this.2.2.1, this.2.2.2⟩)
      · have hz : sumI (fun i => if v 7 i = (k : Int) ∧ v 6 i = 2 then own i else 0) (v 0 1).toNat = 0 := sumI_0 (fun i hi => if_neg (fun q => by
          obtain ⟨a1, a2, a3⟩ := ho i (by omega) (by omega)
          have := a3 q.2
          rw [q.1] at this
          exact c this.2.2.1))
        rw [if_neg c, if_neg c, hz]; rfl
    rw [e3, sumI_add, sumI_swap]
    congr 1
    refine sumI_cg (fun i hi => ?_)
    by_cases c : v 6 i = 2
    · obtain ⟨a1, a2, a3⟩ := ho i (by omega) (by omega)
      have := a3 c
      rw [if_pos c]
      rw [show (fun a : Int => if v 7 i = a ∧ v 6 i = 2 then own i else 0) = (fun a : Int => if v 7 i = a then own i else 0) from by funext a; simp [c]]
      exact sumI_one (by omega) (by omega)
    · rw [if_neg c]
      exact sumI_0 (fun a ha => if_neg (fun q => c q.2))
  rw [e0, e1, e2]
