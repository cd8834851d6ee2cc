/-! ===== fastStart, plain: the tables of places; the new file ===== -/
theorem ck_o2 {s0 : mS} (hm : mI s0) {v : mS} (h : ckR s0 0 v) : o2Ok v := by
  obtain ⟨hc, h01⟩ := (ckR_rd hm h).2 (by omega) (by omega)
  have := rd_o2 s0
  unfold o2Ok at this ⊢
  rw [h01, hc 6 (by omega) (by omega), hc 7 (by omega) (by omega)]
  exact this
theorem cl_4 {o : Int} (h : 0 ≤ o ∧ o < 12) (h4 : clN (clO o) = 4) : o = 7 ∨ o = 8 := by
  rcases (by omega : o = 0 ∨ o = 1 ∨ o = 2 ∨ o = 3 ∨ o = 4 ∨ o = 5 ∨ o = 6 ∨ o = 7 ∨ o = 8 ∨ o = 9 ∨ o = 10 ∨ o = 11) with rfl | rfl | rfl | rfl | rfl | rfl | rfl | rfl | rfl | rfl | rfl | rfl <;> revert h4 <;> decide
/-- a box of places is a track's -/
theorem ck_p4 {s0 : mS} (hm : mI s0) {v : mS} (h : ckR s0 0 v) {G : gG} {y : xP} {z : mS} (hq : qI G y z v) {k : Int} (h0 : 0 ≤ k) (h1 : k < yn y) (h4 : z 27 k = 4) : ∃ t : Nat, (t : Int) < v 0 3 ∧ pbx v t = k := by
  obtain ⟨hc9, h01⟩ := (ckR_rd hm h).2 (by omega) (by omega)
  obtain ⟨m1, m2, m3, -, -⟩ := rd_ok s0 hm
  obtain ⟨⟨-, -, g4, -, g6, -⟩, g26, g27, -⟩ := hq.2.2.2.2.2 k h0 h1
  have hkn := hq.1.2.2.1
  unfold ckR at h
  generalize (rdL 100 (rd0 s0) 0 0).2 = s at h m2 m3 hc9 h01
  generalize (rdL 100 (rd0 s0) 0 0).1 = F at h m1
  obtain ⟨hk, hv⟩ : kdR s = 0 ∧ v = stT (kdF s (s 0 1).toNat).1 ((kdF s (s 0 1).toNat).1 0 3).toNat := by
    rcases h with ⟨a, b, -⟩ | ⟨-, ⟨-, b, -⟩ | ⟨hk, ⟨-, b, -⟩ | ⟨-, ⟨-, b, -⟩ | ⟨-, c, -⟩⟩⟩⟩
    · omega
    · omega
    · omega
    · omega
    · exact ⟨hk, c⟩
  have hag := agr_stT (kdF s (s 0 1).toNat).1 ((kdF s (s 0 1).toNat).1 0 3).toNat
  rw [← hv] at hag
  obtain ⟨-, k2, -, -, k5, k6⟩ := kdF_D s m2 m3 (s 0 1).toNat (by have := m2.1.1; omega)
  obtain ⟨-, c1, c2, w0, c4⟩ := kdR_0 m2 m3 hk
  have hd := k6.mp w0
  generalize (kdF s (s 0 1).toNat).1 = u at hag k2 k5 c1 c2 c4
  have hk1 : k < s 0 1 := by rw [← h01, hkn]; exact h1
  have hrk := m2.2 k h0 hk1
  rw [g4, hc9 4 (by omega) (by omega)] at g26
  rw [g6, hc9 6 (by omega) (by omega)] at g26
  have ob := knO_b (s 4 k) (s 6 k)
  have o78 := cl_4 (o := z 26 k) (by omega) (by rw [← g27]; exact h4)
  have hsl : 0 ≤ slO (knO (s 4 k) (s 6 k)) := by
    rw [← g26]
    rcases o78 with q | q <;> rw [q] <;> decide
  obtain ⟨l2, kd0⟩ := (kn_sl (by omega)).mp hsl
  have ekd : kdO (s 4 k) = z 26 k - 3 := by rw [g26, l2, kn_kd kd0]; omega
  obtain ⟨q1, q2, q3, q4⟩ := (m3 k h0 hk1).2.2 l2
  have hlt := cnb_lt (p := pTm s) (a := s 7 k) (n := k.toNat) q1 (by omega) (pTm_t.mpr ⟨q3, q4⟩)
  have hnn := cnb_nn (pTm s) (s 7 k).toNat
  have hmo := cnb_mono (pTm s) (m := k.toNat) (n := (s 0 1).toNat) (by omega)
  obtain ⟨i, hi⟩ : ∃ i : Nat, cnb (pTm s) k.toNat = i + 1 := ⟨(cnb (pTm s) k.toNat - 1).toNat, by omega⟩
  have hpk : pK s i (kdO (s 4 k)) k = true := pK_t.mpr ⟨l2, rfl, hi⟩
  have e := k5 i (kdO (s 4 k)) (by omega) (by omega) kd0 (by omega)
  have el : lsb (pK s i (kdO (s 4 k))) (s 0 1).toNat = k := by
    have hmx := lsb_max (pK s i (kdO (s 4 k))) (s 0 1).toNat k h0 (by omega) hpk
    obtain ⟨x1, x2, x3⟩ := (lsb_b (pK s i (kdO (s 4 k))) (s 0 1).toNat).resolve_left (by omega)
    exact Classical.byContradiction fun q => hd ⟨i, kdO (s 4 k), k, _, ⟨by omega, by omega, kd0, by omega⟩, h0, by omega, x2, hpk, x3⟩
  rw [el] at e
  have hit : (i : Int) < u 0 3 := by omega
  have h44 := (c4 i (by omega) hit).1
  refine ⟨i, by rw [hag 0 (by omega)]; exact hit, ?_⟩
  rw [pbx_cg hag]
  rcases o78 with q | q
  · rw [ekd, q] at e
    have e : tb u i 4 = k := e
    rw [pbx_4 (by omega), e]
  · rw [ekd, q] at e
    have e : tb u i 5 = k := e
    unfold pbx
    rw [if_pos, e]
    exact Classical.byContradiction fun w => h44 ⟨fun _ => by omega, fun _ => by omega⟩
theorem filL_at (v : mS) : ∀ (n i : Nat), i < n → (filL v n).getD i 0 = v 1 i
  | 0, i, h => by omega
  | n + 1, i, h => by
    unfold filL
    rw [List.getD_eq_getElem?_getD]
    by_cases e : i < n
    · rw [List.getElem?_append_left (by rw [filL_len]; exact e), ← List.getD_eq_getElem?_getD]
      exact filL_at v n i e
    · have e' : i = n := by omega
      subst e'
      rw [List.getElem?_append_right (by rw [filL_len]; omega), filL_len, Nat.sub_self]
      rfl
theorem rsL_at {v : mS} {to : Int} (h1 : to ≤ v 2 (v 0 2)) (h2 : 0 ≤ v 3 (v 0 2)) : ∀ (n i : Nat), i < (rsL v to n).length → (rsL v to n).getD i 0 = if to + i < v 2 (v 0 2) then v 1 (to + i) else v 1 (to + i + v 3 (v 0 2))
  | 0, i, h => absurd h (Nat.not_lt_zero i)
  | n + 1, i, h => by
    have ih := rsL_at h1 h2 n i
    have hl := rsL_len (s := v) (to := to) h1 h2 n
    unfold rsL at h ⊢
    rw [List.getD_eq_getElem?_getD]
    by_cases e : i < (rsL v to n).length
    · rw [List.getElem?_append_left e, ← List.getD_eq_getElem?_getD]
      exact ih e
    · rw [List.length_append] at h
      rw [List.getElem?_append_right (by omega)]
      by_cases c : to + (n : Int) < v 2 (v 0 2) ∨ v 2 (v 0 2) + v 3 (v 0 2) ≤ to + n
      · rw [if_pos c] at h ⊢
        have hi : i = (rsL v to n).length := by
          have : ([v 1 (to + (n : Int))] : List Int).length = 1 := rfl
          omega
        rw [hi, Nat.sub_self]
        show v 1 (to + (n : Int)) = _
        rcases c with c | c
        · rw [if_pos (by omega)] at hl
          rw [if_pos (by omega), hl]
        · rw [hl]
          by_cases c2 : to + (n : Int) ≤ v 2 (v 0 2)
          · rw [if_pos c2]
            by_cases c3 : to + (n : Int) < v 2 (v 0 2)
            · rw [if_pos c3]
            · rw [if_neg c3, show to + (n : Int) + v 3 (v 0 2) = to + n by omega]
          · rw [if_neg c2]
            by_cases c3 : to + (n : Int) ≤ v 2 (v 0 2) + v 3 (v 0 2)
            · rw [if_pos c3, if_neg (by omega)]
              congr 1
              omega
            · rw [if_neg c3, if_neg (by omega)]
              congr 1
              omega
      · rw [if_neg c] at h
        have : ([] : List Int).length = 0 := rfl
        omega
theorem sumI_ge {f : Int → Int} (hf : ∀ i, 0 ≤ f i) : ∀ (n i : Nat), i < n → f i ≤ sumI f n
  | 0, i, h => by omega
  | n + 1, i, h => by
    show f i ≤ sumI f n + f n
    have := hf n
    by_cases e : i = n
    · subst e
      have := sumI_mono hf (a := 0) (b := i) (by omega)
      have e0 : sumI f 0 = 0 := rfl
      omega
    · have := sumI_ge hf n i (by omega)
      omega
/-- a box in the movie is no longer than the movie -/
theorem nl_le {v : mS} (hf : fsOk v) (w : Int) {k : Int} (h0 : 0 ≤ k) (h1 : k < v 0 1) (hk : k = v 0 2 ∨ 0 < v 6 k) : nlF v w 3 k ≤ nlF v w 3 (v 0 2) := by
  have hr : rdOk v := hf.1.2.1
  have ho : hoOk v := hf.1.2.2.1
  have hb : byOk v := hf.1.1
  have step : ∀ j h : Int, 0 ≤ j → j < v 0 1 → 0 ≤ h → h < v 0 1 → isHold (v 6 h) (v 4 h) → v 7 j = h → nlF v w 3 j ≤ nlF v w 3 h := by
    intro j h j0 j1 hh0 hh1 hH e
    have a := nlF_3 hr ho w h hh0 hh1
    have b := pyF_h hf (w := w) hh0 hh1 hH
    have hn : nhO v h (pyF v w h) = 2 ∨ nhO v h (pyF v w h) = 4 := by unfold nhO; split <;> omega
    have nn : ∀ i : Int, 0 ≤ (if v 7 i = h then (if 0 ≤ i ∧ i < v 0 1 then nlF v w 3 i else 0) else 0) := by
      intro i
      split
      · split
        · rename_i q; exact (nlF_b hr hb w 3 i q.1 q.2).1
        · omega
      · omega
    have es : chS v h (nlF v w 3) = sumI (fun i => if v 7 i = h then (if 0 ≤ i ∧ i < v 0 1 then nlF v w 3 i else 0) else 0) (v 0 1).toNat := by
      unfold chS
      refine sumI_cg (fun i hi => ?_)
      by_cases q : v 7 (i : Int) = h
      · rw [if_pos q, if_pos q, if_pos (by omega)]
      · rw [if_neg q, if_neg q]
    have := sumI_ge nn (v 0 1).toNat j.toNat (by omega)
    rw [show ((j.toNat : Nat) : Int) = j by omega, if_pos e, if_pos ⟨j0, j1⟩, ← es] at this
    omega
  obtain ⟨m0, m1, m2, m3⟩ := hf.2.1.1
  have lev1 : ∀ j : Int, 0 ≤ j → j < v 0 1 → v 6 j = 1 → nlF v w 3 j ≤ nlF v w 3 (v 0 2) := by
    intro j j0 j1 j6
    obtain ⟨a1, a2, a3, a4⟩ := (ho j j0 j1).2.1 j6
    have e := hf.2.1.2.1 (v 7 j) a1 (by omega) a3 a4
    exact step j (v 0 2) j0 j1 m0 m1 (Or.inl ⟨m2, m3⟩) e
  have hrk := hr.2 k h0 h1
  rcases hk with rfl | hk
  · exact Int.le_refl _
  · rcases (by omega : v 6 k = 1 ∨ v 6 k = 2) with q | q
    · exact lev1 k h0 h1 q
    · obtain ⟨a1, a2, a3, a4⟩ := (ho k h0 h1).2.2 q
      have := step k (v 7 k) h0 h1 a1 (by omega) (Or.inr ⟨a3, a4⟩) rfl
      have := lev1 (v 7 k) a1 (by omega) a3
      omega
theorem np_b {v : mS} (hf : fsOk v) (hor : orOk v (v 0 0)) {t c : Int} (h0 : 0 ≤ t) (h1 : t < v 0 3) (c0 : 0 ≤ c) (c1 : c < pv v (pbx v t) 0) {ML : Int} (hML : 0 ≤ ML ∧ ML ≤ 2000) : 0 ≤ npO v t (1 + c) ML ∧ npO v t (1 + c) ML < 65536 := by
  obtain ⟨a1, a2, a3⟩ := hf.2.2.1.2 t h0 h1 c c0 c1
  have hr : rdOk v := hf.1.2.1
  obtain ⟨m0, m1, m2, m3⟩ := hf.2.1.1
  have hrH := hr.2 _ a1 a2
  have hrM := hr.2 _ m0 m1
  unfold npO
  generalize v 12 (256 * t + (1 + c)) = H at a1 a2 a3 hrH
  have x1 := a3.2.2.1
  have x2 := a3.2.2.2
  split
  · omega
  · rename_i q
    have hne : H ≠ v 0 2 := fun e => by have := a3.2.1; rw [e] at this; omega
    rcases (by omega : H < v 0 2 ∨ v 0 2 < H) with w | w
    · have := hor.2 H (v 0 2) a1 w m1 a3.1 m2; omega
    · have := hor.2 (v 0 2) H m0 w a2 m2 a3.1; omega
/-- what is written are bytes -/
theorem wb_by {v : mS} (hf : fsOk v) (hor : orOk v (v 0 0)) {w : Int} {k : Int} (h0 : 0 ≤ k) (h1 : k < v 0 1) (hk : k = v 0 2 ∨ 0 < v 6 k) (hML : nlF v w 3 (v 0 2) ≤ 2000) : ∀ e ∈ wbL v w (nlF v w 3 (v 0 2)) k, 0 ≤ e ∧ e < 256 := by
  have hr : rdOk v := hf.1.2.1
  have ho : hoOk v := hf.1.2.2.1
  have hb : byOk v := hf.1.1
  have hrk := hr.2 k h0 h1
  have hle := nl_le hf w h0 h1 hk
  have hnn := (nlF_b hr hb w 3 k h0 h1).1
  have hmn := (nlF_b hr hb w 3 (v 0 2) hf.2.1.1.1 hf.2.1.1.2.1).1
  have h3 := nlF_3 hr ho w k h0 h1
  have hcl : ∀ (t wd : Int), 0 ≤ t → t < v 0 3 → ∀ n : Nat, (n : Int) ≤ pv v (pbx v t) 0 → ∀ e ∈ cL v t wd (nlF v w 3 (v 0 2)) n, 0 ≤ e ∧ e < 256 := by
    intro t wd t0 t1 n
    induction n with
    | zero => intro _ e he; cases he
    | succ n ih =>
      intro hn e he
      have hnp := np_b hf hor t0 t1 (c := n) (by omega) (by omega) (ML := nlF v w 3 (v 0 2)) ⟨hmn, hML⟩
      unfold cL at he
      rcases List.mem_append.mp he with he | he
      · exact ih (by omega) e he
      · rcases List.mem_append.mp he with he | he
        · split at he
          · cases he
          · rw [List.mem_singleton.mp he]; omega
        · rw [List.mem_singleton.mp he]; omega
  have hbl : ∀ n : Nat, ∀ e ∈ bL v k n, 0 ≤ e ∧ e < 256 := by
    intro n
    induction n with
    | zero => intro e he; cases he
    | succ n ih =>
      intro e he
      unfold bL at he
      rcases List.mem_append.mp he with he | he
      · exact ih e he
      · rw [List.mem_singleton.mp he]; exact pv_b hb k n
  intro e he
  unfold wbL at he
  rcases List.mem_append.mp he with he | he
  · unfold hdL at he
    rcases List.mem_append.mp he with he | he
    · rcases List.mem_cons.mp he with he | he
      · rw [he]
        split
        · omega
        · rename_i q
          unfold nhO at q h3
          split at q
          · omega
          · rename_i q2
            rw [if_neg q2] at h3
            omega
      · rw [List.mem_singleton.mp he]
        split <;> omega
    · split at he
      · rcases List.mem_cons.mp he with he | he
        · rw [he]; omega
        · rw [List.mem_singleton.mp he]; omega
      · cases he
  · split at he
    · rename_i q
      have hb2 := tkF_b v k (v 0 3).toNat
      have h33 := hf.1.2.2.2.1
      rcases List.mem_cons.mp he with he | he
      · rw [he]; exact pv_b hb _ _
      · have hp := pv_b hb (pbx v (tkO v k)) 0
        exact hcl (tkO v k) _ q (by have := hb2.2.1; show tkF v k (v 0 3).toNat < v 0 3; omega) _ (by omega) e he
    · split at he
      · cases he
      · exact hbl _ e he
theorem bx_by {v : mS} (hf : fsOk v) (hor : orOk v (v 0 0)) {w : Int} (hML : nlF v w 3 (v 0 2) ≤ 2000) : ∀ n : Nat, (n : Int) ≤ v 0 1 → ∀ e ∈ bxL v w (nlF v w 3 (v 0 2)) n, 0 ≤ e ∧ e < 256
  | 0, _, e, he => by cases he
  | n + 1, hn, e, he => by
    unfold bxL at he
    rcases List.mem_append.mp he with he | he
    · exact bx_by hf hor hML n (by omega) e he
    · split at he
      · rename_i q; exact wb_by hf hor (by omega) (by omega) q hML e he
      · cases he
