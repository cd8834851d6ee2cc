/-! ===== the model: what read leaves; division; states that agree but for home ===== -/
theorem zI_div {x y : Int} (hx : 0 ≤ x ∧ x < 2147483648) (hy : 0 < y ∧ y < 2147483648) : zI x / zI y = zI (x / y) := by
  obtain ⟨a, rfl⟩ := Int.eq_ofNat_of_zero_le hx.1
  obtain ⟨b, rfl⟩ := Int.eq_ofNat_of_zero_le (Int.le_of_lt hy.1)
  rw [zI_nat, zI_nat, pk_div (by omega) (by omega) (by omega), ← zI_nat]
  rfl
theorem zI_rem {x y : Int} (hx : 0 ≤ x ∧ x < 2147483648) (hy : 0 < y ∧ y < 2147483648) : zI x - zI x / zI y * zI y = zI (x % y) := by
  obtain ⟨a, rfl⟩ := Int.eq_ofNat_of_zero_le hx.1
  obtain ⟨b, rfl⟩ := Int.eq_ofNat_of_zero_le (Int.le_of_lt hy.1)
  rw [zI_nat, zI_nat, pk_rem (by omega) (by omega) (by omega), ← zI_nat]
  rfl
theorem zI_ne0 {y : Int} (hy : 0 < y ∧ y < 2147483648) : ¬ zI y = 0 := fun h => by
  have := (zI_eq (x := y) (y := 0) (by unfold i32; omega) i32_0).mp h
  omega
section DIVR
variable {μ : Mx} {k n : Nat} {ws : va_W} {pc : Nat} {lv : List (Option Value)} {st : List Value}
theorem r_idiv {x y : Int} (hd : decode (mB μ) pc = .ok (.idiv, 1)) (hx : 0 ≤ x ∧ x < 2147483648) (hy : 0 < y ∧ y < 2147483648) (kk : WP μ k n ws (pc + 1) lv (vI (x / y) :: st)) : WP μ k n ws pc lv (vI y :: vI x :: st) := by
  refine r_idivR hd (zI_ne0 hy) ?_
  rw [zI_div hx hy]; exact kk
theorem r_irem {x y : Int} (hd : decode (mB μ) pc = .ok (.irem, 1)) (hx : 0 ≤ x ∧ x < 2147483648) (hy : 0 < y ∧ y < 2147483648) (kk : WP μ k n ws (pc + 1) lv (vI (x % y) :: st)) : WP μ k n ws pc lv (vI y :: vI x :: st) := by
  refine r_iremR hd (zI_ne0 hy) ?_
  rw [zI_rem hx hy]; exact kk
end DIVR
def agr (s u : mS) : Prop := ∀ c, c ≤ 11 → u c = s c
/-- who holds the open rows -/
def opOk (s : mS) (lev : Nat) : Prop := s 9 0 = -1 ∧ (1 ≤ lev → 0 ≤ s 9 1 ∧ s 9 1 < s 0 1 ∧ s 6 (s 9 1) = 0 ∧ s 4 (s 9 1) = 77) ∧ (2 ≤ lev → 0 ≤ s 9 2 ∧ s 9 2 < s 0 1 ∧ s 6 (s 9 2) = 1 ∧ s 4 (s 9 2) = 84)
theorem pv_cg {s u : mS} (h : agr s u) : pv u = pv s := by funext k i; unfold pv; rw [h 1 (by omega), h 2 (by omega), h 5 (by omega)]
theorem tb_cg {s u : mS} (h : agr s u) (t kd : Int) : tb u t kd = tb s t kd := by show u 11 _ = s 11 _; rw [h 11 (by omega)]
theorem pbx_cg {s u : mS} (h : agr s u) (t : Int) : pbx u t = pbx s t := by unfold pbx; rw [tb_cg h, tb_cg h]
theorem szO_cg {s u : mS} (h : agr s u) (t i : Int) : szO u t i = szO s t i := by unfold szO; rw [tb_cg h, pv_cg h]
theorem cpl_cg {s u : mS} (h : agr s u) (t i : Int) : cpl u t i = cpl s t i := by unfold cpl; rw [pbx_cg h, pv_cg h, h 4 (by omega)]
theorem rowU_cg {s u : mS} (h : agr s u) (k c : Int) (r : Nat) : rowU u k c r = rowU s k c r := by
  induction r with
  | zero => rfl
  | succ r ih => unfold rowU; rw [pv_cg h, ih]
theorem mnO_cg {s u : mS} (h : agr s u) (t c : Int) : mnO u t c = mnO s t c := by unfold mnO; rw [tb_cg h, pv_cg h, rowU_cg h]
theorem smp_cg {s u : mS} (h : agr s u) (t : Int) (c : Nat) : smp u t c = smp s t c := by
  unfold smp
  congr 1
  funext c
  exact mnO_cg h t _
theorem cby_cg {s u : mS} (h : agr s u) (t : Int) (c : Nat) : cby u t c = cby s t c := by
  unfold cby
  rw [mnO_cg h, smp_cg h]
  congr 1
  funext i
  exact szO_cg h t _
theorem hmO_cg {s u : mS} (h : agr s u) (t : Int) (c : Nat) : hmO u t c = hmO s t c := by
  unfold hmO
  rw [cpl_cg h, cby_cg h, dbx_cg (h 2 (by omega)) (h 3 (by omega)) (h 4 (by omega)) (h 5 (by omega)) (h 6 (by omega)), h 0 (by omega)]
theorem byOk_cg {s u : mS} (h : agr s u) (hs : byOk s) : byOk u := fun j => by rw [h 1 (by omega)]; exact hs j
theorem rdOk_cg {s u : mS} (h : agr s u) (hs : rdOk s) : rdOk u := by
  unfold rdOk
  rw [h 0 (by omega), h 2 (by omega), h 3 (by omega), h 4 (by omega), h 5 (by omega), h 6 (by omega), h 7 (by omega)]
  exact hs
theorem trOk_cg {s u : mS} (h : agr s u) {t : Int} (hs : trOk s t) : trOk u t := by
  unfold trOk tbl bxok
  rw [tb_cg h, tb_cg h, tb_cg h, tb_cg h, tb_cg h, tb_cg h, pbx_cg h, pv_cg h, h 2 (by omega), h 3 (by omega), h 4 (by omega), h 5 (by omega), h 11 (by omega)]
  exact hs
theorem cntBad_cg {s u : mS} (h : agr s u) (t : Int) : cntBad u t ↔ cntBad s t := by
  unfold cntBad totO
  rw [tb_cg h, tb_cg h, tb_cg h, tb_cg h, tb_cg h, pbx_cg h, pv_cg h, smp_cg h]
theorem agr_rf (s : mS) : agr s s := fun _ _ => rfl
theorem agr_tr {s u v : mS} (h : agr s u) (g : agr u v) : agr s v := fun c hc => (g c hc).trans (h c hc)
theorem agr_st (s : mS) (t : Int) (m : Nat) : agr s (stS s t m) := fun c hc => stS_c s t m c (by omega)
/-- what read leaves -/
theorem rdL_ok : ∀ (f : Nat) (s : mS) (p : Int) (lev : Nat), byOk s → rI s p lev → rdOk s → hoOk s → opOk s lev → ((rdL f s p lev).1 = 0 ∨ (rdL f s p lev).1 = 1 ∨ (rdL f s p lev).1 = 2) ∧ rdOk (rdL f s p lev).2 ∧ hoOk (rdL f s p lev).2 ∧ (∀ c, c = 1 ∨ 10 ≤ c → (rdL f s p lev).2 c = s c) ∧ (∀ j, j ≠ 1 → (rdL f s p lev).2 0 j = s 0 j)
  | 0, s, p, lev, hb, hI, hR, hH, hO => ⟨Or.inl rfl, hR, hH, fun _ _ => rfl, fun _ _ => rfl⟩
  | f + 1, s, p, lev0, hb, hI, hR, hH, hO => by
    have hle := popL_le (s 8) p lev0
    have hI := rI_pop hI
    have hO : opOk s (popL (s 8) p lev0) := ⟨hO.1, fun h => hO.2.1 (by omega), fun h => hO.2.2 (by omega)⟩
    rw [rdL]
    generalize popL (s 8) p lev0 = lev at hI hO ⊢
    dsimp only
    by_cases g1 : p = s 8 lev
    · rw [if_pos g1]; exact ⟨Or.inl rfl, hR, hH, fun _ _ => rfl, fun _ _ => rfl⟩
    rw [if_neg g1]
    by_cases g2 : s 0 1 = 20
    · rw [if_pos g2]; exact ⟨Or.inr (Or.inr rfl), hR, hH, fun _ _ => rfl, fun _ _ => rfl⟩
    rw [if_neg g2]
    by_cases hok : ¬ hdOk (s 1) p (s 8 lev - p) lev
    · rw [if_neg hok]; exact ⟨Or.inr (Or.inl rfl), hR, hH, fun _ _ => rfl, fun _ _ => rfl⟩
    have hok : hdOk (s 1) p (s 8 lev - p) lev := Classical.byContradiction hok
    rw [if_pos hok]
    obtain ⟨h1, h2, h3, h4, h5, h6, h7, h8⟩ := id hI
    have b8 : s 8 lev ≤ 1000 := by
      rcases (show lev = 0 ∨ lev = 1 ∨ lev = 2 by omega) with rfl | rfl | rfl
      · exact h8
      · have := h6 (by omega); simp at *; omega
      · have := h6 (by omega); have := h7 (by omega); simp at *; omega
    have hw := hok.2.2.2
    have hHd : hdH (s 1) p = 2 ∨ hdH (s 1) p = 4 := by unfold hdH; split <;> omega
    generalize hdS (s 1) p (s 8 lev - p) = w at hw ⊢
    generalize hdH (s 1) p = h0 at hw hHd ⊢
    have e0 := addB_0 s p w (s 1 (p + 1)) h0 lev (s 9 lev)
    have eo := addB_o s p w (s 1 (p + 1)) h0 lev (s 9 lev)
    have e2 := addB_2 s p w (s 1 (p + 1)) h0 lev (s 9 lev)
    have e3 := addB_3 s p w (s 1 (p + 1)) h0 lev (s 9 lev)
    have e4 := addB_4 s p w (s 1 (p + 1)) h0 lev (s 9 lev)
    have e5 := addB_5 s p w (s 1 (p + 1)) h0 lev (s 9 lev)
    have e6 := addB_6 s p w (s 1 (p + 1)) h0 lev (s 9 lev)
    have e7 := addB_7 s p w (s 1 (p + 1)) h0 lev (s 9 lev)
    generalize addB s p w (s 1 (p + 1)) h0 lev (s 9 lev) = s1 at e0 eo e2 e3 e4 e5 e6 e7 ⊢
    have hby := hb (p + 1)
    have ec : s1 0 1 = s 0 1 + 1 := by rw [e0, if_pos rfl]
    have hop : (s 9 lev = -1 ∧ lev = 0) ∨ (lev = 1 ∧ 0 ≤ s 9 lev ∧ s 9 lev < s 0 1 ∧ s 6 (s 9 lev) = 0 ∧ s 4 (s 9 lev) = 77) ∨ (lev = 2 ∧ 0 ≤ s 9 lev ∧ s 9 lev < s 0 1 ∧ s 6 (s 9 lev) = 1 ∧ s 4 (s 9 lev) = 84) := by
      rcases (show lev = 0 ∨ lev = 1 ∨ lev = 2 by omega) with rfl | rfl | rfl
      · exact Or.inl ⟨hO.1, rfl⟩
      · exact Or.inr (Or.inl ⟨rfl, hO.2.1 (by omega)⟩)
      · exact Or.inr (Or.inr ⟨rfl, hO.2.2 (by omega)⟩)
    have hR1 : rdOk s1 := by
      refine ⟨by omega, fun k k0 k1 => ?_⟩
      rw [e2, e3, e4, e5, e6, e7]
      by_cases hk : k = s 0 1
      · simp only [if_pos hk]
        omega
      · simp only [if_neg hk]
        exact hR.2 k k0 (by omega)
    have hH1 : hoOk s1 := by
      intro k k0 k1
      rw [e6 k, e7 k]
      by_cases hk : k = s 0 1
      · simp only [if_pos hk]
        rcases hop with ⟨q1, q2⟩ | ⟨q1, q2, q3, q4, q5⟩ | ⟨q1, q2, q3, q4, q5⟩
        · refine ⟨fun _ => q1, fun h => absurd h (by omega), fun h => absurd h (by omega)⟩
        · refine ⟨fun h => absurd h (by omega), fun _ => ?_, fun h => absurd h (by omega)⟩
          rw [e6, e4, if_neg (by omega), if_neg (by omega)]
          exact ⟨q2, by omega, q4, q5⟩
        · refine ⟨fun h => absurd h (by omega), fun h => absurd h (by omega), fun _ => ?_⟩
          rw [e6, e4, if_neg (by omega), if_neg (by omega)]
          exact ⟨q2, by omega, q4, q5⟩
      · simp only [if_neg hk]
        obtain ⟨a1, a2, a3⟩ := hH k k0 (by omega)
        refine ⟨a1, fun h => ?_, fun h => ?_⟩
        · obtain ⟨q2, q3, q4, q5⟩ := a2 h
          rw [e6, e4, if_neg (by omega), if_neg (by omega)]
          exact ⟨q2, q3, q4, q5⟩
        · obtain ⟨q2, q3, q4, q5⟩ := a3 h
          rw [e6, e4, if_neg (by omega), if_neg (by omega)]
          exact ⟨q2, q3, q4, q5⟩
    have q80 : s1 8 0 = s 8 0 := eo 0 8 (by omega)
    have q81 : s1 8 1 = s 8 1 := eo 1 8 (by omega)
    have q82 : s1 8 2 = s 8 2 := eo 2 8 (by omega)
    have q90 : s1 9 0 = s 9 0 := eo 0 9 (by omega)
    have q91 : s1 9 1 = s 9 1 := eo 1 9 (by omega)
    have q92 : s1 9 2 = s 9 2 := eo 2 9 (by omega)
    have hb1 : byOk s1 := fun j => by rw [eo j 1 (Or.inl rfl)]; exact hb j
    by_cases hh : isHold (lev : Int) (s 1 (p + 1))
    · rw [if_pos hh]
      have hlev : lev ≤ 1 := by unfold isHold at hh; omega
      have IH := rdL_ok f (sset (sset s1 8 ((lev + 1 : Nat) : Int) (p + w)) 9 ((lev + 1 : Nat) : Int) (s 0 1)) (p + h0) (lev + 1) ?_ ?_ ?_ ?_ ?_
      · obtain ⟨r1, r2, r3, r4, r5⟩ := IH
        refine ⟨r1, r2, r3, fun c hc => ?_, fun j hj => ?_⟩
        · rw [r4 c hc]
          funext j
          simp only [sset_at]
          rw [if_neg (by omega), if_neg (by omega), eo j c (by omega)]
        · rw [r5 j hj]
          simp only [sset_at, reduceIte, Nat.reduceEqDiff]
          rw [e0, if_neg hj]
      · intro j
        simp only [sset_at, reduceIte, Nat.reduceEqDiff]
        exact hb1 j
      · rcases (show lev = 0 ∨ lev = 1 by omega) with rfl | rfl
        · refine ⟨?_, ?_, by omega, by omega, ?_, ?_, ?_, ?_⟩ <;> simp [sset_at, updI_at, q80, q81, ec] at * <;> omega
        · refine ⟨?_, ?_, by omega, by omega, ?_, ?_, ?_, ?_⟩ <;> simp [sset_at, updI_at, q80, q81, ec] at * <;> omega
      · exact hR1
      · exact hH1
      · have f4 : s1 4 (s 0 1) = s 1 (p + 1) := by rw [e4, if_pos rfl]
        have f6 : s1 6 (s 0 1) = lev := by rw [e6, if_pos rfl]
        unfold opOk
        simp only [sset_at, updI_at, reduceIte, Nat.reduceEqDiff]
        unfold isHold at hh
        rcases (show lev = 0 ∨ lev = 1 by omega) with rfl | rfl
        · refine ⟨?_, fun _ => ?_, fun h => absurd h (by omega)⟩
          · rw [if_neg (by omega), q90]; exact hO.1
          · rw [if_pos (by rfl), f4, f6, ec]; omega
        · have := hO.2.1 (by omega)
          refine ⟨?_, fun _ => ?_, fun _ => ?_⟩
          · rw [if_neg (by omega), q90]; exact hO.1
          · rw [if_neg (by omega), q91, e6, e4, if_neg (by omega), if_neg (by omega), ec]; omega
          · rw [if_pos (by rfl), f4, f6, ec]; omega
    · rw [if_neg hh]
      have IH := rdL_ok f s1 (p + w) lev hb1 ?_ hR1 hH1 ?_
      · obtain ⟨r1, r2, r3, r4, r5⟩ := IH
        refine ⟨r1, r2, r3, fun c hc => ?_, fun j hj => ?_⟩
        · rw [r4 c hc]
          funext j
          rw [eo j c (by omega)]
        · rw [r5 j hj, e0, if_neg hj]
      · have ql : s1 8 lev = s 8 lev := eo lev 8 (by omega)
        refine ⟨by omega, by omega, by omega, by omega, by omega, by omega, by omega, by omega⟩
      · refine ⟨by rw [q90]; exact hO.1, fun h => ?_, fun h => ?_⟩
        · have := hO.2.1 h
          rw [q91, e6, e4, if_neg (by omega), if_neg (by omega), ec]; omega
        · have := hO.2.2 h
          rw [q92, e6, e4, if_neg (by omega), if_neg (by omega), ec]; omega
theorem rd_ok (s : mS) (hm : mI s) : ((rdL 100 (rd0 s) 0 0).1 = 0 ∨ (rdL 100 (rd0 s) 0 0).1 = 1 ∨ (rdL 100 (rd0 s) 0 0).1 = 2) ∧ rdOk (rdL 100 (rd0 s) 0 0).2 ∧ hoOk (rdL 100 (rd0 s) 0 0).2 ∧ (∀ c, c = 1 ∨ 10 ≤ c → (rdL 100 (rd0 s) 0 0).2 c = s c) ∧ (∀ j, j ≠ 1 → (rdL 100 (rd0 s) 0 0).2 0 j = s 0 j) := by
  have h01 : rd0 s 0 1 = 0 := by simp [rd0, sset_at, updI_at]
  obtain ⟨r1, r2, r3, r4, r5⟩ := rdL_ok 100 (rd0 s) 0 0 (fun j => by unfold rd0; simp only [sset_at, reduceIte, Nat.reduceEqDiff]; exact hm.2 j) (by have := hm.1; refine ⟨?_, ?_, by omega, by omega, ?_, ?_, ?_, ?_⟩ <;> simp [rd0, sset_at, updI_at] <;> omega) ⟨by omega, fun k h0 h1 => absurd h1 (by omega)⟩ (fun k h0 h1 => absurd h1 (by omega)) ⟨by simp [rd0, sset_at, updI_at], fun h => absurd h (by omega), fun h => absurd h (by omega)⟩
  refine ⟨r1, r2, r3, fun c hc => ?_, fun j hj => ?_⟩
  · rw [r4 c hc]
    funext j
    unfold rd0
    simp only [sset_at]
    rw [if_neg (by omega), if_neg (by omega), if_neg (by omega)]
  · rw [r5 j hj]
    unfold rd0
    simp only [sset_at, updI_at, reduceIte, Nat.reduceEqDiff]
    rw [if_neg hj]
