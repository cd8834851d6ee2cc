abbrev q_K_sampleCount : Mi := (⟨"MovieBoxes$Track", "sampleCount", "()I"⟩, prog_9_method_3_code, 1, (some .int))
theorem d_K_sampleCount_0 : decode prog_9_method_3_code 0 = .ok (.aload_n 0, 1) := by decide +kernel
theorem d_K_sampleCount_1 : decode prog_9_method_3_code 1 = .ok (.getfield 11, 3) := by decide +kernel
theorem d_K_sampleCount_4 : decode prog_9_method_3_code 4 = .ok (.iconst 3, 1) := by decide +kernel
theorem d_K_sampleCount_5 : decode prog_9_method_3_code 5 = .ok (.aaload, 1) := by decide +kernel
theorem d_K_sampleCount_6 : decode prog_9_method_3_code 6 = .ok (.getfield 38, 3) := by decide +kernel
set_option maxRecDepth 20000 in
theorem w_326 : Cond.fieldLink "MovieBoxes$Track" 38 "MovieBoxes$Table" "rows" "I" ∈ gt := gt_of (in_t2 (List.mem_of_getElem? (i := 86) rfl)) rfl
theorem fl_K_38_3 : FL "MovieBoxes$Track" 38 3 11 false := ⟨_, _, _, "MovieBoxes$Table", rfl, by decide, rfl, Or.inl w_326, Or.inl rfl⟩
theorem fl_K_38_4 : FL "MovieBoxes$Track" 38 4 11 false := ⟨_, _, _, "MovieBoxes$Table", rfl, by decide, rfl, Or.inl w_326, Or.inl rfl⟩
theorem fl_K_38_5 : FL "MovieBoxes$Track" 38 5 11 false := ⟨_, _, _, "MovieBoxes$Table", rfl, by decide, rfl, Or.inl w_326, Or.inl rfl⟩
theorem ft_K_38 : FT "MovieBoxes$Track" 38 := ft3 fl_K_38_3 fl_K_38_4 fl_K_38_5
theorem d_K_sampleCount_9 : decode prog_9_method_3_code 9 = .ok (.ireturn, 1) := by decide +kernel
abbrev q_K_chunkCount : Mi := (⟨"MovieBoxes$Track", "chunkCount", "()I"⟩, prog_9_method_4_code, 1, (some .int))
theorem d_K_chunkCount_0 : decode prog_9_method_4_code 0 = .ok (.aload_n 0, 1) := by decide +kernel
theorem d_K_chunkCount_1 : decode prog_9_method_4_code 1 = .ok (.getfield 11, 3) := by decide +kernel
theorem d_K_chunkCount_4 : decode prog_9_method_4_code 4 = .ok (.iconst 4, 1) := by decide +kernel
theorem d_K_chunkCount_5 : decode prog_9_method_4_code 5 = .ok (.aaload, 1) := by decide +kernel
theorem d_K_chunkCount_6 : decode prog_9_method_4_code 6 = .ok (.getfield 38, 3) := by decide +kernel
theorem d_K_chunkCount_9 : decode prog_9_method_4_code 9 = .ok (.ireturn, 1) := by decide +kernel
abbrev q_K_until : Mi := (⟨"MovieBoxes$Track", "until", "([BI)I"⟩, prog_9_method_5_code, 3, (some .int))
theorem d_K_until_0 : decode prog_9_method_5_code 0 = .ok (.iload_n 2, 1) := by decide +kernel
theorem d_K_until_1 : decode prog_9_method_5_code 1 = .ok (.iconst 1, 1) := by decide +kernel
theorem d_K_until_2 : decode prog_9_method_5_code 2 = .ok (.iadd, 1) := by decide +kernel
theorem d_K_until_3 : decode prog_9_method_5_code 3 = .ok (.aload_n 0, 1) := by decide +kernel
theorem d_K_until_4 : decode prog_9_method_5_code 4 = .ok (.getfield 11, 3) := by decide +kernel
theorem d_K_until_7 : decode prog_9_method_5_code 7 = .ok (.iconst 2, 1) := by decide +kernel
theorem d_K_until_8 : decode prog_9_method_5_code 8 = .ok (.aaload, 1) := by decide +kernel
theorem d_K_until_9 : decode prog_9_method_5_code 9 = .ok (.getfield 38, 3) := by decide +kernel
theorem d_K_until_12 : decode prog_9_method_5_code 12 = .ok (.if_icmp .ge 20, 3) := by decide +kernel
theorem d_K_until_32 : decode prog_9_method_5_code 32 = .ok (.aload_n 0, 1) := by decide +kernel
theorem d_K_until_33 : decode prog_9_method_5_code 33 = .ok (.invokevirtual 45, 3) := by decide +kernel
set_option maxRecDepth 20000 in
theorem w_542 : Cond.methodLink "MovieBoxes$Track" 45 ⟨"MovieBoxes$Track", "chunkCount", "()I"⟩ ∈ gt := gt_of (in_t3 (List.mem_of_getElem? (i := 62) rfl)) rfl
set_option maxRecDepth 20000 in
theorem w_543 : Cond.instanceMethod ⟨"MovieBoxes$Track", "chunkCount", "()I"⟩ ∈ gt := gt_of (in_t3 (List.mem_of_getElem? (i := 63) rfl)) rfl
set_option maxRecDepth 20000 in
theorem w_544 : Cond.selects "MovieBoxes$Track" ⟨"MovieBoxes$Track", "chunkCount", "()I"⟩ ⟨"MovieBoxes$Track", "chunkCount", "()I"⟩ ∈ gt := gt_of (in_t3 (List.mem_of_getElem? (i := 64) rfl)) rfl
set_option maxRecDepth 20000 in
theorem w_545 : Cond.code ⟨"MovieBoxes$Track", "chunkCount", "()I"⟩ prog_9_method_4_code 1 (some .int) ∈ gt := gt_of (in_t3 (List.mem_of_getElem? (i := 65) rfl)) rfl
theorem lk_K_45 : LkV "MovieBoxes$Track" 45 q_K_chunkCount 0 := ⟨(List.forall_mem_cons.mpr ⟨w_542, (List.forall_mem_cons.mpr ⟨w_543, (List.forall_mem_cons.mpr ⟨w_544, (List.forall_mem_cons.mpr ⟨w_7, (fun _ h => absurd h List.not_mem_nil)⟩)⟩)⟩)⟩), w_545, by decide +kernel⟩
theorem d_K_until_36 : decode prog_9_method_5_code 36 = .ok (.iconst 1, 1) := by decide +kernel
theorem d_K_until_37 : decode prog_9_method_5_code 37 = .ok (.iadd, 1) := by decide +kernel
theorem d_K_until_38 : decode prog_9_method_5_code 38 = .ok (.ireturn, 1) := by decide +kernel
theorem d_K_until_15 : decode prog_9_method_5_code 15 = .ok (.aload_n 0, 1) := by decide +kernel
theorem d_K_until_16 : decode prog_9_method_5_code 16 = .ok (.getfield 11, 3) := by decide +kernel
theorem d_K_until_19 : decode prog_9_method_5_code 19 = .ok (.iconst 2, 1) := by decide +kernel
theorem d_K_until_20 : decode prog_9_method_5_code 20 = .ok (.aaload, 1) := by decide +kernel
theorem d_K_until_21 : decode prog_9_method_5_code 21 = .ok (.aload_n 1, 1) := by decide +kernel
theorem d_K_until_22 : decode prog_9_method_5_code 22 = .ok (.iload_n 2, 1) := by decide +kernel
theorem d_K_until_23 : decode prog_9_method_5_code 23 = .ok (.iconst 1, 1) := by decide +kernel
theorem d_K_until_24 : decode prog_9_method_5_code 24 = .ok (.iadd, 1) := by decide +kernel
theorem d_K_until_25 : decode prog_9_method_5_code 25 = .ok (.iconst 0, 1) := by decide +kernel
theorem d_K_until_26 : decode prog_9_method_5_code 26 = .ok (.invokevirtual 41, 3) := by decide +kernel
set_option maxRecDepth 20000 in
theorem w_546 : Cond.methodLink "MovieBoxes$Track" 41 ⟨"MovieBoxes$Table", "cell", "([BII)I"⟩ ∈ gt := gt_of (in_t3 (List.mem_of_getElem? (i := 66) rfl)) rfl
theorem lk_K_41 : LkV "MovieBoxes$Track" 41 q_T_cell 3 := ⟨(List.forall_mem_cons.mpr ⟨w_546, (List.forall_mem_cons.mpr ⟨w_513, (List.forall_mem_cons.mpr ⟨w_514, (List.forall_mem_cons.mpr ⟨w_12, (fun _ h => absurd h List.not_mem_nil)⟩)⟩)⟩)⟩), w_526, by decide +kernel⟩
theorem d_K_until_29 : decode prog_9_method_5_code 29 = .ok (.goto 9, 3) := by decide +kernel
/-! ===== the component: a track's tables, as the model numbers them ===== -/
/-- the box of a slot -/
def ts (v : mS) (t sl : Int) : Int := if sl = 4 then pbx v t else if sl = 5 then tb v t 6 else if sl = 6 then tb v t 7 else tb v t sl
def tX (y : xP) (z v : mS) (sl k : Int) : Prop := (0 ≤ k ∧ k < yn y) ∧ (z 1 = v 1 ∧ z 2 k = v 2 k ∧ z 5 k = v 5 k) ∧ (0 ≤ z 2 k ∧ 0 ≤ z 5 k ∧ z 5 k ≤ z 3 k ∧ z 2 k + z 3 k ≤ 1000) ∧ (0 ≤ z 26 k ∧ z 26 k < 12 ∧ slO (z 26 k) = sl ∧ z 27 k = clN (clO (z 26 k))) ∧ z 17 k = pv v k (if sl = 3 then 1 else 0) ∧ (sl = 3 → 2 ≤ z 3 k - z 5 k ∧ (pv v k 0 = 0 → z 3 k - z 5 k = 2 + pv v k 1)) ∧ (¬ sl = 3 → z 3 k - z 5 k = 1 + wdO (z 26 k) * pv v k 0) ∧ (z 26 k = 8 ↔ sl = 4 ∧ ¬ v 4 k = 111)
def tK (y : xP) (z v : mS) (t : Nat) : Prop := (t ≤ 1 ∧ byOk z ∧ byOk v) ∧ (∀ sl, 0 ≤ sl → sl < 7 → yt y (tix t sl) = rN (yo y) (ts v t sl)) ∧ (∀ sl, 0 ≤ sl → sl < 7 → 0 ≤ ts v t sl → tX y z v sl (ts v t sl)) ∧ (0 ≤ ts v t 0 ∧ 0 ≤ ts v t 2 ∧ 0 ≤ ts v t 3 ∧ 0 ≤ ts v t 4)
theorem slO_inv {o sl : Int} (h : slO o = sl) : (sl = 0 → o = 3) ∧ (sl = 1 → o = 4) ∧ (sl = 2 → o = 5) ∧ (sl = 3 → o = 6) ∧ (sl = 4 → o = 7 ∨ o = 8) ∧ (sl = 5 → o = 9) ∧ (sl = 6 → o = 10) := by
  unfold slO at h
  repeat' split at h
  all_goals omega
section TK
variable {y : xP} {z v : mS} {t : Nat}
theorem tX.pv_eq {sl k : Int} (h : tX y z v sl k) : pv z k = pv v k := by
  funext i
  unfold pv
  rw [h.2.1.1, h.2.1.2.1, h.2.1.2.2]
theorem tK_k (hK : tK y z v t) {sl : Int} (h0 : 0 ≤ ts v t sl) (hs : 0 ≤ sl ∧ sl < 7) : -1 ≤ ts v t sl ∧ ts v t sl < yn y := by
  have := (hK.2.2.1 sl hs.1 hs.2 h0).1
  omega
theorem tK_cT (hK : tK y z v t) {sl : Int} (h0 : 0 ≤ ts v t sl) (hs : sl = 0 ∨ sl = 1 ∨ sl = 2 ∨ sl = 5 ∨ sl = 6) : z 27 (ts v t sl) = 3 := by
  have h := (hK.2.2.1 sl (by omega) (by omega) h0).2.2.2.1
  have := slO_inv h.2.2.1
  rw [h.2.2.2]
  rcases hs with rfl | rfl | rfl | rfl | rfl
  · rw [this.1 rfl]; rfl
  · rw [this.2.1 rfl]; rfl
  · rw [this.2.2.1 rfl]; rfl
  · rw [this.2.2.2.2.2.1 rfl]; rfl
  · rw [this.2.2.2.2.2.2 rfl]; rfl
theorem tK_c3 (hK : tK y z v t) : z 27 (ts v t 3) = 5 := by
  have h := (hK.2.2.1 3 (by omega) (by omega) hK.2.2.2.2.2.1).2.2.2.1
  rw [h.2.2.2, (slO_inv h.2.2.1).2.2.2.1 rfl]; rfl
theorem tK_c4 (hK : tK y z v t) : z 27 (ts v t 4) = 4 := by
  have h := (hK.2.2.1 4 (by omega) (by omega) hK.2.2.2.2.2.2).2.2.2.1
  rw [h.2.2.2]
  rcases (slO_inv h.2.2.1).2.2.2.2.1 rfl with q | q <;> rw [q] <;> rfl
theorem tK_35 (hK : tK y z v t) {sl : Int} (h0 : 0 ≤ ts v t sl) (hs : 0 ≤ sl ∧ sl < 7) : 3 ≤ z 27 (ts v t sl) ∧ z 27 (ts v t sl) ≤ 5 := by
  rcases (by omega : (sl = 0 ∨ sl = 1 ∨ sl = 2 ∨ sl = 5 ∨ sl = 6) ∨ sl = 3 ∨ sl = 4) with h | rfl | rfl
  · rw [tK_cT hK h0 h]; omega
  · rw [tK_c3 hK]; omega
  · rw [tK_c4 hK]; omega
end TK
section TKROWS
variable {μ : Mx} {k n : Nat} {y : xP} {z v : mS} {t : Nat} {pc : Nat} {lv : List (Option Value)} {st : List Value}
/-- a table of a track -/
theorem r_tab {sl : Int} (hd : decode (mB μ) pc = .ok (.aaload, 1)) (hK : tK y z v t) (h0 : 0 ≤ ts v t sl) (hs : 0 ≤ sl ∧ sl < 7) (kk : WP μ k n (xW (mG μ) y z) (pc + 1) lv (.ref (yo y (ts v t sl)) :: st)) : WP μ k n (xW (mG μ) y z) pc lv (vI sl :: .ref (yc y (9 + t)) :: st) := by
  refine r_aald hd (9 + t) (xw_tb hK.1.1) rfl ⟨hs.1, hs.2, by omega⟩ ?_
  show WP μ k n (xW (mG μ) y z) (pc + 1) lv (va_rf (yt y (tix t sl)) :: st)
  rw [hK.2.1 sl hs.1 hs.2, rN_nn h0]
  exact kk
/-- .. that may not be there -/
theorem r_tabN {sl : Int} (hd : decode (mB μ) pc = .ok (.aaload, 1)) (hK : tK y z v t) (hs : 0 ≤ sl ∧ sl < 7) (kk : WP μ k n (xW (mG μ) y z) (pc + 1) lv (va_rf (rN (yo y) (ts v t sl)) :: st)) : WP μ k n (xW (mG μ) y z) pc lv (vI sl :: .ref (yc y (9 + t)) :: st) := by
  refine r_aald hd (9 + t) (xw_tb hK.1.1) rfl ⟨hs.1, hs.2, by omega⟩ ?_
  show WP μ k n (xW (mG μ) y z) (pc + 1) lv (va_rf (yt y (tix t sl)) :: st)
  rw [hK.2.1 sl hs.1 hs.2]
  exact kk
theorem r_rows {idx : Nat} {sl : Int} (hd : decode (mB μ) pc = .ok (.getfield idx, 3)) (hf : FT (mO μ) idx) (hK : tK y z v t) (h0 : 0 ≤ ts v t sl) (hs : 0 ≤ sl ∧ sl < 7) (kk : WP μ k n (xW (mG μ) y z) (pc + 3) lv (vI (pv v (ts v t sl) (if sl = 3 then 1 else 0)) :: st)) : WP μ k n (xW (mG μ) y z) pc lv (.ref (yo y (ts v t sl)) :: st) := by
  refine r_getT hd hf _ (tK_k hK h0 hs) (tK_35 hK h0 hs) ?_
  rw [(hK.2.2.1 sl hs.1 hs.2 h0).2.2.2.2.1]
  exact kk
end TKROWS
section XTRACK
variable (G : gG) (l : Launch) (y : xP) (z v : mS) (t : Nat)
theorem c_cT (hK : tK y z v t) {sl : Int} (hs : sl = 0 ∨ sl = 1 ∨ sl = 2 ∨ sl = 5 ∨ sl = 6) (h0 : 0 ≤ ts v t sl) (w : Int) (hw : wdO (z 26 (ts v t sl)) = w) (hw2 : 1 ≤ w ∧ w ≤ 3) (row col : Int) (hr : 0 ≤ row ∧ row < pv v (ts v t sl) 0) (hc : 0 ≤ col ∧ col < w) : Ct G l q_T_cell 1 0 0 [.ref (yo y (ts v t sl)), .ref (yc y 1), vI row, vI col] (xW G y z) (fun r x => r = some (vI (pv v (ts v t sl) (1 + w * row + col))) ∧ x = xW G y z) := by
  have hk := tK_k hK h0 (by omega)
  have hcl := tK_cT hK h0 hs
  have hX := hK.2.2.1 sl (by omega) (by omega) h0
  have hp := hX.pv_eq
  obtain ⟨x1, x2, x3, x4, x5, x6, x7, x8⟩ := hX
  have h7 := x7 (by omega)
  rw [hw] at h7
  have hm : row * w + w ≤ w * pv v (ts v t sl) 0 := by
    have := Int.mul_le_mul_of_nonneg_left (show row + 1 ≤ pv v (ts v t sl) 0 by omega) (show 0 ≤ w by omega)
    rw [Int.mul_add, Int.mul_one, Int.mul_comm w row] at this
    exact this
  have hm0 : 0 ≤ row * w := Int.mul_nonneg hr.1 (by omega)
  have := c_T_cell G l y z (ts v t sl) row col hk hcl ⟨x4.1, x4.2.1⟩ hK.1.2.1 (by rw [hw]; omega)
  rw [hw, hp, Int.mul_comm row w] at this
  exact this
theorem wd_at {hK : tK y z v t} {sl : Int} (h0 : 0 ≤ ts v t sl) (hs : 0 ≤ sl ∧ sl < 7) : (sl = 0 → wdO (z 26 (ts v t sl)) = 2) ∧ (sl = 1 → wdO (z 26 (ts v t sl)) = 2) ∧ (sl = 2 → wdO (z 26 (ts v t sl)) = 3) ∧ (sl = 5 → wdO (z 26 (ts v t sl)) = 1) ∧ (sl = 6 → wdO (z 26 (ts v t sl)) = 2) := by
  have q := slO_inv (hK.2.2.1 sl hs.1 hs.2 h0).2.2.2.1.2.2.1
  refine ⟨fun e => ?_, fun e => ?_, fun e => ?_, fun e => ?_, fun e => ?_⟩
  · rw [q.1 e]; rfl
  · rw [q.2.1 e]; rfl
  · rw [q.2.2.1 e]; rfl
  · rw [q.2.2.2.2.2.1 e]; rfl
  · rw [q.2.2.2.2.2.2 e]; rfl
theorem c_c0 (hK : tK y z v t) (row col : Int) (hr : 0 ≤ row ∧ row < pv v (tb v t 0) 0) (hc : 0 ≤ col ∧ col < 2) : Ct G l q_T_cell 1 0 0 [.ref (yo y (tb v t 0)), .ref (yc y 1), vI row, vI col] (xW G y z) (fun r x => r = some (vI (pv v (tb v t 0) (1 + 2 * row + col))) ∧ x = xW G y z) :=
  c_cT G l y z v t hK (sl := 0) (by omega) hK.2.2.2.1 2 ((wd_at y z v t (hK := hK) hK.2.2.2.1 (by omega)).1 rfl) (by omega) row col hr hc
theorem c_c1 (hK : tK y z v t) (p1 : 0 ≤ ts v t 1) (row col : Int) (hr : 0 ≤ row ∧ row < pv v (tb v t 1) 0) (hc : 0 ≤ col ∧ col < 2) : Ct G l q_T_cell 1 0 0 [.ref (yo y (tb v t 1)), .ref (yc y 1), vI row, vI col] (xW G y z) (fun r x => r = some (vI (pv v (tb v t 1) (1 + 2 * row + col))) ∧ x = xW G y z) :=
  c_cT G l y z v t hK (sl := 1) (by omega) p1 2 ((wd_at y z v t (hK := hK) p1 (by omega)).2.1 rfl) (by omega) row col hr hc
theorem c_c2 (hK : tK y z v t) (row col : Int) (hr : 0 ≤ row ∧ row < pv v (tb v t 2) 0) (hc : 0 ≤ col ∧ col < 3) : Ct G l q_T_cell 1 0 0 [.ref (yo y (tb v t 2)), .ref (yc y 1), vI row, vI col] (xW G y z) (fun r x => r = some (vI (pv v (tb v t 2) (1 + 3 * row + col))) ∧ x = xW G y z) :=
  c_cT G l y z v t hK (sl := 2) (by omega) hK.2.2.2.2.1 3 ((wd_at y z v t (hK := hK) hK.2.2.2.2.1 (by omega)).2.2.1 rfl) (by omega) row col hr hc
theorem c_c5 (hK : tK y z v t) (p5 : 0 ≤ ts v t 5) (row col : Int) (hr : 0 ≤ row ∧ row < pv v (tb v t 6) 0) (hc : 0 ≤ col ∧ col < 1) : Ct G l q_T_cell 1 0 0 [.ref (yo y (tb v t 6)), .ref (yc y 1), vI row, vI col] (xW G y z) (fun r x => r = some (vI (pv v (tb v t 6) (1 + row))) ∧ x = xW G y z) := by
  have := c_cT G l y z v t hK (sl := 5) (by omega) p5 1 ((wd_at y z v t (hK := hK) p5 (by omega)).2.2.2.1 rfl) (by omega) row col hr hc
  rw [show 1 + 1 * row + col = 1 + row by omega] at this
  exact this
theorem c_c6 (hK : tK y z v t) (p6 : 0 ≤ ts v t 6) (row col : Int) (hr : 0 ≤ row ∧ row < pv v (tb v t 7) 0) (hc : 0 ≤ col ∧ col < 2) : Ct G l q_T_cell 1 0 0 [.ref (yo y (tb v t 7)), .ref (yc y 1), vI row, vI col] (xW G y z) (fun r x => r = some (vI (pv v (tb v t 7) (1 + 2 * row + col))) ∧ x = xW G y z) :=
  c_cT G l y z v t hK (sl := 6) (by omega) p6 2 ((wd_at y z v t (hK := hK) p6 (by omega)).2.2.2.2 rfl) (by omega) row col hr hc
theorem c_c3 (hK : tK y z v t) (row col : Int) (hr : 0 ≤ row ∧ row < pv v (tb v t 3) 1) : Ct G l q_S_cell 1 0 0 [.ref (yo y (tb v t 3)), .ref (yc y 1), vI row, vI col] (xW G y z) (fun r x => r = some (vI (szO v t row)) ∧ x = xW G y z) := by
  have h0 := hK.2.2.2.2.2.1
  have hX := hK.2.2.1 3 (by omega) (by omega) h0
  have hp := hX.pv_eq
  obtain ⟨x1, x2, x3, x4, x5, x6, x7, x8⟩ := hX
  have h6 := x6 rfl
  have := c_S_cell G l y z (ts v t 3) row col (tK_k hK h0 (by omega)) (tK_c3 hK) hK.1.2.1 (by omega) (fun q => by rw [hp] at q; have := h6.2 q; have hr2 : row < pv v (ts v t 3) 1 := hr.2; omega)
  rw [hp] at this
  exact this
theorem c_c4 (hK : tK y z v t) (row col : Int) (hr : 0 ≤ row ∧ row < pv v (pbx v t) 0) : Ct G l q_P_cell 1 0 0 [.ref (yo y (pbx v t)), .ref (yc y 1), vI row, vI col] (xW G y z) (fun r x => r = some (vI (cpl v t (1 + row))) ∧ x = xW G y z) := by
  have h0 := hK.2.2.2.2.2.2
  have hX := hK.2.2.1 4 (by omega) (by omega) h0
  have hp := hX.pv_eq
  have hb := pv_b hK.1.2.2 (pbx v t) 0
  obtain ⟨x1, x2, x3, x4, x5, x6, x7, x8⟩ := hX
  change pv z (pbx v t) = pv v (pbx v t) at hp
  change _ ∧ _ ∧ slO (z 26 (pbx v t)) = 4 ∧ _ at x4
  change z 26 (pbx v t) = 8 ↔ 4 = 4 ∧ ¬ v 4 (pbx v t) = 111 at x8
  change 0 ≤ z 2 (pbx v t) ∧ 0 ≤ z 5 (pbx v t) ∧ z 5 (pbx v t) ≤ z 3 (pbx v t) ∧ z 2 (pbx v t) + z 3 (pbx v t) ≤ 1000 at x3
  have h7 := x7 (by omega)
  change z 3 (pbx v t) - z 5 (pbx v t) = 1 + wdO (z 26 (pbx v t)) * pv v (pbx v t) 0 at h7
  have ho := (slO_inv x4.2.2.1).2.2.2.2.1 rfl
  have hwd : wdO (z 26 (pbx v t)) = if z 26 (pbx v t) = 8 then 2 else 1 := by rcases ho with h | h <;> rw [h] <;> rfl
  have := c_P_cell G l y z (pbx v t) row col (tK_k hK h0 (by omega)) (tK_c4 hK) ho hK.1.2.1 (by
    rw [hwd] at h7 ⊢
    by_cases q8 : z 26 (pbx v t) = 8
    · rw [if_pos q8] at h7 ⊢; omega
    · rw [if_neg q8] at h7 ⊢; omega) (by omega)
  rw [hp] at this
  have e : (if z 26 (pbx v t) = 8 then 256 * pv v (pbx v t) (1 + 2 * row) + pv v (pbx v t) (2 + 2 * row) else pv v (pbx v t) (1 + row)) = cpl v t (1 + row) := by
    unfold cpl
    by_cases q : v 4 (pbx v t) = 111
    · rw [if_pos q, if_neg (fun h => (x8.mp h).2 q)]
    · rw [if_neg q, if_pos (x8.mpr ⟨rfl, q⟩), show 2 * (1 + row) - 1 = 1 + 2 * row by omega, show 2 * (1 + row) = 2 + 2 * row by omega]
  rw [e] at this
  exact this
end XTRACK
section XTRACK2
variable (G : gG) (l : Launch) (y : xP) (z v : mS) (t : Nat)
theorem c_K_sampleCount (hK : tK y z v t) : Ct G l q_K_sampleCount 0 0 0 [.ref (yc y (7 + t))] (xW G y z) (fun r w => r = some (vI (pv v (tb v t 3) 1)) ∧ w = xW G y z) := by
  refine Ct.intro [some (.ref (yc y (7 + t)))] (by decide) (Nat.le_of_ble_eq_true rfl) rfl (fun sz => ?_)
  generalize hQ : (fun r w => r = some (vI (pv v (tb v t 3) 1)) ∧ w = xW G y z) = Q
  refine r_aload_n d_K_sampleCount_0 rfl rfl ?_
  refine r_get d_K_sampleCount_1 fl_K_11_6 (7+t) (xw_k hK.1.1) rfl ?_
  refine r_iconst d_K_sampleCount_4 ?_
  refine r_tab (sl := 3) d_K_sampleCount_5 hK hK.2.2.2.2.2.1 ⟨by omega, by omega⟩ ?_
  show WP _ _ _ _ _ _ (.ref (yo y (tb v t 3)) :: _)
  refine r_rows (sl := 3) d_K_sampleCount_6 ft_K_38 hK hK.2.2.2.2.2.1 ⟨by omega, by omega⟩ ?_
  show WP _ _ _ _ _ _ (vI (pv v (tb v t 3) 1) :: _)
  refine r_iret d_K_sampleCount_9 rfl (Nat.le_of_ble_eq_true rfl) (Nat.le_of_ble_eq_true rfl) ?_
  rw [← hQ]; exact ⟨rfl, rfl⟩
theorem c_K_chunkCount (hK : tK y z v t) : Ct G l q_K_chunkCount 0 0 0 [.ref (yc y (7 + t))] (xW G y z) (fun r w => r = some (vI (cC v t)) ∧ w = xW G y z) := by
  refine Ct.intro [some (.ref (yc y (7 + t)))] (by decide) (Nat.le_of_ble_eq_true rfl) rfl (fun sz => ?_)
  generalize hQ : (fun r w => r = some (vI (cC v t)) ∧ w = xW G y z) = Q
  refine r_aload_n d_K_chunkCount_0 rfl rfl ?_
  refine r_get d_K_chunkCount_1 fl_K_11_6 (7+t) (xw_k hK.1.1) rfl ?_
  refine r_iconst d_K_chunkCount_4 ?_
  refine r_tab (sl := 4) d_K_chunkCount_5 hK hK.2.2.2.2.2.2 ⟨by omega, by omega⟩ ?_
  show WP _ _ _ _ _ _ (.ref (yo y (pbx v t)) :: _)
  refine r_rows (sl := 4) d_K_chunkCount_6 ft_K_38 hK hK.2.2.2.2.2.2 ⟨by omega, by omega⟩ ?_
  show WP _ _ _ _ _ _ (vI (pv v (pbx v t) 0) :: _)
  refine r_iret d_K_chunkCount_9 rfl (Nat.le_of_ble_eq_true rfl) (Nat.le_of_ble_eq_true rfl) ?_
  rw [← hQ]; exact ⟨rfl, rfl⟩
theorem c_K_until (hK : tK y z v t) (r : Int) (hr : 0 ≤ r ∧ r < cR v t) : Ct G l q_K_until 2 0 0 [.ref (yc y (7 + t)), .ref (yc y 1), vI r] (xW G y z) (fun q w => q = some (vI (uN v t r)) ∧ w = xW G y z) := by
  have hb2 := pv_b hK.1.2.2 (tb v t 2) 0
  have ecR : cR v t = pv v (tb v t 2) 0 := rfl
  refine Ct.intro [some (.ref (yc y (7 + t))), some (.ref (yc y 1)), some (vI r)] (by decide) (Nat.le_of_ble_eq_true rfl) rfl (fun sz => ?_)
  generalize hQ : (fun q w => q = some (vI (uN v t r)) ∧ w = xW G y z) = Q
  refine r_iload_n d_K_until_0 rfl ?_
  refine r_iconst d_K_until_1 ?_
  refine r_iadd d_K_until_2 ?_
  refine r_aload_n d_K_until_3 rfl rfl ?_
  refine r_get d_K_until_4 fl_K_11_6 (7+t) (xw_k hK.1.1) rfl ?_
  refine r_iconst d_K_until_7 ?_
  refine r_tab (sl := 2) d_K_until_8 hK hK.2.2.2.2.1 ⟨by omega, by omega⟩ ?_
  show WP _ _ _ _ _ _ (.ref (yo y (tb v t 2)) :: _)
  refine r_rows (sl := 2) d_K_until_9 ft_K_38 hK hK.2.2.2.2.1 ⟨by omega, by omega⟩ ?_
  show WP _ _ _ _ _ _ (vI (pv v (tb v t 2) 0) :: _)
  refine r_icmp_ge 32 d_K_until_12 (by decide) (by unfold i32; omega) (by unfold i32; omega) (fun h1 => ?_) (fun h1 => ?_)
  · refine r_aload_n d_K_until_32 rfl rfl ?_
    refine r_cV0 d_K_until_33 lk_K_45 (c_K_chunkCount G l y z v t hK) (7+t) rfl (xw_k hK.1.1) (Nat.le_of_ble_eq_true rfl) (rok rfl rfl) ⟨(Nat.le_of_ble_eq_true rfl), (Nat.le_of_ble_eq_true rfl)⟩ (fun r ws2 hq => ?_)
    obtain ⟨rfl, rfl⟩ := hq
    show WP _ _ _ _ _ _ (_ :: _)
    refine r_iconst d_K_until_36 ?_
    refine r_iadd d_K_until_37 ?_
    refine r_iret d_K_until_38 rfl (Nat.le_of_ble_eq_true rfl) (Nat.le_of_ble_eq_true rfl) ?_
    rw [← hQ]; exact ⟨by unfold uN; rw [if_neg (by omega)], rfl⟩
  · refine r_aload_n d_K_until_15 rfl rfl ?_
    refine r_get d_K_until_16 fl_K_11_6 (7+t) (xw_k hK.1.1) rfl ?_
    refine r_iconst d_K_until_19 ?_
    refine r_tab (sl := 2) d_K_until_20 hK hK.2.2.2.2.1 ⟨by omega, by omega⟩ ?_
    show WP _ _ _ _ _ _ (.ref (yo y (tb v t 2)) :: _)
    refine r_aload_n d_K_until_21 rfl rfl ?_
    refine r_iload_n d_K_until_22 rfl ?_
    refine r_iconst d_K_until_23 ?_
    refine r_iadd d_K_until_24 ?_
    refine r_iconst d_K_until_25 ?_
    refine r_cV3 d_K_until_26 lk_K_41 (c_c2 G l y z v t hK (r + 1) (0) (by omega) (by omega)) (13 + tb v t 2).toNat rfl (xw_bc (tK_k hK hK.2.2.2.2.1 ⟨by omega, by omega⟩) (tK_cT hK hK.2.2.2.2.1 (by omega))) (Nat.le_of_ble_eq_true rfl) (rok rfl rfl) ⟨(Nat.le_of_ble_eq_true rfl), (Nat.le_of_ble_eq_true rfl)⟩ (fun r ws2 hq => ?_)
    obtain ⟨rfl, rfl⟩ := hq
    show WP _ _ _ _ _ _ (_ :: _)
    refine r_goto 38 d_K_until_29 (by decide) ?_
    refine r_iret d_K_until_38 rfl (Nat.le_of_ble_eq_true rfl) (Nat.le_of_ble_eq_true rfl) ?_
    rw [← hQ]; exact ⟨by unfold uN; rw [if_pos (by omega)]; show some (vI (pv v (tb v t 2) (1 + 3 * (r + 1) + 0))) = _; rw [Int.add_zero], rfl⟩
end XTRACK2
