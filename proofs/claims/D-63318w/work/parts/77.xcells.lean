abbrev q_T_cell : Mi := (⟨"MovieBoxes$Table", "cell", "([BII)I"⟩, prog_8_method_3_code, 4, (some .int))
theorem d_T_cell_0 : decode prog_8_method_3_code 0 = .ok (.aload_n 1, 1) := by decide +kernel
theorem d_T_cell_1 : decode prog_8_method_3_code 1 = .ok (.aload_n 0, 1) := by decide +kernel
theorem d_T_cell_2 : decode prog_8_method_3_code 2 = .ok (.invokevirtual 16, 3) := by decide +kernel
set_option maxRecDepth 20000 in
theorem w_505 : Cond.methodLink "MovieBoxes$Table" 16 ⟨"MovieBoxes$Table", "start", "()I"⟩ ∈ gt := gt_of (in_t3 (List.mem_of_getElem? (i := 25) rfl)) rfl
set_option maxRecDepth 20000 in
theorem w_506 : Cond.sameMethod "MovieBoxes$Table" "MovieBoxes$Box" "start" "()I" ∈ gt := gt_of (in_t3 (List.mem_of_getElem? (i := 26) rfl)) rfl
set_option maxRecDepth 20000 in
theorem w_509 : Cond.selects "MovieBoxes$Table" ⟨"MovieBoxes$Table", "start", "()I"⟩ ⟨"MovieBoxes$Box", "start", "()I"⟩ ∈ gt := gt_of (in_t3 (List.mem_of_getElem? (i := 29) rfl)) rfl
theorem lu_T_16_T : LkU "MovieBoxes$Table" 16 "MovieBoxes$Table" "MovieBoxes$Box" ⟨"MovieBoxes$Table", "start", "()I"⟩ q_B_start 0 := ⟨(List.forall_mem_cons.mpr ⟨w_505, (List.forall_mem_cons.mpr ⟨w_506, (List.forall_mem_cons.mpr ⟨w_509, (List.forall_mem_cons.mpr ⟨w_250, (List.forall_mem_cons.mpr ⟨w_2, (fun _ h => absurd h List.not_mem_nil)⟩)⟩)⟩)⟩)⟩), w_251, Or.inl nw_248, by decide +kernel⟩
theorem d_T_cell_5 : decode prog_8_method_3_code 5 = .ok (.iconst 1, 1) := by decide +kernel
theorem d_T_cell_6 : decode prog_8_method_3_code 6 = .ok (.iadd, 1) := by decide +kernel
theorem d_T_cell_7 : decode prog_8_method_3_code 7 = .ok (.iload_n 2, 1) := by decide +kernel
theorem d_T_cell_8 : decode prog_8_method_3_code 8 = .ok (.aload_n 0, 1) := by decide +kernel
theorem d_T_cell_9 : decode prog_8_method_3_code 9 = .ok (.getfield 23, 3) := by decide +kernel
set_option maxRecDepth 20000 in
theorem w_43 : Cond.fieldLink "MovieBoxes$Table" 23 "MovieBoxes$Table" "kind" "LMovieBoxes$Kind;" ∈ gt := gt_of (in_t1 (List.mem_of_getElem? (i := 43) rfl)) rfl
set_option maxRecDepth 20000 in
theorem w_44 : Cond.sameField "MovieBoxes$Table" "MovieBoxes$Box" "kind" "LMovieBoxes$Kind;" ∈ gt := gt_of (in_t1 (List.mem_of_getElem? (i := 44) rfl)) rfl
theorem fl_T_23_1 : FL "MovieBoxes$Table" 23 1 0 false := ⟨_, _, _, "MovieBoxes$Table", rfl, by decide, rfl, Or.inl w_43, Or.inr w_44⟩
theorem fl_T_23_2 : FL "MovieBoxes$Table" 23 2 0 false := ⟨_, _, _, "MovieBoxes$Table", rfl, by decide, rfl, Or.inl w_43, Or.inr w_44⟩
theorem fl_T_23_3 : FL "MovieBoxes$Table" 23 3 0 false := ⟨_, _, _, "MovieBoxes$Table", rfl, by decide, rfl, Or.inl w_43, Or.inr w_44⟩
theorem fl_T_23_4 : FL "MovieBoxes$Table" 23 4 0 false := ⟨_, _, _, "MovieBoxes$Table", rfl, by decide, rfl, Or.inl w_43, Or.inr w_44⟩
theorem fl_T_23_5 : FL "MovieBoxes$Table" 23 5 0 false := ⟨_, _, _, "MovieBoxes$Table", rfl, by decide, rfl, Or.inl w_43, Or.inr w_44⟩
theorem fb_T_23 : FB "MovieBoxes$Table" 23 0 (.object "MovieBoxes$Kind") := fb5 fl_T_23_1 fl_T_23_2 fl_T_23_3 fl_T_23_4 fl_T_23_5 rfl rfl rfl rfl rfl
theorem d_T_cell_12 : decode prog_8_method_3_code 12 = .ok (.getfield 27, 3) := by decide +kernel
set_option maxRecDepth 20000 in
theorem nw_1010 : Cond.fieldLinkNest "MovieBoxes$Table" 27 "MovieBoxes$Kind" "width" "I" "MovieBoxes" ∈ nwl := nw_of (in_t5 (List.mem_of_getElem? (i := 50) rfl)) rfl
theorem d_T_cell_15 : decode prog_8_method_3_code 15 = .ok (.imul, 1) := by decide +kernel
theorem d_T_cell_16 : decode prog_8_method_3_code 16 = .ok (.iadd, 1) := by decide +kernel
theorem d_T_cell_17 : decode prog_8_method_3_code 17 = .ok (.iload_n 3, 1) := by decide +kernel
theorem d_T_cell_18 : decode prog_8_method_3_code 18 = .ok (.iadd, 1) := by decide +kernel
theorem d_T_cell_19 : decode prog_8_method_3_code 19 = .ok (.baload, 1) := by decide +kernel
theorem d_T_cell_20 : decode prog_8_method_3_code 20 = .ok (.sipush 255, 3) := by decide +kernel
theorem d_T_cell_23 : decode prog_8_method_3_code 23 = .ok (.iand, 1) := by decide +kernel
theorem d_T_cell_24 : decode prog_8_method_3_code 24 = .ok (.ireturn, 1) := by decide +kernel
/-! ===== the component: tables' cells ===== -/
def wdO (o : Int) : Int := if o = 3 ∨ o = 4 ∨ o = 8 ∨ o = 10 then 2 else if o = 5 then 3 else if o = 6 ∨ o = 7 ∨ o = 9 then 1 else 0
def slO (o : Int) : Int := if o = 3 then 0 else if o = 4 then 1 else if o = 5 then 2 else if o = 6 then 3 else if o = 7 ∨ o = 8 then 4 else if o = 9 then 5 else if o = 10 then 6 else -1
section XKF
variable {μ : Mx} {k n : Nat} {ws : va_W} {pc : Nat} {lv : List (Option Value)} {st : List Value}
theorem r_getWd {idx : Nat} {o : Int} (hd : decode (mB μ) pc = .ok (.getfield idx, 3)) (hlk : Cond.fieldLink (mO μ) idx "MovieBoxes$Kind" "width" "I" ∈ gt ∨ ∃ host, Cond.fieldLinkNest (mO μ) idx "MovieBoxes$Kind" "width" "I" host ∈ nwl) (ho : 0 ≤ o ∧ o < 12) (kk : WP μ k n ws (pc + 3) lv (vI (wdO o) :: st)) : WP μ k n ws pc lv (va_rf (rK (mG μ) o) :: st) := by
  rw [rK_nn ho.1]
  refine r_getK (f := ("MovieBoxes$Kind", "width", "I", [0, 0, 0, 2, 2, 3, 1, 1, 2, 1, 2, 0])) hd (by omega) (by decide) hlk ?_
  show WP μ k n ws (pc + 3) lv (.int (([0, 0, 0, 2, 2, 3, 1, 1, 2, 1, 2, 0] : List Int32).getD o.toNat 0) :: st)
  have e : ([0, 0, 0, 2, 2, 3, 1, 1, 2, 1, 2, 0] : List Int32).getD o.toNat 0 = zI (wdO o) := by
    rcases (by omega : o = 0 ∨ o = 1 ∨ o = 2 ∨ o = 3 ∨ o = 4 ∨ o = 5 ∨ o = 6 ∨ o = 7 ∨ o = 8 ∨ o = 9 ∨ o = 10 ∨ o = 11) with rfl | rfl | rfl | rfl | rfl | rfl | rfl | rfl | rfl | rfl | rfl | rfl <;> rfl
  rw [e]
  exact kk
theorem r_getSl {idx : Nat} {o : Int} (hd : decode (mB μ) pc = .ok (.getfield idx, 3)) (hlk : Cond.fieldLink (mO μ) idx "MovieBoxes$Kind" "slot" "I" ∈ gt ∨ ∃ host, Cond.fieldLinkNest (mO μ) idx "MovieBoxes$Kind" "slot" "I" host ∈ nwl) (ho : 0 ≤ o ∧ o < 12) (kk : WP μ k n ws (pc + 3) lv (vI (slO o) :: st)) : WP μ k n ws pc lv (va_rf (rK (mG μ) o) :: st) := by
  rw [rK_nn ho.1]
  refine r_getK (f := ("MovieBoxes$Kind", "slot", "I", [-1, -1, -1, 0, 1, 2, 3, 4, 4, 5, 6, -1])) hd (by omega) (by decide) hlk ?_
  show WP μ k n ws (pc + 3) lv (.int (([-1, -1, -1, 0, 1, 2, 3, 4, 4, 5, 6, -1] : List Int32).getD o.toNat 0) :: st)
  have e : ([-1, -1, -1, 0, 1, 2, 3, 4, 4, 5, 6, -1] : List Int32).getD o.toNat 0 = zI (slO o) := by
    rcases (by omega : o = 0 ∨ o = 1 ∨ o = 2 ∨ o = 3 ∨ o = 4 ∨ o = 5 ∨ o = 6 ∨ o = 7 ∨ o = 8 ∨ o = 9 ∨ o = 10 ∨ o = 11) with rfl | rfl | rfl | rfl | rfl | rfl | rfl | rfl | rfl | rfl | rfl | rfl <;> rfl
  rw [e]
  exact kk
end XKF
section XCELLS
variable (G : gG) (l : Launch) (y : xP)
theorem c_T_cell (z : mS) (k row col : Int) (hk : -1 ≤ k ∧ k < yn y) (h3 : z 27 k = 3) (ho : 0 ≤ z 26 k ∧ z 26 k < 12) (hb : byOk z) (hi : 0 ≤ z 2 k + z 5 k + 1 + row * wdO (z 26 k) + col ∧ z 2 k + z 5 k + 1 + row * wdO (z 26 k) + col < 1000) : Ct G l q_T_cell 1 0 0 [.ref (yo y k), .ref (yc y 1), vI row, vI col] (xW G y z) (fun r w => r = some (vI (pv z k (1 + row * wdO (z 26 k) + col))) ∧ w = xW G y z) := by
  have hc : 1 ≤ z 27 k ∧ z 27 k ≤ 5 := by omega
  refine Ct.intro [some (.ref (yo y k)), some (.ref (yc y 1)), some (vI row), some (vI col)] (by decide) (Nat.le_of_ble_eq_true rfl) rfl (fun sz => ?_)
  refine r_aload_n d_T_cell_0 rfl rfl ?_
  refine r_aload_n d_T_cell_1 rfl rfl ?_
  refine r_kU0 d_T_cell_2 lu_T_16_T (c_B_start G l y z k hk hc) (13 + k).toNat rfl (xw_bc hk h3) (Nat.le_of_ble_eq_true rfl) (rok rfl rfl) ⟨(Nat.le_of_ble_eq_true rfl), (Nat.le_of_ble_eq_true rfl)⟩ (fun r ws2 hq => ?_)
  obtain ⟨rfl, rfl⟩ := hq
  show WP _ _ _ _ _ _ (_ :: _)
  refine r_iconst d_T_cell_5 ?_
  refine r_iadd d_T_cell_6 ?_
  refine r_iload_n d_T_cell_7 rfl ?_
  refine r_aload_n d_T_cell_8 rfl rfl ?_
  refine r_getB d_T_cell_9 fb_T_23 (k) hk hc rfl ?_
  refine r_getWd d_T_cell_12 (Or.inr ⟨_, nw_1010⟩) (by omega) ?_
  refine r_imul d_T_cell_15 ?_
  refine r_iadd d_T_cell_16 ?_
  refine r_iload_n d_T_cell_17 rfl ?_
  refine r_iadd d_T_cell_18 ?_
  refine r_bald d_T_cell_19 1 rfl ⟨hi.1, hi.2, by omega⟩ ?_
  refine r_sipush d_T_cell_20 (by decide) ?_
  refine r_iand255B d_T_cell_23 (hb _) ?_
  refine r_iret d_T_cell_24 rfl (Nat.le_of_ble_eq_true rfl) (Nat.le_of_ble_eq_true rfl) ?_
  refine ⟨?_, rfl⟩
  unfold pv
  rw [show z 2 k + z 5 k + (1 + row * wdO (z 26 k) + col) = z 2 k + z 5 k + 1 + row * wdO (z 26 k) + col by omega]
end XCELLS
