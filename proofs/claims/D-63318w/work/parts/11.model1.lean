abbrev q_M_pay : Mi := (⟨"MovieBoxesModel", "pay", "(II)I"⟩, prog_12_method_10_code, 3, (some .int))
theorem d_M_pay_0 : decode prog_12_method_10_code 0 = .ok (.aload_n 0, 1) := by decide +kernel
theorem d_M_pay_1 : decode prog_12_method_10_code 1 = .ok (.getfield 7, 3) := by decide +kernel
set_option maxRecDepth 20000 in
theorem w_712 : Cond.fieldLink "MovieBoxesModel" 7 "MovieBoxesModel" "file" "[I" ∈ gt := gt_of (in_t3 (List.mem_of_getElem? (i := 232) rfl)) rfl
theorem fl_M_7_7 : FL "MovieBoxesModel" 7 7 0 true := ⟨_, _, _, "MovieBoxesModel", rfl, by decide, rfl, Or.inl w_712, Or.inl rfl⟩
theorem d_M_pay_4 : decode prog_12_method_10_code 4 = .ok (.aload_n 0, 1) := by decide +kernel
theorem d_M_pay_5 : decode prog_12_method_10_code 5 = .ok (.getfield 13, 3) := by decide +kernel
set_option maxRecDepth 20000 in
theorem w_715 : Cond.fieldLink "MovieBoxesModel" 13 "MovieBoxesModel" "at" "[I" ∈ gt := gt_of (in_t3 (List.mem_of_getElem? (i := 235) rfl)) rfl
theorem fl_M_13_7 : FL "MovieBoxesModel" 13 7 3 true := ⟨_, _, _, "MovieBoxesModel", rfl, by decide, rfl, Or.inl w_715, Or.inl rfl⟩
theorem d_M_pay_8 : decode prog_12_method_10_code 8 = .ok (.iload_n 1, 1) := by decide +kernel
theorem d_M_pay_9 : decode prog_12_method_10_code 9 = .ok (.iaload, 1) := by decide +kernel
theorem d_M_pay_10 : decode prog_12_method_10_code 10 = .ok (.aload_n 0, 1) := by decide +kernel
theorem d_M_pay_11 : decode prog_12_method_10_code 11 = .ok (.getfield 22, 3) := by decide +kernel
set_option maxRecDepth 20000 in
theorem w_718 : Cond.fieldLink "MovieBoxesModel" 22 "MovieBoxesModel" "head" "[I" ∈ gt := gt_of (in_t3 (List.mem_of_getElem? (i := 238) rfl)) rfl
theorem fl_M_22_7 : FL "MovieBoxesModel" 22 7 6 true := ⟨_, _, _, "MovieBoxesModel", rfl, by decide, rfl, Or.inl w_718, Or.inl rfl⟩
theorem d_M_pay_14 : decode prog_12_method_10_code 14 = .ok (.iload_n 1, 1) := by decide +kernel
theorem d_M_pay_15 : decode prog_12_method_10_code 15 = .ok (.iaload, 1) := by decide +kernel
theorem d_M_pay_16 : decode prog_12_method_10_code 16 = .ok (.iadd, 1) := by decide +kernel
theorem d_M_pay_17 : decode prog_12_method_10_code 17 = .ok (.iload_n 2, 1) := by decide +kernel
theorem d_M_pay_18 : decode prog_12_method_10_code 18 = .ok (.iadd, 1) := by decide +kernel
theorem d_M_pay_19 : decode prog_12_method_10_code 19 = .ok (.iaload, 1) := by decide +kernel
theorem d_M_pay_20 : decode prog_12_method_10_code 20 = .ok (.ireturn, 1) := by decide +kernel
abbrev q_M_payLength : Mi := (⟨"MovieBoxesModel", "payLength", "(I)I"⟩, prog_12_method_11_code, 2, (some .int))
theorem d_M_payLength_0 : decode prog_12_method_11_code 0 = .ok (.aload_n 0, 1) := by decide +kernel
theorem d_M_payLength_1 : decode prog_12_method_11_code 1 = .ok (.getfield 16, 3) := by decide +kernel
set_option maxRecDepth 20000 in
theorem w_716 : Cond.fieldLink "MovieBoxesModel" 16 "MovieBoxesModel" "len" "[I" ∈ gt := gt_of (in_t3 (List.mem_of_getElem? (i := 236) rfl)) rfl
theorem fl_M_16_7 : FL "MovieBoxesModel" 16 7 4 true := ⟨_, _, _, "MovieBoxesModel", rfl, by decide, rfl, Or.inl w_716, Or.inl rfl⟩
theorem d_M_payLength_4 : decode prog_12_method_11_code 4 = .ok (.iload_n 1, 1) := by decide +kernel
theorem d_M_payLength_5 : decode prog_12_method_11_code 5 = .ok (.iaload, 1) := by decide +kernel
theorem d_M_payLength_6 : decode prog_12_method_11_code 6 = .ok (.aload_n 0, 1) := by decide +kernel
theorem d_M_payLength_7 : decode prog_12_method_11_code 7 = .ok (.getfield 22, 3) := by decide +kernel
theorem d_M_payLength_10 : decode prog_12_method_11_code 10 = .ok (.iload_n 1, 1) := by decide +kernel
theorem d_M_payLength_11 : decode prog_12_method_11_code 11 = .ok (.iaload, 1) := by decide +kernel
theorem d_M_payLength_12 : decode prog_12_method_11_code 12 = .ok (.isub, 1) := by decide +kernel
theorem d_M_payLength_13 : decode prog_12_method_11_code 13 = .ok (.ireturn, 1) := by decide +kernel
abbrev q_M_length : Mi := (⟨"MovieBoxesModel", "length", "()I"⟩, prog_12_method_5_code, 1, (some .int))
theorem d_M_length_0 : decode prog_12_method_5_code 0 = .ok (.aload_n 0, 1) := by decide +kernel
theorem d_M_length_1 : decode prog_12_method_5_code 1 = .ok (.getfield 58, 3) := by decide +kernel
set_option maxRecDepth 20000 in
theorem w_713 : Cond.fieldLink "MovieBoxesModel" 58 "MovieBoxesModel" "size" "I" ∈ gt := gt_of (in_t3 (List.mem_of_getElem? (i := 233) rfl)) rfl
theorem fl_M_58_7 : FL "MovieBoxesModel" 58 7 1 false := ⟨_, _, _, "MovieBoxesModel", rfl, by decide, rfl, Or.inl w_713, Or.inl rfl⟩
theorem d_M_length_4 : decode prog_12_method_5_code 4 = .ok (.ireturn, 1) := by decide +kernel
abbrev q_M_peek : Mi := (⟨"MovieBoxesModel", "peek", "(I)I"⟩, prog_12_method_6_code, 2, (some .int))
theorem d_M_peek_0 : decode prog_12_method_6_code 0 = .ok (.iload_n 1, 1) := by decide +kernel
theorem d_M_peek_1 : decode prog_12_method_6_code 1 = .ok (.ifCond .lt 11, 3) := by decide +kernel
theorem d_M_peek_12 : decode prog_12_method_6_code 12 = .ok (.sipush (-1000), 3) := by decide +kernel
theorem d_M_peek_15 : decode prog_12_method_6_code 15 = .ok (.goto 9, 3) := by decide +kernel
theorem d_M_peek_24 : decode prog_12_method_6_code 24 = .ok (.ireturn, 1) := by decide +kernel
theorem d_M_peek_4 : decode prog_12_method_6_code 4 = .ok (.iload_n 1, 1) := by decide +kernel
theorem d_M_peek_5 : decode prog_12_method_6_code 5 = .ok (.aload_n 0, 1) := by decide +kernel
theorem d_M_peek_6 : decode prog_12_method_6_code 6 = .ok (.getfield 58, 3) := by decide +kernel
theorem d_M_peek_9 : decode prog_12_method_6_code 9 = .ok (.if_icmp .lt 9, 3) := by decide +kernel
theorem d_M_peek_18 : decode prog_12_method_6_code 18 = .ok (.aload_n 0, 1) := by decide +kernel
theorem d_M_peek_19 : decode prog_12_method_6_code 19 = .ok (.getfield 7, 3) := by decide +kernel
theorem d_M_peek_22 : decode prog_12_method_6_code 22 = .ok (.iload_n 1, 1) := by decide +kernel
theorem d_M_peek_23 : decode prog_12_method_6_code 23 = .ok (.iaload, 1) := by decide +kernel
abbrev q_M_poke : Mi := (⟨"MovieBoxesModel", "poke", "(II)I"⟩, prog_12_method_3_code, 4, (some .int))
theorem d_M_poke_23 : decode prog_12_method_3_code 23 = .ok (.sipush (-1000), 3) := by decide +kernel
theorem d_M_poke_26 : decode prog_12_method_3_code 26 = .ok (.ireturn, 1) := by decide +kernel
theorem d_M_poke_0 : decode prog_12_method_3_code 0 = .ok (.iload_n 1, 1) := by decide +kernel
theorem d_M_poke_1 : decode prog_12_method_3_code 1 = .ok (.ifCond .lt 22, 3) := by decide +kernel
theorem d_M_poke_4 : decode prog_12_method_3_code 4 = .ok (.iload_n 1, 1) := by decide +kernel
theorem d_M_poke_5 : decode prog_12_method_3_code 5 = .ok (.aload_n 0, 1) := by decide +kernel
theorem d_M_poke_6 : decode prog_12_method_3_code 6 = .ok (.getfield 58, 3) := by decide +kernel
theorem d_M_poke_9 : decode prog_12_method_3_code 9 = .ok (.if_icmp .ge 14, 3) := by decide +kernel
theorem d_M_poke_12 : decode prog_12_method_3_code 12 = .ok (.iload_n 2, 1) := by decide +kernel
theorem d_M_poke_13 : decode prog_12_method_3_code 13 = .ok (.ifCond .lt 10, 3) := by decide +kernel
theorem d_M_poke_16 : decode prog_12_method_3_code 16 = .ok (.iload_n 2, 1) := by decide +kernel
theorem d_M_poke_17 : decode prog_12_method_3_code 17 = .ok (.sipush 255, 3) := by decide +kernel
theorem d_M_poke_20 : decode prog_12_method_3_code 20 = .ok (.if_icmp .le 7, 3) := by decide +kernel
theorem d_M_poke_27 : decode prog_12_method_3_code 27 = .ok (.aload_n 0, 1) := by decide +kernel
theorem d_M_poke_28 : decode prog_12_method_3_code 28 = .ok (.getfield 7, 3) := by decide +kernel
theorem d_M_poke_31 : decode prog_12_method_3_code 31 = .ok (.iload_n 1, 1) := by decide +kernel
theorem d_M_poke_32 : decode prog_12_method_3_code 32 = .ok (.iaload, 1) := by decide +kernel
theorem d_M_poke_33 : decode prog_12_method_3_code 33 = .ok (.istore_n 3, 1) := by decide +kernel
theorem d_M_poke_34 : decode prog_12_method_3_code 34 = .ok (.aload_n 0, 1) := by decide +kernel
theorem d_M_poke_35 : decode prog_12_method_3_code 35 = .ok (.getfield 7, 3) := by decide +kernel
theorem d_M_poke_38 : decode prog_12_method_3_code 38 = .ok (.iload_n 1, 1) := by decide +kernel
theorem d_M_poke_39 : decode prog_12_method_3_code 39 = .ok (.iload_n 2, 1) := by decide +kernel
theorem d_M_poke_40 : decode prog_12_method_3_code 40 = .ok (.iastore, 1) := by decide +kernel
theorem d_M_poke_41 : decode prog_12_method_3_code 41 = .ok (.iload_n 3, 1) := by decide +kernel
theorem d_M_poke_42 : decode prog_12_method_3_code 42 = .ok (.ireturn, 1) := by decide +kernel
abbrev q_M_cut : Mi := (⟨"MovieBoxesModel", "cut", "(I)Z"⟩, prog_12_method_4_code, 2, (some .boolean))
theorem d_M_cut_0 : decode prog_12_method_4_code 0 = .ok (.iload_n 1, 1) := by decide +kernel
theorem d_M_cut_1 : decode prog_12_method_4_code 1 = .ok (.ifCond .lt 11, 3) := by decide +kernel
theorem d_M_cut_12 : decode prog_12_method_4_code 12 = .ok (.iconst 0, 1) := by decide +kernel
theorem d_M_cut_13 : decode prog_12_method_4_code 13 = .ok (.ireturn, 1) := by decide +kernel
theorem d_M_cut_4 : decode prog_12_method_4_code 4 = .ok (.iload_n 1, 1) := by decide +kernel
theorem d_M_cut_5 : decode prog_12_method_4_code 5 = .ok (.aload_n 0, 1) := by decide +kernel
theorem d_M_cut_6 : decode prog_12_method_4_code 6 = .ok (.getfield 58, 3) := by decide +kernel
theorem d_M_cut_9 : decode prog_12_method_4_code 9 = .ok (.if_icmp .le 5, 3) := by decide +kernel
theorem d_M_cut_14 : decode prog_12_method_4_code 14 = .ok (.aload_n 0, 1) := by decide +kernel
theorem d_M_cut_15 : decode prog_12_method_4_code 15 = .ok (.iload_n 1, 1) := by decide +kernel
theorem d_M_cut_16 : decode prog_12_method_4_code 16 = .ok (.putfield 58, 3) := by decide +kernel
theorem d_M_cut_19 : decode prog_12_method_4_code 19 = .ok (.iconst 1, 1) := by decide +kernel
theorem d_M_cut_20 : decode prog_12_method_4_code 20 = .ok (.ireturn, 1) := by decide +kernel
abbrev q_M_isHolder : Mi := (⟨"MovieBoxesModel", "isHolder", "(I)Z"⟩, prog_12_method_9_code, 2, (some .boolean))
theorem d_M_isHolder_41 : decode prog_12_method_9_code 41 = .ok (.iconst 1, 1) := by decide +kernel
theorem d_M_isHolder_42 : decode prog_12_method_9_code 42 = .ok (.goto 4, 3) := by decide +kernel
theorem d_M_isHolder_46 : decode prog_12_method_9_code 46 = .ok (.ireturn, 1) := by decide +kernel
theorem d_M_isHolder_45 : decode prog_12_method_9_code 45 = .ok (.iconst 0, 1) := by decide +kernel
theorem d_M_isHolder_20 : decode prog_12_method_9_code 20 = .ok (.aload_n 0, 1) := by decide +kernel
theorem d_M_isHolder_21 : decode prog_12_method_9_code 21 = .ok (.getfield 25, 3) := by decide +kernel
set_option maxRecDepth 20000 in
theorem w_719 : Cond.fieldLink "MovieBoxesModel" 25 "MovieBoxesModel" "level" "[I" ∈ gt := gt_of (in_t3 (List.mem_of_getElem? (i := 239) rfl)) rfl
theorem fl_M_25_7 : FL "MovieBoxesModel" 25 7 7 true := ⟨_, _, _, "MovieBoxesModel", rfl, by decide, rfl, Or.inl w_719, Or.inl rfl⟩
theorem d_M_isHolder_24 : decode prog_12_method_9_code 24 = .ok (.iload_n 1, 1) := by decide +kernel
theorem d_M_isHolder_25 : decode prog_12_method_9_code 25 = .ok (.iaload, 1) := by decide +kernel
theorem d_M_isHolder_26 : decode prog_12_method_9_code 26 = .ok (.iconst 1, 1) := by decide +kernel
theorem d_M_isHolder_27 : decode prog_12_method_9_code 27 = .ok (.if_icmp .ne 18, 3) := by decide +kernel
theorem d_M_isHolder_30 : decode prog_12_method_9_code 30 = .ok (.aload_n 0, 1) := by decide +kernel
theorem d_M_isHolder_31 : decode prog_12_method_9_code 31 = .ok (.getfield 19, 3) := by decide +kernel
set_option maxRecDepth 20000 in
theorem w_717 : Cond.fieldLink "MovieBoxesModel" 19 "MovieBoxesModel" "type" "[I" ∈ gt := gt_of (in_t3 (List.mem_of_getElem? (i := 237) rfl)) rfl
theorem fl_M_19_7 : FL "MovieBoxesModel" 19 7 5 true := ⟨_, _, _, "MovieBoxesModel", rfl, by decide, rfl, Or.inl w_717, Or.inl rfl⟩
theorem d_M_isHolder_34 : decode prog_12_method_9_code 34 = .ok (.iload_n 1, 1) := by decide +kernel
theorem d_M_isHolder_35 : decode prog_12_method_9_code 35 = .ok (.iaload, 1) := by decide +kernel
theorem d_M_isHolder_36 : decode prog_12_method_9_code 36 = .ok (.bipush 84, 2) := by decide +kernel
theorem d_M_isHolder_38 : decode prog_12_method_9_code 38 = .ok (.if_icmp .ne 7, 3) := by decide +kernel
theorem d_M_isHolder_0 : decode prog_12_method_9_code 0 = .ok (.aload_n 0, 1) := by decide +kernel
theorem d_M_isHolder_1 : decode prog_12_method_9_code 1 = .ok (.getfield 25, 3) := by decide +kernel
theorem d_M_isHolder_4 : decode prog_12_method_9_code 4 = .ok (.iload_n 1, 1) := by decide +kernel
theorem d_M_isHolder_5 : decode prog_12_method_9_code 5 = .ok (.iaload, 1) := by decide +kernel
theorem d_M_isHolder_6 : decode prog_12_method_9_code 6 = .ok (.ifCond .ne 14, 3) := by decide +kernel
theorem d_M_isHolder_9 : decode prog_12_method_9_code 9 = .ok (.aload_n 0, 1) := by decide +kernel
theorem d_M_isHolder_10 : decode prog_12_method_9_code 10 = .ok (.getfield 19, 3) := by decide +kernel
theorem d_M_isHolder_13 : decode prog_12_method_9_code 13 = .ok (.iload_n 1, 1) := by decide +kernel
theorem d_M_isHolder_14 : decode prog_12_method_9_code 14 = .ok (.iaload, 1) := by decide +kernel
theorem d_M_isHolder_15 : decode prog_12_method_9_code 15 = .ok (.bipush 77, 2) := by decide +kernel
theorem d_M_isHolder_17 : decode prog_12_method_9_code 17 = .ok (.if_icmp .eq 24, 3) := by decide +kernel
/-! ===== the model: bytes, boxes ===== -/
section MODEL1
variable (G : gG) (l : Launch) (ad : Nat → Nat)
theorem c_M_pay (s : mS) (k i : Int) (hk : 0 ≤ k ∧ k < 20) (hb : 0 ≤ s 2 k + s 5 k + i ∧ s 2 k + s 5 k + i < 1000) : Ct G l q_M_pay 0 0 0 [.ref (ad 0), vI k, vI i] (mW G ad s) (fun r w => r = some (vI (s 1 (s 2 k + s 5 k + i))) ∧ w = mW G ad s) := by
  refine Ct.intro [some (.ref (ad 0)), some (vI k), some (vI i)] (by decide) (Nat.le_of_ble_eq_true rfl) rfl (fun sz => ?_)
  refine r_aload_n d_M_pay_0 rfl rfl ?_
  refine r_get d_M_pay_1 fl_M_7_7 0 rfl rfl ?_
  refine r_aload_n d_M_pay_4 rfl rfl ?_
  refine r_get d_M_pay_5 fl_M_13_7 0 rfl rfl ?_
  refine r_iload_n d_M_pay_8 rfl ?_
  refine r_iald d_M_pay_9 2 rfl (by omega) ?_
  refine r_aload_n d_M_pay_10 rfl rfl ?_
  refine r_get d_M_pay_11 fl_M_22_7 0 rfl rfl ?_
  refine r_iload_n d_M_pay_14 rfl ?_
  refine r_iald d_M_pay_15 5 rfl (by omega) ?_
  refine r_iadd d_M_pay_16 ?_
  refine r_iload_n d_M_pay_17 rfl ?_
  refine r_iadd d_M_pay_18 ?_
  refine r_iald d_M_pay_19 1 rfl (by omega) ?_
  refine r_iret d_M_pay_20 rfl (Nat.le_of_ble_eq_true rfl) (Nat.le_of_ble_eq_true rfl) ?_
  exact ⟨rfl, rfl⟩
theorem c_M_payLength (s : mS) (k : Int) (hk : 0 ≤ k ∧ k < 20) : Ct G l q_M_payLength 0 0 0 [.ref (ad 0), vI k] (mW G ad s) (fun r w => r = some (vI (s 3 k - s 5 k)) ∧ w = mW G ad s) := by
  refine Ct.intro [some (.ref (ad 0)), some (vI k)] (by decide) (Nat.le_of_ble_eq_true rfl) rfl (fun sz => ?_)
  refine r_aload_n d_M_payLength_0 rfl rfl ?_
  refine r_get d_M_payLength_1 fl_M_16_7 0 rfl rfl ?_
  refine r_iload_n d_M_payLength_4 rfl ?_
  refine r_iald d_M_payLength_5 3 rfl (by omega) ?_
  refine r_aload_n d_M_payLength_6 rfl rfl ?_
  refine r_get d_M_payLength_7 fl_M_22_7 0 rfl rfl ?_
  refine r_iload_n d_M_payLength_10 rfl ?_
  refine r_iald d_M_payLength_11 5 rfl (by omega) ?_
  refine r_isub d_M_payLength_12 ?_
  refine r_iret d_M_payLength_13 rfl (Nat.le_of_ble_eq_true rfl) (Nat.le_of_ble_eq_true rfl) ?_
  exact ⟨rfl, rfl⟩
theorem c_M_length (s : mS) : Ct G l q_M_length 0 0 0 [.ref (ad 0)] (mW G ad s) (fun r w => r = some (vI (s 0 0)) ∧ w = mW G ad s) := by
  refine Ct.intro [some (.ref (ad 0))] (by decide) (Nat.le_of_ble_eq_true rfl) rfl (fun sz => ?_)
  refine r_aload_n d_M_length_0 rfl rfl ?_
  refine r_get d_M_length_1 fl_M_58_7 0 rfl rfl ?_
  refine r_iret d_M_length_4 rfl (Nat.le_of_ble_eq_true rfl) (Nat.le_of_ble_eq_true rfl) ?_
  exact ⟨rfl, rfl⟩
/-- the model's own invariant between calls -/
def mI (s : mS) : Prop := (0 ≤ s 0 0 ∧ s 0 0 ≤ 1000) ∧ ∀ j, 0 ≤ s 1 j ∧ s 1 j < 256
theorem c_M_peek (s : mS) (p : Int) (hp : i32 p) (hs : 0 ≤ s 0 0 ∧ s 0 0 ≤ 1000) : Ct G l q_M_peek 0 0 0 [.ref (ad 0), vI p] (mW G ad s) (fun r w => r = some (vI (if p < 0 ∨ s 0 0 ≤ p then -1000 else s 1 p)) ∧ w = mW G ad s) := by
  refine Ct.intro [some (.ref (ad 0)), some (vI p)] (by decide) (Nat.le_of_ble_eq_true rfl) rfl (fun sz => ?_)
  refine r_iload_n d_M_peek_0 rfl ?_
  refine r_if_lt 12 d_M_peek_1 (by decide) hp (fun h1 => ?_) (fun h1 => ?_)
  · refine r_sipush d_M_peek_12 (by decide) ?_
    refine r_goto 24 d_M_peek_15 (by decide) ?_
    refine r_iret d_M_peek_24 rfl (Nat.le_of_ble_eq_true rfl) (Nat.le_of_ble_eq_true rfl) ?_
    exact ⟨by rw [if_pos (Or.inl h1)], rfl⟩
  · refine r_iload_n d_M_peek_4 rfl ?_
    refine r_aload_n d_M_peek_5 rfl rfl ?_
    refine r_get d_M_peek_6 fl_M_58_7 0 rfl rfl ?_
    refine r_icmp_lt 18 d_M_peek_9 (by decide) hp (by unfold i32; omega) (fun h2 => ?_) (fun h2 => ?_)
    · refine r_aload_n d_M_peek_18 rfl rfl ?_
      refine r_get d_M_peek_19 fl_M_7_7 0 rfl rfl ?_
      refine r_iload_n d_M_peek_22 rfl ?_
      refine r_iald d_M_peek_23 1 rfl (by omega) ?_
      refine r_iret d_M_peek_24 rfl (Nat.le_of_ble_eq_true rfl) (Nat.le_of_ble_eq_true rfl) ?_
      exact ⟨by rw [if_neg (by omega)], rfl⟩
    · refine r_sipush d_M_peek_12 (by decide) ?_
      refine r_goto 24 d_M_peek_15 (by decide) ?_
      refine r_iret d_M_peek_24 rfl (Nat.le_of_ble_eq_true rfl) (Nat.le_of_ble_eq_true rfl) ?_
      exact ⟨by rw [if_pos (by omega)], rfl⟩
theorem c_M_poke (s : mS) (p b : Int) (hp : i32 p) (hb : i32 b) (hs : 0 ≤ s 0 0 ∧ s 0 0 ≤ 1000) : Ct G l q_M_poke 0 0 0 [.ref (ad 0), vI p, vI b] (mW G ad s) (fun r w => r = some (vI (if p < 0 ∨ s 0 0 ≤ p ∨ b < 0 ∨ 255 < b then -1000 else s 1 p)) ∧ w = mW G ad (if p < 0 ∨ s 0 0 ≤ p ∨ b < 0 ∨ 255 < b then s else sset s 1 p b)) := by
  refine Ct.intro [some (.ref (ad 0)), some (vI p), some (vI b), none] (by decide) (Nat.le_of_ble_eq_true rfl) rfl (fun sz => ?_)
  have bad : (p < 0 ∨ s 0 0 ≤ p ∨ b < 0 ∨ 255 < b) → WP (mth G l q_M_poke 0 0 0 (mW G ad s) sz (fun r w => r = some (vI (if p < 0 ∨ s 0 0 ≤ p ∨ b < 0 ∨ 255 < b then -1000 else s 1 p)) ∧ w = mW G ad (if p < 0 ∨ s 0 0 ≤ p ∨ b < 0 ∨ 255 < b then s else sset s 1 p b))) 0 0 (mW G ad s) 23 [some (.ref (ad 0)), some (vI p), some (vI b), none] [] := by
    intro h
    refine r_sipush d_M_poke_23 (by decide) ?_
    refine r_iret d_M_poke_26 rfl (Nat.le_of_ble_eq_true rfl) (Nat.le_of_ble_eq_true rfl) ?_
    exact ⟨by rw [if_pos h], by rw [if_pos h]⟩
  refine r_iload_n d_M_poke_0 rfl ?_
  refine r_if_lt 23 d_M_poke_1 (by decide) hp (fun h1 => ?_) (fun h1 => ?_)
  · exact bad (by omega)
  · refine r_iload_n d_M_poke_4 rfl ?_
    refine r_aload_n d_M_poke_5 rfl rfl ?_
    refine r_get d_M_poke_6 fl_M_58_7 0 rfl rfl ?_
    refine r_icmp_ge 23 d_M_poke_9 (by decide) hp (by unfold i32; omega) (fun h2 => ?_) (fun h2 => ?_)
    · exact bad (by omega)
    · refine r_iload_n d_M_poke_12 rfl ?_
      refine r_if_lt 23 d_M_poke_13 (by decide) hb (fun h3 => ?_) (fun h3 => ?_)
      · exact bad (by omega)
      · refine r_iload_n d_M_poke_16 rfl ?_
        refine r_sipush d_M_poke_17 (by decide) ?_
        refine r_icmp_le 27 d_M_poke_20 (by decide) hb (by unfold i32; omega) (fun h4 => ?_) (fun h4 => ?_)
        · refine r_aload_n d_M_poke_27 rfl rfl ?_
          refine r_get d_M_poke_28 fl_M_7_7 0 rfl rfl ?_
          refine r_iload_n d_M_poke_31 rfl ?_
          refine r_iald d_M_poke_32 1 rfl (by omega) ?_
          refine r_istore_n d_M_poke_33 (Nat.le_of_ble_eq_true rfl) rfl ?_
          show WP _ _ _ _ _ [_, _, _, _] _
          refine r_aload_n d_M_poke_34 rfl rfl ?_
          refine r_get d_M_poke_35 fl_M_7_7 0 rfl rfl ?_
          refine r_iload_n d_M_poke_38 rfl ?_
          refine r_iload_n d_M_poke_39 rfl ?_
          refine r_iast _ d_M_poke_40 1 rfl (by omega) mw_1 ?_
          refine r_iload_n d_M_poke_41 rfl ?_
          refine r_iret d_M_poke_42 rfl (Nat.le_of_ble_eq_true rfl) (Nat.le_of_ble_eq_true rfl) ?_
          exact ⟨by rw [if_neg (by omega)], by rw [if_neg (by omega)]⟩
        · exact bad (by omega)
theorem c_M_cut (s : mS) (n : Int) (hn : i32 n) (hs : 0 ≤ s 0 0 ∧ s 0 0 ≤ 1000) : Ct G l q_M_cut 0 0 0 [.ref (ad 0), vI n] (mW G ad s) (fun r w => r = some (vI (if n < 0 ∨ s 0 0 < n then 0 else 1)) ∧ w = mW G ad (if n < 0 ∨ s 0 0 < n then s else sset s 0 0 n)) := by
  refine Ct.intro [some (.ref (ad 0)), some (vI n)] (by decide) (Nat.le_of_ble_eq_true rfl) rfl (fun sz => ?_)
  refine r_iload_n d_M_cut_0 rfl ?_
  refine r_if_lt 12 d_M_cut_1 (by decide) hn (fun h1 => ?_) (fun h1 => ?_)
  · refine r_iconst d_M_cut_12 ?_
    refine r_zret d_M_cut_13 rfl (by first | exact Or.inl rfl | exact Or.inr rfl) (Nat.le_of_ble_eq_true rfl) (Nat.le_of_ble_eq_true rfl) ?_
    exact ⟨by rw [if_pos (by omega)], by rw [if_pos (by omega)]⟩
  · refine r_iload_n d_M_cut_4 rfl ?_
    refine r_aload_n d_M_cut_5 rfl rfl ?_
    refine r_get d_M_cut_6 fl_M_58_7 0 rfl rfl ?_
    refine r_icmp_le 14 d_M_cut_9 (by decide) hn (by unfold i32; omega) (fun h2 => ?_) (fun h2 => ?_)
    · refine r_aload_n d_M_cut_14 rfl rfl ?_
      refine r_iload_n d_M_cut_15 rfl ?_
      refine r_put _ d_M_cut_16 fl_M_58_7 0 rfl rfl rfl (Nat.le_of_ble_eq_true rfl) mwp_size ?_
      refine r_iconst d_M_cut_19 ?_
      refine r_zret d_M_cut_20 rfl (by first | exact Or.inl rfl | exact Or.inr rfl) (Nat.le_of_ble_eq_true rfl) (Nat.le_of_ble_eq_true rfl) ?_
      exact ⟨by rw [if_neg (by omega)], by rw [if_neg (by omega)]⟩
    · refine r_iconst d_M_cut_12 ?_
      refine r_zret d_M_cut_13 rfl (by first | exact Or.inl rfl | exact Or.inr rfl) (Nat.le_of_ble_eq_true rfl) (Nat.le_of_ble_eq_true rfl) ?_
      exact ⟨by rw [if_pos (by omega)], by rw [if_pos (by omega)]⟩
/-- which boxes hold boxes -/
abbrev isHold (lev ty : Int) : Prop := (lev = 0 ∧ ty = 77) ∨ (lev = 1 ∧ ty = 84)
theorem c_M_isHolder (s : mS) (k : Int) (hk : 0 ≤ k ∧ k < 20) (h6 : i32 (s 6 k)) (h4 : i32 (s 4 k)) : Ct G l q_M_isHolder 0 0 0 [.ref (ad 0), vI k] (mW G ad s) (fun r w => r = some (vI (if isHold (s 6 k) (s 4 k) then 1 else 0)) ∧ w = mW G ad s) := by
  refine Ct.intro [some (.ref (ad 0)), some (vI k)] (by decide) (Nat.le_of_ble_eq_true rfl) rfl (fun sz => ?_)
  have yes : isHold (s 6 k) (s 4 k) → WP (mth G l q_M_isHolder 0 0 0 (mW G ad s) sz (fun r w => r = some (vI (if isHold (s 6 k) (s 4 k) then 1 else 0)) ∧ w = mW G ad s)) 0 0 (mW G ad s) 41 [some (.ref (ad 0)), some (vI k)] [] := by
    intro h
    refine r_iconst d_M_isHolder_41 ?_
    refine r_goto 46 d_M_isHolder_42 (by decide) ?_
    refine r_zret d_M_isHolder_46 rfl (by first | exact Or.inl rfl | exact Or.inr rfl) (Nat.le_of_ble_eq_true rfl) (Nat.le_of_ble_eq_true rfl) ?_
    exact ⟨by rw [if_pos h], rfl⟩
  have no : ¬ isHold (s 6 k) (s 4 k) → WP (mth G l q_M_isHolder 0 0 0 (mW G ad s) sz (fun r w => r = some (vI (if isHold (s 6 k) (s 4 k) then 1 else 0)) ∧ w = mW G ad s)) 0 0 (mW G ad s) 45 [some (.ref (ad 0)), some (vI k)] [] := by
    intro h
    refine r_iconst d_M_isHolder_45 ?_
    refine r_zret d_M_isHolder_46 rfl (by first | exact Or.inl rfl | exact Or.inr rfl) (Nat.le_of_ble_eq_true rfl) (Nat.le_of_ble_eq_true rfl) ?_
    exact ⟨by rw [if_neg h], rfl⟩
  have tl : ¬ (s 6 k = 0 ∧ s 4 k = 77) → WP (mth G l q_M_isHolder 0 0 0 (mW G ad s) sz (fun r w => r = some (vI (if isHold (s 6 k) (s 4 k) then 1 else 0)) ∧ w = mW G ad s)) 0 0 (mW G ad s) 20 [some (.ref (ad 0)), some (vI k)] [] := by
    intro h
    refine r_aload_n d_M_isHolder_20 rfl rfl ?_
    refine r_get d_M_isHolder_21 fl_M_25_7 0 rfl rfl ?_
    refine r_iload_n d_M_isHolder_24 rfl ?_
    refine r_iald d_M_isHolder_25 6 rfl (by omega) ?_
    refine r_iconst d_M_isHolder_26 ?_
    refine r_icmp_ne 45 d_M_isHolder_27 (by decide) h6 (by unfold i32; omega) (fun h1 => ?_) (fun h1 => ?_)
    · exact no (by unfold isHold; omega)
    · refine r_aload_n d_M_isHolder_30 rfl rfl ?_
      refine r_get d_M_isHolder_31 fl_M_19_7 0 rfl rfl ?_
      refine r_iload_n d_M_isHolder_34 rfl ?_
      refine r_iald d_M_isHolder_35 4 rfl (by omega) ?_
      refine r_bipush d_M_isHolder_36 (by decide) ?_
      refine r_icmp_ne 45 d_M_isHolder_38 (by decide) h4 (by unfold i32; omega) (fun h2 => ?_) (fun h2 => ?_)
      · exact no (by unfold isHold; omega)
      · exact yes (by unfold isHold; omega)
  refine r_aload_n d_M_isHolder_0 rfl rfl ?_
  refine r_get d_M_isHolder_1 fl_M_25_7 0 rfl rfl ?_
  refine r_iload_n d_M_isHolder_4 rfl ?_
  refine r_iald d_M_isHolder_5 6 rfl (by omega) ?_
  refine r_if_ne 20 d_M_isHolder_6 (by decide) h6 (fun h1 => ?_) (fun h1 => ?_)
  · exact tl (by omega)
  · refine r_aload_n d_M_isHolder_9 rfl rfl ?_
    refine r_get d_M_isHolder_10 fl_M_19_7 0 rfl rfl ?_
    refine r_iload_n d_M_isHolder_13 rfl ?_
    refine r_iald d_M_isHolder_14 4 rfl (by omega) ?_
    refine r_bipush d_M_isHolder_15 (by decide) ?_
    refine r_icmp_eq 41 d_M_isHolder_17 (by decide) h4 (by unfold i32; omega) (fun h2 => ?_) (fun h2 => ?_)
    · exact yes (by unfold isHold; omega)
    · exact tl (by omega)
end MODEL1
