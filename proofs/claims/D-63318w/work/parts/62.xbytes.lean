abbrev q_B_start : Mi := (⟨"MovieBoxes$Box", "start", "()I"⟩, prog_2_method_3_code, 1, (some .int))
theorem d_B_start_0 : decode prog_2_method_3_code 0 = .ok (.aload_n 0, 1) := by decide +kernel
theorem d_B_start_1 : decode prog_2_method_3_code 1 = .ok (.getfield 17, 3) := by decide +kernel
set_option maxRecDepth 20000 in
theorem w_54 : Cond.fieldLink "MovieBoxes$Box" 17 "MovieBoxes$Box" "from" "I" ∈ gt := gt_of (in_t1 (List.mem_of_getElem? (i := 54) rfl)) rfl
theorem fl_B_17_1 : FL "MovieBoxes$Box" 17 1 2 false := ⟨_, _, _, "MovieBoxes$Box", rfl, by decide, rfl, Or.inl w_54, Or.inl rfl⟩
theorem fl_B_17_2 : FL "MovieBoxes$Box" 17 2 2 false := ⟨_, _, _, "MovieBoxes$Box", rfl, by decide, rfl, Or.inl w_54, Or.inl rfl⟩
theorem fl_B_17_3 : FL "MovieBoxes$Box" 17 3 2 false := ⟨_, _, _, "MovieBoxes$Box", rfl, by decide, rfl, Or.inl w_54, Or.inl rfl⟩
theorem fl_B_17_4 : FL "MovieBoxes$Box" 17 4 2 false := ⟨_, _, _, "MovieBoxes$Box", rfl, by decide, rfl, Or.inl w_54, Or.inl rfl⟩
theorem fl_B_17_5 : FL "MovieBoxes$Box" 17 5 2 false := ⟨_, _, _, "MovieBoxes$Box", rfl, by decide, rfl, Or.inl w_54, Or.inl rfl⟩
theorem fb_B_17 : FB "MovieBoxes$Box" 17 2 .int := fb5 fl_B_17_1 fl_B_17_2 fl_B_17_3 fl_B_17_4 fl_B_17_5 rfl rfl rfl rfl rfl
theorem d_B_start_4 : decode prog_2_method_3_code 4 = .ok (.aload_n 0, 1) := by decide +kernel
theorem d_B_start_5 : decode prog_2_method_3_code 5 = .ok (.getfield 21, 3) := by decide +kernel
set_option maxRecDepth 20000 in
theorem w_64 : Cond.fieldLink "MovieBoxes$Box" 21 "MovieBoxes$Box" "header" "I" ∈ gt := gt_of (in_t1 (List.mem_of_getElem? (i := 64) rfl)) rfl
theorem fl_B_21_1 : FL "MovieBoxes$Box" 21 1 3 false := ⟨_, _, _, "MovieBoxes$Box", rfl, by decide, rfl, Or.inl w_64, Or.inl rfl⟩
theorem fl_B_21_2 : FL "MovieBoxes$Box" 21 2 3 false := ⟨_, _, _, "MovieBoxes$Box", rfl, by decide, rfl, Or.inl w_64, Or.inl rfl⟩
theorem fl_B_21_3 : FL "MovieBoxes$Box" 21 3 3 false := ⟨_, _, _, "MovieBoxes$Box", rfl, by decide, rfl, Or.inl w_64, Or.inl rfl⟩
theorem fl_B_21_4 : FL "MovieBoxes$Box" 21 4 3 false := ⟨_, _, _, "MovieBoxes$Box", rfl, by decide, rfl, Or.inl w_64, Or.inl rfl⟩
theorem fl_B_21_5 : FL "MovieBoxes$Box" 21 5 3 false := ⟨_, _, _, "MovieBoxes$Box", rfl, by decide, rfl, Or.inl w_64, Or.inl rfl⟩
theorem fb_B_21 : FB "MovieBoxes$Box" 21 3 .int := fb5 fl_B_21_1 fl_B_21_2 fl_B_21_3 fl_B_21_4 fl_B_21_5 rfl rfl rfl rfl rfl
theorem d_B_start_8 : decode prog_2_method_3_code 8 = .ok (.iadd, 1) := by decide +kernel
theorem d_B_start_9 : decode prog_2_method_3_code 9 = .ok (.ireturn, 1) := by decide +kernel
abbrev q_B_end : Mi := (⟨"MovieBoxes$Box", "end", "()I"⟩, prog_2_method_4_code, 1, (some .int))
theorem d_B_end_0 : decode prog_2_method_4_code 0 = .ok (.aload_n 0, 1) := by decide +kernel
theorem d_B_end_1 : decode prog_2_method_4_code 1 = .ok (.getfield 17, 3) := by decide +kernel
theorem d_B_end_4 : decode prog_2_method_4_code 4 = .ok (.aload_n 0, 1) := by decide +kernel
theorem d_B_end_5 : decode prog_2_method_4_code 5 = .ok (.getfield 24, 3) := by decide +kernel
set_option maxRecDepth 20000 in
theorem w_74 : Cond.fieldLink "MovieBoxes$Box" 24 "MovieBoxes$Box" "size" "I" ∈ gt := gt_of (in_t1 (List.mem_of_getElem? (i := 74) rfl)) rfl
theorem fl_B_24_1 : FL "MovieBoxes$Box" 24 1 4 false := ⟨_, _, _, "MovieBoxes$Box", rfl, by decide, rfl, Or.inl w_74, Or.inl rfl⟩
theorem fl_B_24_2 : FL "MovieBoxes$Box" 24 2 4 false := ⟨_, _, _, "MovieBoxes$Box", rfl, by decide, rfl, Or.inl w_74, Or.inl rfl⟩
theorem fl_B_24_3 : FL "MovieBoxes$Box" 24 3 4 false := ⟨_, _, _, "MovieBoxes$Box", rfl, by decide, rfl, Or.inl w_74, Or.inl rfl⟩
theorem fl_B_24_4 : FL "MovieBoxes$Box" 24 4 4 false := ⟨_, _, _, "MovieBoxes$Box", rfl, by decide, rfl, Or.inl w_74, Or.inl rfl⟩
theorem fl_B_24_5 : FL "MovieBoxes$Box" 24 5 4 false := ⟨_, _, _, "MovieBoxes$Box", rfl, by decide, rfl, Or.inl w_74, Or.inl rfl⟩
theorem fb_B_24 : FB "MovieBoxes$Box" 24 4 .int := fb5 fl_B_24_1 fl_B_24_2 fl_B_24_3 fl_B_24_4 fl_B_24_5 rfl rfl rfl rfl rfl
theorem d_B_end_8 : decode prog_2_method_4_code 8 = .ok (.iadd, 1) := by decide +kernel
theorem d_B_end_9 : decode prog_2_method_4_code 9 = .ok (.ireturn, 1) := by decide +kernel
abbrev q_X_length : Mi := (⟨"MovieBoxes", "length", "()I"⟩, prog_1_method_5_code, 1, (some .int))
theorem d_X_length_0 : decode prog_1_method_5_code 0 = .ok (.aload_n 0, 1) := by decide +kernel
theorem d_X_length_1 : decode prog_1_method_5_code 1 = .ok (.getfield 50, 3) := by decide +kernel
set_option maxRecDepth 20000 in
theorem w_164 : Cond.fieldLink "MovieBoxes" 50 "MovieBoxes" "length" "I" ∈ gt := gt_of (in_t1 (List.mem_of_getElem? (i := 164) rfl)) rfl
theorem fl_X_50_0 : FL "MovieBoxes" 50 0 2 false := ⟨_, _, _, "MovieBoxes", rfl, by decide, rfl, Or.inl w_164, Or.inl rfl⟩
theorem d_X_length_4 : decode prog_1_method_5_code 4 = .ok (.ireturn, 1) := by decide +kernel
abbrev q_X_peek : Mi := (⟨"MovieBoxes", "peek", "(I)I"⟩, prog_1_method_6_code, 2, (some .int))
theorem d_X_peek_0 : decode prog_1_method_6_code 0 = .ok (.iload_n 1, 1) := by decide +kernel
theorem d_X_peek_1 : decode prog_1_method_6_code 1 = .ok (.ifCond .lt 11, 3) := by decide +kernel
theorem d_X_peek_12 : decode prog_1_method_6_code 12 = .ok (.sipush (-1000), 3) := by decide +kernel
theorem d_X_peek_15 : decode prog_1_method_6_code 15 = .ok (.goto 13, 3) := by decide +kernel
theorem d_X_peek_28 : decode prog_1_method_6_code 28 = .ok (.ireturn, 1) := by decide +kernel
theorem d_X_peek_4 : decode prog_1_method_6_code 4 = .ok (.iload_n 1, 1) := by decide +kernel
theorem d_X_peek_5 : decode prog_1_method_6_code 5 = .ok (.aload_n 0, 1) := by decide +kernel
theorem d_X_peek_6 : decode prog_1_method_6_code 6 = .ok (.getfield 50, 3) := by decide +kernel
theorem d_X_peek_9 : decode prog_1_method_6_code 9 = .ok (.if_icmp .lt 9, 3) := by decide +kernel
theorem d_X_peek_18 : decode prog_1_method_6_code 18 = .ok (.aload_n 0, 1) := by decide +kernel
theorem d_X_peek_19 : decode prog_1_method_6_code 19 = .ok (.getfield 7, 3) := by decide +kernel
set_option maxRecDepth 20000 in
theorem w_162 : Cond.fieldLink "MovieBoxes" 7 "MovieBoxes" "file" "[B" ∈ gt := gt_of (in_t1 (List.mem_of_getElem? (i := 162) rfl)) rfl
theorem fl_X_7_0 : FL "MovieBoxes" 7 0 0 true := ⟨_, _, _, "MovieBoxes", rfl, by decide, rfl, Or.inl w_162, Or.inl rfl⟩
theorem d_X_peek_22 : decode prog_1_method_6_code 22 = .ok (.iload_n 1, 1) := by decide +kernel
theorem d_X_peek_23 : decode prog_1_method_6_code 23 = .ok (.baload, 1) := by decide +kernel
theorem d_X_peek_24 : decode prog_1_method_6_code 24 = .ok (.sipush 255, 3) := by decide +kernel
theorem d_X_peek_27 : decode prog_1_method_6_code 27 = .ok (.iand, 1) := by decide +kernel
abbrev q_X_cut : Mi := (⟨"MovieBoxes", "cut", "(I)Z"⟩, prog_1_method_4_code, 2, (some .boolean))
theorem d_X_cut_0 : decode prog_1_method_4_code 0 = .ok (.iload_n 1, 1) := by decide +kernel
theorem d_X_cut_1 : decode prog_1_method_4_code 1 = .ok (.ifCond .lt 11, 3) := by decide +kernel
theorem d_X_cut_12 : decode prog_1_method_4_code 12 = .ok (.iconst 0, 1) := by decide +kernel
theorem d_X_cut_13 : decode prog_1_method_4_code 13 = .ok (.ireturn, 1) := by decide +kernel
theorem d_X_cut_4 : decode prog_1_method_4_code 4 = .ok (.iload_n 1, 1) := by decide +kernel
theorem d_X_cut_5 : decode prog_1_method_4_code 5 = .ok (.aload_n 0, 1) := by decide +kernel
theorem d_X_cut_6 : decode prog_1_method_4_code 6 = .ok (.getfield 50, 3) := by decide +kernel
theorem d_X_cut_9 : decode prog_1_method_4_code 9 = .ok (.if_icmp .le 5, 3) := by decide +kernel
theorem d_X_cut_14 : decode prog_1_method_4_code 14 = .ok (.aload_n 0, 1) := by decide +kernel
theorem d_X_cut_15 : decode prog_1_method_4_code 15 = .ok (.iload_n 1, 1) := by decide +kernel
theorem d_X_cut_16 : decode prog_1_method_4_code 16 = .ok (.putfield 50, 3) := by decide +kernel
theorem d_X_cut_19 : decode prog_1_method_4_code 19 = .ok (.aload_n 0, 1) := by decide +kernel
theorem d_X_cut_20 : decode prog_1_method_4_code 20 = .ok (.iconst 0, 1) := by decide +kernel
theorem d_X_cut_21 : decode prog_1_method_4_code 21 = .ok (.putfield 54, 3) := by decide +kernel
set_option maxRecDepth 20000 in
theorem w_165 : Cond.fieldLink "MovieBoxes" 54 "MovieBoxes" "fresh" "Z" ∈ gt := gt_of (in_t1 (List.mem_of_getElem? (i := 165) rfl)) rfl
theorem fl_X_54_0 : FL "MovieBoxes" 54 0 3 false := ⟨_, _, _, "MovieBoxes", rfl, by decide, rfl, Or.inl w_165, Or.inl rfl⟩
theorem d_X_cut_24 : decode prog_1_method_4_code 24 = .ok (.iconst 1, 1) := by decide +kernel
theorem d_X_cut_25 : decode prog_1_method_4_code 25 = .ok (.ireturn, 1) := by decide +kernel
abbrev q_X_poke : Mi := (⟨"MovieBoxes", "poke", "(II)I"⟩, prog_1_method_3_code, 4, (some .int))
theorem d_X_poke_20 : decode prog_1_method_3_code 20 = .ok (.sipush (-1000), 3) := by decide +kernel
theorem d_X_poke_23 : decode prog_1_method_3_code 23 = .ok (.ireturn, 1) := by decide +kernel
theorem d_X_poke_0 : decode prog_1_method_3_code 0 = .ok (.iload_n 1, 1) := by decide +kernel
theorem d_X_poke_1 : decode prog_1_method_3_code 1 = .ok (.ifCond .lt 19, 3) := by decide +kernel
theorem d_X_poke_4 : decode prog_1_method_3_code 4 = .ok (.iload_n 1, 1) := by decide +kernel
theorem d_X_poke_5 : decode prog_1_method_3_code 5 = .ok (.aload_n 0, 1) := by decide +kernel
theorem d_X_poke_6 : decode prog_1_method_3_code 6 = .ok (.getfield 50, 3) := by decide +kernel
theorem d_X_poke_9 : decode prog_1_method_3_code 9 = .ok (.if_icmp .ge 11, 3) := by decide +kernel
theorem d_X_poke_12 : decode prog_1_method_3_code 12 = .ok (.iload_n 2, 1) := by decide +kernel
theorem d_X_poke_13 : decode prog_1_method_3_code 13 = .ok (.sipush (-256), 3) := by decide +kernel
theorem d_X_poke_16 : decode prog_1_method_3_code 16 = .ok (.iand, 1) := by decide +kernel
theorem d_X_poke_17 : decode prog_1_method_3_code 17 = .ok (.ifCond .eq 7, 3) := by decide +kernel
theorem d_X_poke_24 : decode prog_1_method_3_code 24 = .ok (.aload_n 0, 1) := by decide +kernel
theorem d_X_poke_25 : decode prog_1_method_3_code 25 = .ok (.getfield 7, 3) := by decide +kernel
theorem d_X_poke_28 : decode prog_1_method_3_code 28 = .ok (.iload_n 1, 1) := by decide +kernel
theorem d_X_poke_29 : decode prog_1_method_3_code 29 = .ok (.baload, 1) := by decide +kernel
theorem d_X_poke_30 : decode prog_1_method_3_code 30 = .ok (.sipush 255, 3) := by decide +kernel
theorem d_X_poke_33 : decode prog_1_method_3_code 33 = .ok (.iand, 1) := by decide +kernel
theorem d_X_poke_34 : decode prog_1_method_3_code 34 = .ok (.istore_n 3, 1) := by decide +kernel
theorem d_X_poke_35 : decode prog_1_method_3_code 35 = .ok (.aload_n 0, 1) := by decide +kernel
theorem d_X_poke_36 : decode prog_1_method_3_code 36 = .ok (.getfield 7, 3) := by decide +kernel
theorem d_X_poke_39 : decode prog_1_method_3_code 39 = .ok (.iload_n 1, 1) := by decide +kernel
theorem d_X_poke_40 : decode prog_1_method_3_code 40 = .ok (.iload_n 2, 1) := by decide +kernel
theorem d_X_poke_41 : decode prog_1_method_3_code 41 = .ok (.i2b, 1) := by decide +kernel
theorem d_X_poke_42 : decode prog_1_method_3_code 42 = .ok (.bastore, 1) := by decide +kernel
theorem d_X_poke_43 : decode prog_1_method_3_code 43 = .ok (.aload_n 0, 1) := by decide +kernel
theorem d_X_poke_44 : decode prog_1_method_3_code 44 = .ok (.iconst 0, 1) := by decide +kernel
theorem d_X_poke_45 : decode prog_1_method_3_code 45 = .ok (.putfield 54, 3) := by decide +kernel
theorem d_X_poke_48 : decode prog_1_method_3_code 48 = .ok (.iload_n 3, 1) := by decide +kernel
theorem d_X_poke_49 : decode prog_1_method_3_code 49 = .ok (.ireturn, 1) := by decide +kernel
/-! ===== the component: boxes, bytes ===== -/
section BOX
variable (G : gG) (l : Launch) (y : xP)
theorem c_B_start (z : mS) (k : Int) (hk : -1 ≤ k ∧ k < yn y) (hc : 1 ≤ z 27 k ∧ z 27 k ≤ 5) : Ct G l q_B_start 0 0 0 [.ref (yo y k)] (xW G y z) (fun r w => r = some (vI (z 2 k + z 5 k)) ∧ w = xW G y z) := by
  refine Ct.intro [some (.ref (yo y k))] (by decide) (Nat.le_of_ble_eq_true rfl) rfl (fun sz => ?_)
  refine r_aload_n d_B_start_0 rfl rfl ?_
  refine r_getB d_B_start_1 fb_B_17 (k) hk hc rfl ?_
  refine r_aload_n d_B_start_4 rfl rfl ?_
  refine r_getB d_B_start_5 fb_B_21 (k) hk hc rfl ?_
  refine r_iadd d_B_start_8 ?_
  refine r_iret d_B_start_9 rfl (Nat.le_of_ble_eq_true rfl) (Nat.le_of_ble_eq_true rfl) ?_
  exact ⟨rfl, rfl⟩
theorem c_B_end (z : mS) (k : Int) (hk : -1 ≤ k ∧ k < yn y) (hc : 1 ≤ z 27 k ∧ z 27 k ≤ 5) : Ct G l q_B_end 0 0 0 [.ref (yo y k)] (xW G y z) (fun r w => r = some (vI (z 2 k + z 3 k)) ∧ w = xW G y z) := by
  refine Ct.intro [some (.ref (yo y k))] (by decide) (Nat.le_of_ble_eq_true rfl) rfl (fun sz => ?_)
  refine r_aload_n d_B_end_0 rfl rfl ?_
  refine r_getB d_B_end_1 fb_B_17 (k) hk hc rfl ?_
  refine r_aload_n d_B_end_4 rfl rfl ?_
  refine r_getB d_B_end_5 fb_B_24 (k) hk hc rfl ?_
  refine r_iadd d_B_end_8 ?_
  refine r_iret d_B_end_9 rfl (Nat.le_of_ble_eq_true rfl) (Nat.le_of_ble_eq_true rfl) ?_
  exact ⟨rfl, rfl⟩
theorem c_X_length (z : mS) : Ct G l q_X_length 0 0 0 [.ref (yc y 0)] (xW G y z) (fun r w => r = some (vI (z 0 0)) ∧ w = xW G y z) := by
  refine Ct.intro [some (.ref (yc y 0))] (by decide) (Nat.le_of_ble_eq_true rfl) rfl (fun sz => ?_)
  refine r_aload_n d_X_length_0 rfl rfl ?_
  refine r_get d_X_length_1 fl_X_50_0 0 rfl rfl ?_
  refine r_iret d_X_length_4 rfl (Nat.le_of_ble_eq_true rfl) (Nat.le_of_ble_eq_true rfl) ?_
  exact ⟨rfl, rfl⟩
theorem c_X_peek (z : mS) (p : Int) (hp : i32 p) (hs : 0 ≤ z 0 0 ∧ z 0 0 ≤ 1000) (hb : byOk z) : Ct G l q_X_peek 0 0 0 [.ref (yc y 0), vI p] (xW G y z) (fun r w => r = some (vI (if p < 0 ∨ z 0 0 ≤ p then -1000 else z 1 p)) ∧ w = xW G y z) := by
  refine Ct.intro [some (.ref (yc y 0)), some (vI p)] (by decide) (Nat.le_of_ble_eq_true rfl) rfl (fun sz => ?_)
  refine r_iload_n d_X_peek_0 rfl ?_
  refine r_if_lt 12 d_X_peek_1 (by decide) hp (fun h1 => ?_) (fun h1 => ?_)
  · refine r_sipush d_X_peek_12 (by decide) ?_
    refine r_goto 28 d_X_peek_15 (by decide) ?_
    refine r_iret d_X_peek_28 rfl (Nat.le_of_ble_eq_true rfl) (Nat.le_of_ble_eq_true rfl) ?_
    exact ⟨by rw [if_pos (Or.inl h1)], rfl⟩
  · refine r_iload_n d_X_peek_4 rfl ?_
    refine r_aload_n d_X_peek_5 rfl rfl ?_
    refine r_get d_X_peek_6 fl_X_50_0 0 rfl rfl ?_
    refine r_icmp_lt 18 d_X_peek_9 (by decide) hp (by unfold i32; omega) (fun h2 => ?_) (fun h2 => ?_)
    · refine r_aload_n d_X_peek_18 rfl rfl ?_
      refine r_get d_X_peek_19 fl_X_7_0 0 rfl rfl ?_
      refine r_iload_n d_X_peek_22 rfl ?_
      refine r_bald d_X_peek_23 1 rfl (by omega) ?_
      refine r_sipush d_X_peek_24 (by decide) ?_
      refine r_iand255B d_X_peek_27 (hb p) ?_
      refine r_iret d_X_peek_28 rfl (Nat.le_of_ble_eq_true rfl) (Nat.le_of_ble_eq_true rfl) ?_
      exact ⟨by rw [if_neg (by omega)], rfl⟩
    · refine r_sipush d_X_peek_12 (by decide) ?_
      refine r_goto 28 d_X_peek_15 (by decide) ?_
      refine r_iret d_X_peek_28 rfl (Nat.le_of_ble_eq_true rfl) (Nat.le_of_ble_eq_true rfl) ?_
      exact ⟨by rw [if_pos (by omega)], rfl⟩
theorem c_X_cut (z : mS) (n : Int) (hn : i32 n) (hs : 0 ≤ z 0 0 ∧ z 0 0 ≤ 1000) : Ct G l q_X_cut 0 0 0 [.ref (yc y 0), vI n] (xW G y z) (fun r w => r = some (vI (if n < 0 ∨ z 0 0 < n then 0 else 1)) ∧ w = xW G y (if n < 0 ∨ z 0 0 < n then z else sset (sset z 0 0 n) 0 5 0)) := by
  refine Ct.intro [some (.ref (yc y 0)), some (vI n)] (by decide) (Nat.le_of_ble_eq_true rfl) rfl (fun sz => ?_)
  refine r_iload_n d_X_cut_0 rfl ?_
  refine r_if_lt 12 d_X_cut_1 (by decide) hn (fun h1 => ?_) (fun h1 => ?_)
  · refine r_iconst d_X_cut_12 ?_
    refine r_zret d_X_cut_13 rfl (by first | exact Or.inl rfl | exact Or.inr rfl) (Nat.le_of_ble_eq_true rfl) (Nat.le_of_ble_eq_true rfl) ?_
    exact ⟨by rw [if_pos (by omega)], by rw [if_pos (by omega)]⟩
  · refine r_iload_n d_X_cut_4 rfl ?_
    refine r_aload_n d_X_cut_5 rfl rfl ?_
    refine r_get d_X_cut_6 fl_X_50_0 0 rfl rfl ?_
    refine r_icmp_le 14 d_X_cut_9 (by decide) hn (by unfold i32; omega) (fun h2 => ?_) (fun h2 => ?_)
    · refine r_aload_n d_X_cut_14 rfl rfl ?_
      refine r_iload_n d_X_cut_15 rfl ?_
      refine r_put _ d_X_cut_16 fl_X_50_0 0 rfl rfl rfl (Nat.le_of_ble_eq_true rfl) xwp_length ?_
      refine r_aload_n d_X_cut_19 rfl rfl ?_
      refine r_iconst d_X_cut_20 ?_
      refine r_put _ d_X_cut_21 fl_X_54_0 0 rfl rfl rfl (Nat.le_of_ble_eq_true rfl) xwp_fresh ?_
      refine r_iconst d_X_cut_24 ?_
      refine r_zret d_X_cut_25 rfl (by first | exact Or.inl rfl | exact Or.inr rfl) (Nat.le_of_ble_eq_true rfl) (Nat.le_of_ble_eq_true rfl) ?_
      exact ⟨by rw [if_neg (by omega)], by rw [if_neg (by omega)]⟩
    · refine r_iconst d_X_cut_12 ?_
      refine r_zret d_X_cut_13 rfl (by first | exact Or.inl rfl | exact Or.inr rfl) (Nat.le_of_ble_eq_true rfl) (Nat.le_of_ble_eq_true rfl) ?_
      exact ⟨by rw [if_pos (by omega)], by rw [if_pos (by omega)]⟩
theorem bv_m (b : BitVec 32) : b &&& 0xFFFFFF00#32 = b - (b &&& 0xFF#32) := by
  have e0 : (0xFFFFFF00#32) = ~~~ 0xFF#32 := by decide
  rw [e0]
  have e1 : (b &&& ~~~ 0xFF#32) &&& (b &&& 0xFF#32) = 0#32 := by
    apply BitVec.eq_of_getElem_eq
    intro i hi
    simp only [BitVec.getElem_and, BitVec.getElem_not, BitVec.getElem_zero]
    cases b[i] <;> cases (0xFF#32)[i] <;> rfl
  have e2 : (b &&& ~~~ 0xFF#32) ||| (b &&& 0xFF#32) = b := by
    apply BitVec.eq_of_getElem_eq
    intro i hi
    simp only [BitVec.getElem_and, BitVec.getElem_not, BitVec.getElem_or]
    cases b[i] <;> cases (0xFF#32)[i] <;> rfl
  have e3 := BitVec.add_eq_or_of_and_eq_zero _ _ e1
  rw [e2] at e3
  generalize (b &&& ~~~ 0xFF#32) = p at *
  generalize (b &&& 0xFF#32) = q at *
  rw [← e3, BitVec.add_sub_cancel]
theorem zI_and_m256 {x : Int} (h : i32 x) : zI x &&& zI (-256) = zI (x - x % 256) := by
  have e : x = 256 * (x / 256) + x % 256 := by omega
  have h2 : zI x &&& zI (-256) = zI x - (zI x &&& zI 255) := by
    generalize zI x = a
    show a &&& (-256 : Int32) = a - (a &&& 255)
    apply Int32.toBitVec_inj.mp
    rw [Int32.toBitVec_and, Int32.toBitVec_sub, Int32.toBitVec_and]
    generalize a.toBitVec = b
    show b &&& 0xFFFFFF00#32 = b - (b &&& 0xFF#32)
    exact bv_m b
  rw [h2, zI_and255 h, zI_sub]
theorem c_X_poke (z : mS) (p b : Int) (hp : i32 p) (hb : i32 b) (hs : 0 ≤ z 0 0 ∧ z 0 0 ≤ 1000) (hy : byOk z) : Ct G l q_X_poke 0 0 0 [.ref (yc y 0), vI p, vI b] (xW G y z) (fun r w => r = some (vI (if p < 0 ∨ z 0 0 ≤ p ∨ b < 0 ∨ 255 < b then -1000 else z 1 p)) ∧ w = xW G y (if p < 0 ∨ z 0 0 ≤ p ∨ b < 0 ∨ 255 < b then z else sset (sset z 1 p b) 0 5 0)) := by
  refine Ct.intro [some (.ref (yc y 0)), some (vI p), some (vI b), none] (by decide) (Nat.le_of_ble_eq_true rfl) rfl (fun sz => ?_)
  have bad : (p < 0 ∨ z 0 0 ≤ p ∨ b < 0 ∨ 255 < b) → WP (mth G l q_X_poke 0 0 0 (xW G y z) sz (fun r w => r = some (vI (if p < 0 ∨ z 0 0 ≤ p ∨ b < 0 ∨ 255 < b then -1000 else z 1 p)) ∧ w = xW G y (if p < 0 ∨ z 0 0 ≤ p ∨ b < 0 ∨ 255 < b then z else sset (sset z 1 p b) 0 5 0))) 0 0 (xW G y z) 20 [some (.ref (yc y 0)), some (vI p), some (vI b), none] [] := by
    intro h
    refine r_sipush d_X_poke_20 (by decide) ?_
    refine r_iret d_X_poke_23 rfl (Nat.le_of_ble_eq_true rfl) (Nat.le_of_ble_eq_true rfl) ?_
    exact ⟨by rw [if_pos h], by rw [if_pos h]⟩
  refine r_iload_n d_X_poke_0 rfl ?_
  refine r_if_lt 20 d_X_poke_1 (by decide) hp (fun h1 => ?_) (fun h1 => ?_)
  · exact bad (by omega)
  · refine r_iload_n d_X_poke_4 rfl ?_
    refine r_aload_n d_X_poke_5 rfl rfl ?_
    refine r_get d_X_poke_6 fl_X_50_0 0 rfl rfl ?_
    refine r_icmp_ge 20 d_X_poke_9 (by decide) hp (by unfold i32; omega) (fun h2 => ?_) (fun h2 => ?_)
    · exact bad (by omega)
    · refine r_iload_n d_X_poke_12 rfl ?_
      refine r_sipush d_X_poke_13 (by decide) ?_
      refine r_iandR d_X_poke_16 ?_
      rw [zI_and_m256 hb]
      refine r_if_eq 24 d_X_poke_17 (by decide) (by unfold i32 at hb ⊢; omega) (fun h3 => ?_) (fun h3 => ?_)
      · refine r_aload_n d_X_poke_24 rfl rfl ?_
        refine r_get d_X_poke_25 fl_X_7_0 0 rfl rfl ?_
        refine r_iload_n d_X_poke_28 rfl ?_
        refine r_bald d_X_poke_29 1 rfl (by omega) ?_
        refine r_sipush d_X_poke_30 (by decide) ?_
        refine r_iand255B d_X_poke_33 (hy p) ?_
        refine r_istore_n d_X_poke_34 (Nat.le_of_ble_eq_true rfl) rfl ?_
        show WP _ _ _ _ _ [_, _, _, _] _
        refine r_aload_n d_X_poke_35 rfl rfl ?_
        refine r_get d_X_poke_36 fl_X_7_0 0 rfl rfl ?_
        refine r_iload_n d_X_poke_39 rfl ?_
        refine r_iload_n d_X_poke_40 rfl ?_
        refine r_i2b d_X_poke_41 ?_
        refine r_bast _ d_X_poke_42 1 rfl (by omega) xw_1 ?_
        rw [show b % 256 = b by omega]
        refine r_aload_n d_X_poke_43 rfl rfl ?_
        refine r_iconst d_X_poke_44 ?_
        refine r_put _ d_X_poke_45 fl_X_54_0 0 rfl rfl rfl (Nat.le_of_ble_eq_true rfl) xwp_fresh ?_
        refine r_iload_n d_X_poke_48 rfl ?_
        refine r_iret d_X_poke_49 rfl (Nat.le_of_ble_eq_true rfl) (Nat.le_of_ble_eq_true rfl) ?_
        exact ⟨by rw [if_neg (by omega)], by rw [if_neg (by omega)]⟩
      · exact bad (by omega)
end BOX
