abbrev q_P_wide : Mi := (⟨"MovieBoxes$PlaceTable", "wide", "()Z"⟩, prog_6_method_4_code, 1, (some .boolean))
theorem d_P_wide_0 : decode prog_6_method_4_code 0 = .ok (.aload_n 0, 1) := by decide +kernel
theorem d_P_wide_1 : decode prog_6_method_4_code 1 = .ok (.getfield 11, 3) := by decide +kernel
theorem d_P_wide_4 : decode prog_6_method_4_code 4 = .ok (.ifCond .ne 13, 3) := by decide +kernel
theorem d_P_wide_17 : decode prog_6_method_4_code 17 = .ok (.iconst 1, 1) := by decide +kernel
theorem d_P_wide_18 : decode prog_6_method_4_code 18 = .ok (.goto 4, 3) := by decide +kernel
theorem d_P_wide_22 : decode prog_6_method_4_code 22 = .ok (.ireturn, 1) := by decide +kernel
theorem d_P_wide_7 : decode prog_6_method_4_code 7 = .ok (.aload_n 0, 1) := by decide +kernel
theorem d_P_wide_8 : decode prog_6_method_4_code 8 = .ok (.getfield 21, 3) := by decide +kernel
theorem d_P_wide_11 : decode prog_6_method_4_code 11 = .ok (.getstatic 31, 3) := by decide +kernel
theorem d_P_wide_14 : decode prog_6_method_4_code 14 = .ok (.if_acmp .ne 7, 3) := by decide +kernel
theorem d_P_wide_21 : decode prog_6_method_4_code 21 = .ok (.iconst 0, 1) := by decide +kernel
abbrev q_T_sound : Mi := (⟨"MovieBoxes$Table", "sound", "([B)Z"⟩, prog_8_method_2_code, 7, (some .boolean))
theorem d_T_sound_23 : decode prog_8_method_2_code 23 = .ok (.baload, 1) := by decide +kernel
theorem d_T_sound_24 : decode prog_8_method_2_code 24 = .ok (.sipush 255, 3) := by decide +kernel
theorem d_T_sound_27 : decode prog_8_method_2_code 27 = .ok (.iand, 1) := by decide +kernel
theorem d_T_sound_28 : decode prog_8_method_2_code 28 = .ok (.putfield 20, 3) := by decide +kernel
theorem d_T_sound_31 : decode prog_8_method_2_code 31 = .ok (.iload_n 2, 1) := by decide +kernel
theorem d_T_sound_32 : decode prog_8_method_2_code 32 = .ok (.iconst 1, 1) := by decide +kernel
theorem d_T_sound_33 : decode prog_8_method_2_code 33 = .ok (.aload_n 0, 1) := by decide +kernel
theorem d_T_sound_34 : decode prog_8_method_2_code 34 = .ok (.getfield 20, 3) := by decide +kernel
theorem d_T_sound_37 : decode prog_8_method_2_code 37 = .ok (.aload_n 0, 1) := by decide +kernel
theorem d_T_sound_38 : decode prog_8_method_2_code 38 = .ok (.getfield 23, 3) := by decide +kernel
theorem d_T_sound_41 : decode prog_8_method_2_code 41 = .ok (.getfield 27, 3) := by decide +kernel
theorem d_T_sound_44 : decode prog_8_method_2_code 44 = .ok (.imul, 1) := by decide +kernel
theorem d_T_sound_45 : decode prog_8_method_2_code 45 = .ok (.iadd, 1) := by decide +kernel
theorem d_T_sound_46 : decode prog_8_method_2_code 46 = .ok (.if_icmp .eq 5, 3) := by decide +kernel
theorem d_T_sound_156 : decode prog_8_method_2_code 156 = .ok (.iconst 1, 1) := by decide +kernel
theorem d_T_sound_157 : decode prog_8_method_2_code 157 = .ok (.ireturn, 1) := by decide +kernel
theorem d_T_sound_145 : decode prog_8_method_2_code 145 = .ok (.iconst 0, 1) := by decide +kernel
theorem d_T_sound_146 : decode prog_8_method_2_code 146 = .ok (.ireturn, 1) := by decide +kernel
theorem d_T_sound_56 : decode prog_8_method_2_code 56 = .ok (.iload 4, 2) := by decide +kernel
theorem d_T_sound_58 : decode prog_8_method_2_code 58 = .ok (.aload_n 0, 1) := by decide +kernel
theorem d_T_sound_59 : decode prog_8_method_2_code 59 = .ok (.getfield 20, 3) := by decide +kernel
theorem d_T_sound_62 : decode prog_8_method_2_code 62 = .ok (.if_icmp .ge 94, 3) := by decide +kernel
theorem d_T_sound_147 : decode prog_8_method_2_code 147 = .ok (.iload 5, 2) := by decide +kernel
theorem d_T_sound_149 : decode prog_8_method_2_code 149 = .ok (.istore_n 3, 1) := by decide +kernel
theorem d_T_sound_150 : decode prog_8_method_2_code 150 = .ok (.iinc 4 1, 3) := by decide +kernel
theorem d_T_sound_153 : decode prog_8_method_2_code 153 = .ok (.goto (-97), 3) := by decide +kernel
theorem d_T_sound_85 : decode prog_8_method_2_code 85 = .ok (.aload_n 0, 1) := by decide +kernel
theorem d_T_sound_86 : decode prog_8_method_2_code 86 = .ok (.aload_n 1, 1) := by decide +kernel
theorem d_T_sound_87 : decode prog_8_method_2_code 87 = .ok (.iload 4, 2) := by decide +kernel
theorem d_T_sound_89 : decode prog_8_method_2_code 89 = .ok (.iconst 0, 1) := by decide +kernel
theorem d_T_sound_90 : decode prog_8_method_2_code 90 = .ok (.invokevirtual 38, 3) := by decide +kernel
theorem d_T_sound_93 : decode prog_8_method_2_code 93 = .ok (.istore 5, 2) := by decide +kernel
theorem d_T_sound_95 : decode prog_8_method_2_code 95 = .ok (.aload_n 0, 1) := by decide +kernel
theorem d_T_sound_96 : decode prog_8_method_2_code 96 = .ok (.getfield 23, 3) := by decide +kernel
theorem d_T_sound_99 : decode prog_8_method_2_code 99 = .ok (.getstatic 32, 3) := by decide +kernel
set_option maxRecDepth 20000 in
theorem w_510 : Cond.fieldLink "MovieBoxes$Table" 32 "MovieBoxes$Kind" "CHUNKS" "LMovieBoxes$Kind;" ∈ gt := gt_of (in_t3 (List.mem_of_getElem? (i := 30) rfl)) rfl
theorem d_T_sound_102 : decode prog_8_method_2_code 102 = .ok (.if_acmp .ne 7, 3) := by decide +kernel
theorem d_T_sound_109 : decode prog_8_method_2_code 109 = .ok (.iconst 0, 1) := by decide +kernel
theorem d_T_sound_110 : decode prog_8_method_2_code 110 = .ok (.istore 6, 2) := by decide +kernel
theorem d_T_sound_112 : decode prog_8_method_2_code 112 = .ok (.iload 5, 2) := by decide +kernel
theorem d_T_sound_114 : decode prog_8_method_2_code 114 = .ok (.iload_n 3, 1) := by decide +kernel
theorem d_T_sound_115 : decode prog_8_method_2_code 115 = .ok (.if_icmp .le 30, 3) := by decide +kernel
theorem d_T_sound_118 : decode prog_8_method_2_code 118 = .ok (.iload 6, 2) := by decide +kernel
theorem d_T_sound_120 : decode prog_8_method_2_code 120 = .ok (.ifCond .eq 27, 3) := by decide +kernel
theorem d_T_sound_134 : decode prog_8_method_2_code 134 = .ok (.aload_n 0, 1) := by decide +kernel
theorem d_T_sound_135 : decode prog_8_method_2_code 135 = .ok (.aload_n 1, 1) := by decide +kernel
theorem d_T_sound_136 : decode prog_8_method_2_code 136 = .ok (.iload 4, 2) := by decide +kernel
theorem d_T_sound_138 : decode prog_8_method_2_code 138 = .ok (.iconst 1, 1) := by decide +kernel
theorem d_T_sound_139 : decode prog_8_method_2_code 139 = .ok (.invokevirtual 38, 3) := by decide +kernel
theorem d_T_sound_142 : decode prog_8_method_2_code 142 = .ok (.ifCond .ne 5, 3) := by decide +kernel
theorem d_T_sound_105 : decode prog_8_method_2_code 105 = .ok (.iconst 1, 1) := by decide +kernel
theorem d_T_sound_106 : decode prog_8_method_2_code 106 = .ok (.goto 4, 3) := by decide +kernel
theorem d_T_sound_123 : decode prog_8_method_2_code 123 = .ok (.iload 4, 2) := by decide +kernel
theorem d_T_sound_125 : decode prog_8_method_2_code 125 = .ok (.ifCond .ne 9, 3) := by decide +kernel
theorem d_T_sound_128 : decode prog_8_method_2_code 128 = .ok (.iload 5, 2) := by decide +kernel
theorem d_T_sound_130 : decode prog_8_method_2_code 130 = .ok (.iconst 1, 1) := by decide +kernel
theorem d_T_sound_131 : decode prog_8_method_2_code 131 = .ok (.if_icmp .ne 14, 3) := by decide +kernel
theorem d_T_sound_65 : decode prog_8_method_2_code 65 = .ok (.aload_n 0, 1) := by decide +kernel
theorem d_T_sound_66 : decode prog_8_method_2_code 66 = .ok (.getfield 23, 3) := by decide +kernel
theorem d_T_sound_69 : decode prog_8_method_2_code 69 = .ok (.getstatic 32, 3) := by decide +kernel
theorem d_T_sound_72 : decode prog_8_method_2_code 72 = .ok (.if_acmp .eq 13, 3) := by decide +kernel
theorem d_T_sound_75 : decode prog_8_method_2_code 75 = .ok (.aload_n 0, 1) := by decide +kernel
theorem d_T_sound_76 : decode prog_8_method_2_code 76 = .ok (.getfield 23, 3) := by decide +kernel
theorem d_T_sound_79 : decode prog_8_method_2_code 79 = .ok (.getstatic 35, 3) := by decide +kernel
set_option maxRecDepth 20000 in
theorem w_511 : Cond.fieldLink "MovieBoxes$Table" 35 "MovieBoxes$Kind" "SYNCS" "LMovieBoxes$Kind;" ∈ gt := gt_of (in_t3 (List.mem_of_getElem? (i := 31) rfl)) rfl
theorem d_T_sound_82 : decode prog_8_method_2_code 82 = .ok (.if_acmp .ne 74, 3) := by decide +kernel
theorem d_T_sound_51 : decode prog_8_method_2_code 51 = .ok (.iconst 0, 1) := by decide +kernel
theorem d_T_sound_52 : decode prog_8_method_2_code 52 = .ok (.istore_n 3, 1) := by decide +kernel
theorem d_T_sound_53 : decode prog_8_method_2_code 53 = .ok (.iconst 0, 1) := by decide +kernel
theorem d_T_sound_54 : decode prog_8_method_2_code 54 = .ok (.istore 4, 2) := by decide +kernel
theorem d_T_sound_49 : decode prog_8_method_2_code 49 = .ok (.iconst 0, 1) := by decide +kernel
theorem d_T_sound_50 : decode prog_8_method_2_code 50 = .ok (.ireturn, 1) := by decide +kernel
theorem d_T_sound_0 : decode prog_8_method_2_code 0 = .ok (.aload_n 0, 1) := by decide +kernel
theorem d_T_sound_1 : decode prog_8_method_2_code 1 = .ok (.getfield 7, 3) := by decide +kernel
set_option maxRecDepth 20000 in
theorem w_68 : Cond.fieldLink "MovieBoxes$Table" 7 "MovieBoxes$Table" "size" "I" ∈ gt := gt_of (in_t1 (List.mem_of_getElem? (i := 68) rfl)) rfl
set_option maxRecDepth 20000 in
theorem w_69 : Cond.sameField "MovieBoxes$Table" "MovieBoxes$Box" "size" "I" ∈ gt := gt_of (in_t1 (List.mem_of_getElem? (i := 69) rfl)) rfl
theorem fl_T_7_1 : FL "MovieBoxes$Table" 7 1 4 false := ⟨_, _, _, "MovieBoxes$Table", rfl, by decide, rfl, Or.inl w_68, Or.inr w_69⟩
theorem fl_T_7_2 : FL "MovieBoxes$Table" 7 2 4 false := ⟨_, _, _, "MovieBoxes$Table", rfl, by decide, rfl, Or.inl w_68, Or.inr w_69⟩
theorem fl_T_7_3 : FL "MovieBoxes$Table" 7 3 4 false := ⟨_, _, _, "MovieBoxes$Table", rfl, by decide, rfl, Or.inl w_68, Or.inr w_69⟩
theorem fl_T_7_4 : FL "MovieBoxes$Table" 7 4 4 false := ⟨_, _, _, "MovieBoxes$Table", rfl, by decide, rfl, Or.inl w_68, Or.inr w_69⟩
theorem fl_T_7_5 : FL "MovieBoxes$Table" 7 5 4 false := ⟨_, _, _, "MovieBoxes$Table", rfl, by decide, rfl, Or.inl w_68, Or.inr w_69⟩
theorem fb_T_7 : FB "MovieBoxes$Table" 7 4 .int := fb5 fl_T_7_1 fl_T_7_2 fl_T_7_3 fl_T_7_4 fl_T_7_5 rfl rfl rfl rfl rfl
theorem d_T_sound_4 : decode prog_8_method_2_code 4 = .ok (.aload_n 0, 1) := by decide +kernel
theorem d_T_sound_5 : decode prog_8_method_2_code 5 = .ok (.getfield 13, 3) := by decide +kernel
set_option maxRecDepth 20000 in
theorem w_60 : Cond.fieldLink "MovieBoxes$Table" 13 "MovieBoxes$Table" "header" "I" ∈ gt := gt_of (in_t1 (List.mem_of_getElem? (i := 60) rfl)) rfl
set_option maxRecDepth 20000 in
theorem w_61 : Cond.sameField "MovieBoxes$Table" "MovieBoxes$Box" "header" "I" ∈ gt := gt_of (in_t1 (List.mem_of_getElem? (i := 61) rfl)) rfl
theorem fl_T_13_1 : FL "MovieBoxes$Table" 13 1 3 false := ⟨_, _, _, "MovieBoxes$Table", rfl, by decide, rfl, Or.inl w_60, Or.inr w_61⟩
theorem fl_T_13_2 : FL "MovieBoxes$Table" 13 2 3 false := ⟨_, _, _, "MovieBoxes$Table", rfl, by decide, rfl, Or.inl w_60, Or.inr w_61⟩
theorem fl_T_13_3 : FL "MovieBoxes$Table" 13 3 3 false := ⟨_, _, _, "MovieBoxes$Table", rfl, by decide, rfl, Or.inl w_60, Or.inr w_61⟩
theorem fl_T_13_4 : FL "MovieBoxes$Table" 13 4 3 false := ⟨_, _, _, "MovieBoxes$Table", rfl, by decide, rfl, Or.inl w_60, Or.inr w_61⟩
theorem fl_T_13_5 : FL "MovieBoxes$Table" 13 5 3 false := ⟨_, _, _, "MovieBoxes$Table", rfl, by decide, rfl, Or.inl w_60, Or.inr w_61⟩
theorem fb_T_13 : FB "MovieBoxes$Table" 13 3 .int := fb5 fl_T_13_1 fl_T_13_2 fl_T_13_3 fl_T_13_4 fl_T_13_5 rfl rfl rfl rfl rfl
theorem d_T_sound_8 : decode prog_8_method_2_code 8 = .ok (.isub, 1) := by decide +kernel
theorem d_T_sound_9 : decode prog_8_method_2_code 9 = .ok (.istore_n 2, 1) := by decide +kernel
theorem d_T_sound_10 : decode prog_8_method_2_code 10 = .ok (.iload_n 2, 1) := by decide +kernel
theorem d_T_sound_11 : decode prog_8_method_2_code 11 = .ok (.iconst 1, 1) := by decide +kernel
theorem d_T_sound_12 : decode prog_8_method_2_code 12 = .ok (.if_icmp .ge 5, 3) := by decide +kernel
theorem d_T_sound_17 : decode prog_8_method_2_code 17 = .ok (.aload_n 0, 1) := by decide +kernel
theorem d_T_sound_18 : decode prog_8_method_2_code 18 = .ok (.aload_n 1, 1) := by decide +kernel
theorem d_T_sound_19 : decode prog_8_method_2_code 19 = .ok (.aload_n 0, 1) := by decide +kernel
theorem d_T_sound_20 : decode prog_8_method_2_code 20 = .ok (.invokevirtual 16, 3) := by decide +kernel
set_option maxRecDepth 20000 in
theorem w_507 : Cond.selects "MovieBoxes$PlaceTable" ⟨"MovieBoxes$Table", "start", "()I"⟩ ⟨"MovieBoxes$Box", "start", "()I"⟩ ∈ gt := gt_of (in_t3 (List.mem_of_getElem? (i := 27) rfl)) rfl
theorem lu_T_16_P : LkU "MovieBoxes$Table" 16 "MovieBoxes$PlaceTable" "MovieBoxes$Box" ⟨"MovieBoxes$Table", "start", "()I"⟩ q_B_start 0 := ⟨(List.forall_mem_cons.mpr ⟨w_505, (List.forall_mem_cons.mpr ⟨w_506, (List.forall_mem_cons.mpr ⟨w_507, (List.forall_mem_cons.mpr ⟨w_250, (List.forall_mem_cons.mpr ⟨w_2, (fun _ h => absurd h List.not_mem_nil)⟩)⟩)⟩)⟩)⟩), w_251, Or.inl nw_248, by decide +kernel⟩
theorem d_T_sound_15 : decode prog_8_method_2_code 15 = .ok (.iconst 0, 1) := by decide +kernel
theorem d_T_sound_16 : decode prog_8_method_2_code 16 = .ok (.ireturn, 1) := by decide +kernel
abbrev q_S_sound : Mi := (⟨"MovieBoxes$SizeTable", "sound", "([B)Z"⟩, prog_7_method_2_code, 3, (some .boolean))
theorem d_S_sound_0 : decode prog_7_method_2_code 0 = .ok (.aload_n 0, 1) := by decide +kernel
theorem d_S_sound_1 : decode prog_7_method_2_code 1 = .ok (.getfield 7, 3) := by decide +kernel
set_option maxRecDepth 20000 in
theorem w_70 : Cond.fieldLink "MovieBoxes$SizeTable" 7 "MovieBoxes$SizeTable" "size" "I" ∈ gt := gt_of (in_t1 (List.mem_of_getElem? (i := 70) rfl)) rfl
set_option maxRecDepth 20000 in
theorem w_71 : Cond.sameField "MovieBoxes$SizeTable" "MovieBoxes$Box" "size" "I" ∈ gt := gt_of (in_t1 (List.mem_of_getElem? (i := 71) rfl)) rfl
theorem fl_S_7_1 : FL "MovieBoxes$SizeTable" 7 1 4 false := ⟨_, _, _, "MovieBoxes$SizeTable", rfl, by decide, rfl, Or.inl w_70, Or.inr w_71⟩
theorem fl_S_7_2 : FL "MovieBoxes$SizeTable" 7 2 4 false := ⟨_, _, _, "MovieBoxes$SizeTable", rfl, by decide, rfl, Or.inl w_70, Or.inr w_71⟩
theorem fl_S_7_3 : FL "MovieBoxes$SizeTable" 7 3 4 false := ⟨_, _, _, "MovieBoxes$SizeTable", rfl, by decide, rfl, Or.inl w_70, Or.inr w_71⟩
theorem fl_S_7_4 : FL "MovieBoxes$SizeTable" 7 4 4 false := ⟨_, _, _, "MovieBoxes$SizeTable", rfl, by decide, rfl, Or.inl w_70, Or.inr w_71⟩
theorem fl_S_7_5 : FL "MovieBoxes$SizeTable" 7 5 4 false := ⟨_, _, _, "MovieBoxes$SizeTable", rfl, by decide, rfl, Or.inl w_70, Or.inr w_71⟩
theorem fb_S_7 : FB "MovieBoxes$SizeTable" 7 4 .int := fb5 fl_S_7_1 fl_S_7_2 fl_S_7_3 fl_S_7_4 fl_S_7_5 rfl rfl rfl rfl rfl
theorem d_S_sound_4 : decode prog_7_method_2_code 4 = .ok (.aload_n 0, 1) := by decide +kernel
theorem d_S_sound_5 : decode prog_7_method_2_code 5 = .ok (.getfield 13, 3) := by decide +kernel
set_option maxRecDepth 20000 in
theorem w_62 : Cond.fieldLink "MovieBoxes$SizeTable" 13 "MovieBoxes$SizeTable" "header" "I" ∈ gt := gt_of (in_t1 (List.mem_of_getElem? (i := 62) rfl)) rfl
set_option maxRecDepth 20000 in
theorem w_63 : Cond.sameField "MovieBoxes$SizeTable" "MovieBoxes$Box" "header" "I" ∈ gt := gt_of (in_t1 (List.mem_of_getElem? (i := 63) rfl)) rfl
theorem fl_S_13_1 : FL "MovieBoxes$SizeTable" 13 1 3 false := ⟨_, _, _, "MovieBoxes$SizeTable", rfl, by decide, rfl, Or.inl w_62, Or.inr w_63⟩
theorem fl_S_13_2 : FL "MovieBoxes$SizeTable" 13 2 3 false := ⟨_, _, _, "MovieBoxes$SizeTable", rfl, by decide, rfl, Or.inl w_62, Or.inr w_63⟩
theorem fl_S_13_3 : FL "MovieBoxes$SizeTable" 13 3 3 false := ⟨_, _, _, "MovieBoxes$SizeTable", rfl, by decide, rfl, Or.inl w_62, Or.inr w_63⟩
theorem fl_S_13_4 : FL "MovieBoxes$SizeTable" 13 4 3 false := ⟨_, _, _, "MovieBoxes$SizeTable", rfl, by decide, rfl, Or.inl w_62, Or.inr w_63⟩
theorem fl_S_13_5 : FL "MovieBoxes$SizeTable" 13 5 3 false := ⟨_, _, _, "MovieBoxes$SizeTable", rfl, by decide, rfl, Or.inl w_62, Or.inr w_63⟩
theorem fb_S_13 : FB "MovieBoxes$SizeTable" 13 3 .int := fb5 fl_S_13_1 fl_S_13_2 fl_S_13_3 fl_S_13_4 fl_S_13_5 rfl rfl rfl rfl rfl
theorem d_S_sound_8 : decode prog_7_method_2_code 8 = .ok (.isub, 1) := by decide +kernel
theorem d_S_sound_9 : decode prog_7_method_2_code 9 = .ok (.istore_n 2, 1) := by decide +kernel
theorem d_S_sound_10 : decode prog_7_method_2_code 10 = .ok (.iload_n 2, 1) := by decide +kernel
theorem d_S_sound_11 : decode prog_7_method_2_code 11 = .ok (.iconst 2, 1) := by decide +kernel
theorem d_S_sound_12 : decode prog_7_method_2_code 12 = .ok (.if_icmp .ge 5, 3) := by decide +kernel
theorem d_S_sound_17 : decode prog_7_method_2_code 17 = .ok (.aload_n 0, 1) := by decide +kernel
theorem d_S_sound_18 : decode prog_7_method_2_code 18 = .ok (.aload_n 1, 1) := by decide +kernel
theorem d_S_sound_19 : decode prog_7_method_2_code 19 = .ok (.aload_n 0, 1) := by decide +kernel
theorem d_S_sound_20 : decode prog_7_method_2_code 20 = .ok (.invokevirtual 16, 3) := by decide +kernel
theorem d_S_sound_23 : decode prog_7_method_2_code 23 = .ok (.iconst 1, 1) := by decide +kernel
theorem d_S_sound_24 : decode prog_7_method_2_code 24 = .ok (.iadd, 1) := by decide +kernel
theorem d_S_sound_25 : decode prog_7_method_2_code 25 = .ok (.baload, 1) := by decide +kernel
theorem d_S_sound_26 : decode prog_7_method_2_code 26 = .ok (.sipush 255, 3) := by decide +kernel
theorem d_S_sound_29 : decode prog_7_method_2_code 29 = .ok (.iand, 1) := by decide +kernel
theorem d_S_sound_30 : decode prog_7_method_2_code 30 = .ok (.putfield 20, 3) := by decide +kernel
set_option maxRecDepth 20000 in
theorem w_324 : Cond.fieldLink "MovieBoxes$SizeTable" 20 "MovieBoxes$SizeTable" "rows" "I" ∈ gt := gt_of (in_t2 (List.mem_of_getElem? (i := 84) rfl)) rfl
set_option maxRecDepth 20000 in
theorem w_325 : Cond.sameField "MovieBoxes$SizeTable" "MovieBoxes$Table" "rows" "I" ∈ gt := gt_of (in_t2 (List.mem_of_getElem? (i := 85) rfl)) rfl
theorem fl_S_20_3 : FL "MovieBoxes$SizeTable" 20 3 11 false := ⟨_, _, _, "MovieBoxes$SizeTable", rfl, by decide, rfl, Or.inl w_324, Or.inr w_325⟩
theorem fl_S_20_4 : FL "MovieBoxes$SizeTable" 20 4 11 false := ⟨_, _, _, "MovieBoxes$SizeTable", rfl, by decide, rfl, Or.inl w_324, Or.inr w_325⟩
theorem fl_S_20_5 : FL "MovieBoxes$SizeTable" 20 5 11 false := ⟨_, _, _, "MovieBoxes$SizeTable", rfl, by decide, rfl, Or.inl w_324, Or.inr w_325⟩
theorem ft_S_20 : FT "MovieBoxes$SizeTable" 20 := ft3 fl_S_20_3 fl_S_20_4 fl_S_20_5
theorem d_S_sound_53 : decode prog_7_method_2_code 53 = .ok (.if_icmp .ne 7, 3) := by decide +kernel
theorem d_S_sound_60 : decode prog_7_method_2_code 60 = .ok (.iconst 0, 1) := by decide +kernel
theorem d_S_sound_61 : decode prog_7_method_2_code 61 = .ok (.ireturn, 1) := by decide +kernel
theorem d_S_sound_56 : decode prog_7_method_2_code 56 = .ok (.iconst 1, 1) := by decide +kernel
theorem d_S_sound_57 : decode prog_7_method_2_code 57 = .ok (.goto 4, 3) := by decide +kernel
theorem d_S_sound_33 : decode prog_7_method_2_code 33 = .ok (.iload_n 2, 1) := by decide +kernel
theorem d_S_sound_34 : decode prog_7_method_2_code 34 = .ok (.aload_n 1, 1) := by decide +kernel
theorem d_S_sound_35 : decode prog_7_method_2_code 35 = .ok (.aload_n 0, 1) := by decide +kernel
theorem d_S_sound_36 : decode prog_7_method_2_code 36 = .ok (.invokevirtual 16, 3) := by decide +kernel
theorem d_S_sound_39 : decode prog_7_method_2_code 39 = .ok (.baload, 1) := by decide +kernel
theorem d_S_sound_40 : decode prog_7_method_2_code 40 = .ok (.ifCond .ne 12, 3) := by decide +kernel
theorem d_S_sound_52 : decode prog_7_method_2_code 52 = .ok (.iconst 2, 1) := by decide +kernel
theorem d_S_sound_43 : decode prog_7_method_2_code 43 = .ok (.iconst 2, 1) := by decide +kernel
theorem d_S_sound_44 : decode prog_7_method_2_code 44 = .ok (.aload_n 0, 1) := by decide +kernel
theorem d_S_sound_45 : decode prog_7_method_2_code 45 = .ok (.getfield 20, 3) := by decide +kernel
theorem d_S_sound_48 : decode prog_7_method_2_code 48 = .ok (.iadd, 1) := by decide +kernel
theorem d_S_sound_49 : decode prog_7_method_2_code 49 = .ok (.goto 4, 3) := by decide +kernel
theorem d_S_sound_15 : decode prog_7_method_2_code 15 = .ok (.iconst 0, 1) := by decide +kernel
theorem d_S_sound_16 : decode prog_7_method_2_code 16 = .ok (.ireturn, 1) := by decide +kernel
/-! ===== the component: wide, sound ===== -/
theorem sset_self (z : mS) (c : Nat) (i : Int) : sset z c i (z c i) = z := by
  funext c' j
  rw [sset_at]
  split
  · rename_i h; subst h
    rw [updI_at]
    split
    · rename_i h; rw [h]
    · rfl
  · rfl
theorem pv_17 (z : mS) (k x : Int) : pv (sset z 17 k x) = pv z := rfl
section XSOUND
variable (G : gG) (l : Launch) (y : xP)
theorem c_P_wide (z : mS) (k : Int) (hk : -1 ≤ k ∧ k < yn y) (h4 : z 27 k = 4) (ho : 0 ≤ z 26 k ∧ z 26 k < 12) (hg : z 18 k = 0 ∨ z 18 k = 1) : Ct G l q_P_wide 0 0 0 [.ref (yo y k)] (xW G y z) (fun r w => r = some (vI (if z 18 k = 1 ∨ z 26 k = 8 then 1 else 0)) ∧ w = xW G y z) := by
  have hc : 1 ≤ z 27 k ∧ z 27 k ≤ 5 := by omega
  refine Ct.intro [some (.ref (yo y k))] (by decide) (Nat.le_of_ble_eq_true rfl) rfl (fun sz => ?_)
  generalize hQ : (fun r w => r = some (vI (if z 18 k = 1 ∨ z 26 k = 8 then 1 else 0)) ∧ w = xW G y z) = Q
  refine r_aload_n d_P_wide_0 rfl rfl ?_
  refine r_getX d_P_wide_1 fl_P_11_4 (k) hk h4 rfl ?_
  refine r_if_ne 17 d_P_wide_4 (by decide) (by unfold i32; omega) (fun h1 => ?_) (fun h1 => ?_)
  · refine r_iconst d_P_wide_17 ?_
    refine r_goto 22 d_P_wide_18 (by decide) ?_
    refine r_zret d_P_wide_22 rfl (by first | exact Or.inl rfl | exact Or.inr rfl) (Nat.le_of_ble_eq_true rfl) (Nat.le_of_ble_eq_true rfl) ?_
    rw [← hQ]; exact ⟨by rw [if_pos (by omega)], rfl⟩
  · refine r_aload_n d_P_wide_7 rfl rfl ?_
    refine r_getB d_P_wide_8 fb_P_21 (k) hk hc rfl ?_
    refine r_getsK (i := 8) d_P_wide_11 (by decide) w_522 ?_
    refine r_akNe 21 d_P_wide_14 (by decide) ho (by decide) (fun h2 => ?_) (fun h2 => ?_)
    · have h2 : ¬ z 26 k = 8 := h2
      refine r_iconst d_P_wide_21 ?_
      refine r_zret d_P_wide_22 rfl (by first | exact Or.inl rfl | exact Or.inr rfl) (Nat.le_of_ble_eq_true rfl) (Nat.le_of_ble_eq_true rfl) ?_
      rw [← hQ]; exact ⟨by rw [if_neg (by omega)], rfl⟩
    · have h2 : z 26 k = 8 := h2
      refine r_iconst d_P_wide_17 ?_
      refine r_goto 22 d_P_wide_18 (by decide) ?_
      refine r_zret d_P_wide_22 rfl (by first | exact Or.inl rfl | exact Or.inr rfl) (Nat.le_of_ble_eq_true rfl) (Nat.le_of_ble_eq_true rfl) ?_
      rw [← hQ]; exact ⟨by rw [if_pos (by omega)], rfl⟩
set_option maxRecDepth 8000 in
set_option maxHeartbeats 8000000 in
theorem c_T_sound (z : mS) (k : Int) (hk : -1 ≤ k ∧ k < yn y) (h27 : z 27 k = 3 ∨ z 27 k = 4) (ho : 3 ≤ z 26 k ∧ z 26 k ≤ 10 ∧ z 26 k ≠ 6) (hcl : z 26 k ≠ 7 → z 26 k ≠ 8 → z 27 k = 3) (hb : byOk z) (hx : 0 ≤ z 2 k ∧ 0 ≤ z 5 k ∧ z 5 k ≤ z 3 k ∧ z 2 k + z 3 k ≤ 1000) : Ct G l q_T_sound 2 0 0 [.ref (yo y k), .ref (yc y 1)] (xW G y z) (fun r w => ∃ x, r = some (vI (b2 (¬ rowsBad z k (z 26 k - 3)))) ∧ w = xW G y (sset z 17 k x) ∧ (¬ rowsBad z k (z 26 k - 3) → x = pv z k 0)) := by
  have hc : 1 ≤ z 27 k ∧ z 27 k ≤ 5 := by omega
  have hwd : wdO (z 26 k) = kW (z 26 k - 3) := by
    rcases (by omega : z 26 k = 3 ∨ z 26 k = 4 ∨ z 26 k = 5 ∨ z 26 k = 7 ∨ z 26 k = 8 ∨ z 26 k = 9 ∨ z 26 k = 10) with h | h | h | h | h | h | h <;> rw [h] <;> rfl
  have hW5 : z 26 k = 5 → kW (z 26 k - 3) = 3 := fun h => by rw [h]; rfl
  have hW9 : z 26 k = 9 → kW (z 26 k - 3) = 1 := fun h => by rw [h]; rfl
  have hWb : 1 ≤ kW (z 26 k - 3) ∧ kW (z 26 k - 3) ≤ 3 := by unfold kW; split; omega; split <;> omega
  have hrb : rowsBad z k (z 26 k - 3) ↔ (z 3 k - z 5 k < 1 ∨ ¬ z 3 k - z 5 k = 1 + kW (z 26 k - 3) * pv z k 0 ∨ exB (fun r => (z 26 k - 3 = 2 ∧ badC z k r) ∨ (z 26 k - 3 = 6 ∧ badS z k r)) (pv z k 0).toNat) := by
    unfold rowsBad
    constructor
    · rintro (h | h)
      · omega
      · exact h.2
    · exact fun h => Or.inr ⟨by omega, h⟩
  generalize hWd : kW (z 26 k - 3) = W at hwd hW5 hW9 hWb hrb
  have e0 : pv z k 0 = z 1 (z 2 k + z 5 k) := by unfold pv; rw [show z 2 k + z 5 k + 0 = z 2 k + z 5 k by omega]
  have hp := hb (z 2 k + z 5 k)
  rw [← e0] at hp
  have hP : 0 ≤ pv z k 0 * W ∧ pv z k 0 * W ≤ 765 := by
    rcases (by omega : W = 1 ∨ W = 2 ∨ W = 3) with h | h | h <;> rw [h] <;> omega
  refine Ct.intro [some (.ref (yo y k)), some (.ref (yc y 1)), none, none, none, none, none] (by decide) (Nat.le_of_ble_eq_true rfl) rfl (fun sz => ?_)
  generalize hQ : (fun r w => ∃ x, r = some (vI (b2 (¬ rowsBad z k (z 26 k - 3)))) ∧ w = xW G y (sset z 17 k x) ∧ (¬ rowsBad z k (z 26 k - 3) → x = pv z k 0)) = Q
  have k23 : 1 ≤ z 3 k - z 5 k → WP (mth G l q_T_sound 2 0 0 (xW G y z) sz Q) 0 0 (xW G y z) 23 [some (.ref (yo y k)), some (.ref (yc y 1)), some (vI (z 3 k - z 5 k)), none, none, none, none] [vI (z 2 k + z 5 k), .ref (yc y 1), .ref (yo y k)] := by
    intro hleft
    refine r_bald d_T_sound_23 1 rfl ⟨by omega, by omega, by omega⟩ ?_
    refine r_sipush d_T_sound_24 (by decide) ?_
    refine r_iand255B d_T_sound_27 (hb _) ?_
    refine r_putT d_T_sound_28 ft_T_20 (k) hk (by omega) ?_
    rw [← e0]
    have hQz : ∀ r, (r = 0 ∧ (rowsBad z k (z 26 k - 3)) ∨ r = 1 ∧ ¬ (rowsBad z k (z 26 k - 3))) → Q (some (vI r)) (xW G y (sset z 17 k (pv z k 0))) := by
      intro r hr
      rw [← hQ]
      refine ⟨_, ?_, rfl, fun _ => rfl⟩
      rcases hr with ⟨rfl, h⟩ | ⟨rfl, h⟩
      · rw [b2_f (fun q => q h)]
      · rw [b2_t h]
    have t17 : sset z 17 k (pv z k 0) 17 k = pv z k 0 := sset_eq
    have tc : ∀ c, c ≠ 17 → sset z 17 k (pv z k 0) c = z c := fun c h => sset_ne h
    generalize hz1 : sset z 17 k (pv z k 0) = z1 at hQz t17 tc ⊢
    have epv : pv z1 = pv z := by rw [← hz1]; rfl
    have hb1 : byOk z1 := by unfold byOk; rw [tc 1 (by omega)]; exact hb
    have t27 : z1 27 k = z 27 k := by rw [tc 27 (by omega)]
    have t26 : z1 26 k = z 26 k := by rw [tc 26 (by omega)]
    have h3 : 3 ≤ z1 27 k ∧ z1 27 k ≤ 5 := by omega
    have hc1 : 1 ≤ z1 27 k ∧ z1 27 k ≤ 5 := by omega
    have ho1 : 0 ≤ z1 26 k ∧ z1 26 k < 12 := by omega
    refine r_iload_n d_T_sound_31 rfl ?_
    refine r_iconst d_T_sound_32 ?_
    refine r_aload_n d_T_sound_33 rfl rfl ?_
    refine r_getT d_T_sound_34 ft_T_20 (k) hk h3 ?_
    refine r_aload_n d_T_sound_37 rfl rfl ?_
    refine r_getB d_T_sound_38 fb_T_23 (k) hk hc1 rfl ?_
    refine r_getWd d_T_sound_41 (Or.inr ⟨_, nw_1010⟩) (by omega) ?_
    refine r_imul d_T_sound_44 ?_
    refine r_iadd d_T_sound_45 ?_
    rw [t17, t26, hwd]
    refine r_icmp_eq 51 d_T_sound_46 (by decide) (by unfold i32; omega) (by unfold i32; omega) (fun h1 => ?_) (fun h1 => ?_)
    · have hlen : z 3 k - z 5 k = 1 + W * pv z k 0 := by rw [Int.mul_comm]; exact h1
      have fin1 : ∀ lv, ¬ (rowsBad z k (z 26 k - 3)) → WP (mth G l q_T_sound 2 0 0 (xW G y z) sz Q) 0 0 (xW G y z1) 156 lv [] := by
        intro lv h
        refine r_iconst d_T_sound_156 ?_
        refine r_zret d_T_sound_157 rfl (by first | exact Or.inl rfl | exact Or.inr rfl) (Nat.le_of_ble_eq_true rfl) (Nat.le_of_ble_eq_true rfl) ?_
        exact hQz 1 (Or.inr ⟨rfl, h⟩)
      have fin0 : ∀ lv, (rowsBad z k (z 26 k - 3)) → WP (mth G l q_T_sound 2 0 0 (xW G y z) sz Q) 0 0 (xW G y z1) 145 lv [] := by
        intro lv h
        refine r_iconst d_T_sound_145 ?_
        refine r_zret d_T_sound_146 rfl (by first | exact Or.inl rfl | exact Or.inr rfl) (Nat.le_of_ble_eq_true rfl) (Nat.le_of_ble_eq_true rfl) ?_
        exact hQz 0 (Or.inl ⟨rfl, h⟩)
      have lp : ∀ (f r : Nat) (bf : Int) (x5 x6 : Option Value), (r : Int) ≤ pv z k 0 → (pv z k 0).toNat - r = f → bf = (if r = 0 then 0 else pv z k (1 + ((r : Int) - 1) * W)) → (∀ j : Nat, j < r → ¬ ((z 26 k - 3 = 2 ∧ badC z k j) ∨ (z 26 k - 3 = 6 ∧ badS z k j))) → WP (mth G l q_T_sound 2 0 0 (xW G y z) sz Q) 0 0 (xW G y z1) 56 [some (.ref (yo y k)), some (.ref (yc y 1)), some (vI (z 3 k - z 5 k)), some (vI bf), some (vI r), x5, x6] [] := by
        intro f
        induction f with
        | zero =>
          intro r bf x5 x6 hr hf hbf hno
          refine r_iload d_T_sound_56 rfl ?_
          refine r_aload_n d_T_sound_58 rfl rfl ?_
          refine r_getT d_T_sound_59 ft_T_20 (k) hk h3 ?_
          rw [t17]
          refine r_icmp_ge 156 d_T_sound_62 (by decide) (by unfold i32; omega) (by unfold i32; omega) (fun h2 => ?_) (fun h2 => ?_)
          · refine fin1 _ (fun q => ?_)
            rcases hrb.mp q with q | q | ⟨j, q1, q2⟩
            · omega
            · exact q hlen
            · exact hno j (by omega) q2
          · omega
        | succ f ih =>
          intro r bf x5 x6 hr hf hbf hno
          refine r_iload d_T_sound_56 rfl ?_
          refine r_aload_n d_T_sound_58 rfl rfl ?_
          refine r_getT d_T_sound_59 ft_T_20 (k) hk h3 ?_
          rw [t17]
          refine r_icmp_ge 156 d_T_sound_62 (by decide) (by unfold i32; omega) (by unfold i32; omega) (fun h2 => ?_) (fun h2 => ?_)
          · omega
          have hbad : (z 26 k - 3 = 2 ∧ badC z k r) ∨ (z 26 k - 3 = 6 ∧ badS z k r) → (rowsBad z k (z 26 k - 3)) := fun q => hrb.mpr (Or.inr (Or.inr ⟨r, by omega, q⟩))
          have go : (z 26 k = 5 ∨ z 26 k = 9) → WP (mth G l q_T_sound 2 0 0 (xW G y z) sz Q) 0 0 (xW G y z1) 85 [some (.ref (yo y k)), some (.ref (yc y 1)), some (vI (z 3 k - z 5 k)), some (vI bf), some (vI r), x5, x6] [] := by
            intro hkd
            have h27' : z1 27 k = 3 := by rw [t27]; exact hcl (by omega) (by omega)
            have hm1 : (r : Int) * W + W ≤ pv z k 0 * W := by
              have := Int.mul_le_mul_of_nonneg_right (show (r : Int) + 1 ≤ pv z k 0 by omega) (show 0 ≤ W by omega)
              rw [Int.add_mul] at this
              omega
            have hm0 : 0 ≤ (r : Int) * W := Int.mul_nonneg (by omega) (by omega)
            have hW13 : W = 3 ∨ W = 1 := by rcases hkd with h | h; exact Or.inl (hW5 h); exact Or.inr (hW9 h)
            have hcell : ∀ col : Int, 0 ≤ col ∧ col < W → Ct G l q_T_cell 1 0 0 [.ref (yo y k), .ref (yc y 1), vI r, vI col] (xW G y z1) (fun q w => q = some (vI (pv z k (1 + (r : Int) * W + col))) ∧ w = xW G y z1) := by
              intro col hcol
              have := c_T_cell G l y z1 k r col hk h27' ho1 hb1 (by rw [t26, hwd, tc 2 (by omega), tc 5 (by omega)]; omega)
              rw [t26, hwd, epv] at this
              exact this
            have b1 := hb (z 2 k + z 5 k + (1 + (r : Int) * W))
            have b2' := hb (z 2 k + z 5 k + (1 + (r : Int) * W + 1))
            have p1 : pv z k (1 + (r : Int) * W) = z 1 (z 2 k + z 5 k + (1 + (r : Int) * W)) := rfl
            have p2 : pv z k (1 + (r : Int) * W + 1) = z 1 (z 2 k + z 5 k + (1 + (r : Int) * W + 1)) := rfl
            have hbfb : 0 ≤ bf ∧ bf < 256 := by
              rw [hbf]
              split
              · omega
              · exact hb _
            have nx : ∀ x6' : Option Value, ¬ ((z 26 k - 3 = 2 ∧ badC z k r) ∨ (z 26 k - 3 = 6 ∧ badS z k r)) → WP (mth G l q_T_sound 2 0 0 (xW G y z) sz Q) 0 0 (xW G y z1) 147 [some (.ref (yo y k)), some (.ref (yc y 1)), some (vI (z 3 k - z 5 k)), some (vI bf), some (vI r), some (vI (pv z k (1 + (r : Int) * W))), x6'] [] := by
              intro x6' hnb
              refine r_iload d_T_sound_147 rfl ?_
              refine r_istore_n d_T_sound_149 (Nat.le_of_ble_eq_true rfl) rfl ?_
              show WP _ _ _ _ _ [_, _, _, _, _, _, _] _
              refine r_iinc d_T_sound_150 rfl (Nat.le_of_ble_eq_true rfl) rfl ?_
              show WP _ _ _ _ _ [_, _, _, _, _, _, _] _
              refine r_goto 56 d_T_sound_153 (by decide) ?_
              refine ih (r + 1) _ _ _ (by omega) (by omega) ?_ (fun j hj => ?_)
              · rw [if_neg (by omega), show ((r + 1 : Nat) : Int) - 1 = r by omega]
              · by_cases hjr : j = r
                · subst hjr; exact hnb
                · exact hno j (by omega)
            refine r_aload_n d_T_sound_85 rfl rfl ?_
            refine r_aload_n d_T_sound_86 rfl rfl ?_
            refine r_iload d_T_sound_87 rfl ?_
            refine r_iconst d_T_sound_89 ?_
            refine r_cV3 d_T_sound_90 lk_T_38 (hcell 0 (by omega)) (13 + k).toNat rfl (xw_bc hk h27') (Nat.le_of_ble_eq_true rfl) (rok rfl rfl) ⟨(Nat.le_of_ble_eq_true rfl), (Nat.le_of_ble_eq_true rfl)⟩ (fun r ws2 hq => ?_)
            obtain ⟨rfl, rfl⟩ := hq
            show WP _ _ _ _ _ _ (_ :: _)
            rw [show 1 + (r : Int) * W + 0 = 1 + (r : Int) * W by omega]
            refine r_istore d_T_sound_93 (Nat.le_of_ble_eq_true rfl) rfl ?_
            show WP _ _ _ _ _ [_, _, _, _, _, _, _] _
            refine r_aload_n d_T_sound_95 rfl rfl ?_
            refine r_getB d_T_sound_96 fb_T_23 (k) hk hc1 rfl ?_
            refine r_getsK (i := 5) d_T_sound_99 (by decide) w_510 ?_
            refine r_akNe 109 d_T_sound_102 (by decide) ho1 (by decide) (fun h4 => ?_) (fun h4 => ?_)
            · have h4 : ¬ z1 26 k = 5 := h4
              have hk9 : z 26 k = 9 := by omega
              have hW := hW9 hk9
              have hS : badS z k r ↔ pv z k (1 + (r : Int) * W) ≤ bf := by
                unfold badS
                rw [hbf, hW, Int.mul_one, Int.mul_one]
                by_cases h0 : r = 0
                · subst h0; rfl
                · rw [if_neg h0, if_neg (by omega), show 1 + ((r : Int) - 1) = r by omega]
              refine r_iconst d_T_sound_109 ?_
              refine r_istore d_T_sound_110 (Nat.le_of_ble_eq_true rfl) rfl ?_
              show WP _ _ _ _ _ [_, _, _, _, _, _, _] _
              refine r_iload d_T_sound_112 rfl ?_
              refine r_iload_n d_T_sound_114 rfl ?_
              refine r_icmp_le 145 d_T_sound_115 (by decide) (by unfold i32; omega) (by unfold i32; omega) (fun h5 => ?_) (fun h5 => ?_)
              · exact fin0 _ (hbad (Or.inr ⟨by omega, hS.mpr h5⟩))
              · refine r_iload d_T_sound_118 rfl ?_
                refine r_if_eq 147 d_T_sound_120 (by decide) (by unfold i32; omega) (fun h6 => ?_) (fun h6 => ?_)
                · exact nx _ (by
                    rintro (q | q)
                    · omega
                    · have := hS.mp q.2; omega)
                · omega
            · have h4 : z1 26 k = 5 := h4
              have hk5 : z 26 k = 5 := by omega
              have hW := hW5 hk5
              have hC : badC z k r ↔ (pv z k (1 + (r : Int) * W) ≤ bf ∨ ((r = 0 ∧ pv z k (1 + (r : Int) * W) ≠ 1) ∨ pv z k (1 + (r : Int) * W + 1) = 0)) := by
                unfold badC
                rw [hbf, hW, show (r : Int) * 3 = 3 * r by omega, show 1 + 3 * (r : Int) + 1 = 2 + 3 * r by omega]
                by_cases h0 : r = 0
                · subst h0
                  rw [if_pos rfl, if_pos (show ((0 : Nat) : Int) = 0 from rfl), show (1 : Int) + 3 * ((0 : Nat) : Int) = 1 by omega]
                  constructor <;> (intro q; omega)
                · rw [if_neg h0, if_neg (by omega), show 1 + ((r : Int) - 1) * 3 = 3 * r - 2 by omega]
                  constructor <;> (intro q; omega)
              have hbC : badC z k r → (rowsBad z k (z 26 k - 3)) := fun q => hbad (Or.inl ⟨by omega, q⟩)
              have c134 : ¬ (pv z k (1 + (r : Int) * W) ≤ bf) → (r = 0 → pv z k (1 + (r : Int) * W) = 1) → WP (mth G l q_T_sound 2 0 0 (xW G y z) sz Q) 0 0 (xW G y z1) 134 [some (.ref (yo y k)), some (.ref (yc y 1)), some (vI (z 3 k - z 5 k)), some (vI bf), some (vI r), some (vI (pv z k (1 + (r : Int) * W))), some (vI 1)] [] := by
                intro q1 q2
                refine r_aload_n d_T_sound_134 rfl rfl ?_
                refine r_aload_n d_T_sound_135 rfl rfl ?_
                refine r_iload d_T_sound_136 rfl ?_
                refine r_iconst d_T_sound_138 ?_
                refine r_cV3 d_T_sound_139 lk_T_38 (hcell 1 (by omega)) (13 + k).toNat rfl (xw_bc hk h27') (Nat.le_of_ble_eq_true rfl) (rok rfl rfl) ⟨(Nat.le_of_ble_eq_true rfl), (Nat.le_of_ble_eq_true rfl)⟩ (fun r ws2 hq => ?_)
                obtain ⟨rfl, rfl⟩ := hq
                show WP _ _ _ _ _ _ (_ :: _)
                refine r_if_ne 147 d_T_sound_142 (by decide) (by unfold i32; omega) (fun h8 => ?_) (fun h8 => ?_)
                · refine nx _ ?_
                  rintro (q | q)
                  · rcases hC.mp q.2 with q | ⟨q3, q4⟩ | q
                    · exact q1 q
                    · exact q4 (q2 q3)
                    · exact h8 q
                  · omega
                · exact fin0 _ (hbC (hC.mpr (Or.inr (Or.inr (by omega)))))
              refine r_iconst d_T_sound_105 ?_
              refine r_goto 110 d_T_sound_106 (by decide) ?_
              refine r_istore d_T_sound_110 (Nat.le_of_ble_eq_true rfl) rfl ?_
              show WP _ _ _ _ _ [_, _, _, _, _, _, _] _
              refine r_iload d_T_sound_112 rfl ?_
              refine r_iload_n d_T_sound_114 rfl ?_
              refine r_icmp_le 145 d_T_sound_115 (by decide) (by unfold i32; omega) (by unfold i32; omega) (fun h5 => ?_) (fun h5 => ?_)
              · exact fin0 _ (hbC (hC.mpr (Or.inl h5)))
              · refine r_iload d_T_sound_118 rfl ?_
                refine r_if_eq 147 d_T_sound_120 (by decide) (by unfold i32; omega) (fun h6 => ?_) (fun h6 => ?_)
                · omega
                · refine r_iload d_T_sound_123 rfl ?_
                  refine r_if_ne 134 d_T_sound_125 (by decide) (by unfold i32; omega) (fun h7 => ?_) (fun h7 => ?_)
                  · exact c134 (by omega) (by omega)
                  · refine r_iload d_T_sound_128 rfl ?_
                    refine r_iconst d_T_sound_130 ?_
                    refine r_icmp_ne 145 d_T_sound_131 (by decide) (by unfold i32; omega) (by unfold i32; omega) (fun h8 => ?_) (fun h8 => ?_)
                    · exact fin0 _ (hbC (hC.mpr (Or.inr (Or.inl ⟨by omega, h8⟩))))
                    · exact c134 (by omega) (fun _ => by omega)
          refine r_aload_n d_T_sound_65 rfl rfl ?_
          refine r_getB d_T_sound_66 fb_T_23 (k) hk hc1 rfl ?_
          refine r_getsK (i := 5) d_T_sound_69 (by decide) w_510 ?_
          refine r_akEq 85 d_T_sound_72 (by decide) ho1 (by decide) (fun h3' => go (Or.inl (t26.symm.trans h3'))) (fun h3' => ?_)
          have h3' : ¬ z1 26 k = 5 := h3'
          refine r_aload_n d_T_sound_75 rfl rfl ?_
          refine r_getB d_T_sound_76 fb_T_23 (k) hk hc1 rfl ?_
          refine r_getsK (i := 9) d_T_sound_79 (by decide) w_511 ?_
          refine r_akNe 156 d_T_sound_82 (by decide) ho1 (by decide) (fun h4 => ?_) (fun h4 => go (Or.inr (t26.symm.trans h4)))
          have h4 : ¬ z1 26 k = 9 := h4
          refine fin1 _ (fun q => ?_)
          rcases hrb.mp q with q | q | ⟨j, q1, q2⟩
          · omega
          · exact q hlen
          · omega
      refine r_iconst d_T_sound_51 ?_
      refine r_istore_n d_T_sound_52 (Nat.le_of_ble_eq_true rfl) rfl ?_
      show WP _ _ _ _ _ [_, _, _, _, _, _, _] _
      refine r_iconst d_T_sound_53 ?_
      refine r_istore d_T_sound_54 (Nat.le_of_ble_eq_true rfl) rfl ?_
      show WP _ _ _ _ _ [_, _, _, _, _, _, _] _
      exact lp _ 0 0 none none (by omega) rfl (by rw [if_pos rfl]) (fun j hj => by omega)
    · refine r_iconst d_T_sound_49 ?_
      refine r_zret d_T_sound_50 rfl (by first | exact Or.inl rfl | exact Or.inr rfl) (Nat.le_of_ble_eq_true rfl) (Nat.le_of_ble_eq_true rfl) ?_
      exact hQz 0 (Or.inl ⟨rfl, hrb.mpr (Or.inr (Or.inl (by rw [Int.mul_comm]; exact h1)))⟩)
  refine r_aload_n d_T_sound_0 rfl rfl ?_
  refine r_getB d_T_sound_1 fb_T_7 (k) hk hc rfl ?_
  refine r_aload_n d_T_sound_4 rfl rfl ?_
  refine r_getB d_T_sound_5 fb_T_13 (k) hk hc rfl ?_
  refine r_isub d_T_sound_8 ?_
  refine r_istore_n d_T_sound_9 (Nat.le_of_ble_eq_true rfl) rfl ?_
  show WP _ _ _ _ _ [_, _, _, _, _, _, _] _
  refine r_iload_n d_T_sound_10 rfl ?_
  refine r_iconst d_T_sound_11 ?_
  refine r_icmp_ge 17 d_T_sound_12 (by decide) (by unfold i32; omega) (by unfold i32; omega) (fun h1 => ?_) (fun h1 => ?_)
  · rcases h27 with h | h
    · refine r_aload_n d_T_sound_17 rfl rfl ?_
      refine r_aload_n d_T_sound_18 rfl rfl ?_
      refine r_aload_n d_T_sound_19 rfl rfl ?_
      refine r_kU0 d_T_sound_20 lu_T_16_T (c_B_start G l y z k hk hc) (13 + k).toNat rfl (xw_bc hk h) (Nat.le_of_ble_eq_true rfl) (rok rfl rfl) ⟨(Nat.le_of_ble_eq_true rfl), (Nat.le_of_ble_eq_true rfl)⟩ (fun r ws2 hq => ?_)
      obtain ⟨rfl, rfl⟩ := hq
      show WP _ _ _ _ _ _ (_ :: _)
      exact k23 (by omega)
    · refine r_aload_n d_T_sound_17 rfl rfl ?_
      refine r_aload_n d_T_sound_18 rfl rfl ?_
      refine r_aload_n d_T_sound_19 rfl rfl ?_
      refine r_kU0 d_T_sound_20 lu_T_16_P (c_B_start G l y z k hk hc) (13 + k).toNat rfl (xw_bc hk h) (Nat.le_of_ble_eq_true rfl) (rok rfl rfl) ⟨(Nat.le_of_ble_eq_true rfl), (Nat.le_of_ble_eq_true rfl)⟩ (fun r ws2 hq => ?_)
      obtain ⟨rfl, rfl⟩ := hq
      show WP _ _ _ _ _ _ (_ :: _)
      exact k23 (by omega)
  · refine r_iconst d_T_sound_15 ?_
    refine r_zret d_T_sound_16 rfl (by first | exact Or.inl rfl | exact Or.inr rfl) (Nat.le_of_ble_eq_true rfl) (Nat.le_of_ble_eq_true rfl) ?_
    have hbd : (rowsBad z k (z 26 k - 3)) := hrb.mpr (Or.inl (by omega))
    rw [← hQ]; exact ⟨z 17 k, by rw [b2_f (fun q => q hbd)], by rw [sset_self]; rfl, fun q => absurd hbd q⟩
set_option maxRecDepth 8000 in
theorem c_S_sound (z : mS) (k : Int) (hk : -1 ≤ k ∧ k < yn y) (h27 : z 27 k = 5) (hb : byOk z) (hx : 0 ≤ z 2 k ∧ 0 ≤ z 5 k ∧ z 5 k ≤ z 3 k ∧ z 2 k + z 3 k ≤ 1000) : Ct G l q_S_sound 2 0 0 [.ref (yo y k), .ref (yc y 1)] (xW G y z) (fun r w => ∃ x, r = some (vI (b2 (¬ rowsBad z k 3))) ∧ w = xW G y (sset z 17 k x) ∧ (¬ rowsBad z k 3 → x = pv z k 1)) := by
  have hc : 1 ≤ z 27 k ∧ z 27 k ≤ 5 := by omega
  have hrb : rowsBad z k 3 ↔ (z 3 k - z 5 k < 2 ∨ ¬ z 3 k - z 5 k = (if pv z k 0 = 0 then 2 + pv z k 1 else 2)) := by
    unfold rowsBad
    constructor
    · rintro (h | h)
      · exact h.2
      · omega
    · exact fun h => Or.inl ⟨rfl, h⟩
  have e0 : pv z k 0 = z 1 (z 2 k + z 5 k) := by unfold pv; rw [show z 2 k + z 5 k + 0 = z 2 k + z 5 k by omega]
  have e1 : pv z k 1 = z 1 (z 2 k + z 5 k + 1) := rfl
  have b0 := hb (z 2 k + z 5 k)
  have b1 := hb (z 2 k + z 5 k + 1)
  rw [← e0] at b0
  rw [← e1] at b1
  refine Ct.intro [some (.ref (yo y k)), some (.ref (yc y 1)), none] (by decide) (Nat.le_of_ble_eq_true rfl) rfl (fun sz => ?_)
  generalize hQ : (fun r w => ∃ x, r = some (vI (b2 (¬ rowsBad z k 3))) ∧ w = xW G y (sset z 17 k x) ∧ (¬ rowsBad z k 3 → x = pv z k 1)) = Q
  refine r_aload_n d_S_sound_0 rfl rfl ?_
  refine r_getB d_S_sound_1 fb_S_7 (k) hk hc rfl ?_
  refine r_aload_n d_S_sound_4 rfl rfl ?_
  refine r_getB d_S_sound_5 fb_S_13 (k) hk hc rfl ?_
  refine r_isub d_S_sound_8 ?_
  refine r_istore_n d_S_sound_9 (Nat.le_of_ble_eq_true rfl) rfl ?_
  show WP _ _ _ _ _ [_, _, _] _
  refine r_iload_n d_S_sound_10 rfl ?_
  refine r_iconst d_S_sound_11 ?_
  refine r_icmp_ge 17 d_S_sound_12 (by decide) (by unfold i32; omega) (by unfold i32; omega) (fun h1 => ?_) (fun h1 => ?_)
  · refine r_aload_n d_S_sound_17 rfl rfl ?_
    refine r_aload_n d_S_sound_18 rfl rfl ?_
    refine r_aload_n d_S_sound_19 rfl rfl ?_
    refine r_kU0 d_S_sound_20 lu_S_16_S (c_B_start G l y z k hk hc) (13 + k).toNat rfl (xw_bc hk h27) (Nat.le_of_ble_eq_true rfl) (rok rfl rfl) ⟨(Nat.le_of_ble_eq_true rfl), (Nat.le_of_ble_eq_true rfl)⟩ (fun r ws2 hq => ?_)
    obtain ⟨rfl, rfl⟩ := hq
    show WP _ _ _ _ _ _ (_ :: _)
    refine r_iconst d_S_sound_23 ?_
    refine r_iadd d_S_sound_24 ?_
    refine r_bald d_S_sound_25 1 rfl ⟨by omega, by omega, by omega⟩ ?_
    refine r_sipush d_S_sound_26 (by decide) ?_
    refine r_iand255B d_S_sound_29 (hb _) ?_
    refine r_putT d_S_sound_30 ft_S_20 (k) hk (by omega) ?_
    rw [← e1]
    have hQz : ∀ r, (r = 0 ∧ (rowsBad z k 3) ∨ r = 1 ∧ ¬ (rowsBad z k 3)) → Q (some (vI r)) (xW G y (sset z 17 k (pv z k 1))) := by
      intro r hr
      rw [← hQ]
      refine ⟨_, ?_, rfl, fun _ => rfl⟩
      rcases hr with ⟨rfl, h⟩ | ⟨rfl, h⟩
      · rw [b2_f (fun q => q h)]
      · rw [b2_t h]
    have t17 : sset z 17 k (pv z k 1) 17 k = pv z k 1 := sset_eq
    have tc : ∀ c, c ≠ 17 → sset z 17 k (pv z k 1) c = z c := fun c h => sset_ne h
    generalize hz1 : sset z 17 k (pv z k 1) = z1 at hQz t17 tc ⊢
    have t27 : z1 27 k = 5 := by rw [tc 27 (by omega)]; exact h27
    have hc1 : 1 ≤ z1 27 k ∧ z1 27 k ≤ 5 := by omega
    have h3 : 3 ≤ z1 27 k ∧ z1 27 k ≤ 5 := by omega
    have e2 : z1 1 (z1 2 k + z1 5 k) = pv z k 0 := by rw [tc 1 (by omega), tc 2 (by omega), tc 5 (by omega)]; exact e0.symm
    have e3 : z1 2 k + z1 5 k = z 2 k + z 5 k := by rw [tc 2 (by omega), tc 5 (by omega)]
    have c53 : ∀ m : Int, m = (if pv z k 0 = 0 then 2 + pv z k 1 else 2) → WP (mth G l q_S_sound 2 0 0 (xW G y z) sz Q) 0 0 (xW G y z1) 53 [some (.ref (yo y k)), some (.ref (yc y 1)), some (vI (z 3 k - z 5 k))] [vI m, vI (z 3 k - z 5 k)] := by
      intro m hm
      have hm2 : 2 ≤ m ∧ m < 258 := by rw [hm]; split <;> omega
      refine r_icmp_ne 60 d_S_sound_53 (by decide) (by unfold i32; omega) (by unfold i32; omega) (fun h2 => ?_) (fun h2 => ?_)
      · refine r_iconst d_S_sound_60 ?_
        refine r_zret d_S_sound_61 rfl (by first | exact Or.inl rfl | exact Or.inr rfl) (Nat.le_of_ble_eq_true rfl) (Nat.le_of_ble_eq_true rfl) ?_
        exact hQz 0 (Or.inl ⟨rfl, hrb.mpr (Or.inr (by rw [← hm]; exact h2))⟩)
      · refine r_iconst d_S_sound_56 ?_
        refine r_goto 61 d_S_sound_57 (by decide) ?_
        refine r_zret d_S_sound_61 rfl (by first | exact Or.inl rfl | exact Or.inr rfl) (Nat.le_of_ble_eq_true rfl) (Nat.le_of_ble_eq_true rfl) ?_
        refine hQz 1 (Or.inr ⟨rfl, fun q => ?_⟩)
        rcases hrb.mp q with q | q
        · omega
        · rw [← hm] at q; exact h2 q
    refine r_iload_n d_S_sound_33 rfl ?_
    refine r_aload_n d_S_sound_34 rfl rfl ?_
    refine r_aload_n d_S_sound_35 rfl rfl ?_
    refine r_kU0 d_S_sound_36 lu_S_16_S (c_B_start G l y z1 k hk hc1) (13 + k).toNat rfl (xw_bc hk t27) (Nat.le_of_ble_eq_true rfl) (rok rfl rfl) ⟨(Nat.le_of_ble_eq_true rfl), (Nat.le_of_ble_eq_true rfl)⟩ (fun r ws2 hq => ?_)
    obtain ⟨rfl, rfl⟩ := hq
    show WP _ _ _ _ _ _ (_ :: _)
    refine r_bald d_S_sound_39 1 rfl ⟨by omega, by omega, by omega⟩ ?_
    rw [e2, zB_sb b0]
    refine r_if_ne 52 d_S_sound_40 (by decide) (by unfold i32 sbO; split <;> omega) (fun h2 => ?_) (fun h2 => ?_)
    · have h3' : ¬ pv z k 0 = 0 := fun q => h2 (by rw [q]; rfl)
      refine r_iconst d_S_sound_52 ?_
      exact c53 2 (by rw [if_neg h3'])
    · have h3' : pv z k 0 = 0 := by unfold sbO at h2; split at h2 <;> omega
      refine r_iconst d_S_sound_43 ?_
      refine r_aload_n d_S_sound_44 rfl rfl ?_
      refine r_getT d_S_sound_45 ft_S_20 (k) hk h3 ?_
      refine r_iadd d_S_sound_48 ?_
      refine r_goto 53 d_S_sound_49 (by decide) ?_
      rw [t17]
      exact c53 _ (by rw [if_pos h3'])
  · refine r_iconst d_S_sound_15 ?_
    refine r_zret d_S_sound_16 rfl (by first | exact Or.inl rfl | exact Or.inr rfl) (Nat.le_of_ble_eq_true rfl) (Nat.le_of_ble_eq_true rfl) ?_
    have hbd : (rowsBad z k 3) := hrb.mpr (Or.inl (by omega))
    rw [← hQ]; exact ⟨z 17 k, by rw [b2_f (fun q => q hbd)], by rw [sset_self]; rfl, fun q => absurd hbd q⟩
end XSOUND
