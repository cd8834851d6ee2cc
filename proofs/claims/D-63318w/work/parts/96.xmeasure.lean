abbrev q_L_typeToWrite : Mi := (⟨"MovieBoxes$Leaf", "typeToWrite", "()I"⟩, prog_5_method_2_code, 1, (some .int))
theorem d_L_typeToWrite_0 : decode prog_5_method_2_code 0 = .ok (.aload_n 0, 1) := by decide +kernel
theorem d_L_typeToWrite_1 : decode prog_5_method_2_code 1 = .ok (.getfield 7, 3) := by decide +kernel
set_option maxRecDepth 20000 in
theorem w_49 : Cond.fieldLink "MovieBoxes$Leaf" 7 "MovieBoxes$Leaf" "type" "I" ∈ gt := gt_of (in_t1 (List.mem_of_getElem? (i := 49) rfl)) rfl
set_option maxRecDepth 20000 in
theorem w_50 : Cond.sameField "MovieBoxes$Leaf" "MovieBoxes$Box" "type" "I" ∈ gt := gt_of (in_t1 (List.mem_of_getElem? (i := 50) rfl)) rfl
theorem fl_L_7_1 : FL "MovieBoxes$Leaf" 7 1 1 false := ⟨_, _, _, "MovieBoxes$Leaf", rfl, by decide, rfl, Or.inl w_49, Or.inr w_50⟩
theorem fl_L_7_2 : FL "MovieBoxes$Leaf" 7 2 1 false := ⟨_, _, _, "MovieBoxes$Leaf", rfl, by decide, rfl, Or.inl w_49, Or.inr w_50⟩
theorem fl_L_7_3 : FL "MovieBoxes$Leaf" 7 3 1 false := ⟨_, _, _, "MovieBoxes$Leaf", rfl, by decide, rfl, Or.inl w_49, Or.inr w_50⟩
theorem fl_L_7_4 : FL "MovieBoxes$Leaf" 7 4 1 false := ⟨_, _, _, "MovieBoxes$Leaf", rfl, by decide, rfl, Or.inl w_49, Or.inr w_50⟩
theorem fl_L_7_5 : FL "MovieBoxes$Leaf" 7 5 1 false := ⟨_, _, _, "MovieBoxes$Leaf", rfl, by decide, rfl, Or.inl w_49, Or.inr w_50⟩
theorem fb_L_7 : FB "MovieBoxes$Leaf" 7 1 .int := fb5 fl_L_7_1 fl_L_7_2 fl_L_7_3 fl_L_7_4 fl_L_7_5 rfl rfl rfl rfl rfl
theorem d_L_typeToWrite_4 : decode prog_5_method_2_code 4 = .ok (.ireturn, 1) := by decide +kernel
abbrev q_L_payloadToWrite : Mi := (⟨"MovieBoxes$Leaf", "payloadToWrite", "()I"⟩, prog_5_method_3_code, 1, (some .int))
theorem d_L_payloadToWrite_0 : decode prog_5_method_3_code 0 = .ok (.aload_n 0, 1) := by decide +kernel
theorem d_L_payloadToWrite_1 : decode prog_5_method_3_code 1 = .ok (.getfield 13, 3) := by decide +kernel
set_option maxRecDepth 20000 in
theorem w_72 : Cond.fieldLink "MovieBoxes$Leaf" 13 "MovieBoxes$Leaf" "size" "I" ∈ gt := gt_of (in_t1 (List.mem_of_getElem? (i := 72) rfl)) rfl
set_option maxRecDepth 20000 in
theorem w_73 : Cond.sameField "MovieBoxes$Leaf" "MovieBoxes$Box" "size" "I" ∈ gt := gt_of (in_t1 (List.mem_of_getElem? (i := 73) rfl)) rfl
theorem fl_L_13_1 : FL "MovieBoxes$Leaf" 13 1 4 false := ⟨_, _, _, "MovieBoxes$Leaf", rfl, by decide, rfl, Or.inl w_72, Or.inr w_73⟩
theorem fl_L_13_2 : FL "MovieBoxes$Leaf" 13 2 4 false := ⟨_, _, _, "MovieBoxes$Leaf", rfl, by decide, rfl, Or.inl w_72, Or.inr w_73⟩
theorem fl_L_13_3 : FL "MovieBoxes$Leaf" 13 3 4 false := ⟨_, _, _, "MovieBoxes$Leaf", rfl, by decide, rfl, Or.inl w_72, Or.inr w_73⟩
theorem fl_L_13_4 : FL "MovieBoxes$Leaf" 13 4 4 false := ⟨_, _, _, "MovieBoxes$Leaf", rfl, by decide, rfl, Or.inl w_72, Or.inr w_73⟩
theorem fl_L_13_5 : FL "MovieBoxes$Leaf" 13 5 4 false := ⟨_, _, _, "MovieBoxes$Leaf", rfl, by decide, rfl, Or.inl w_72, Or.inr w_73⟩
theorem fb_L_13 : FB "MovieBoxes$Leaf" 13 4 .int := fb5 fl_L_13_1 fl_L_13_2 fl_L_13_3 fl_L_13_4 fl_L_13_5 rfl rfl rfl rfl rfl
theorem d_L_payloadToWrite_4 : decode prog_5_method_3_code 4 = .ok (.aload_n 0, 1) := by decide +kernel
theorem d_L_payloadToWrite_5 : decode prog_5_method_3_code 5 = .ok (.getfield 16, 3) := by decide +kernel
set_option maxRecDepth 20000 in
theorem w_65 : Cond.fieldLink "MovieBoxes$Leaf" 16 "MovieBoxes$Leaf" "header" "I" ∈ gt := gt_of (in_t1 (List.mem_of_getElem? (i := 65) rfl)) rfl
set_option maxRecDepth 20000 in
theorem w_66 : Cond.sameField "MovieBoxes$Leaf" "MovieBoxes$Box" "header" "I" ∈ gt := gt_of (in_t1 (List.mem_of_getElem? (i := 66) rfl)) rfl
theorem fl_L_16_1 : FL "MovieBoxes$Leaf" 16 1 3 false := ⟨_, _, _, "MovieBoxes$Leaf", rfl, by decide, rfl, Or.inl w_65, Or.inr w_66⟩
theorem fl_L_16_2 : FL "MovieBoxes$Leaf" 16 2 3 false := ⟨_, _, _, "MovieBoxes$Leaf", rfl, by decide, rfl, Or.inl w_65, Or.inr w_66⟩
theorem fl_L_16_3 : FL "MovieBoxes$Leaf" 16 3 3 false := ⟨_, _, _, "MovieBoxes$Leaf", rfl, by decide, rfl, Or.inl w_65, Or.inr w_66⟩
theorem fl_L_16_4 : FL "MovieBoxes$Leaf" 16 4 3 false := ⟨_, _, _, "MovieBoxes$Leaf", rfl, by decide, rfl, Or.inl w_65, Or.inr w_66⟩
theorem fl_L_16_5 : FL "MovieBoxes$Leaf" 16 5 3 false := ⟨_, _, _, "MovieBoxes$Leaf", rfl, by decide, rfl, Or.inl w_65, Or.inr w_66⟩
theorem fb_L_16 : FB "MovieBoxes$Leaf" 16 3 .int := fb5 fl_L_16_1 fl_L_16_2 fl_L_16_3 fl_L_16_4 fl_L_16_5 rfl rfl rfl rfl rfl
theorem d_L_payloadToWrite_8 : decode prog_5_method_3_code 8 = .ok (.isub, 1) := by decide +kernel
theorem d_L_payloadToWrite_9 : decode prog_5_method_3_code 9 = .ok (.ireturn, 1) := by decide +kernel
abbrev q_P_typeToWrite : Mi := (⟨"MovieBoxes$PlaceTable", "typeToWrite", "()I"⟩, prog_6_method_5_code, 1, (some .int))
theorem d_P_typeToWrite_0 : decode prog_6_method_5_code 0 = .ok (.aload_n 0, 1) := by decide +kernel
theorem d_P_typeToWrite_1 : decode prog_6_method_5_code 1 = .ok (.invokevirtual 34, 3) := by decide +kernel
set_option maxRecDepth 20000 in
theorem w_645 : Cond.methodLink "MovieBoxes$PlaceTable" 34 ⟨"MovieBoxes$PlaceTable", "wide", "()Z"⟩ ∈ gt := gt_of (in_t3 (List.mem_of_getElem? (i := 165) rfl)) rfl
set_option maxRecDepth 20000 in
theorem w_646 : Cond.instanceMethod ⟨"MovieBoxes$PlaceTable", "wide", "()Z"⟩ ∈ gt := gt_of (in_t3 (List.mem_of_getElem? (i := 166) rfl)) rfl
set_option maxRecDepth 20000 in
theorem w_647 : Cond.selects "MovieBoxes$PlaceTable" ⟨"MovieBoxes$PlaceTable", "wide", "()Z"⟩ ⟨"MovieBoxes$PlaceTable", "wide", "()Z"⟩ ∈ gt := gt_of (in_t3 (List.mem_of_getElem? (i := 167) rfl)) rfl
set_option maxRecDepth 20000 in
theorem w_648 : Cond.code ⟨"MovieBoxes$PlaceTable", "wide", "()Z"⟩ prog_6_method_4_code 1 (some .boolean) ∈ gt := gt_of (in_t3 (List.mem_of_getElem? (i := 168) rfl)) rfl
theorem lk_P_34 : LkV "MovieBoxes$PlaceTable" 34 q_P_wide 0 := ⟨(List.forall_mem_cons.mpr ⟨w_645, (List.forall_mem_cons.mpr ⟨w_646, (List.forall_mem_cons.mpr ⟨w_647, (List.forall_mem_cons.mpr ⟨w_13, (fun _ h => absurd h List.not_mem_nil)⟩)⟩)⟩)⟩), w_648, by decide +kernel⟩
theorem d_P_typeToWrite_4 : decode prog_6_method_5_code 4 = .ok (.ifCond .eq 8, 3) := by decide +kernel
theorem d_P_typeToWrite_12 : decode prog_6_method_5_code 12 = .ok (.aload_n 0, 1) := by decide +kernel
theorem d_P_typeToWrite_13 : decode prog_6_method_5_code 13 = .ok (.getfield 38, 3) := by decide +kernel
set_option maxRecDepth 20000 in
theorem w_51 : Cond.fieldLink "MovieBoxes$PlaceTable" 38 "MovieBoxes$PlaceTable" "type" "I" ∈ gt := gt_of (in_t1 (List.mem_of_getElem? (i := 51) rfl)) rfl
set_option maxRecDepth 20000 in
theorem w_52 : Cond.sameField "MovieBoxes$PlaceTable" "MovieBoxes$Box" "type" "I" ∈ gt := gt_of (in_t1 (List.mem_of_getElem? (i := 52) rfl)) rfl
theorem fl_P_38_1 : FL "MovieBoxes$PlaceTable" 38 1 1 false := ⟨_, _, _, "MovieBoxes$PlaceTable", rfl, by decide, rfl, Or.inl w_51, Or.inr w_52⟩
theorem fl_P_38_2 : FL "MovieBoxes$PlaceTable" 38 2 1 false := ⟨_, _, _, "MovieBoxes$PlaceTable", rfl, by decide, rfl, Or.inl w_51, Or.inr w_52⟩
theorem fl_P_38_3 : FL "MovieBoxes$PlaceTable" 38 3 1 false := ⟨_, _, _, "MovieBoxes$PlaceTable", rfl, by decide, rfl, Or.inl w_51, Or.inr w_52⟩
theorem fl_P_38_4 : FL "MovieBoxes$PlaceTable" 38 4 1 false := ⟨_, _, _, "MovieBoxes$PlaceTable", rfl, by decide, rfl, Or.inl w_51, Or.inr w_52⟩
theorem fl_P_38_5 : FL "MovieBoxes$PlaceTable" 38 5 1 false := ⟨_, _, _, "MovieBoxes$PlaceTable", rfl, by decide, rfl, Or.inl w_51, Or.inr w_52⟩
theorem fb_P_38 : FB "MovieBoxes$PlaceTable" 38 1 .int := fb5 fl_P_38_1 fl_P_38_2 fl_P_38_3 fl_P_38_4 fl_P_38_5 rfl rfl rfl rfl rfl
theorem d_P_typeToWrite_16 : decode prog_6_method_5_code 16 = .ok (.ireturn, 1) := by decide +kernel
theorem d_P_typeToWrite_7 : decode prog_6_method_5_code 7 = .ok (.bipush 79, 2) := by decide +kernel
theorem d_P_typeToWrite_9 : decode prog_6_method_5_code 9 = .ok (.goto 7, 3) := by decide +kernel
abbrev q_P_payloadToWrite : Mi := (⟨"MovieBoxes$PlaceTable", "payloadToWrite", "()I"⟩, prog_6_method_6_code, 1, (some .int))
theorem d_P_payloadToWrite_0 : decode prog_6_method_6_code 0 = .ok (.iconst 1, 1) := by decide +kernel
theorem d_P_payloadToWrite_1 : decode prog_6_method_6_code 1 = .ok (.aload_n 0, 1) := by decide +kernel
theorem d_P_payloadToWrite_2 : decode prog_6_method_6_code 2 = .ok (.invokevirtual 34, 3) := by decide +kernel
theorem d_P_payloadToWrite_5 : decode prog_6_method_6_code 5 = .ok (.ifCond .eq 12, 3) := by decide +kernel
theorem d_P_payloadToWrite_17 : decode prog_6_method_6_code 17 = .ok (.aload_n 0, 1) := by decide +kernel
theorem d_P_payloadToWrite_18 : decode prog_6_method_6_code 18 = .ok (.getfield 41, 3) := by decide +kernel
set_option maxRecDepth 20000 in
theorem w_327 : Cond.fieldLink "MovieBoxes$PlaceTable" 41 "MovieBoxes$PlaceTable" "rows" "I" ∈ gt := gt_of (in_t2 (List.mem_of_getElem? (i := 87) rfl)) rfl
set_option maxRecDepth 20000 in
theorem w_328 : Cond.sameField "MovieBoxes$PlaceTable" "MovieBoxes$Table" "rows" "I" ∈ gt := gt_of (in_t2 (List.mem_of_getElem? (i := 88) rfl)) rfl
theorem fl_P_41_3 : FL "MovieBoxes$PlaceTable" 41 3 11 false := ⟨_, _, _, "MovieBoxes$PlaceTable", rfl, by decide, rfl, Or.inl w_327, Or.inr w_328⟩
theorem fl_P_41_4 : FL "MovieBoxes$PlaceTable" 41 4 11 false := ⟨_, _, _, "MovieBoxes$PlaceTable", rfl, by decide, rfl, Or.inl w_327, Or.inr w_328⟩
theorem fl_P_41_5 : FL "MovieBoxes$PlaceTable" 41 5 11 false := ⟨_, _, _, "MovieBoxes$PlaceTable", rfl, by decide, rfl, Or.inl w_327, Or.inr w_328⟩
theorem ft_P_41 : FT "MovieBoxes$PlaceTable" 41 := ft3 fl_P_41_3 fl_P_41_4 fl_P_41_5
theorem d_P_payloadToWrite_21 : decode prog_6_method_6_code 21 = .ok (.iadd, 1) := by decide +kernel
theorem d_P_payloadToWrite_22 : decode prog_6_method_6_code 22 = .ok (.ireturn, 1) := by decide +kernel
theorem d_P_payloadToWrite_8 : decode prog_6_method_6_code 8 = .ok (.aload_n 0, 1) := by decide +kernel
theorem d_P_payloadToWrite_9 : decode prog_6_method_6_code 9 = .ok (.getfield 41, 3) := by decide +kernel
theorem d_P_payloadToWrite_12 : decode prog_6_method_6_code 12 = .ok (.iconst 1, 1) := by decide +kernel
theorem d_P_payloadToWrite_13 : decode prog_6_method_6_code 13 = .ok (.ishl, 1) := by decide +kernel
theorem d_P_payloadToWrite_14 : decode prog_6_method_6_code 14 = .ok (.goto 7, 3) := by decide +kernel
abbrev q_X_measure : Mi := (⟨"MovieBoxes", "measure", "(LMovieBoxes$Box;I)I"⟩, prog_1_method_26_code, 4, (some .int))
theorem d_X_measure_90 : decode prog_1_method_26_code 90 = .ok (.putfield 294, 3) := by decide +kernel
set_option maxRecDepth 20000 in
theorem w_87 : Cond.fieldLink "MovieBoxes" 294 "MovieBoxes$Box" "newHeader" "I" ∈ gt := gt_of (in_t1 (List.mem_of_getElem? (i := 87) rfl)) rfl
theorem fl_X_294_1 : FL "MovieBoxes" 294 1 9 false := ⟨_, _, _, "MovieBoxes$Box", rfl, by decide, rfl, Or.inl w_87, Or.inl rfl⟩
theorem fl_X_294_2 : FL "MovieBoxes" 294 2 9 false := ⟨_, _, _, "MovieBoxes$Box", rfl, by decide, rfl, Or.inl w_87, Or.inl rfl⟩
theorem fl_X_294_3 : FL "MovieBoxes" 294 3 9 false := ⟨_, _, _, "MovieBoxes$Box", rfl, by decide, rfl, Or.inl w_87, Or.inl rfl⟩
theorem fl_X_294_4 : FL "MovieBoxes" 294 4 9 false := ⟨_, _, _, "MovieBoxes$Box", rfl, by decide, rfl, Or.inl w_87, Or.inl rfl⟩
theorem fl_X_294_5 : FL "MovieBoxes" 294 5 9 false := ⟨_, _, _, "MovieBoxes$Box", rfl, by decide, rfl, Or.inl w_87, Or.inl rfl⟩
theorem fb_X_294 : FB "MovieBoxes" 294 9 .int := fb5 fl_X_294_1 fl_X_294_2 fl_X_294_3 fl_X_294_4 fl_X_294_5 rfl rfl rfl rfl rfl
theorem d_X_measure_93 : decode prog_1_method_26_code 93 = .ok (.aload_n 0, 1) := by decide +kernel
theorem d_X_measure_94 : decode prog_1_method_26_code 94 = .ok (.aload_n 0, 1) := by decide +kernel
theorem d_X_measure_95 : decode prog_1_method_26_code 95 = .ok (.getfield 294, 3) := by decide +kernel
theorem d_X_measure_98 : decode prog_1_method_26_code 98 = .ok (.iload_n 2, 1) := by decide +kernel
theorem d_X_measure_99 : decode prog_1_method_26_code 99 = .ok (.iadd, 1) := by decide +kernel
theorem d_X_measure_100 : decode prog_1_method_26_code 100 = .ok (.putfield 297, 3) := by decide +kernel
set_option maxRecDepth 20000 in
theorem w_88 : Cond.fieldLink "MovieBoxes" 297 "MovieBoxes$Box" "newSize" "I" ∈ gt := gt_of (in_t1 (List.mem_of_getElem? (i := 88) rfl)) rfl
theorem fl_X_297_1 : FL "MovieBoxes" 297 1 10 false := ⟨_, _, _, "MovieBoxes$Box", rfl, by decide, rfl, Or.inl w_88, Or.inl rfl⟩
theorem fl_X_297_2 : FL "MovieBoxes" 297 2 10 false := ⟨_, _, _, "MovieBoxes$Box", rfl, by decide, rfl, Or.inl w_88, Or.inl rfl⟩
theorem fl_X_297_3 : FL "MovieBoxes" 297 3 10 false := ⟨_, _, _, "MovieBoxes$Box", rfl, by decide, rfl, Or.inl w_88, Or.inl rfl⟩
theorem fl_X_297_4 : FL "MovieBoxes" 297 4 10 false := ⟨_, _, _, "MovieBoxes$Box", rfl, by decide, rfl, Or.inl w_88, Or.inl rfl⟩
theorem fl_X_297_5 : FL "MovieBoxes" 297 5 10 false := ⟨_, _, _, "MovieBoxes$Box", rfl, by decide, rfl, Or.inl w_88, Or.inl rfl⟩
theorem fb_X_297 : FB "MovieBoxes" 297 10 .int := fb5 fl_X_297_1 fl_X_297_2 fl_X_297_3 fl_X_297_4 fl_X_297_5 rfl rfl rfl rfl rfl
theorem d_X_measure_103 : decode prog_1_method_26_code 103 = .ok (.aload_n 0, 1) := by decide +kernel
theorem d_X_measure_104 : decode prog_1_method_26_code 104 = .ok (.getfield 297, 3) := by decide +kernel
theorem d_X_measure_107 : decode prog_1_method_26_code 107 = .ok (.ireturn, 1) := by decide +kernel
theorem d_X_measure_64 : decode prog_1_method_26_code 64 = .ok (.aload_n 0, 1) := by decide +kernel
theorem d_X_measure_65 : decode prog_1_method_26_code 65 = .ok (.aload_n 0, 1) := by decide +kernel
theorem d_X_measure_66 : decode prog_1_method_26_code 66 = .ok (.getfield 142, 3) := by decide +kernel
theorem d_X_measure_69 : decode prog_1_method_26_code 69 = .ok (.iconst 4, 1) := by decide +kernel
theorem d_X_measure_70 : decode prog_1_method_26_code 70 = .ok (.if_icmp .eq 15, 3) := by decide +kernel
theorem d_X_measure_85 : decode prog_1_method_26_code 85 = .ok (.iconst 4, 1) := by decide +kernel
theorem d_X_measure_86 : decode prog_1_method_26_code 86 = .ok (.goto 4, 3) := by decide +kernel
theorem d_X_measure_73 : decode prog_1_method_26_code 73 = .ok (.aload_n 0, 1) := by decide +kernel
theorem d_X_measure_74 : decode prog_1_method_26_code 74 = .ok (.getfield 142, 3) := by decide +kernel
theorem d_X_measure_77 : decode prog_1_method_26_code 77 = .ok (.iload_n 2, 1) := by decide +kernel
theorem d_X_measure_78 : decode prog_1_method_26_code 78 = .ok (.iadd, 1) := by decide +kernel
theorem d_X_measure_79 : decode prog_1_method_26_code 79 = .ok (.sipush 255, 3) := by decide +kernel
theorem d_X_measure_82 : decode prog_1_method_26_code 82 = .ok (.if_icmp .le 7, 3) := by decide +kernel
theorem d_X_measure_89 : decode prog_1_method_26_code 89 = .ok (.iconst 2, 1) := by decide +kernel
theorem d_X_measure_0 : decode prog_1_method_26_code 0 = .ok (.iconst 0, 1) := by decide +kernel
theorem d_X_measure_1 : decode prog_1_method_26_code 1 = .ok (.istore_n 2, 1) := by decide +kernel
theorem d_X_measure_2 : decode prog_1_method_26_code 2 = .ok (.aload_n 0, 1) := by decide +kernel
theorem d_X_measure_3 : decode prog_1_method_26_code 3 = .ok (.instanceof 16, 3) := by decide +kernel
theorem d_X_measure_44 : decode prog_1_method_26_code 44 = .ok (.goto 20, 3) := by decide +kernel
theorem d_X_measure_22 : decode prog_1_method_26_code 22 = .ok (.aload_n 3, 1) := by decide +kernel
theorem d_X_measure_23 : decode prog_1_method_26_code 23 = .ok (.ifnull 21, 3) := by decide +kernel
theorem d_X_measure_26 : decode prog_1_method_26_code 26 = .ok (.iload_n 2, 1) := by decide +kernel
theorem d_X_measure_27 : decode prog_1_method_26_code 27 = .ok (.aload_n 3, 1) := by decide +kernel
theorem d_X_measure_28 : decode prog_1_method_26_code 28 = .ok (.iload_n 1, 1) := by decide +kernel
theorem d_X_measure_29 : decode prog_1_method_26_code 29 = .ok (.iconst 1, 1) := by decide +kernel
theorem d_X_measure_30 : decode prog_1_method_26_code 30 = .ok (.iadd, 1) := by decide +kernel
theorem d_X_measure_31 : decode prog_1_method_26_code 31 = .ok (.invokestatic 285, 3) := by decide +kernel
set_option maxRecDepth 20000 in
theorem w_625 : Cond.methodLink "MovieBoxes" 285 ⟨"MovieBoxes", "measure", "(LMovieBoxes$Box;I)I"⟩ ∈ gt := gt_of (in_t3 (List.mem_of_getElem? (i := 145) rfl)) rfl
set_option maxRecDepth 20000 in
theorem w_626 : Cond.static ⟨"MovieBoxes", "measure", "(LMovieBoxes$Box;I)I"⟩ ∈ gt := gt_of (in_t3 (List.mem_of_getElem? (i := 146) rfl)) rfl
set_option maxRecDepth 20000 in
theorem w_627 : Cond.code ⟨"MovieBoxes", "measure", "(LMovieBoxes$Box;I)I"⟩ prog_1_method_26_code 4 (some .int) ∈ gt := gt_of (in_t3 (List.mem_of_getElem? (i := 147) rfl)) rfl
theorem lk_X_285 : LkS "MovieBoxes" 285 q_X_measure 2 := ⟨(List.forall_mem_cons.mpr ⟨w_625, (List.forall_mem_cons.mpr ⟨w_626, (List.forall_mem_cons.mpr ⟨w_1, (fun _ h => absurd h List.not_mem_nil)⟩)⟩)⟩), w_627, by decide +kernel⟩
theorem d_X_measure_34 : decode prog_1_method_26_code 34 = .ok (.iadd, 1) := by decide +kernel
theorem d_X_measure_35 : decode prog_1_method_26_code 35 = .ok (.istore_n 2, 1) := by decide +kernel
theorem d_X_measure_36 : decode prog_1_method_26_code 36 = .ok (.aload_n 3, 1) := by decide +kernel
theorem d_X_measure_37 : decode prog_1_method_26_code 37 = .ok (.getfield 223, 3) := by decide +kernel
theorem d_X_measure_40 : decode prog_1_method_26_code 40 = .ok (.astore_n 3, 1) := by decide +kernel
theorem d_X_measure_41 : decode prog_1_method_26_code 41 = .ok (.goto (-19), 3) := by decide +kernel
theorem d_X_measure_6 : decode prog_1_method_26_code 6 = .ok (.ifCond .eq 41, 3) := by decide +kernel
theorem d_X_measure_9 : decode prog_1_method_26_code 9 = .ok (.iload_n 1, 1) := by decide +kernel
theorem d_X_measure_10 : decode prog_1_method_26_code 10 = .ok (.iconst 3, 1) := by decide +kernel
theorem d_X_measure_11 : decode prog_1_method_26_code 11 = .ok (.if_icmp .ge 36, 3) := by decide +kernel
theorem d_X_measure_14 : decode prog_1_method_26_code 14 = .ok (.aload_n 0, 1) := by decide +kernel
theorem d_X_measure_15 : decode prog_1_method_26_code 15 = .ok (.checkcast 16, 3) := by decide +kernel
theorem d_X_measure_18 : decode prog_1_method_26_code 18 = .ok (.getfield 219, 3) := by decide +kernel
theorem d_X_measure_21 : decode prog_1_method_26_code 21 = .ok (.astore_n 3, 1) := by decide +kernel
theorem d_X_measure_63 : decode prog_1_method_26_code 63 = .ok (.istore_n 2, 1) := by decide +kernel
theorem d_X_measure_47 : decode prog_1_method_26_code 47 = .ok (.aload_n 0, 1) := by decide +kernel
theorem d_X_measure_48 : decode prog_1_method_26_code 48 = .ok (.instanceof 289, 3) := by decide +kernel
set_option maxRecDepth 20000 in
theorem w_628 : Cond.classLink "MovieBoxes" 289 "MovieBoxes$Written" ∈ gt := gt_of (in_t3 (List.mem_of_getElem? (i := 148) rfl)) rfl
theorem d_X_measure_51 : decode prog_1_method_26_code 51 = .ok (.ifCond .eq 13, 3) := by decide +kernel
theorem d_X_measure_54 : decode prog_1_method_26_code 54 = .ok (.aload_n 0, 1) := by decide +kernel
theorem d_X_measure_55 : decode prog_1_method_26_code 55 = .ok (.checkcast 289, 3) := by decide +kernel
theorem d_X_measure_58 : decode prog_1_method_26_code 58 = .ok (.invokeinterface 291 1, 5) := by decide +kernel
set_option maxRecDepth 20000 in
theorem w_630 : Cond.methodLink "MovieBoxes" 291 ⟨"MovieBoxes$Written", "payloadToWrite", "()I"⟩ ∈ gt := gt_of (in_t3 (List.mem_of_getElem? (i := 150) rfl)) rfl
set_option maxRecDepth 20000 in
theorem w_634 : Cond.selects "MovieBoxes$Leaf" ⟨"MovieBoxes$Written", "payloadToWrite", "()I"⟩ ⟨"MovieBoxes$Leaf", "payloadToWrite", "()I"⟩ ∈ gt := gt_of (in_t3 (List.mem_of_getElem? (i := 154) rfl)) rfl
set_option maxRecDepth 20000 in
theorem w_636 : Cond.instanceMethod ⟨"MovieBoxes$Leaf", "payloadToWrite", "()I"⟩ ∈ gt := gt_of (in_t3 (List.mem_of_getElem? (i := 156) rfl)) rfl
set_option maxRecDepth 20000 in
theorem w_638 : Cond.code ⟨"MovieBoxes$Leaf", "payloadToWrite", "()I"⟩ prog_5_method_3_code 1 (some .int) ∈ gt := gt_of (in_t3 (List.mem_of_getElem? (i := 158) rfl)) rfl
theorem lf_X_291_L : LkF "MovieBoxes" 291 "MovieBoxes$Leaf" ⟨"MovieBoxes$Written", "payloadToWrite", "()I"⟩ q_L_payloadToWrite 0 := ⟨(List.forall_mem_cons.mpr ⟨w_630, (List.forall_mem_cons.mpr ⟨w_634, (List.forall_mem_cons.mpr ⟨w_636, (List.forall_mem_cons.mpr ⟨w_11, (fun _ h => absurd h List.not_mem_nil)⟩)⟩)⟩)⟩), w_638, by decide +kernel, by decide +kernel⟩
set_option maxRecDepth 20000 in
theorem w_653 : Cond.selects "MovieBoxes$Table" ⟨"MovieBoxes$Written", "payloadToWrite", "()I"⟩ ⟨"MovieBoxes$Leaf", "payloadToWrite", "()I"⟩ ∈ gt := gt_of (in_t3 (List.mem_of_getElem? (i := 173) rfl)) rfl
theorem lf_X_291_T : LkF "MovieBoxes" 291 "MovieBoxes$Table" ⟨"MovieBoxes$Written", "payloadToWrite", "()I"⟩ q_L_payloadToWrite 0 := ⟨(List.forall_mem_cons.mpr ⟨w_630, (List.forall_mem_cons.mpr ⟨w_653, (List.forall_mem_cons.mpr ⟨w_636, (List.forall_mem_cons.mpr ⟨w_11, (fun _ h => absurd h List.not_mem_nil)⟩)⟩)⟩)⟩), w_638, by decide +kernel, by decide +kernel⟩
set_option maxRecDepth 20000 in
theorem w_640 : Cond.selects "MovieBoxes$PlaceTable" ⟨"MovieBoxes$Written", "payloadToWrite", "()I"⟩ ⟨"MovieBoxes$PlaceTable", "payloadToWrite", "()I"⟩ ∈ gt := gt_of (in_t3 (List.mem_of_getElem? (i := 160) rfl)) rfl
set_option maxRecDepth 20000 in
theorem w_642 : Cond.instanceMethod ⟨"MovieBoxes$PlaceTable", "payloadToWrite", "()I"⟩ ∈ gt := gt_of (in_t3 (List.mem_of_getElem? (i := 162) rfl)) rfl
set_option maxRecDepth 20000 in
theorem w_644 : Cond.code ⟨"MovieBoxes$PlaceTable", "payloadToWrite", "()I"⟩ prog_6_method_6_code 1 (some .int) ∈ gt := gt_of (in_t3 (List.mem_of_getElem? (i := 164) rfl)) rfl
theorem lf_X_291_P : LkF "MovieBoxes" 291 "MovieBoxes$PlaceTable" ⟨"MovieBoxes$Written", "payloadToWrite", "()I"⟩ q_P_payloadToWrite 0 := ⟨(List.forall_mem_cons.mpr ⟨w_630, (List.forall_mem_cons.mpr ⟨w_640, (List.forall_mem_cons.mpr ⟨w_642, (List.forall_mem_cons.mpr ⟨w_13, (fun _ h => absurd h List.not_mem_nil)⟩)⟩)⟩)⟩), w_644, by decide +kernel, by decide +kernel⟩
set_option maxRecDepth 20000 in
theorem w_650 : Cond.selects "MovieBoxes$SizeTable" ⟨"MovieBoxes$Written", "payloadToWrite", "()I"⟩ ⟨"MovieBoxes$Leaf", "payloadToWrite", "()I"⟩ ∈ gt := gt_of (in_t3 (List.mem_of_getElem? (i := 170) rfl)) rfl
theorem lf_X_291_S : LkF "MovieBoxes" 291 "MovieBoxes$SizeTable" ⟨"MovieBoxes$Written", "payloadToWrite", "()I"⟩ q_L_payloadToWrite 0 := ⟨(List.forall_mem_cons.mpr ⟨w_630, (List.forall_mem_cons.mpr ⟨w_650, (List.forall_mem_cons.mpr ⟨w_636, (List.forall_mem_cons.mpr ⟨w_11, (fun _ h => absurd h List.not_mem_nil)⟩)⟩)⟩)⟩), w_638, by decide +kernel, by decide +kernel⟩
/-! ===== the component: measure ===== -/
/-- the boxes, and which narrow tables have grown: the set w -/
def fW (G : gG) (y : xP) (z v : mS) (w : Int) : Prop := qI G y z v ∧ (fsOk v ∧ orOk v (v 0 0)) ∧ (z 0 2 = v 0 2 ∧ z 0 3 = v 0 3) ∧ (∀ t : Nat, (t : Int) < v 0 3 → tK y z v t) ∧ (0 ≤ w ∧ w ≤ 3 ∧ (v 0 3 = 1 → w ≤ 1)) ∧ (∀ k : Int, 0 ≤ k → k < yn y → z 27 k = 4 → (z 18 k = 0 ∨ z 18 k = 1) ∧ ∃ t : Nat, (t : Int) < v 0 3 ∧ pbx v t = k) ∧ (∀ t : Nat, (t : Int) < v 0 3 → (z 18 (pbx v t) = 1 ↔ wbit w t)) ∧ ∀ t : Nat, (t : Int) < v 0 3 → wbit w t → 0 ≤ tb v t 4
theorem tX_cz {y y' : xP} {z z' v : mS} {sl k : Int} (hy : yn y' = yn y) (hc : ∀ c, c ∈ [1, 2, 3, 5, 17, 26, 27] → z' c = z c) (h : tX y z v sl k) : tX y' z' v sl k := by
  unfold tX at h ⊢
  rw [hy, hc 1 (by decide), hc 2 (by decide), hc 3 (by decide), hc 5 (by decide), hc 17 (by decide), hc 26 (by decide), hc 27 (by decide)]
  exact h
theorem tK_cz {y : xP} {z z' v : mS} {t : Nat} (hc : ∀ c, c ∈ [1, 2, 3, 5, 17, 26, 27] → z' c = z c) (h : tK y z v t) : tK y z' v t := by
  obtain ⟨⟨a1, a2, a3⟩, b, c, d⟩ := h
  exact ⟨⟨a1, by unfold byOk; rw [hc 1 (by decide)]; exact a2, a3⟩, b, fun sl s0 s1 hp => tX_cz rfl hc (c sl s0 s1 hp), d⟩
/-- kept by changes of other cells -/
theorem fW_cz {G : gG} {y : xP} {z z' v : mS} {w : Int} (h0 : ∀ j, j = 1 ∨ j = 2 ∨ j = 3 → z' 0 j = z 0 j) (hc : ∀ c, c ∈ [1, 2, 3, 4, 5, 6, 7, 17, 18, 21, 23, 24, 25, 26, 27, 28] → z' c = z c) (h : fW G y z v w) : fW G y z' v w := by
  obtain ⟨a, b, ⟨c1, c2⟩, d, e, f, g, i⟩ := h
  refine ⟨qI_cg ⟨rfl, rfl, rfl, rfl, rfl, rfl⟩ (h0 1 (by omega)) (fun c hh => hc c ?_) a, b, ⟨by rw [h0 2 (by omega)]; exact c1, by rw [h0 3 (by omega)]; exact c2⟩, fun t ht => tK_cz (fun c hh => hc c ?_) (d t ht), e, ?_, ?_, i⟩
  · revert hh; revert c; decide
  · revert hh; revert c; decide
  · rw [hc 27 (by decide), hc 18 (by decide)]; exact f
  · rw [hc 18 (by decide)]; exact g
def gd13 (v : mS) (w : Int) (z : mS) (k : Int) : Prop := z 13 k = nhO v k (pyF v w k) ∧ z 14 k = nlF v w 3 k
theorem pbx_4 {v : mS} {t : Int} (h : 0 ≤ tb v t 4) : pbx v t = tb v t 4 := by unfold pbx; rw [if_neg (by omega)]
/-- the payload of a box that holds none -/
theorem py_leaf {G : gG} {y : xP} {z v : mS} {w : Int} (h : fW G y z v w) {k : Int} (h0 : 0 ≤ k) (h1 : k < yn y) (h27 : z 27 k ≠ 1) : pyF v w k = if z 27 k = 4 then 1 + (if z 18 k = 1 ∨ z 26 k = 8 then 2 * z 17 k else z 17 k) else z 3 k - z 5 k := by
  obtain ⟨hq, ⟨hf, -⟩, -, hK, hw, h4, hg, hn⟩ := h
  obtain ⟨⟨g2, g3, g4, g5, g6, g7⟩, g26, g27, -⟩ := hq.2.2.2.2.2 k h0 h1
  have hr : rdOk v := hf.1.2.1
  have hrk := hr.2 k h0 (by rw [hq.1.2.2.1]; exact h1)
  have hnh : ¬ isHold (v 6 k) (v 4 k) := fun q => h27 (by rw [g27, g26, g4, g6]; exact (hold_cl (by omega)).mp q)
  have h3 := hf.1.2.2.2.1
  unfold pyF
  rw [if_neg hnh, ← g3, ← g5]
  by_cases c4 : z 27 k = 4
  · rw [if_pos c4]
    obtain ⟨h18, t, ht, ep⟩ := h4 k h0 h1 c4
    have hX := (hK t ht).2.2.1 4 (by omega) (by omega) (hK t ht).2.2.2.2.2.2
    change tX y z v 4 (pbx v t) at hX
    rw [ep] at hX
    obtain ⟨-, -, -, ⟨-, -, x4, -⟩, x5, -, x7, x8⟩ := hX
    rw [if_neg (by omega)] at x5
    have x7 := x7 (by omega)
    have hgt := hg t ht
    rw [ep] at hgt
    rw [x5]
    by_cases q : z 18 k = 1
    · rw [if_pos (Or.inl q)]
      have hb := hgt.mp q
      have := hn t ht hb
      rw [pbx_4 this] at ep
      rw [lyN_yes (t := t) (by omega) ⟨hb, ep⟩]
    · have no : lyN v w k (z 3 k - z 5 k) (v 0 3).toNat = z 3 k - z 5 k := by
        refine lyN_no (fun t' ht' hh => q ?_)
        have p4 : pbx v t' = k := by rw [pbx_4 (by rw [hh.2]; exact h0)]; exact hh.2
        have := (hg t' (by omega)).mpr hh.1
        rw [p4] at this
        exact this
      rw [no, x7]
      rcases (slO_inv x4).2.2.2.2.1 rfl with o | o
      · rw [if_neg (by omega), o]; show 1 + 1 * _ = _; omega
      · rw [if_pos (Or.inr o), o]; rfl
  · rw [if_neg c4]
    refine lyN_no (fun t' ht' hh => c4 ?_)
    have p4 : pbx v t' = k := by rw [pbx_4 (by rw [hh.2]; exact h0)]; exact hh.2
    rw [← p4]
    exact tK_c4 (hK t' (by omega))
def nB : Nat → Int
  | 0 => 0
  | f + 1 => 1100 + 20 * nB f
theorem nB_n : ∀ f : Nat, 0 ≤ nB f
  | 0 => by decide
  | f + 1 => by have := nB_n f; unfold nB; omega
theorem nlF_b {v : mS} (hr : rdOk v) (hb : byOk v) (w : Int) : ∀ (f : Nat) (k : Int), 0 ≤ k → k < v 0 1 → 0 ≤ nlF v w f k ∧ nlF v w f k ≤ nB f
  | 0, k, _, _ => ⟨Int.le_refl _, Int.le_refl _⟩
  | f + 1, k, h0, h1 => by
    have hk := hr.2 k h0 h1
    have h20 := hr.1
    have hn := nB_n f
    have e : ∀ n0 : Int, 0 ≤ n0 → n0 ≤ 1000 + 20 * nB f → 0 ≤ lyN v w k n0 (v 0 3).toNat ∧ lyN v w k n0 (v 0 3).toNat ≤ 1000 + 20 * nB f := fun n0 a b => lyN_b hb w k n0 ⟨a, b⟩ (by omega) _
    unfold nlF
    generalize hn0 : (if isHold (v 6 k) (v 4 k) then sumI (fun i => if v 7 (v 0 1 - 1 - i) = k then nlF v w f (v 0 1 - 1 - i) else 0) (v 0 1 - 1 - k).toNat else v 3 k - v 5 k) = n0
    have : 0 ≤ n0 ∧ n0 ≤ 1000 + 20 * nB f := by
      rw [← hn0]
      split
      · have key : ∀ m : Nat, (m : Int) ≤ v 0 1 - 1 - k → 0 ≤ sumI (fun i => if v 7 (v 0 1 - 1 - i) = k then nlF v w f (v 0 1 - 1 - i) else 0) m ∧ sumI (fun i => if v 7 (v 0 1 - 1 - i) = k then nlF v w f (v 0 1 - 1 - i) else 0) m ≤ m * nB f := by
          intro m
          induction m with
          | zero => intro _; exact ⟨Int.le_refl _, by show (0 : Int) ≤ ((0 : Nat) : Int) * nB f; rw [show ((0 : Nat) : Int) * nB f = 0 from Int.zero_mul _]; omega⟩
          | succ m ih =>
            intro hm
            have a := ih (by omega)
            have b := nlF_b hr hb w f (v 0 1 - 1 - m) (by omega) (by omega)
            show 0 ≤ sumI _ m + (if v 7 (v 0 1 - 1 - (m : Int)) = k then nlF v w f (v 0 1 - 1 - m) else 0) ∧ sumI _ m + (if v 7 (v 0 1 - 1 - (m : Int)) = k then nlF v w f (v 0 1 - 1 - m) else 0) ≤ _
            have c : ((m + 1 : Nat) : Int) * nB f = m * nB f + nB f := by rw [Int.natCast_add, Int.add_mul]; show _ + 1 * _ = _; omega
            rw [c]
            split <;> omega
        have a := key (v 0 1 - 1 - k).toNat (by omega)
        have b : (((v 0 1 - 1 - k).toNat : Nat) : Int) * nB f ≤ 20 * nB f := Int.mul_le_mul_of_nonneg_right (by omega) hn
        omega
      · omega
    have := e n0 this.1 this.2
    show 0 ≤ nhO v k _ + _ ∧ nhO v k _ + _ ≤ 1100 + 20 * nB f
    have hh : ∀ n, nhO v k n = 2 ∨ nhO v k n = 4 := fun n => by unfold nhO; split <;> omega
    rcases hh (lyN v w k n0 (v 0 3).toNat) with q | q <;> rw [q] <;> omega
theorem nB_3 : nB 3 = 463100 := by decide
theorem shl1_nat : ∀ c : Nat, c < 256 → zI (c : Int) <<< (zI 1 &&& 31) = zI (2 * (c : Int)) := by decide +kernel
theorem zI_shl1 {x : Int} (h : 0 ≤ x ∧ x < 256) : zI x <<< (zI 1 &&& 31) = zI (2 * x) := by
  obtain ⟨j, rfl⟩ := Int.eq_ofNat_of_zero_le h.1
  exact shl1_nat j (by omega)
section XWR
variable (G : gG) (l : Launch) (y : xP)
theorem c_L_type (z : mS) (k : Int) (hk : -1 ≤ k ∧ k < yn y) (hc : 1 ≤ z 27 k ∧ z 27 k ≤ 5) : Ct G l q_L_typeToWrite 1 0 0 [.ref (yo y k)] (xW G y z) (fun r w => r = some (vI (z 4 k)) ∧ w = xW G y z) := by
  refine Ct.intro [some (.ref (yo y k))] (by decide) (Nat.le_of_ble_eq_true rfl) rfl (fun sz => ?_)
  generalize hQ : (fun r w => r = some (vI (z 4 k)) ∧ w = xW G y z) = Q
  refine r_aload_n d_L_typeToWrite_0 rfl rfl ?_
  refine r_getB d_L_typeToWrite_1 fb_L_7 (k) hk hc rfl ?_
  refine r_iret d_L_typeToWrite_4 rfl (Nat.le_of_ble_eq_true rfl) (Nat.le_of_ble_eq_true rfl) ?_
  rw [← hQ]; exact ⟨rfl, rfl⟩
theorem c_L_pay (z : mS) (k : Int) (hk : -1 ≤ k ∧ k < yn y) (hc : 1 ≤ z 27 k ∧ z 27 k ≤ 5) : Ct G l q_L_payloadToWrite 1 0 0 [.ref (yo y k)] (xW G y z) (fun r w => r = some (vI (z 3 k - z 5 k)) ∧ w = xW G y z) := by
  refine Ct.intro [some (.ref (yo y k))] (by decide) (Nat.le_of_ble_eq_true rfl) rfl (fun sz => ?_)
  generalize hQ : (fun r w => r = some (vI (z 3 k - z 5 k)) ∧ w = xW G y z) = Q
  refine r_aload_n d_L_payloadToWrite_0 rfl rfl ?_
  refine r_getB d_L_payloadToWrite_1 fb_L_13 (k) hk hc rfl ?_
  refine r_aload_n d_L_payloadToWrite_4 rfl rfl ?_
  refine r_getB d_L_payloadToWrite_5 fb_L_16 (k) hk hc rfl ?_
  refine r_isub d_L_payloadToWrite_8 ?_
  refine r_iret d_L_payloadToWrite_9 rfl (Nat.le_of_ble_eq_true rfl) (Nat.le_of_ble_eq_true rfl) ?_
  rw [← hQ]; exact ⟨rfl, rfl⟩
theorem c_P_type (z : mS) (k : Int) (hk : -1 ≤ k ∧ k < yn y) (h4 : z 27 k = 4) (ho : 0 ≤ z 26 k ∧ z 26 k < 12) (hg : z 18 k = 0 ∨ z 18 k = 1) : Ct G l q_P_typeToWrite 1 0 0 [.ref (yo y k)] (xW G y z) (fun r w => r = some (vI (if z 18 k = 1 ∨ z 26 k = 8 then 79 else z 4 k)) ∧ w = xW G y z) := by
  have hc : 1 ≤ z 27 k ∧ z 27 k ≤ 5 := by omega
  refine Ct.intro [some (.ref (yo y k))] (by decide) (Nat.le_of_ble_eq_true rfl) rfl (fun sz => ?_)
  generalize hQ : (fun r w => r = some (vI (if z 18 k = 1 ∨ z 26 k = 8 then 79 else z 4 k)) ∧ w = xW G y z) = Q
  refine r_aload_n d_P_typeToWrite_0 rfl rfl ?_
  refine r_cV0 d_P_typeToWrite_1 lk_P_34 (c_P_wide G l y z k hk h4 ho hg) (13 + k).toNat rfl (xw_bc hk h4) (Nat.le_of_ble_eq_true rfl) (rok rfl rfl) ⟨(Nat.le_of_ble_eq_true rfl), (Nat.le_of_ble_eq_true rfl)⟩ (fun r ws2 hq => ?_)
  obtain ⟨rfl, rfl⟩ := hq
  show WP _ _ _ _ _ _ (_ :: _)
  refine r_if_eq 12 d_P_typeToWrite_4 (by decide) (by unfold i32; split <;> omega) (fun h1 => ?_) (fun h1 => ?_)
  · refine r_aload_n d_P_typeToWrite_12 rfl rfl ?_
    refine r_getB d_P_typeToWrite_13 fb_P_38 (k) hk hc rfl ?_
    refine r_iret d_P_typeToWrite_16 rfl (Nat.le_of_ble_eq_true rfl) (Nat.le_of_ble_eq_true rfl) ?_
    rw [← hQ]; exact ⟨by rw [if_neg]; intro q; rw [if_pos q] at h1; omega, rfl⟩
  · refine r_bipush d_P_typeToWrite_7 (by decide) ?_
    refine r_goto 16 d_P_typeToWrite_9 (by decide) ?_
    refine r_iret d_P_typeToWrite_16 rfl (Nat.le_of_ble_eq_true rfl) (Nat.le_of_ble_eq_true rfl) ?_
    rw [← hQ]; exact ⟨by rw [if_pos]; exact Classical.byContradiction fun q => h1 (by rw [if_neg q]), rfl⟩
theorem c_P_pay (z : mS) (k : Int) (hk : -1 ≤ k ∧ k < yn y) (h4 : z 27 k = 4) (ho : 0 ≤ z 26 k ∧ z 26 k < 12) (hg : z 18 k = 0 ∨ z 18 k = 1) (hr : 0 ≤ z 17 k ∧ z 17 k < 256) : Ct G l q_P_payloadToWrite 1 0 0 [.ref (yo y k)] (xW G y z) (fun r w => r = some (vI (1 + (if z 18 k = 1 ∨ z 26 k = 8 then 2 * z 17 k else z 17 k))) ∧ w = xW G y z) := by
  have hc : 3 ≤ z 27 k ∧ z 27 k ≤ 5 := by omega
  refine Ct.intro [some (.ref (yo y k))] (by decide) (Nat.le_of_ble_eq_true rfl) rfl (fun sz => ?_)
  generalize hQ : (fun r w => r = some (vI (1 + (if z 18 k = 1 ∨ z 26 k = 8 then 2 * z 17 k else z 17 k))) ∧ w = xW G y z) = Q
  refine r_iconst d_P_payloadToWrite_0 ?_
  refine r_aload_n d_P_payloadToWrite_1 rfl rfl ?_
  refine r_cV0 d_P_payloadToWrite_2 lk_P_34 (c_P_wide G l y z k hk h4 ho hg) (13 + k).toNat rfl (xw_bc hk h4) (Nat.le_of_ble_eq_true rfl) (rok rfl rfl) ⟨(Nat.le_of_ble_eq_true rfl), (Nat.le_of_ble_eq_true rfl)⟩ (fun r ws2 hq => ?_)
  obtain ⟨rfl, rfl⟩ := hq
  show WP _ _ _ _ _ _ (_ :: _)
  refine r_if_eq 17 d_P_payloadToWrite_5 (by decide) (by unfold i32; split <;> omega) (fun h1 => ?_) (fun h1 => ?_)
  · refine r_aload_n d_P_payloadToWrite_17 rfl rfl ?_
    refine r_getT d_P_payloadToWrite_18 ft_P_41 (k) hk hc ?_
    refine r_iadd d_P_payloadToWrite_21 ?_
    refine r_iret d_P_payloadToWrite_22 rfl (Nat.le_of_ble_eq_true rfl) (Nat.le_of_ble_eq_true rfl) ?_
    rw [← hQ]; exact ⟨by rw [if_neg]; intro q; rw [if_pos q] at h1; omega, rfl⟩
  · refine r_aload_n d_P_payloadToWrite_8 rfl rfl ?_
    refine r_getT d_P_payloadToWrite_9 ft_P_41 (k) hk hc ?_
    refine r_iconst d_P_payloadToWrite_12 ?_
    refine r_ishlR d_P_payloadToWrite_13 ?_
    rw [zI_shl1 hr]
    refine r_goto 21 d_P_payloadToWrite_14 (by decide) ?_
    refine r_iadd d_P_payloadToWrite_21 ?_
    refine r_iret d_P_payloadToWrite_22 rfl (Nat.le_of_ble_eq_true rfl) (Nat.le_of_ble_eq_true rfl) ?_
    rw [← hQ]; exact ⟨by rw [if_pos]; exact Classical.byContradiction fun q => h1 (by rw [if_neg q]), rfl⟩
end XWR
/-- measure's contract on a level -/
def MS (G : gG) (l : Launch) (v : mS) (w : Int) (lev : Nat) : Prop := ∀ (y : xP) (z : mS) (b : Int), fW G y z v w → 0 ≤ b → b < yn y → v 6 b = lev →
  Ct G l q_X_measure (10 - lev) 0 0 [.ref (yo y b), vI lev] (xW G y z) (fun r x => r = some (vI (nlF v w 3 b)) ∧ ∃ z', x = xW G y z' ∧ (∀ c, c ≠ 13 → c ≠ 14 → z' c = z c) ∧ (∀ k, (z' 13 k = z 13 k ∧ z' 14 k = z 14 k) ∨ gd13 v w z' k) ∧ gd13 v w z' b ∧ ∀ k : Int, 0 ≤ k → k < yn y → v 7 k = b → gd13 v w z' k ∧ ∀ k' : Int, 0 ≤ k' → k' < yn y → v 7 k' = k → gd13 v w z' k')
section XMEAS
variable (G : gG) (l : Launch) (v : mS) (w : Int)
set_option maxRecDepth 8000 in
set_option maxHeartbeats 4000000 in
theorem c_X_measure (lev : Nat) (hlev : lev ≤ 2) (IH : lev < 2 → MS G l v w (lev + 1)) : MS G l v w lev := by
  intro y z b hW hb0 hb1 hl6
  have hb1' : -1 ≤ b ∧ b < yn y := by omega
  obtain ⟨hq', ⟨hf, -⟩, -, hK, -, h4, -, -⟩ := id hW
  have hr : rdOk v := hf.1.2.1
  have ho : hoOk v := hf.1.2.2.1
  have hby : byOk v := hf.1.1
  have h01 : v 0 1 = yn y := hq'.1.2.2.1
  have hB := qI_bI hq'
  have hcb := bI_cl hB hb1'.1 hb1'.2
  obtain ⟨⟨g2, g3, g4, g5, g6, g7⟩, g26, g27, -⟩ := hq'.2.2.2.2.2 b hb0 hb1
  have hrb := hr.2 b hb0 (by omega)
  have hnl := nlF_3 hr ho w b hb0 (by omega)
  have hnb := nlF_b hr hby w 3 b hb0 (by omega)
  rw [nB_3] at hnb
  have hpb : -4 ≤ pyF v w b ∧ pyF v w b ≤ 463100 := by
    have hh : nhO v b (pyF v w b) = 2 ∨ nhO v b (pyF v w b) = 4 := by unfold nhO; split <;> omega
    omega
  refine Ct.intro [some (.ref (yo y b)), some (vI lev), none, none] (by decide) (Nat.le_of_ble_eq_true rfl) rfl (fun sz => ?_)
  generalize hQ : (fun (r : Option Value) (x : va_W) => r = some (vI (nlF v w 3 b)) ∧ ∃ z', x = xW G y z' ∧ (∀ c, c ≠ 13 → c ≠ 14 → z' c = z c) ∧ (∀ k, (z' 13 k = z 13 k ∧ z' 14 k = z 14 k) ∨ gd13 v w z' k) ∧ gd13 v w z' b ∧ ∀ k : Int, 0 ≤ k → k < yn y → v 7 k = b → gd13 v w z' k ∧ ∀ k' : Int, 0 ≤ k' → k' < yn y → v 7 k' = k → gd13 v w z' k') = Q
  -- the end
  have c64 : ∀ (z1 : mS) (x3 : Option Value), (∀ c, c ≠ 13 → c ≠ 14 → z1 c = z c) → (∀ k, (z1 13 k = z 13 k ∧ z1 14 k = z 14 k) ∨ gd13 v w z1 k) → (∀ k : Int, 0 ≤ k → k < yn y → v 7 k = b → gd13 v w z1 k ∧ ∀ k' : Int, 0 ≤ k' → k' < yn y → v 7 k' = k → gd13 v w z1 k') → WP (mth G l q_X_measure (10 - lev) 0 0 (xW G y z) sz Q) 0 0 (xW G y z1) 64 [some (.ref (yo y b)), some (vI lev), some (vI (pyF v w b)), x3] [] := by
    intro z1 x3 hz hch hkid
    have e27 : z1 27 b = z 27 b := by rw [hz 27 (by omega) (by omega)]
    have hc1 : 1 ≤ z1 27 b ∧ z1 27 b ≤ 5 := by omega
    have e5 : z1 5 b = v 5 b := by rw [hz 5 (by omega) (by omega)]; exact g5
    have c90 : ∀ nh : Int, nh = nhO v b (pyF v w b) → WP (mth G l q_X_measure (10 - lev) 0 0 (xW G y z) sz Q) 0 0 (xW G y z1) 90 [some (.ref (yo y b)), some (vI lev), some (vI (pyF v w b)), x3] [vI nh, .ref (yo y b)] := by
      intro nh hnh
      refine r_putB (c := 13) d_X_measure_90 fb_X_294 (b) hb1' hc1 rfl rfl rfl (bs_of (by decide) rfl) ?_
      show WP _ _ _ (xW G y (sset z1 13 b nh)) _ _ _
      refine r_aload_n d_X_measure_93 rfl rfl ?_
      refine r_aload_n d_X_measure_94 rfl rfl ?_
      refine r_getB d_X_measure_95 fb_X_294 (b) hb1' hc1 rfl ?_
      refine r_iload_n d_X_measure_98 rfl ?_
      refine r_iadd d_X_measure_99 ?_
      show WP _ _ _ _ _ _ (vI (sset z1 13 b nh 13 b + _) :: _)
      rw [sset_eq, hnh, ← hnl]
      refine r_putB (c := 14) d_X_measure_100 fb_X_297 (b) hb1' hc1 rfl rfl rfl (bs_of (by decide) rfl) ?_
      show WP _ _ _ (xW G y (sset (sset z1 13 b (nhO v b (pyF v w b))) 14 b (nlF v w 3 b))) _ _ _
      have f13 : ∀ k, sset (sset z1 13 b (nhO v b (pyF v w b))) 14 b (nlF v w 3 b) 13 k = if k = b then nhO v b (pyF v w b) else z1 13 k := fun k => by
        rw [sset_ne (by omega), sset_at, if_pos rfl, updI_at]
      have f14 : ∀ k, sset (sset z1 13 b (nhO v b (pyF v w b))) 14 b (nlF v w 3 b) 14 k = if k = b then nlF v w 3 b else z1 14 k := fun k => by
        rw [sset_at, if_pos rfl, updI_at, sset_ne (by omega)]
      have fo : ∀ c, c ≠ 13 → c ≠ 14 → sset (sset z1 13 b (nhO v b (pyF v w b))) 14 b (nlF v w 3 b) c = z1 c := fun c a d => by rw [sset_ne d, sset_ne a]
      generalize sset (sset z1 13 b (nhO v b (pyF v w b))) 14 b (nlF v w 3 b) = z2 at f13 f14 fo ⊢
      have gb : gd13 v w z2 b := ⟨by rw [f13, if_pos rfl], by rw [f14, if_pos rfl]⟩
      have gk : ∀ k, gd13 v w z1 k → gd13 v w z2 k := by
        intro k hk
        by_cases e : k = b
        · rw [e]; exact gb
        · exact ⟨by rw [f13, if_neg e]; exact hk.1, by rw [f14, if_neg e]; exact hk.2⟩
      have hc2 : 1 ≤ z2 27 b ∧ z2 27 b ≤ 5 := by rw [fo 27 (by omega) (by omega)]; exact hc1
      refine r_aload_n d_X_measure_103 rfl rfl ?_
      refine r_getB d_X_measure_104 fb_X_297 (b) hb1' hc2 rfl ?_
      refine r_iret d_X_measure_107 rfl (Nat.le_of_ble_eq_true rfl) (Nat.le_of_ble_eq_true rfl) ?_
      rw [← hQ]
      refine ⟨by rw [gb.2], z2, rfl, fun c a d => by rw [fo c a d, hz c a d], fun k => ?_, gb, fun k k0 k1 k2 => ⟨gk k (hkid k k0 k1 k2).1, fun k' a d e => gk k' ((hkid k k0 k1 k2).2 k' a d e)⟩⟩
      by_cases e : k = b
      · subst e; exact Or.inr gb
      · rcases hch k with ⟨q1, q2⟩ | q
        · exact Or.inl ⟨by rw [f13, if_neg e]; exact q1, by rw [f14, if_neg e]; exact q2⟩
        · exact Or.inr (gk k q)
    refine r_aload_n d_X_measure_64 rfl rfl ?_
    refine r_aload_n d_X_measure_65 rfl rfl ?_
    refine r_getB d_X_measure_66 fb_X_142 (b) hb1' hc1 rfl ?_
    refine r_iconst d_X_measure_69 ?_
    rw [e5]
    refine r_icmp_eq 85 d_X_measure_70 (by decide) (by unfold i32; omega) (by unfold i32; omega) (fun h1 => ?_) (fun h1 => ?_)
    · refine r_iconst d_X_measure_85 ?_
      refine r_goto 90 d_X_measure_86 (by decide) ?_
      exact c90 4 (by unfold nhO; rw [if_pos (Or.inl h1)])
    · refine r_aload_n d_X_measure_73 rfl rfl ?_
      refine r_getB d_X_measure_74 fb_X_142 (b) hb1' hc1 rfl ?_
      refine r_iload_n d_X_measure_77 rfl ?_
      refine r_iadd d_X_measure_78 ?_
      refine r_sipush d_X_measure_79 (by decide) ?_
      rw [e5]
      refine r_icmp_le 89 d_X_measure_82 (by decide) (by unfold i32; omega) (by unfold i32; omega) (fun h2 => ?_) (fun h2 => ?_)
      · refine r_iconst d_X_measure_89 ?_
        exact c90 2 (by unfold nhO; rw [if_neg (by omega)])
      · refine r_iconst d_X_measure_85 ?_
        refine r_goto 90 d_X_measure_86 (by decide) ?_
        exact c90 4 (by unfold nhO; rw [if_pos (Or.inr (by omega))])
  refine r_iconst d_X_measure_0 ?_
  refine r_istore_n d_X_measure_1 (Nat.le_of_ble_eq_true rfl) rfl ?_
  show WP _ _ _ _ _ [_, _, _, _] _
  refine r_aload_n d_X_measure_2 rfl rfl ?_
  refine r_instH d_X_measure_3 w_29 b hb1' hcb (fun h27 => ?_) (fun h27 => ?_)
  · have hH : isHold (v 6 b) (v 4 b) := (hold_cl (by omega)).mpr (by rw [← g4, ← g6, ← g26, ← g27]; exact h27)
    have hl1 : lev < 2 := by unfold isHold at hH; omega
    have hpy := pyF_h hf (w := w) hb0 (by omega) hH
    have lp : ∀ (F m : Nat) (z1 : mS), yn y - m ≤ F → m ≤ yn y → (∀ c, c ≠ 13 → c ≠ 14 → z1 c = z c) → (∀ k, (z1 13 k = z 13 k ∧ z1 14 k = z 14 k) ∨ gd13 v w z1 k) → (∀ k : Int, 0 ≤ k → k < m → v 7 k = b → gd13 v w z1 k ∧ ∀ k' : Int, 0 ≤ k' → k' < yn y → v 7 k' = k → gd13 v w z1 k') → WP (mth G l q_X_measure (10 - lev) 0 0 (xW G y z) sz Q) 0 0 (xW G y z1) 22 [some (.ref (yo y b)), some (vI lev), some (vI (sumI (fun j => if v 7 j = b then nlF v w 3 j else 0) m)), some (va_rf (rN (yo y) (nxt (z 7) b (yn y - m) m)))] [] := by
      intro F
      have fin : ∀ (m : Nat) (z1 : mS) (x3 : Option Value), m ≤ yn y → (∀ c, c ≠ 13 → c ≠ 14 → z1 c = z c) → (∀ k, (z1 13 k = z 13 k ∧ z1 14 k = z 14 k) ∨ gd13 v w z1 k) → (∀ k : Int, 0 ≤ k → k < m → v 7 k = b → gd13 v w z1 k ∧ ∀ k' : Int, 0 ≤ k' → k' < yn y → v 7 k' = k → gd13 v w z1 k') → (∀ j : Int, m ≤ j → j < yn y → z 7 j ≠ b) → WP (mth G l q_X_measure (10 - lev) 0 0 (xW G y z) sz Q) 0 0 (xW G y z1) 44 [some (.ref (yo y b)), some (vI lev), some (vI (sumI (fun j => if v 7 j = b then nlF v w 3 j else 0) m)), x3] [] := by
        intro m z1 x3 hm hz hch hkid hno
        have g7' : ∀ j : Int, 0 ≤ j → j < yn y → z 7 j = v 7 j := fun j a c => (hq'.2.2.2.2.2 j a c).1.2.2.2.2.2
        have es : sumI (fun j => if v 7 j = b then nlF v w 3 j else 0) m = pyF v w b := by
          rw [hpy]
          unfold chS
          rw [show (v 0 1).toNat = yn y by omega]
          refine (sumI_cut hm (fun i a c => if_neg ?_)).symm
          rw [← g7' i (by omega) (by omega)]
          exact hno i (by omega) (by omega)
        rw [es]
        refine r_goto 64 d_X_measure_44 (by decide) ?_
        refine c64 z1 _ hz hch (fun k k0 k1 k2 => hkid k k0 ?_ k2)
        by_cases q : k < m
        · exact q
        · exact absurd (by rw [g7' k k0 k1]; exact k2) (hno k (by omega) k1)
      induction F with
      | zero =>
        intro m z1 hF hm hz hch hkid
        rw [show yn y - m = 0 by omega]
        refine r_aload_n d_X_measure_22 rfl (isRf_rf _) ?_
        refine r_ifnull 44 d_X_measure_23 (by decide) (fun hn => ?_) (fun hna hn => ?_)
        · exact fin m z1 _ hm hz hch hkid (fun j a c => by omega)
        · cases hn
      | succ F ih =>
        intro m z1 hF hm hz hch hkid
        rcases nxt_step (z := z) (h := b) hm with ⟨e, hno⟩ | ⟨k, e, b1, b2, b3, b4⟩
        · rw [e]
          refine r_aload_n d_X_measure_22 rfl (isRf_rf _) ?_
          refine r_ifnull 44 d_X_measure_23 (by decide) (fun hn => ?_) (fun hna hn => ?_)
          · exact fin m z1 _ hm hz hch hkid hno
          · cases hn
        · rw [e, rN_nn (by omega)]
          have hW1 : fW G y z1 v w := fW_cz (fun j _ => by rw [hz 0 (by omega) (by omega)]) (fun c hc => hz c (by rintro rfl; revert hc; decide) (by rintro rfl; revert hc; decide)) hW
          have hB1 := qI_bI hW1.1
          have hkb : -1 ≤ (k : Int) ∧ (k : Int) < yn y := by omega
          have g7k : z 7 k = v 7 k := (hq'.2.2.2.2.2 k (by omega) (by omega)).1.2.2.2.2.2
          have hvk : v 7 k = b := by rw [← g7k]; exact b3
          have hl6k : v 6 k = ((lev + 1 : Nat) : Int) := by
            have hrk := hr.2 k (by omega) (by omega)
            have hok := ho k (by omega) (by omega)
            rcases (by omega : v 6 k = 0 ∨ v 6 k = 1 ∨ v 6 k = 2) with q | q | q
            · have := hok.1 q; omega
            · have := (hok.2.1 q).2.2.1; rw [hvk] at this; omega
            · have := (hok.2.2 q).2.2.1; rw [hvk] at this; omega
          have es : ∀ j : Nat, m ≤ j → j < k → (if v 7 (j : Int) = b then nlF v w 3 j else 0) = 0 := fun j a c => if_neg (by
            rw [← (hq'.2.2.2.2.2 j (by omega) (by omega)).1.2.2.2.2.2]
            exact b4 j (by omega) (by omega))
          have esm : sumI (fun j => if v 7 j = b then nlF v w 3 j else 0) k = sumI (fun j => if v 7 j = b then nlF v w 3 j else 0) m := sumI_cut b1 es
          refine r_aload_n d_X_measure_22 rfl rfl ?_
          refine r_ifnull (r := some (yo y k)) 44 d_X_measure_23 (by decide) (fun q => by cases q) (fun _ _ => ?_)
          refine r_iload_n d_X_measure_26 rfl ?_
          refine r_aload_n d_X_measure_27 rfl rfl ?_
          refine r_iload_n d_X_measure_28 rfl ?_
          refine r_iconst d_X_measure_29 ?_
          refine r_iadd d_X_measure_30 ?_
          rw [show ((lev : Nat) : Int) + 1 = ((lev + 1 : Nat) : Int) by omega]
          refine r_cS2 d_X_measure_31 lk_X_285 (IH hl1 y z1 k hW1 (by omega) (by omega) hl6k) (Nat.le_of_ble_eq_true rfl) (rokD (by omega) (Nat.le_of_ble_eq_true rfl)) ⟨(Nat.le_of_ble_eq_true rfl), (Nat.le_of_ble_eq_true rfl)⟩ (fun r ws2 hq => ?_)
          obtain ⟨rfl, z2, rfl, w1, w2, w3, w4⟩ := hq
          show WP _ _ _ _ _ _ (_ :: _)
          refine r_iadd d_X_measure_34 ?_
          refine r_istore_n d_X_measure_35 (Nat.le_of_ble_eq_true rfl) rfl ?_
          show WP _ _ _ _ _ [_, _, _, _] _
          have hz2 : ∀ c, c ≠ 13 → c ≠ 14 → z2 c = z c := fun c a d => (w1 c a d).trans (hz c a d)
          have hck : 1 ≤ z2 27 k ∧ z2 27 k ≤ 5 := by rw [hz2 27 (by omega) (by omega)]; exact bI_cl hB hkb.1 hkb.2
          have up : ∀ j, gd13 v w z1 j → gd13 v w z2 j := by
            intro j hj
            rcases w2 j with ⟨q1, q2⟩ | q
            · exact ⟨q1.trans hj.1, q2.trans hj.2⟩
            · exact q
          refine r_aload_n d_X_measure_36 rfl rfl ?_
          refine r_getB d_X_measure_37 fb_X_223 ((k : Int)) hkb hck rfl ?_
          have e23 : z2 23 k = z 23 k := by rw [hz2 23 (by omega) (by omega)]
          rw [e23, bI_next hB b2, b3]
          refine r_astore_n d_X_measure_40 (Nat.le_of_ble_eq_true rfl) rfl (isRf_rf _) ?_
          show WP _ _ _ _ _ [_, _, _, _] _
          refine r_goto 22 d_X_measure_41 (by decide) ?_
          have e3 : sumI (fun j => if v 7 j = b then nlF v w 3 j else 0) m + nlF v w 3 k = sumI (fun j => if v 7 j = b then nlF v w 3 j else 0) (k + 1) := by
            show _ = sumI _ k + (if v 7 (k : Int) = b then nlF v w 3 k else 0)
            rw [esm, if_pos hvk]
          rw [e3]
          refine ih (k + 1) z2 (by omega) (by omega) hz2 (fun j => ?_) (fun j j0 j1 j2 => ?_)
          · rcases w2 j with ⟨q1, q2⟩ | q
            · rcases hch j with ⟨q3, q4⟩ | q3
              · exact Or.inl ⟨q1.trans q3, q2.trans q4⟩
              · exact Or.inr (up j q3)
            · exact Or.inr q
          · by_cases ej : j = k
            · subst ej
              exact ⟨w3, fun k' a c d => (w4 k' a c d).1⟩
            · have hjm : j < m := by
                by_cases q : j < m
                · exact q
                · exact absurd (by rw [(hq'.2.2.2.2.2 j j0 (by omega)).1.2.2.2.2.2]; exact j2) (b4 j (by omega) (by omega))
              obtain ⟨q1, q2⟩ := hkid j j0 hjm j2
              exact ⟨up j q1, fun k' a c d => up k' (q2 k' a c d)⟩
    refine r_if_eq 47 d_X_measure_6 (by decide) (by unfold i32; omega) (fun h1 => ?_) (fun h1 => ?_)
    · omega
    · refine r_iload_n d_X_measure_9 rfl ?_
      refine r_iconst d_X_measure_10 ?_
      refine r_icmp_ge 47 d_X_measure_11 (by decide) (by unfold i32; omega) (by unfold i32; omega) (fun h2 => ?_) (fun h2 => ?_)
      · omega
      · refine r_aload_n d_X_measure_14 rfl rfl ?_
        refine r_castH d_X_measure_15 w_29 b hb1' h27 ?_
        refine r_getX d_X_measure_18 fl_X_219_1 (b) hb1' h27 rfl ?_
        rw [(hB.1.1 b hb1'.1 hb1'.2).1]
        refine r_astore_n d_X_measure_21 (Nat.le_of_ble_eq_true rfl) rfl (isRf_rf _) ?_
        show WP _ _ _ _ _ [_, _, _, _] _
        exact lp (yn y) 0 z (by omega) (by omega) (fun _ _ _ => rfl) (fun k => Or.inl ⟨rfl, rfl⟩) (fun k a c => by omega)
  · have hpl := py_leaf hW hb0 hb1 h27
    have h25 : 2 ≤ z 27 b := by omega
    have hnk : ∀ k : Int, 0 ≤ k → k < yn y → v 7 k = b → gd13 v w z k ∧ ∀ k' : Int, 0 ≤ k' → k' < yn y → v 7 k' = k → gd13 v w z k' := by
      intro k k0 k1 k2
      exfalso
      have hrk := hr.2 k k0 (by omega)
      have hok := ho k k0 (by omega)
      have hnh : ¬ isHold (v 6 b) (v 4 b) := fun q => h27 (by rw [g27, g26, g4, g6]; exact (hold_cl (by omega)).mp q)
      rcases (by omega : v 6 k = 0 ∨ v 6 k = 1 ∨ v 6 k = 2) with q | q | q
      · have := hok.1 q; omega
      · have := (hok.2.1 q).2.2; rw [k2] at this; exact hnh (Or.inl this)
      · have := (hok.2.2 q).2.2; rw [k2] at this; exact hnh (Or.inr this)
    have c63 : WP (mth G l q_X_measure (10 - lev) 0 0 (xW G y z) sz Q) 0 0 (xW G y z) 63 [some (.ref (yo y b)), some (vI lev), some (vI 0), none] [vI (pyF v w b)] := by
      refine r_istore_n d_X_measure_63 (Nat.le_of_ble_eq_true rfl) rfl ?_
      show WP _ _ _ _ _ [_, _, _, _] _
      exact c64 z _ (fun _ _ _ => rfl) (fun k => Or.inl ⟨rfl, rfl⟩) hnk
    refine r_if_eq 47 d_X_measure_6 (by decide) (by unfold i32; omega) (fun h1 => ?_) (fun h1 => ?_)
    · refine r_aload_n d_X_measure_47 rfl rfl ?_
      refine r_instW d_X_measure_48 w_628 b hb1' hcb (fun h5 => ?_) (fun h5 => ?_)
      · refine r_if_eq 64 d_X_measure_51 (by decide) (by unfold i32; omega) (fun h6 => ?_) (fun h6 => ?_)
        · omega
        · refine r_aload_n d_X_measure_54 rfl rfl ?_
          refine r_castW d_X_measure_55 w_628 b hb1' ⟨h25, hcb.2⟩ ?_
          rcases (by omega : z 27 b = 2 ∨ z 27 b = 3 ∨ z 27 b = 4 ∨ z 27 b = 5) with h | h | h | h
          · rw [if_neg (by omega)] at hpl
            refine r_kF0 d_X_measure_58 lf_X_291_L (c_L_pay G l y z b hb1' hcb) (13 + b).toNat rfl (xw_bc hb1' h) (Nat.le_of_ble_eq_true rfl) (rokD (by omega) (Nat.le_of_ble_eq_true rfl)) ⟨(Nat.le_of_ble_eq_true rfl), (Nat.le_of_ble_eq_true rfl)⟩ (fun r ws2 hq => ?_)
            obtain ⟨rfl, rfl⟩ := hq
            show WP _ _ _ _ _ _ (_ :: _)
            rw [← hpl]
            exact c63
          · rw [if_neg (by omega)] at hpl
            refine r_kF0 d_X_measure_58 lf_X_291_T (c_L_pay G l y z b hb1' hcb) (13 + b).toNat rfl (xw_bc hb1' h) (Nat.le_of_ble_eq_true rfl) (rokD (by omega) (Nat.le_of_ble_eq_true rfl)) ⟨(Nat.le_of_ble_eq_true rfl), (Nat.le_of_ble_eq_true rfl)⟩ (fun r ws2 hq => ?_)
            obtain ⟨rfl, rfl⟩ := hq
            show WP _ _ _ _ _ _ (_ :: _)
            rw [← hpl]
            exact c63
          · rw [if_pos h] at hpl
            obtain ⟨h18, t, ht, ep⟩ := h4 b hb0 hb1 h
            have hX := (hK t ht).2.2.1 4 (by omega) (by omega) (hK t ht).2.2.2.2.2.2
            change tX y z v 4 (pbx v t) at hX
            rw [ep] at hX
            have h17 := hX.2.2.2.2.1
            rw [if_neg (by omega)] at h17
            have hpb := pv_b hby b 0
            refine r_kF0 d_X_measure_58 lf_X_291_P (c_P_pay G l y z b hb1' h ⟨hX.2.2.2.1.1, hX.2.2.2.1.2.1⟩ h18 (by omega)) (13 + b).toNat rfl (xw_bc hb1' h) (Nat.le_of_ble_eq_true rfl) (rokD (by omega) (Nat.le_of_ble_eq_true rfl)) ⟨(Nat.le_of_ble_eq_true rfl), (Nat.le_of_ble_eq_true rfl)⟩ (fun r ws2 hq => ?_)
            obtain ⟨rfl, rfl⟩ := hq
            show WP _ _ _ _ _ _ (_ :: _)
            rw [← hpl]
            exact c63
          · rw [if_neg (by omega)] at hpl
            refine r_kF0 d_X_measure_58 lf_X_291_S (c_L_pay G l y z b hb1' hcb) (13 + b).toNat rfl (xw_bc hb1' h) (Nat.le_of_ble_eq_true rfl) (rokD (by omega) (Nat.le_of_ble_eq_true rfl)) ⟨(Nat.le_of_ble_eq_true rfl), (Nat.le_of_ble_eq_true rfl)⟩ (fun r ws2 hq => ?_)
            obtain ⟨rfl, rfl⟩ := hq
            show WP _ _ _ _ _ _ (_ :: _)
            rw [← hpl]
            exact c63
      · omega
    · omega
theorem c_X_measure0 : MS G l v w 0 := by
  have h2 : MS G l v w 2 := c_X_measure G l v w 2 (by omega) (fun h => by omega)
  have h1 : MS G l v w 1 := c_X_measure G l v w 1 (by omega) (fun _ => h2)
  exact c_X_measure G l v w 0 (by omega) (fun _ => h1)
end XMEAS
