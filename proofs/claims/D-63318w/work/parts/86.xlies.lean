abbrev q_X_dataAt : Mi := (⟨"MovieBoxes", "dataAt", "(II)LMovieBoxes$Box;"⟩, prog_1_method_16_code, 4, (some (.object "MovieBoxes$Box")))
theorem d_X_dataAt_48 : decode prog_1_method_16_code 48 = .ok (.aload_n 3, 1) := by decide +kernel
theorem d_X_dataAt_49 : decode prog_1_method_16_code 49 = .ok (.areturn, 1) := by decide +kernel
theorem d_X_dataAt_8 : decode prog_1_method_16_code 8 = .ok (.aload_n 3, 1) := by decide +kernel
theorem d_X_dataAt_9 : decode prog_1_method_16_code 9 = .ok (.ifnull 39, 3) := by decide +kernel
theorem d_X_dataAt_40 : decode prog_1_method_16_code 40 = .ok (.aload_n 3, 1) := by decide +kernel
theorem d_X_dataAt_41 : decode prog_1_method_16_code 41 = .ok (.getfield 223, 3) := by decide +kernel
theorem d_X_dataAt_44 : decode prog_1_method_16_code 44 = .ok (.astore_n 3, 1) := by decide +kernel
theorem d_X_dataAt_45 : decode prog_1_method_16_code 45 = .ok (.goto (-37), 3) := by decide +kernel
theorem d_X_dataAt_12 : decode prog_1_method_16_code 12 = .ok (.aload_n 3, 1) := by decide +kernel
theorem d_X_dataAt_13 : decode prog_1_method_16_code 13 = .ok (.getfield 230, 3) := by decide +kernel
set_option maxRecDepth 20000 in
theorem w_48 : Cond.fieldLink "MovieBoxes" 230 "MovieBoxes$Box" "kind" "LMovieBoxes$Kind;" ∈ gt := gt_of (in_t1 (List.mem_of_getElem? (i := 48) rfl)) rfl
theorem fl_X_230_1 : FL "MovieBoxes" 230 1 0 false := ⟨_, _, _, "MovieBoxes$Box", rfl, by decide, rfl, Or.inl w_48, Or.inl rfl⟩
theorem fl_X_230_2 : FL "MovieBoxes" 230 2 0 false := ⟨_, _, _, "MovieBoxes$Box", rfl, by decide, rfl, Or.inl w_48, Or.inl rfl⟩
theorem fl_X_230_3 : FL "MovieBoxes" 230 3 0 false := ⟨_, _, _, "MovieBoxes$Box", rfl, by decide, rfl, Or.inl w_48, Or.inl rfl⟩
theorem fl_X_230_4 : FL "MovieBoxes" 230 4 0 false := ⟨_, _, _, "MovieBoxes$Box", rfl, by decide, rfl, Or.inl w_48, Or.inl rfl⟩
theorem fl_X_230_5 : FL "MovieBoxes" 230 5 0 false := ⟨_, _, _, "MovieBoxes$Box", rfl, by decide, rfl, Or.inl w_48, Or.inl rfl⟩
theorem fb_X_230 : FB "MovieBoxes" 230 0 (.object "MovieBoxes$Kind") := fb5 fl_X_230_1 fl_X_230_2 fl_X_230_3 fl_X_230_4 fl_X_230_5 rfl rfl rfl rfl rfl
theorem d_X_dataAt_16 : decode prog_1_method_16_code 16 = .ok (.getstatic 70, 3) := by decide +kernel
theorem d_X_dataAt_19 : decode prog_1_method_16_code 19 = .ok (.if_acmp .ne 21, 3) := by decide +kernel
theorem d_X_dataAt_22 : decode prog_1_method_16_code 22 = .ok (.aload_n 3, 1) := by decide +kernel
theorem d_X_dataAt_23 : decode prog_1_method_16_code 23 = .ok (.invokevirtual 233, 3) := by decide +kernel
set_option maxRecDepth 20000 in
theorem w_561 : Cond.methodLink "MovieBoxes" 233 ⟨"MovieBoxes$Box", "start", "()I"⟩ ∈ gt := gt_of (in_t3 (List.mem_of_getElem? (i := 81) rfl)) rfl
set_option maxRecDepth 20000 in
theorem w_978 : Cond.sameMethod "MovieBoxes$Box" "MovieBoxes$Box" "start" "()I" ∈ gt := gt_of (in_t5 (List.mem_of_getElem? (i := 18) rfl)) rfl
set_option maxRecDepth 20000 in
theorem w_979 : Cond.selects "MovieBoxes$Holder" ⟨"MovieBoxes$Box", "start", "()I"⟩ ⟨"MovieBoxes$Box", "start", "()I"⟩ ∈ gt := gt_of (in_t5 (List.mem_of_getElem? (i := 19) rfl)) rfl
theorem lu_X_233_H : LkU "MovieBoxes" 233 "MovieBoxes$Holder" "MovieBoxes$Box" ⟨"MovieBoxes$Box", "start", "()I"⟩ q_B_start 0 := ⟨(List.forall_mem_cons.mpr ⟨w_561, (List.forall_mem_cons.mpr ⟨w_978, (List.forall_mem_cons.mpr ⟨w_979, (List.forall_mem_cons.mpr ⟨w_250, (List.forall_mem_cons.mpr ⟨w_2, (fun _ h => absurd h List.not_mem_nil)⟩)⟩)⟩)⟩)⟩), w_251, Or.inl nw_248, by decide +kernel⟩
set_option maxRecDepth 20000 in
theorem w_980 : Cond.selects "MovieBoxes$Leaf" ⟨"MovieBoxes$Box", "start", "()I"⟩ ⟨"MovieBoxes$Box", "start", "()I"⟩ ∈ gt := gt_of (in_t5 (List.mem_of_getElem? (i := 20) rfl)) rfl
theorem lu_X_233_L : LkU "MovieBoxes" 233 "MovieBoxes$Leaf" "MovieBoxes$Box" ⟨"MovieBoxes$Box", "start", "()I"⟩ q_B_start 0 := ⟨(List.forall_mem_cons.mpr ⟨w_561, (List.forall_mem_cons.mpr ⟨w_978, (List.forall_mem_cons.mpr ⟨w_980, (List.forall_mem_cons.mpr ⟨w_250, (List.forall_mem_cons.mpr ⟨w_2, (fun _ h => absurd h List.not_mem_nil)⟩)⟩)⟩)⟩)⟩), w_251, Or.inl nw_248, by decide +kernel⟩
set_option maxRecDepth 20000 in
theorem w_983 : Cond.selects "MovieBoxes$Table" ⟨"MovieBoxes$Box", "start", "()I"⟩ ⟨"MovieBoxes$Box", "start", "()I"⟩ ∈ gt := gt_of (in_t5 (List.mem_of_getElem? (i := 23) rfl)) rfl
theorem lu_X_233_T : LkU "MovieBoxes" 233 "MovieBoxes$Table" "MovieBoxes$Box" ⟨"MovieBoxes$Box", "start", "()I"⟩ q_B_start 0 := ⟨(List.forall_mem_cons.mpr ⟨w_561, (List.forall_mem_cons.mpr ⟨w_978, (List.forall_mem_cons.mpr ⟨w_983, (List.forall_mem_cons.mpr ⟨w_250, (List.forall_mem_cons.mpr ⟨w_2, (fun _ h => absurd h List.not_mem_nil)⟩)⟩)⟩)⟩)⟩), w_251, Or.inl nw_248, by decide +kernel⟩
set_option maxRecDepth 20000 in
theorem w_981 : Cond.selects "MovieBoxes$PlaceTable" ⟨"MovieBoxes$Box", "start", "()I"⟩ ⟨"MovieBoxes$Box", "start", "()I"⟩ ∈ gt := gt_of (in_t5 (List.mem_of_getElem? (i := 21) rfl)) rfl
theorem lu_X_233_P : LkU "MovieBoxes" 233 "MovieBoxes$PlaceTable" "MovieBoxes$Box" ⟨"MovieBoxes$Box", "start", "()I"⟩ q_B_start 0 := ⟨(List.forall_mem_cons.mpr ⟨w_561, (List.forall_mem_cons.mpr ⟨w_978, (List.forall_mem_cons.mpr ⟨w_981, (List.forall_mem_cons.mpr ⟨w_250, (List.forall_mem_cons.mpr ⟨w_2, (fun _ h => absurd h List.not_mem_nil)⟩)⟩)⟩)⟩)⟩), w_251, Or.inl nw_248, by decide +kernel⟩
set_option maxRecDepth 20000 in
theorem w_982 : Cond.selects "MovieBoxes$SizeTable" ⟨"MovieBoxes$Box", "start", "()I"⟩ ⟨"MovieBoxes$Box", "start", "()I"⟩ ∈ gt := gt_of (in_t5 (List.mem_of_getElem? (i := 22) rfl)) rfl
theorem lu_X_233_S : LkU "MovieBoxes" 233 "MovieBoxes$SizeTable" "MovieBoxes$Box" ⟨"MovieBoxes$Box", "start", "()I"⟩ q_B_start 0 := ⟨(List.forall_mem_cons.mpr ⟨w_561, (List.forall_mem_cons.mpr ⟨w_978, (List.forall_mem_cons.mpr ⟨w_982, (List.forall_mem_cons.mpr ⟨w_250, (List.forall_mem_cons.mpr ⟨w_2, (fun _ h => absurd h List.not_mem_nil)⟩)⟩)⟩)⟩)⟩), w_251, Or.inl nw_248, by decide +kernel⟩
theorem lb_X_233 : LkB "MovieBoxes" 233 "MovieBoxes$Box" ⟨"MovieBoxes$Box", "start", "()I"⟩ q_B_start 0 := ⟨lu_X_233_H, lu_X_233_L, lu_X_233_T, lu_X_233_P, lu_X_233_S⟩
theorem d_X_dataAt_26 : decode prog_1_method_16_code 26 = .ok (.iload_n 1, 1) := by decide +kernel
theorem d_X_dataAt_27 : decode prog_1_method_16_code 27 = .ok (.if_icmp .gt 13, 3) := by decide +kernel
theorem d_X_dataAt_30 : decode prog_1_method_16_code 30 = .ok (.iload_n 1, 1) := by decide +kernel
theorem d_X_dataAt_31 : decode prog_1_method_16_code 31 = .ok (.iload_n 2, 1) := by decide +kernel
theorem d_X_dataAt_32 : decode prog_1_method_16_code 32 = .ok (.iadd, 1) := by decide +kernel
theorem d_X_dataAt_33 : decode prog_1_method_16_code 33 = .ok (.aload_n 3, 1) := by decide +kernel
theorem d_X_dataAt_34 : decode prog_1_method_16_code 34 = .ok (.invokevirtual 182, 3) := by decide +kernel
theorem d_X_dataAt_37 : decode prog_1_method_16_code 37 = .ok (.if_icmp .le 11, 3) := by decide +kernel
theorem d_X_dataAt_0 : decode prog_1_method_16_code 0 = .ok (.aload_n 0, 1) := by decide +kernel
theorem d_X_dataAt_1 : decode prog_1_method_16_code 1 = .ok (.getfield 19, 3) := by decide +kernel
theorem d_X_dataAt_4 : decode prog_1_method_16_code 4 = .ok (.getfield 219, 3) := by decide +kernel
theorem d_X_dataAt_7 : decode prog_1_method_16_code 7 = .ok (.astore_n 3, 1) := by decide +kernel
abbrev q_X_lies : Mi := (⟨"MovieBoxes", "lies", "(LMovieBoxes$Track;)Z"⟩, prog_1_method_17_code, 8, (some .boolean))
theorem d_X_lies_12 : decode prog_1_method_17_code 12 = .ok (.iload 4, 2) := by decide +kernel
theorem d_X_lies_14 : decode prog_1_method_17_code 14 = .ok (.aload_n 2, 1) := by decide +kernel
theorem d_X_lies_15 : decode prog_1_method_17_code 15 = .ok (.getfield 238, 3) := by decide +kernel
set_option maxRecDepth 20000 in
theorem w_329 : Cond.fieldLink "MovieBoxes" 238 "MovieBoxes$Table" "rows" "I" ∈ gt := gt_of (in_t2 (List.mem_of_getElem? (i := 89) rfl)) rfl
theorem fl_X_238_3 : FL "MovieBoxes" 238 3 11 false := ⟨_, _, _, "MovieBoxes$Table", rfl, by decide, rfl, Or.inl w_329, Or.inl rfl⟩
theorem fl_X_238_4 : FL "MovieBoxes" 238 4 11 false := ⟨_, _, _, "MovieBoxes$Table", rfl, by decide, rfl, Or.inl w_329, Or.inl rfl⟩
theorem fl_X_238_5 : FL "MovieBoxes" 238 5 11 false := ⟨_, _, _, "MovieBoxes$Table", rfl, by decide, rfl, Or.inl w_329, Or.inl rfl⟩
theorem ft_X_238 : FT "MovieBoxes" 238 := ft3 fl_X_238_3 fl_X_238_4 fl_X_238_5
theorem d_X_lies_18 : decode prog_1_method_17_code 18 = .ok (.if_icmp .ge 122, 3) := by decide +kernel
theorem d_X_lies_140 : decode prog_1_method_17_code 140 = .ok (.iconst 1, 1) := by decide +kernel
theorem d_X_lies_141 : decode prog_1_method_17_code 141 = .ok (.ireturn, 1) := by decide +kernel
theorem d_X_lies_34 : decode prog_1_method_17_code 34 = .ok (.iload 5, 2) := by decide +kernel
theorem d_X_lies_36 : decode prog_1_method_17_code 36 = .ok (.aload_n 1, 1) := by decide +kernel
theorem d_X_lies_37 : decode prog_1_method_17_code 37 = .ok (.aload_n 0, 1) := by decide +kernel
theorem d_X_lies_38 : decode prog_1_method_17_code 38 = .ok (.getfield 7, 3) := by decide +kernel
theorem d_X_lies_41 : decode prog_1_method_17_code 41 = .ok (.iload 4, 2) := by decide +kernel
theorem d_X_lies_43 : decode prog_1_method_17_code 43 = .ok (.invokevirtual 245, 3) := by decide +kernel
set_option maxRecDepth 20000 in
theorem w_556 : Cond.methodLink "MovieBoxes" 245 ⟨"MovieBoxes$Track", "until", "([BI)I"⟩ ∈ gt := gt_of (in_t3 (List.mem_of_getElem? (i := 76) rfl)) rfl
theorem lk_X_245 : LkV "MovieBoxes" 245 q_K_until 2 := ⟨(List.forall_mem_cons.mpr ⟨w_556, (List.forall_mem_cons.mpr ⟨w_548, (List.forall_mem_cons.mpr ⟨w_549, (List.forall_mem_cons.mpr ⟨w_7, (fun _ h => absurd h List.not_mem_nil)⟩)⟩)⟩)⟩), w_550, by decide +kernel⟩
theorem d_X_lies_46 : decode prog_1_method_17_code 46 = .ok (.if_icmp .ge 88, 3) := by decide +kernel
theorem d_X_lies_134 : decode prog_1_method_17_code 134 = .ok (.iinc 4 1, 3) := by decide +kernel
theorem d_X_lies_137 : decode prog_1_method_17_code 137 = .ok (.goto (-125), 3) := by decide +kernel
theorem d_X_lies_99 : decode prog_1_method_17_code 99 = .ok (.aload_n 0, 1) := by decide +kernel
theorem d_X_lies_100 : decode prog_1_method_17_code 100 = .ok (.aload_n 1, 1) := by decide +kernel
theorem d_X_lies_101 : decode prog_1_method_17_code 101 = .ok (.getfield 234, 3) := by decide +kernel
set_option maxRecDepth 20000 in
theorem nw_157 : Cond.fieldLinkNest "MovieBoxes" 234 "MovieBoxes$Track" "tables" "[LMovieBoxes$Table;" "MovieBoxes" ∈ nwl := nw_of (in_t1 (List.mem_of_getElem? (i := 157) rfl)) rfl
theorem fl_X_234_6 : FL "MovieBoxes" 234 6 0 true := ⟨_, _, _, "MovieBoxes$Track", rfl, by decide, rfl, Or.inr ⟨_, nw_157⟩, Or.inl rfl⟩
theorem d_X_lies_104 : decode prog_1_method_17_code 104 = .ok (.iconst 4, 1) := by decide +kernel
theorem d_X_lies_105 : decode prog_1_method_17_code 105 = .ok (.aaload, 1) := by decide +kernel
theorem d_X_lies_106 : decode prog_1_method_17_code 106 = .ok (.aload_n 0, 1) := by decide +kernel
theorem d_X_lies_107 : decode prog_1_method_17_code 107 = .ok (.getfield 7, 3) := by decide +kernel
theorem d_X_lies_110 : decode prog_1_method_17_code 110 = .ok (.iload 5, 2) := by decide +kernel
theorem d_X_lies_112 : decode prog_1_method_17_code 112 = .ok (.iconst 1, 1) := by decide +kernel
theorem d_X_lies_113 : decode prog_1_method_17_code 113 = .ok (.isub, 1) := by decide +kernel
theorem d_X_lies_114 : decode prog_1_method_17_code 114 = .ok (.iconst 0, 1) := by decide +kernel
theorem d_X_lies_115 : decode prog_1_method_17_code 115 = .ok (.invokevirtual 241, 3) := by decide +kernel
set_option maxRecDepth 20000 in
theorem w_555 : Cond.methodLink "MovieBoxes" 241 ⟨"MovieBoxes$Table", "cell", "([BII)I"⟩ ∈ gt := gt_of (in_t3 (List.mem_of_getElem? (i := 75) rfl)) rfl
set_option maxRecDepth 20000 in
theorem w_515 : Cond.sameMethod "MovieBoxes$Table" "MovieBoxes$Table" "cell" "([BII)I" ∈ gt := gt_of (in_t3 (List.mem_of_getElem? (i := 35) rfl)) rfl
set_option maxRecDepth 20000 in
theorem w_516 : Cond.selects "MovieBoxes$PlaceTable" ⟨"MovieBoxes$Table", "cell", "([BII)I"⟩ ⟨"MovieBoxes$PlaceTable", "cell", "([BII)I"⟩ ∈ gt := gt_of (in_t3 (List.mem_of_getElem? (i := 36) rfl)) rfl
set_option maxRecDepth 20000 in
theorem w_517 : Cond.instanceMethod ⟨"MovieBoxes$PlaceTable", "cell", "([BII)I"⟩ ∈ gt := gt_of (in_t3 (List.mem_of_getElem? (i := 37) rfl)) rfl
set_option maxRecDepth 20000 in
theorem w_518 : Cond.code ⟨"MovieBoxes$PlaceTable", "cell", "([BII)I"⟩ prog_6_method_3_code 5 (some .int) ∈ gt := gt_of (in_t3 (List.mem_of_getElem? (i := 38) rfl)) rfl
theorem lu_X_241_P : LkU "MovieBoxes" 241 "MovieBoxes$PlaceTable" "MovieBoxes$Table" ⟨"MovieBoxes$Table", "cell", "([BII)I"⟩ q_P_cell 3 := ⟨(List.forall_mem_cons.mpr ⟨w_555, (List.forall_mem_cons.mpr ⟨w_515, (List.forall_mem_cons.mpr ⟨w_516, (List.forall_mem_cons.mpr ⟨w_517, (List.forall_mem_cons.mpr ⟨w_13, (fun _ h => absurd h List.not_mem_nil)⟩)⟩)⟩)⟩)⟩), w_518, Or.inr ⟨_, _, _, w_526, w_513⟩, by decide +kernel⟩
theorem d_X_lies_118 : decode prog_1_method_17_code 118 = .ok (.iload 6, 2) := by decide +kernel
theorem d_X_lies_120 : decode prog_1_method_17_code 120 = .ok (.invokevirtual 249, 3) := by decide +kernel
set_option maxRecDepth 20000 in
theorem w_557 : Cond.methodLink "MovieBoxes" 249 ⟨"MovieBoxes", "dataAt", "(II)LMovieBoxes$Box;"⟩ ∈ gt := gt_of (in_t3 (List.mem_of_getElem? (i := 77) rfl)) rfl
set_option maxRecDepth 20000 in
theorem w_559 : Cond.instanceMethod ⟨"MovieBoxes", "dataAt", "(II)LMovieBoxes$Box;"⟩ ∈ gt := gt_of (in_t3 (List.mem_of_getElem? (i := 79) rfl)) rfl
set_option maxRecDepth 20000 in
theorem ws_X_dataAt : Cond.selects "MovieBoxes" ⟨"MovieBoxes", "dataAt", "(II)LMovieBoxes$Box;"⟩ ⟨"MovieBoxes", "dataAt", "(II)LMovieBoxes$Box;"⟩ ∈ gt := gt_of (in_p1 (List.mem_of_getElem? (i := 9) rfl)) rfl
set_option maxRecDepth 20000 in
theorem w_560 : Cond.code ⟨"MovieBoxes", "dataAt", "(II)LMovieBoxes$Box;"⟩ prog_1_method_16_code 4 (some (.object "MovieBoxes$Box")) ∈ gt := gt_of (in_t3 (List.mem_of_getElem? (i := 80) rfl)) rfl
theorem lk_X_249 : LkV "MovieBoxes" 249 q_X_dataAt 2 := ⟨(List.forall_mem_cons.mpr ⟨w_557, (List.forall_mem_cons.mpr ⟨w_559, (List.forall_mem_cons.mpr ⟨ws_X_dataAt, (List.forall_mem_cons.mpr ⟨w_1, (fun _ h => absurd h List.not_mem_nil)⟩)⟩)⟩)⟩), w_560, by decide +kernel⟩
theorem d_X_lies_123 : decode prog_1_method_17_code 123 = .ok (.ifnonnull 5, 3) := by decide +kernel
theorem d_X_lies_126 : decode prog_1_method_17_code 126 = .ok (.iconst 0, 1) := by decide +kernel
theorem d_X_lies_127 : decode prog_1_method_17_code 127 = .ok (.ireturn, 1) := by decide +kernel
theorem d_X_lies_128 : decode prog_1_method_17_code 128 = .ok (.iinc 5 1, 3) := by decide +kernel
theorem d_X_lies_131 : decode prog_1_method_17_code 131 = .ok (.goto (-97), 3) := by decide +kernel
theorem d_X_lies_67 : decode prog_1_method_17_code 67 = .ok (.iload_n 3, 1) := by decide +kernel
theorem d_X_lies_68 : decode prog_1_method_17_code 68 = .ok (.iload 7, 2) := by decide +kernel
theorem d_X_lies_70 : decode prog_1_method_17_code 70 = .ok (.if_icmp .ge 29, 3) := by decide +kernel
theorem d_X_lies_73 : decode prog_1_method_17_code 73 = .ok (.iload 6, 2) := by decide +kernel
theorem d_X_lies_75 : decode prog_1_method_17_code 75 = .ok (.aload_n 1, 1) := by decide +kernel
theorem d_X_lies_76 : decode prog_1_method_17_code 76 = .ok (.getfield 234, 3) := by decide +kernel
theorem d_X_lies_79 : decode prog_1_method_17_code 79 = .ok (.iconst 3, 1) := by decide +kernel
theorem d_X_lies_80 : decode prog_1_method_17_code 80 = .ok (.aaload, 1) := by decide +kernel
theorem d_X_lies_81 : decode prog_1_method_17_code 81 = .ok (.aload_n 0, 1) := by decide +kernel
theorem d_X_lies_82 : decode prog_1_method_17_code 82 = .ok (.getfield 7, 3) := by decide +kernel
theorem d_X_lies_85 : decode prog_1_method_17_code 85 = .ok (.iload_n 3, 1) := by decide +kernel
theorem d_X_lies_86 : decode prog_1_method_17_code 86 = .ok (.iconst 0, 1) := by decide +kernel
theorem d_X_lies_87 : decode prog_1_method_17_code 87 = .ok (.invokevirtual 241, 3) := by decide +kernel
set_option maxRecDepth 20000 in
theorem w_523 : Cond.selects "MovieBoxes$SizeTable" ⟨"MovieBoxes$Table", "cell", "([BII)I"⟩ ⟨"MovieBoxes$SizeTable", "cell", "([BII)I"⟩ ∈ gt := gt_of (in_t3 (List.mem_of_getElem? (i := 43) rfl)) rfl
set_option maxRecDepth 20000 in
theorem w_524 : Cond.instanceMethod ⟨"MovieBoxes$SizeTable", "cell", "([BII)I"⟩ ∈ gt := gt_of (in_t3 (List.mem_of_getElem? (i := 44) rfl)) rfl
set_option maxRecDepth 20000 in
theorem w_525 : Cond.code ⟨"MovieBoxes$SizeTable", "cell", "([BII)I"⟩ prog_7_method_3_code 5 (some .int) ∈ gt := gt_of (in_t3 (List.mem_of_getElem? (i := 45) rfl)) rfl
theorem lu_X_241_S : LkU "MovieBoxes" 241 "MovieBoxes$SizeTable" "MovieBoxes$Table" ⟨"MovieBoxes$Table", "cell", "([BII)I"⟩ q_S_cell 3 := ⟨(List.forall_mem_cons.mpr ⟨w_555, (List.forall_mem_cons.mpr ⟨w_515, (List.forall_mem_cons.mpr ⟨w_523, (List.forall_mem_cons.mpr ⟨w_524, (List.forall_mem_cons.mpr ⟨w_14, (fun _ h => absurd h List.not_mem_nil)⟩)⟩)⟩)⟩)⟩), w_525, Or.inr ⟨_, _, _, w_526, w_513⟩, by decide +kernel⟩
theorem d_X_lies_90 : decode prog_1_method_17_code 90 = .ok (.iadd, 1) := by decide +kernel
theorem d_X_lies_91 : decode prog_1_method_17_code 91 = .ok (.istore 6, 2) := by decide +kernel
theorem d_X_lies_93 : decode prog_1_method_17_code 93 = .ok (.iinc 3 1, 3) := by decide +kernel
theorem d_X_lies_96 : decode prog_1_method_17_code 96 = .ok (.goto (-29), 3) := by decide +kernel
theorem d_X_lies_49 : decode prog_1_method_17_code 49 = .ok (.iconst 0, 1) := by decide +kernel
theorem d_X_lies_50 : decode prog_1_method_17_code 50 = .ok (.istore 6, 2) := by decide +kernel
theorem d_X_lies_52 : decode prog_1_method_17_code 52 = .ok (.iload_n 3, 1) := by decide +kernel
theorem d_X_lies_53 : decode prog_1_method_17_code 53 = .ok (.aload_n 2, 1) := by decide +kernel
theorem d_X_lies_54 : decode prog_1_method_17_code 54 = .ok (.aload_n 0, 1) := by decide +kernel
theorem d_X_lies_55 : decode prog_1_method_17_code 55 = .ok (.getfield 7, 3) := by decide +kernel
theorem d_X_lies_58 : decode prog_1_method_17_code 58 = .ok (.iload 4, 2) := by decide +kernel
theorem d_X_lies_60 : decode prog_1_method_17_code 60 = .ok (.iconst 1, 1) := by decide +kernel
theorem d_X_lies_61 : decode prog_1_method_17_code 61 = .ok (.invokevirtual 241, 3) := by decide +kernel
theorem lk_X_241 : LkV "MovieBoxes" 241 q_T_cell 3 := ⟨(List.forall_mem_cons.mpr ⟨w_555, (List.forall_mem_cons.mpr ⟨w_513, (List.forall_mem_cons.mpr ⟨w_514, (List.forall_mem_cons.mpr ⟨w_12, (fun _ h => absurd h List.not_mem_nil)⟩)⟩)⟩)⟩), w_526, by decide +kernel⟩
theorem d_X_lies_64 : decode prog_1_method_17_code 64 = .ok (.iadd, 1) := by decide +kernel
theorem d_X_lies_65 : decode prog_1_method_17_code 65 = .ok (.istore 7, 2) := by decide +kernel
theorem d_X_lies_21 : decode prog_1_method_17_code 21 = .ok (.aload_n 2, 1) := by decide +kernel
theorem d_X_lies_22 : decode prog_1_method_17_code 22 = .ok (.aload_n 0, 1) := by decide +kernel
theorem d_X_lies_23 : decode prog_1_method_17_code 23 = .ok (.getfield 7, 3) := by decide +kernel
theorem d_X_lies_26 : decode prog_1_method_17_code 26 = .ok (.iload 4, 2) := by decide +kernel
theorem d_X_lies_28 : decode prog_1_method_17_code 28 = .ok (.iconst 0, 1) := by decide +kernel
theorem d_X_lies_29 : decode prog_1_method_17_code 29 = .ok (.invokevirtual 241, 3) := by decide +kernel
theorem d_X_lies_32 : decode prog_1_method_17_code 32 = .ok (.istore 5, 2) := by decide +kernel
theorem d_X_lies_0 : decode prog_1_method_17_code 0 = .ok (.aload_n 1, 1) := by decide +kernel
theorem d_X_lies_1 : decode prog_1_method_17_code 1 = .ok (.getfield 234, 3) := by decide +kernel
theorem d_X_lies_4 : decode prog_1_method_17_code 4 = .ok (.iconst 2, 1) := by decide +kernel
theorem d_X_lies_5 : decode prog_1_method_17_code 5 = .ok (.aaload, 1) := by decide +kernel
theorem d_X_lies_6 : decode prog_1_method_17_code 6 = .ok (.astore_n 2, 1) := by decide +kernel
theorem d_X_lies_7 : decode prog_1_method_17_code 7 = .ok (.iconst 0, 1) := by decide +kernel
theorem d_X_lies_8 : decode prog_1_method_17_code 8 = .ok (.istore_n 3, 1) := by decide +kernel
theorem d_X_lies_9 : decode prog_1_method_17_code 9 = .ok (.iconst 0, 1) := by decide +kernel
theorem d_X_lies_10 : decode prog_1_method_17_code 10 = .ok (.istore 4, 2) := by decide +kernel
/-! ===== the component: dataAt, lies ===== -/
theorem qI_bI {G : gG} {y : xP} {z u : mS} (h : qI G y z u) : bI z (yn y) := by
  refine ⟨h.2.2.1, h.2.2.2.2.1.1, fun k k0 k1 => ?_⟩
  have := (h.2.2.2.2.2 k k0 k1).2
  have hb := knO_b (z 4 k) (z 6 k)
  rw [this.1]
  exact ⟨hb.1, hb.2, by rw [this.2.1, this.1]⟩
theorem kn_1 {ty lev : Int} : knO ty lev = 1 ↔ (lev < 2 ∧ lev ≠ 1) ∧ ty = 68 := by
  unfold knO
  repeat' split
  all_goals omega
theorem dbx_skip {v : mS} {p b : Int} : ∀ (d m e : Nat), (∀ j : Int, m ≤ j → j < m + d → ¬ dbC v p b j) → dbx v p b (d + e) m = dbx v p b e ((m + d : Nat) : Int)
  | 0, m, e, _ => by rw [Nat.zero_add, Nat.add_zero]
  | d + 1, m, e, h => by
    rw [show d + 1 + e = (d + e) + 1 by omega]
    conv => lhs; unfold dbx
    rw [if_neg (h m (by omega) (by omega))]
    have := dbx_skip d (m + 1) e (fun j a c => h j (by omega) (by omega))
    rw [show m + 1 + d = m + (d + 1) by omega] at this
    exact this
theorem dbx_none {v : mS} {p b : Int} {n m : Nat} (h : ∀ j : Int, m ≤ j → j < m + n → ¬ dbC v p b j) : dbx v p b n m = -1 := by
  have := dbx_skip (v := v) (p := p) (b := b) n m 0 h
  rw [Nat.add_zero] at this
  rw [this]
  rfl
theorem dbx_yes {v : mS} {p b : Int} {n m : Nat} (h : dbC v p b m) : dbx v p b (n + 1) m = m := by
  conv => lhs; unfold dbx
  rw [if_pos h]
theorem dbx_no {v : mS} {p b : Int} {n m : Nat} (h : ¬ dbC v p b m) : dbx v p b (n + 1) m = dbx v p b n ((m + 1 : Nat) : Int) := by
  conv => lhs; unfold dbx
  rw [if_neg h]
  rfl
/-- the children of the root are the boxes of level 0 -/
theorem ho_root {v : mS} (hr : rdOk v) (ho : hoOk v) {k : Int} (h0 : 0 ≤ k) (h1 : k < v 0 1) : v 7 k = -1 ↔ v 6 k = 0 := by
  have a := hr.2 k h0 h1
  have b := ho k h0 h1
  constructor
  · intro h
    rcases (by omega : v 6 k = 0 ∨ v 6 k = 1 ∨ v 6 k = 2) with q | q | q
    · exact q
    · have := (b.2.1 q).1; omega
    · have := (b.2.2 q).1; omega
  · exact b.1
section XLIES
variable (G : gG) (l : Launch) (y : xP) (z v : mS)
set_option maxRecDepth 8000 in
theorem c_X_dataAt (hQ' : qI G y z v) (ho : hoOk v) (hr : rdOk v) (p b : Int) (hp : -1000000 ≤ p ∧ p ≤ 1000000) (hby : -1000000 ≤ b ∧ b ≤ 1000000) : Ct G l q_X_dataAt 1 0 0 [.ref (yc y 0), vI p, vI b] (xW G y z) (fun r w => r = some (va_rf (rN (yo y) (dbx v p b (yn y) 0))) ∧ w = xW G y z) := by
  have hB := qI_bI hQ'
  have h01 : v 0 1 = yn y := hQ'.1.2.2.1
  have lev0 : ∀ j : Int, 0 ≤ j → j < yn y → z 7 j ≠ -1 → ¬ dbC v p b j := by
    intro j a c d q
    have := (hQ'.2.2.2.2.2 j a c).1.2.2.2.2.2
    exact d (by rw [this]; exact (ho_root hr ho a (by omega)).mpr q.1)
  refine Ct.intro [some (.ref (yc y 0)), some (vI p), some (vI b), none] (by decide) (Nat.le_of_ble_eq_true rfl) rfl (fun sz => ?_)
  generalize hQ : (fun r w => r = some (va_rf (rN (yo y) (dbx v p b (yn y) 0))) ∧ w = xW G y z) = Q
  have fin : ∀ x : Int, x = dbx v p b (yn y) 0 → WP (mth G l q_X_dataAt 1 0 0 (xW G y z) sz Q) 0 0 (xW G y z) 48 [some (.ref (yc y 0)), some (vI p), some (vI b), some (va_rf (rN (yo y) x))] [] := by
    intro x hx
    subst hx
    refine r_aload_n d_X_dataAt_48 rfl (isRf_rf _) ?_
    refine r_aret d_X_dataAt_49 rfl (by first | exact Or.inl ⟨_, rfl⟩ | exact Or.inr ⟨_, rfl⟩) (isRf_rf _) (Nat.le_of_ble_eq_true rfl) (Nat.le_of_ble_eq_true rfl) ?_
    rw [← hQ]; exact ⟨rfl, rfl⟩
  have lp : ∀ (F m : Nat), yn y - m ≤ F → m ≤ yn y → dbx v p b (yn y - m) m = dbx v p b (yn y) 0 → WP (mth G l q_X_dataAt 1 0 0 (xW G y z) sz Q) 0 0 (xW G y z) 8 [some (.ref (yc y 0)), some (vI p), some (vI b), some (va_rf (rN (yo y) (nxt (z 7) (-1) (yn y - m) m)))] [] := by
    intro F
    induction F with
    | zero =>
      intro m hF hm he
      rw [show yn y - m = 0 by omega] at he ⊢
      refine r_aload_n d_X_dataAt_8 rfl (isRf_rf _) ?_
      refine r_ifnull 48 d_X_dataAt_9 (by decide) (fun hn => ?_) (fun hna hn => ?_)
      · exact fin (-1) he
      · cases hn
    | succ F ih =>
      intro m hF hm he
      rcases nxt_step (z := z) (h := -1) hm with ⟨e, hno⟩ | ⟨k, e, b1, b2, b3, b4⟩
      · rw [e]
        refine r_aload_n d_X_dataAt_8 rfl (isRf_rf _) ?_
        refine r_ifnull 48 d_X_dataAt_9 (by decide) (fun hn => ?_) (fun hna hn => ?_)
        · refine fin (-1) (he.symm.trans ?_).symm
          exact dbx_none (fun j a c => lev0 j (by omega) (by omega) (hno j a (by omega)))
        · cases hn
      · rw [e, rN_nn (by omega)]
        have hkb : -1 ≤ (k : Int) ∧ (k : Int) < yn y := by omega
        have hcb := bI_cl hB hkb.1 hkb.2
        obtain ⟨o0, o1, -⟩ := hB.2.2 k (by omega) (by omega)
        obtain ⟨⟨g2, g3, g4, g5, g6, g7⟩, g26, -⟩ := hQ'.2.2.2.2.2 k (by omega) (by omega)
        have hrk := hr.2 k (by omega) (by omega)
        have he2 : dbx v p b (yn y - k) k = dbx v p b (yn y) 0 := by
          rw [← he]
          have := dbx_skip (v := v) (p := p) (b := b) (k - m) m (yn y - k) (fun j a c => lev0 j (by omega) (by omega) (b4 j a (by omega)))
          rw [show k - m + (yn y - k) = yn y - m by omega, show m + (k - m) = k by omega] at this
          exact this.symm
        rw [show yn y - k = (yn y - (k + 1)) + 1 by omega] at he2
        have hl0 : v 6 k = 0 := (ho_root hr ho (by omega) (by omega)).mp (by rw [← g7]; exact b3)
        have nx : ¬ dbC v p b k → WP (mth G l q_X_dataAt 1 0 0 (xW G y z) sz Q) 0 0 (xW G y z) 40 [some (.ref (yc y 0)), some (vI p), some (vI b), some (.ref (yo y k))] [] := by
          intro hno
          refine r_aload_n d_X_dataAt_40 rfl rfl ?_
          refine r_getB d_X_dataAt_41 fb_X_223 ((k : Int)) hkb hcb rfl ?_
          rw [bI_next hB b2, b3]
          refine r_astore_n d_X_dataAt_44 (Nat.le_of_ble_eq_true rfl) rfl (isRf_rf _) ?_
          show WP _ _ _ _ _ [_, _, _, _] _
          refine r_goto 8 d_X_dataAt_45 (by decide) ?_
          refine ih (k + 1) (by omega) (by omega) ?_
          rw [← he2, dbx_no hno]
        refine r_aload_n d_X_dataAt_8 rfl rfl ?_
        refine r_ifnull (r := some (yo y k)) 48 d_X_dataAt_9 (by decide) (fun q => by cases q) (fun _ _ => ?_)
        refine r_aload_n d_X_dataAt_12 rfl rfl ?_
        refine r_getB d_X_dataAt_13 fb_X_230 ((k : Int)) hkb hcb rfl ?_
        refine r_getsK (i := 1) d_X_dataAt_16 (by decide) w_273 ?_
        refine r_akNe 40 d_X_dataAt_19 (by decide) ⟨o0, o1⟩ (by decide) (fun h1 => ?_) (fun h1 => ?_)
        · have h1 : ¬ z 26 k = 1 := h1
          refine nx (fun q => h1 ?_)
          rw [g26, g4, g6]
          exact kn_1.mpr ⟨by have := q.1; omega, q.2.1⟩
        · have h1 : z 26 k = 1 := h1
          have h68 : v 4 k = 68 := by rw [g26, g4, g6] at h1; exact (kn_1.mp h1).2
          refine r_aload_n d_X_dataAt_22 rfl rfl ?_
          refine r_kB0 d_X_dataAt_23 lb_X_233 k (c_B_start G l y z k hkb hcb) hkb hcb (Nat.le_of_ble_eq_true rfl) (rok rfl rfl) ⟨(Nat.le_of_ble_eq_true rfl), (Nat.le_of_ble_eq_true rfl)⟩ (fun r ws2 hq => ?_)
          obtain ⟨rfl, rfl⟩ := hq
          show WP _ _ _ _ _ _ (_ :: _)
          rw [g2, g5]
          refine r_iload_n d_X_dataAt_26 rfl ?_
          refine r_icmp_gt 40 d_X_dataAt_27 (by decide) (by unfold i32; omega) (by unfold i32; omega) (fun h2 => ?_) (fun h2 => ?_)
          · exact nx (fun q => by have := q.2.2.1; omega)
          · refine r_iload_n d_X_dataAt_30 rfl ?_
            refine r_iload_n d_X_dataAt_31 rfl ?_
            refine r_iadd d_X_dataAt_32 ?_
            refine r_aload_n d_X_dataAt_33 rfl rfl ?_
            refine r_kB0 d_X_dataAt_34 lb_X_182 k (c_B_end G l y z k hkb hcb) hkb hcb (Nat.le_of_ble_eq_true rfl) (rok rfl rfl) ⟨(Nat.le_of_ble_eq_true rfl), (Nat.le_of_ble_eq_true rfl)⟩ (fun r ws2 hq => ?_)
            obtain ⟨rfl, rfl⟩ := hq
            show WP _ _ _ _ _ _ (_ :: _)
            rw [g2, g3]
            refine r_icmp_le 48 d_X_dataAt_37 (by decide) (by unfold i32; omega) (by unfold i32; omega) (fun h3 => ?_) (fun h3 => ?_)
            · have := fin k (by rw [← he2, dbx_yes ⟨hl0, h68, by omega, by omega⟩])
              rw [rN_nn (by omega)] at this
              exact this
            · exact nx (fun q => by have := q.2.2.2; omega)
  refine r_aload_n d_X_dataAt_0 rfl rfl ?_
  refine r_get d_X_dataAt_1 fl_X_19_0 0 rfl rfl ?_
  refine r_getX d_X_dataAt_4 fl_X_219_1 (-1) ⟨by omega, by omega⟩ hB.2.1 rfl ?_
  rw [(hB.1.1 (-1) (by omega) (by omega)).1]
  refine r_astore_n d_X_dataAt_7 (Nat.le_of_ble_eq_true rfl) rfl (isRf_rf _) ?_
  show WP _ _ _ _ _ [_, _, _, _] _
  exact lp (yn y) 0 (by omega) (by omega) rfl
theorem cnt_of {v : mS} {t : Int} (hb : byOk v) (h : ¬ cntBad v t) : (cR v t = 0 → cC v t = 0) ∧ (∀ r, 0 ≤ r → r < cR v t → cF v t r ≤ cC v t) ∧ smp v t (cC v t).toNat = pv v (tb v t 3) 1 := by
  unfold cntBad at h
  have h2 := (pv_b hb (pbx v t) 0).1
  change 0 ≤ cC v t at h2
  refine ⟨fun q => ?_, fun r r0 r1 => ?_, ?_⟩
  · exact Classical.byContradiction fun q2 => h (Or.inr (Or.inr (Or.inl ⟨show 0 < cC v t by omega, q⟩)))
  · refine Classical.byContradiction fun q2 => h (Or.inr (Or.inr (Or.inr (Or.inl ⟨r.toNat, ?_, ?_⟩))))
    · show r.toNat < (cR v t).toNat
      omega
    · rw [show ((r.toNat : Nat) : Int) = r by omega]
      show cC v t < cF v t r
      omega
  · exact Classical.byContradiction fun q2 => h (Or.inr (Or.inr (Or.inr (Or.inr (Or.inl q2)))))
variable (t : Nat)
set_option maxRecDepth 8000 in
set_option maxHeartbeats 8000000 in
theorem c_X_lies (hq' : qI G y z v) (ho : hoOk v) (hr : rdOk v) (hK : tK y z v t) (hA : chA v t) (hC : ¬ cntBad v t) : Ct G l q_X_lies 3 0 0 [.ref (yc y 0), .ref (yc y (7 + t))] (xW G y z) (fun r w => r = some (vI (b2 (¬ datBad v t))) ∧ w = xW G y z) := by
  have hb := hK.1.2.2
  obtain ⟨hC0, hF, hN⟩ := cnt_of hb hC
  have bn := pv_b hb (tb v t 3) 1
  have bR := pv_b hb (tb v t 2) 0
  have bC := pv_b hb (pbx v t) 0
  have ecR : cR v t = pv v (tb v t 2) 0 := rfl
  have ecC : cC v t = pv v (pbx v t) 0 := rfl
  have h01 : (v 0 1).toNat = yn y := by rw [hq'.1.2.2.1]; omega
  refine Ct.intro [some (.ref (yc y 0)), some (.ref (yc y (7 + t))), none, none, none, none, none, none] (by decide) (Nat.le_of_ble_eq_true rfl) rfl (fun sz => ?_)
  generalize hQ : (fun r w => r = some (vI (b2 (¬ datBad v t))) ∧ w = xW G y z) = Q
  have q0 : datBad v t → Q (some (vI 0)) (xW G y z) := by
    intro h; rw [← hQ]; exact ⟨by rw [b2_f (fun q => q h)], rfl⟩
  have q1 : ¬ datBad v t → Q (some (vI 1)) (xW G y z) := by
    intro h; rw [← hQ]; exact ⟨by rw [b2_t h], rfl⟩
  have lp : ∀ (f r : Nat) (x5 x6 x7 : Option Value), (r : Int) ≤ cR v t → (cR v t).toNat - r = f → (∀ c : Nat, (c : Int) < (if (r : Int) < cR v t then cF v t r - 1 else cC v t) → 0 ≤ hmO v t c) → WP (mth G l q_X_lies 3 0 0 (xW G y z) sz Q) 0 0 (xW G y z) 12 [some (.ref (yc y 0)), some (.ref (yc y (7 + t))), some (.ref (yo y (tb v t 2))), some (vI (sS v t r)), some (vI r), x5, x6, x7] [] := by
    intro f
    induction f with
    | zero =>
      intro r x5 x6 x7 hr0 hf hno
      rw [if_neg (by omega)] at hno
      refine r_iload d_X_lies_12 rfl ?_
      refine r_aload_n d_X_lies_14 rfl rfl ?_
      refine r_rows (sl := 2) d_X_lies_15 ft_X_238 hK hK.2.2.2.2.1 ⟨by omega, by omega⟩ ?_
      show WP _ _ _ _ _ _ (vI (pv v (tb v t 2) 0) :: _)
      refine r_icmp_ge 140 d_X_lies_18 (by decide) (by unfold i32; omega) (by unfold i32; omega) (fun h1 => ?_) (fun h1 => ?_)
      · refine r_iconst d_X_lies_140 ?_
        refine r_zret d_X_lies_141 rfl (by first | exact Or.inl rfl | exact Or.inr rfl) (Nat.le_of_ble_eq_true rfl) (Nat.le_of_ble_eq_true rfl) ?_
        refine q1 (fun q => ?_)
        obtain ⟨c, c1, c2⟩ := q
        have := hno c (by omega)
        rw [show ((c : Int)).toNat = c by omega] at c2
        omega
      · omega
    | succ f ih =>
      intro r x5 x6 x7 hr0 hf hno
      have hrR : (r : Int) < cR v t := by omega
      rw [if_pos hrR] at hno
      have eF : cF v t r = pv v (tb v t 2) (1 + 3 * (r : Int)) := rfl
      have eM : cM v t r = pv v (tb v t 2) (2 + 3 * (r : Int)) := rfl
      have bF := pv_b hb (tb v t 2) (1 + 3 * (r : Int))
      have bM := pv_b hb (tb v t 2) (2 + 3 * (r : Int))
      have hu := uN_le hA hF (r := r) (by omega) hrR
      have hf1 := chA_1 hA (r := r) (by omega) hrR
      -- the chunks of the row
      have lp2 : ∀ (g ci : Nat) (x6 x7 : Option Value), cF v t r ≤ (ci : Int) + 1 → (ci : Int) + 1 ≤ uN v t r → (uN v t r - 1 - ci).toNat = g → (∀ c : Nat, c < ci → 0 ≤ hmO v t c) → WP (mth G l q_X_lies 3 0 0 (xW G y z) sz Q) 0 0 (xW G y z) 34 [some (.ref (yc y 0)), some (.ref (yc y (7 + t))), some (.ref (yo y (tb v t 2))), some (vI (smp v t ci)), some (vI r), some (vI ((ci : Int) + 1)), x6, x7] [] := by
        intro g
        induction g with
        | zero =>
          intro ci x6 x7 c1 c2 hg hno2
          refine r_iload d_X_lies_34 rfl ?_
          refine r_aload_n d_X_lies_36 rfl rfl ?_
          refine r_aload_n d_X_lies_37 rfl rfl ?_
          refine r_get d_X_lies_38 fl_X_7_0 0 rfl rfl ?_
          refine r_iload d_X_lies_41 rfl ?_
          refine r_cV2 d_X_lies_43 lk_X_245 (c_K_until G l y z v t hK r (by omega)) (7+t) rfl (xw_k hK.1.1) (Nat.le_of_ble_eq_true rfl) (rok rfl rfl) ⟨(Nat.le_of_ble_eq_true rfl), (Nat.le_of_ble_eq_true rfl)⟩ (fun r ws2 hq => ?_)
          obtain ⟨rfl, rfl⟩ := hq
          show WP _ _ _ _ _ _ (_ :: _)
          refine r_icmp_ge 134 d_X_lies_46 (by decide) (by unfold i32; omega) (by unfold i32; omega) (fun h1 => ?_) (fun h1 => ?_)
          · refine r_iinc d_X_lies_134 rfl (Nat.le_of_ble_eq_true rfl) rfl ?_
            show WP _ _ _ _ _ [_, _, _, _, _, _, _, _] _
            refine r_goto 12 d_X_lies_137 (by decide) ?_
            have e1 : smp v t ci = sS v t ((r + 1 : Nat) : Int) := by
              rw [show ((r + 1 : Nat) : Int) = (r : Int) + 1 by omega]
              have ec : ci = (uN v t r - 1).toNat := by omega
              rw [ec]
              unfold sS uN
              split
              · rfl
              · rw [show cC v t + 1 - 1 = cC v t by omega]
            rw [e1]
            refine ih (r + 1) _ _ _ (by omega) (by omega) (fun c hc => hno2 c ?_)
            unfold uN at hg c2
            rw [show ((r + 1 : Nat) : Int) = (r : Int) + 1 by omega] at hc
            split at hc
            · rename_i q; rw [if_pos q] at hg c2; omega
            · rename_i q; rw [if_neg q] at hg c2; omega
          · omega
        | succ g ih2 =>
          intro ci x6 x7 c1 c2 hg hno2
          have hci : (ci : Int) < cC v t := by omega
          have hmn : mnO v t (1 + ci) = cM v t r := mn_run hA (by omega) hrR (by omega)
          have hs1 : smp v t (ci + 1) = smp v t ci + cM v t r := by
            show smp v t ci + mnO v t (1 + ci) = _
            rw [hmn]
          have hs2 := smp_mono (t := (t : Int)) hb (a := ci + 1) (b := (cC v t).toNat) (by omega)
          rw [hN] at hs2
          have bs := smp_b (t := (t : Int)) hb ci
          have c99 : WP (mth G l q_X_lies 3 0 0 (xW G y z) sz Q) 0 0 (xW G y z) 99 [some (.ref (yc y 0)), some (.ref (yc y (7 + t))), some (.ref (yo y (tb v t 2))), some (vI (smp v t (ci + 1))), some (vI r), some (vI ((ci : Int) + 1)), some (vI (cby v t ci)), some (vI (smp v t ci + cM v t r))] [] := by
            have bp := cpl_b hb t (1 + ci)
            have bcb : 0 ≤ cby v t ci ∧ cby v t ci ≤ 66000 := by
              have := sumI_b (f := fun i => szO v t (smp v t ci + i)) (fun i => szO_b hb _ _) (mnO v t (1 + ci)).toNat
              unfold cby
              omega
            refine r_aload_n d_X_lies_99 rfl rfl ?_
            refine r_aload_n d_X_lies_100 rfl rfl ?_
            refine r_get d_X_lies_101 fl_X_234_6 (7+t) (xw_k hK.1.1) rfl ?_
            refine r_iconst d_X_lies_104 ?_
            refine r_tab (sl := 4) d_X_lies_105 hK hK.2.2.2.2.2.2 ⟨by omega, by omega⟩ ?_
            show WP _ _ _ _ _ _ (.ref (yo y (pbx v t)) :: _)
            refine r_aload_n d_X_lies_106 rfl rfl ?_
            refine r_get d_X_lies_107 fl_X_7_0 0 rfl rfl ?_
            refine r_iload d_X_lies_110 rfl ?_
            refine r_iconst d_X_lies_112 ?_
            refine r_isub d_X_lies_113 ?_
            rw [show (ci : Int) + 1 - 1 = ci by omega]
            refine r_iconst d_X_lies_114 ?_
            refine r_kU3 d_X_lies_115 lu_X_241_P (c_c4 G l y z v t hK ((ci : Int)) (0) (by omega)) (13 + pbx v t).toNat rfl (xw_bc (tK_k hK hK.2.2.2.2.2.2 ⟨by omega, by omega⟩) (tK_c4 hK)) (Nat.le_of_ble_eq_true rfl) (rok rfl rfl) ⟨(Nat.le_of_ble_eq_true rfl), (Nat.le_of_ble_eq_true rfl)⟩ (fun r ws2 hq => ?_)
            obtain ⟨rfl, rfl⟩ := hq
            show WP _ _ _ _ _ _ (_ :: _)
            refine r_iload d_X_lies_118 rfl ?_
            refine r_cV2 d_X_lies_120 lk_X_249 (c_X_dataAt G l y z v hq' ho hr (cpl v t (1 + ci)) (cby v t ci) (by omega) (by omega)) 0 rfl rfl (Nat.le_of_ble_eq_true rfl) (rok rfl rfl) ⟨(Nat.le_of_ble_eq_true rfl), (Nat.le_of_ble_eq_true rfl)⟩ (fun r ws2 hq => ?_)
            obtain ⟨rfl, rfl⟩ := hq
            show WP _ _ _ _ _ _ (_ :: _)
            have ehm : dbx v (cpl v t (1 + ci)) (cby v t ci) (yn y) 0 = hmO v t ci := by unfold hmO; rw [h01]
            rw [ehm]
            refine r_ifnonnull 128 d_X_lies_123 (by decide) (fun h1 => ?_) (fun h1a h1 => ?_)
            · refine r_iconst d_X_lies_126 ?_
              refine r_zret d_X_lies_127 rfl (by first | exact Or.inl rfl | exact Or.inr rfl) (Nat.le_of_ble_eq_true rfl) (Nat.le_of_ble_eq_true rfl) ?_
              refine q0 ⟨ci, by omega, ?_⟩
              show hmO v t ((ci : Int)).toNat < 0
              rw [show ((ci : Int)).toNat = ci by omega]
              exact rN_none.mp h1
            · have hh : 0 ≤ hmO v t ci := Classical.byContradiction fun q => by rw [rN_none.mpr (by omega)] at h1; cases h1
              refine r_iinc d_X_lies_128 rfl (Nat.le_of_ble_eq_true rfl) rfl ?_
              show WP _ _ _ _ _ [_, _, _, _, _, _, _, _] _
              refine r_goto 34 d_X_lies_131 (by decide) ?_
              refine ih2 (ci + 1) _ _ (by omega) (by omega) (by omega) (fun c hc => ?_)
              by_cases e : c = ci
              · subst e; exact hh
              · exact hno2 c (by omega)
          have lp3 : ∀ (h j : Nat), (j : Int) + h = cM v t r → WP (mth G l q_X_lies 3 0 0 (xW G y z) sz Q) 0 0 (xW G y z) 67 [some (.ref (yc y 0)), some (.ref (yc y (7 + t))), some (.ref (yo y (tb v t 2))), some (vI (smp v t ci + j)), some (vI r), some (vI ((ci : Int) + 1)), some (vI (sumI (fun i => szO v t (smp v t ci + i)) j)), some (vI (smp v t ci + cM v t r))] [] := by
            intro h
            induction h with
            | zero =>
              intro j hj
              refine r_iload_n d_X_lies_67 rfl ?_
              refine r_iload d_X_lies_68 rfl ?_
              refine r_icmp_ge 99 d_X_lies_70 (by decide) (by unfold i32; omega) (by unfold i32; omega) (fun h1 => ?_) (fun h1 => ?_)
              · have e1 : sumI (fun i => szO v t (smp v t ci + i)) j = cby v t ci := by unfold cby; rw [hmn]; congr 1; omega
                rw [e1, show smp v t ci + (j : Int) = smp v t (ci + 1) by omega]
                exact c99
              · omega
            | succ h ih3 =>
              intro j hj
              have bsz := szO_b hb t (smp v t ci + j)
              have bsm := sumI_b (f := fun i => szO v t (smp v t ci + i)) (fun i => szO_b hb _ _) j
              refine r_iload_n d_X_lies_67 rfl ?_
              refine r_iload d_X_lies_68 rfl ?_
              refine r_icmp_ge 99 d_X_lies_70 (by decide) (by unfold i32; omega) (by unfold i32; omega) (fun h1 => ?_) (fun h1 => ?_)
              · omega
              · refine r_iload d_X_lies_73 rfl ?_
                refine r_aload_n d_X_lies_75 rfl rfl ?_
                refine r_get d_X_lies_76 fl_X_234_6 (7+t) (xw_k hK.1.1) rfl ?_
                refine r_iconst d_X_lies_79 ?_
                refine r_tab (sl := 3) d_X_lies_80 hK hK.2.2.2.2.2.1 ⟨by omega, by omega⟩ ?_
                show WP _ _ _ _ _ _ (.ref (yo y (tb v t 3)) :: _)
                refine r_aload_n d_X_lies_81 rfl rfl ?_
                refine r_get d_X_lies_82 fl_X_7_0 0 rfl rfl ?_
                refine r_iload_n d_X_lies_85 rfl ?_
                refine r_iconst d_X_lies_86 ?_
                refine r_kU3 d_X_lies_87 lu_X_241_S (c_c3 G l y z v t hK (smp v t ci + (j : Int)) (0) (by omega)) (13 + tb v t 3).toNat rfl (xw_bc (tK_k hK hK.2.2.2.2.2.1 ⟨by omega, by omega⟩) (tK_c3 hK)) (Nat.le_of_ble_eq_true rfl) (rok rfl rfl) ⟨(Nat.le_of_ble_eq_true rfl), (Nat.le_of_ble_eq_true rfl)⟩ (fun r ws2 hq => ?_)
                obtain ⟨rfl, rfl⟩ := hq
                show WP _ _ _ _ _ _ (_ :: _)
                refine r_iadd d_X_lies_90 ?_
                refine r_istore d_X_lies_91 (Nat.le_of_ble_eq_true rfl) rfl ?_
                show WP _ _ _ _ _ [_, _, _, _, _, _, _, _] _
                refine r_iinc d_X_lies_93 rfl (Nat.le_of_ble_eq_true rfl) rfl ?_
                show WP _ _ _ _ _ [_, _, _, _, _, _, _, _] _
                refine r_goto 67 d_X_lies_96 (by decide) ?_
                have := ih3 (j + 1) (by omega)
                rw [show smp v t ci + ((j + 1 : Nat) : Int) = smp v t ci + j + 1 by omega] at this
                exact this
          refine r_iload d_X_lies_34 rfl ?_
          refine r_aload_n d_X_lies_36 rfl rfl ?_
          refine r_aload_n d_X_lies_37 rfl rfl ?_
          refine r_get d_X_lies_38 fl_X_7_0 0 rfl rfl ?_
          refine r_iload d_X_lies_41 rfl ?_
          refine r_cV2 d_X_lies_43 lk_X_245 (c_K_until G l y z v t hK r (by omega)) (7+t) rfl (xw_k hK.1.1) (Nat.le_of_ble_eq_true rfl) (rok rfl rfl) ⟨(Nat.le_of_ble_eq_true rfl), (Nat.le_of_ble_eq_true rfl)⟩ (fun r ws2 hq => ?_)
          obtain ⟨rfl, rfl⟩ := hq
          show WP _ _ _ _ _ _ (_ :: _)
          refine r_icmp_ge 134 d_X_lies_46 (by decide) (by unfold i32; omega) (by unfold i32; omega) (fun h1 => ?_) (fun h1 => ?_)
          · omega
          · refine r_iconst d_X_lies_49 ?_
            refine r_istore d_X_lies_50 (Nat.le_of_ble_eq_true rfl) rfl ?_
            show WP _ _ _ _ _ [_, _, _, _, _, _, _, _] _
            refine r_iload_n d_X_lies_52 rfl ?_
            refine r_aload_n d_X_lies_53 rfl rfl ?_
            refine r_aload_n d_X_lies_54 rfl rfl ?_
            refine r_get d_X_lies_55 fl_X_7_0 0 rfl rfl ?_
            refine r_iload d_X_lies_58 rfl ?_
            refine r_iconst d_X_lies_60 ?_
            refine r_cV3 d_X_lies_61 lk_X_241 (c_c2 G l y z v t hK ((r : Int)) (1) (by omega) (by omega)) (13 + tb v t 2).toNat rfl (xw_bc (tK_k hK hK.2.2.2.2.1 ⟨by omega, by omega⟩) (tK_cT hK hK.2.2.2.2.1 (by omega))) (Nat.le_of_ble_eq_true rfl) (rok rfl rfl) ⟨(Nat.le_of_ble_eq_true rfl), (Nat.le_of_ble_eq_true rfl)⟩ (fun r ws2 hq => ?_)
            obtain ⟨rfl, rfl⟩ := hq
            show WP _ _ _ _ _ _ (_ :: _)
            rw [show 1 + 3 * (r : Int) + 1 = 2 + 3 * r by omega]
            refine r_iadd d_X_lies_64 ?_
            refine r_istore d_X_lies_65 (Nat.le_of_ble_eq_true rfl) rfl ?_
            show WP _ _ _ _ _ [_, _, _, _, _, _, _, _] _
            have := lp3 (cM v t r).toNat 0 (by omega)
            rw [show smp v t ci + ((0 : Nat) : Int) = smp v t ci by omega] at this
            exact this
      refine r_iload d_X_lies_12 rfl ?_
      refine r_aload_n d_X_lies_14 rfl rfl ?_
      refine r_rows (sl := 2) d_X_lies_15 ft_X_238 hK hK.2.2.2.2.1 ⟨by omega, by omega⟩ ?_
      show WP _ _ _ _ _ _ (vI (pv v (tb v t 2) 0) :: _)
      refine r_icmp_ge 140 d_X_lies_18 (by decide) (by unfold i32; omega) (by unfold i32; omega) (fun h1 => ?_) (fun h1 => ?_)
      · omega
      · refine r_aload_n d_X_lies_21 rfl rfl ?_
        refine r_aload_n d_X_lies_22 rfl rfl ?_
        refine r_get d_X_lies_23 fl_X_7_0 0 rfl rfl ?_
        refine r_iload d_X_lies_26 rfl ?_
        refine r_iconst d_X_lies_28 ?_
        refine r_cV3 d_X_lies_29 lk_X_241 (c_c2 G l y z v t hK ((r : Int)) (0) (by omega) (by omega)) (13 + tb v t 2).toNat rfl (xw_bc (tK_k hK hK.2.2.2.2.1 ⟨by omega, by omega⟩) (tK_cT hK hK.2.2.2.2.1 (by omega))) (Nat.le_of_ble_eq_true rfl) (rok rfl rfl) ⟨(Nat.le_of_ble_eq_true rfl), (Nat.le_of_ble_eq_true rfl)⟩ (fun r ws2 hq => ?_)
        obtain ⟨rfl, rfl⟩ := hq
        show WP _ _ _ _ _ _ (_ :: _)
        rw [Int.add_zero]
        refine r_istore d_X_lies_32 (Nat.le_of_ble_eq_true rfl) rfl ?_
        show WP _ _ _ _ _ [_, _, _, _, _, _, _, _] _
        have := lp2 _ (cF v t r - 1).toNat x6 x7 (by omega) (by omega) rfl (fun c hc => hno c (by omega))
        rw [show (((cF v t r - 1).toNat : Nat) : Int) + 1 = cF v t r by omega] at this
        have e1 : sS v t r = smp v t (cF v t r - 1).toNat := by unfold sS; rw [if_pos hrR]
        rw [e1]
        exact this
  refine r_aload_n d_X_lies_0 rfl rfl ?_
  refine r_get d_X_lies_1 fl_X_234_6 (7+t) (xw_k hK.1.1) rfl ?_
  refine r_iconst d_X_lies_4 ?_
  refine r_tab (sl := 2) d_X_lies_5 hK hK.2.2.2.2.1 ⟨by omega, by omega⟩ ?_
  show WP _ _ _ _ _ _ (.ref (yo y (tb v t 2)) :: _)
  refine r_astore_n d_X_lies_6 (Nat.le_of_ble_eq_true rfl) rfl rfl ?_
  show WP _ _ _ _ _ [_, _, _, _, _, _, _, _] _
  refine r_iconst d_X_lies_7 ?_
  refine r_istore_n d_X_lies_8 (Nat.le_of_ble_eq_true rfl) rfl ?_
  show WP _ _ _ _ _ [_, _, _, _, _, _, _, _] _
  refine r_iconst d_X_lies_9 ?_
  refine r_istore d_X_lies_10 (Nat.le_of_ble_eq_true rfl) rfl ?_
  show WP _ _ _ _ _ [_, _, _, _, _, _, _, _] _
  have := lp _ 0 none none none (by omega) rfl (fun c hc => by
    exfalso
    split at hc
    · rename_i q
      have := (hA 0 (by omega) q).1 rfl
      change (c : Int) < cF v t 0 - 1 at hc
      omega
    · have := hC0 (by omega)
      omega)
  rw [show ((0 : Nat) : Int) = 0 from rfl, sS_0 hA hC0 hb] at this
  exact this
end XLIES
