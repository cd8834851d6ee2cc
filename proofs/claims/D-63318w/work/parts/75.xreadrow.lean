abbrev q_X_readRow : Mi := (⟨"MovieBoxes", "readRow", "(LMovieBoxes;LMovieBoxes$Holder;I)I"⟩, prog_1_method_12_code, 6, (some .int))
theorem d_X_readRow_12 : decode prog_1_method_12_code 12 = .ok (.iload_n 3, 1) := by decide +kernel
theorem d_X_readRow_13 : decode prog_1_method_12_code 13 = .ok (.aload_n 1, 1) := by decide +kernel
theorem d_X_readRow_14 : decode prog_1_method_12_code 14 = .ok (.invokevirtual 154, 3) := by decide +kernel
set_option maxRecDepth 20000 in
theorem w_252 : Cond.methodLink "MovieBoxes" 154 ⟨"MovieBoxes$Holder", "end", "()I"⟩ ∈ gt := gt_of (in_t2 (List.mem_of_getElem? (i := 12) rfl)) rfl
set_option maxRecDepth 20000 in
theorem w_253 : Cond.sameMethod "MovieBoxes$Holder" "MovieBoxes$Box" "end" "()I" ∈ gt := gt_of (in_t2 (List.mem_of_getElem? (i := 13) rfl)) rfl
set_option maxRecDepth 20000 in
theorem w_255 : Cond.selects "MovieBoxes$Holder" ⟨"MovieBoxes$Holder", "end", "()I"⟩ ⟨"MovieBoxes$Box", "end", "()I"⟩ ∈ gt := gt_of (in_t2 (List.mem_of_getElem? (i := 15) rfl)) rfl
set_option maxRecDepth 20000 in
theorem w_256 : Cond.instanceMethod ⟨"MovieBoxes$Box", "end", "()I"⟩ ∈ gt := gt_of (in_t2 (List.mem_of_getElem? (i := 16) rfl)) rfl
set_option maxRecDepth 20000 in
theorem nw_254 : Cond.declares ⟨"MovieBoxes$Box", "end", "()I"⟩ ∈ nwl := nw_of (in_t2 (List.mem_of_getElem? (i := 14) rfl)) rfl
set_option maxRecDepth 20000 in
theorem w_257 : Cond.code ⟨"MovieBoxes$Box", "end", "()I"⟩ prog_2_method_4_code 1 (some .int) ∈ gt := gt_of (in_t2 (List.mem_of_getElem? (i := 17) rfl)) rfl
theorem lu_X_154_H : LkU "MovieBoxes" 154 "MovieBoxes$Holder" "MovieBoxes$Box" ⟨"MovieBoxes$Holder", "end", "()I"⟩ q_B_end 0 := ⟨(List.forall_mem_cons.mpr ⟨w_252, (List.forall_mem_cons.mpr ⟨w_253, (List.forall_mem_cons.mpr ⟨w_255, (List.forall_mem_cons.mpr ⟨w_256, (List.forall_mem_cons.mpr ⟨w_2, (fun _ h => absurd h List.not_mem_nil)⟩)⟩)⟩)⟩)⟩), w_257, Or.inl nw_254, by decide +kernel⟩
theorem d_X_readRow_17 : decode prog_1_method_12_code 17 = .ok (.if_icmp .ge 116, 3) := by decide +kernel
theorem d_X_readRow_133 : decode prog_1_method_12_code 133 = .ok (.iconst 0, 1) := by decide +kernel
theorem d_X_readRow_134 : decode prog_1_method_12_code 134 = .ok (.ireturn, 1) := by decide +kernel
theorem d_X_readRow_20 : decode prog_1_method_12_code 20 = .ok (.aload_n 0, 1) := by decide +kernel
theorem d_X_readRow_21 : decode prog_1_method_12_code 21 = .ok (.getfield 26, 3) := by decide +kernel
set_option maxRecDepth 20000 in
theorem w_169 : Cond.fieldLink "MovieBoxes" 26 "MovieBoxes" "order" "Ljava/util/ArrayList;" ∈ gt := gt_of (in_t1 (List.mem_of_getElem? (i := 169) rfl)) rfl
theorem fl_X_26_0 : FL "MovieBoxes" 26 0 7 true := ⟨_, _, _, "MovieBoxes", rfl, by decide, rfl, Or.inl w_169, Or.inl rfl⟩
theorem d_X_readRow_24 : decode prog_1_method_12_code 24 = .ok (.invokevirtual 157, 3) := by decide +kernel
set_option maxRecDepth 20000 in
theorem w_258 : Cond.methodLink "MovieBoxes" 157 ⟨"java/util/ArrayList", "size", "()I"⟩ ∈ gt := gt_of (in_t2 (List.mem_of_getElem? (i := 18) rfl)) rfl
set_option maxRecDepth 20000 in
theorem w_259 : Cond.instanceMethod ⟨"java/util/ArrayList", "size", "()I"⟩ ∈ gt := gt_of (in_t2 (List.mem_of_getElem? (i := 19) rfl)) rfl
set_option maxRecDepth 20000 in
theorem w_260 : Cond.selects "java/util/ArrayList" ⟨"java/util/ArrayList", "size", "()I"⟩ ⟨"java/util/ArrayList", "size", "()I"⟩ ∈ gt := gt_of (in_t2 (List.mem_of_getElem? (i := 20) rfl)) rfl
set_option maxRecDepth 20000 in
theorem w_261 : Cond.code ⟨"java/util/ArrayList", "size", "()I"⟩ prog_21_method_8_code 1 (some .int) ∈ gt := gt_of (in_t2 (List.mem_of_getElem? (i := 21) rfl)) rfl
theorem lk_X_157 : LkV "MovieBoxes" 157 q_A_size 0 := ⟨(List.forall_mem_cons.mpr ⟨w_258, (List.forall_mem_cons.mpr ⟨w_259, (List.forall_mem_cons.mpr ⟨w_260, (List.forall_mem_cons.mpr ⟨w_6, (fun _ h => absurd h List.not_mem_nil)⟩)⟩)⟩)⟩), w_261, by decide +kernel⟩
theorem d_X_readRow_27 : decode prog_1_method_12_code 27 = .ok (.bipush 20, 2) := by decide +kernel
theorem d_X_readRow_29 : decode prog_1_method_12_code 29 = .ok (.if_icmp .lt 5, 3) := by decide +kernel
theorem d_X_readRow_34 : decode prog_1_method_12_code 34 = .ok (.aload_n 0, 1) := by decide +kernel
theorem d_X_readRow_35 : decode prog_1_method_12_code 35 = .ok (.iload_n 3, 1) := by decide +kernel
theorem d_X_readRow_36 : decode prog_1_method_12_code 36 = .ok (.aload_n 1, 1) := by decide +kernel
theorem d_X_readRow_37 : decode prog_1_method_12_code 37 = .ok (.invokevirtual 154, 3) := by decide +kernel
theorem d_X_readRow_40 : decode prog_1_method_12_code 40 = .ok (.iload_n 2, 1) := by decide +kernel
theorem d_X_readRow_41 : decode prog_1_method_12_code 41 = .ok (.invokevirtual 159, 3) := by decide +kernel
set_option maxRecDepth 20000 in
theorem w_262 : Cond.methodLink "MovieBoxes" 159 ⟨"MovieBoxes", "readBox", "(III)LMovieBoxes$Box;"⟩ ∈ gt := gt_of (in_t2 (List.mem_of_getElem? (i := 22) rfl)) rfl
set_option maxRecDepth 20000 in
theorem w_264 : Cond.instanceMethod ⟨"MovieBoxes", "readBox", "(III)LMovieBoxes$Box;"⟩ ∈ gt := gt_of (in_t2 (List.mem_of_getElem? (i := 24) rfl)) rfl
set_option maxRecDepth 20000 in
theorem ws_X_readBox : Cond.selects "MovieBoxes" ⟨"MovieBoxes", "readBox", "(III)LMovieBoxes$Box;"⟩ ⟨"MovieBoxes", "readBox", "(III)LMovieBoxes$Box;"⟩ ∈ gt := gt_of (in_p1 (List.mem_of_getElem? (i := 1) rfl)) rfl
set_option maxRecDepth 20000 in
theorem w_265 : Cond.code ⟨"MovieBoxes", "readBox", "(III)LMovieBoxes$Box;"⟩ prog_1_method_11_code 10 (some (.object "MovieBoxes$Box")) ∈ gt := gt_of (in_t2 (List.mem_of_getElem? (i := 25) rfl)) rfl
theorem lk_X_159 : LkV "MovieBoxes" 159 q_X_readBox 3 := ⟨(List.forall_mem_cons.mpr ⟨w_262, (List.forall_mem_cons.mpr ⟨w_264, (List.forall_mem_cons.mpr ⟨ws_X_readBox, (List.forall_mem_cons.mpr ⟨w_1, (fun _ h => absurd h List.not_mem_nil)⟩)⟩)⟩)⟩), w_265, by decide +kernel⟩
theorem d_X_readRow_44 : decode prog_1_method_12_code 44 = .ok (.astore 4, 2) := by decide +kernel
theorem d_X_readRow_46 : decode prog_1_method_12_code 46 = .ok (.aload 4, 2) := by decide +kernel
theorem d_X_readRow_48 : decode prog_1_method_12_code 48 = .ok (.ifnonnull 5, 3) := by decide +kernel
theorem d_X_readRow_51 : decode prog_1_method_12_code 51 = .ok (.iconst 1, 1) := by decide +kernel
theorem d_X_readRow_52 : decode prog_1_method_12_code 52 = .ok (.ireturn, 1) := by decide +kernel
theorem d_X_readRow_53 : decode prog_1_method_12_code 53 = .ok (.aload 4, 2) := by decide +kernel
theorem d_X_readRow_55 : decode prog_1_method_12_code 55 = .ok (.aload_n 0, 1) := by decide +kernel
theorem d_X_readRow_56 : decode prog_1_method_12_code 56 = .ok (.getfield 26, 3) := by decide +kernel
theorem d_X_readRow_59 : decode prog_1_method_12_code 59 = .ok (.invokevirtual 157, 3) := by decide +kernel
theorem d_X_readRow_62 : decode prog_1_method_12_code 62 = .ok (.putfield 163, 3) := by decide +kernel
set_option maxRecDepth 20000 in
theorem w_79 : Cond.fieldLink "MovieBoxes" 163 "MovieBoxes$Box" "number" "I" ∈ gt := gt_of (in_t1 (List.mem_of_getElem? (i := 79) rfl)) rfl
theorem fl_X_163_1 : FL "MovieBoxes" 163 1 6 false := ⟨_, _, _, "MovieBoxes$Box", rfl, by decide, rfl, Or.inl w_79, Or.inl rfl⟩
theorem fl_X_163_2 : FL "MovieBoxes" 163 2 6 false := ⟨_, _, _, "MovieBoxes$Box", rfl, by decide, rfl, Or.inl w_79, Or.inl rfl⟩
theorem fl_X_163_3 : FL "MovieBoxes" 163 3 6 false := ⟨_, _, _, "MovieBoxes$Box", rfl, by decide, rfl, Or.inl w_79, Or.inl rfl⟩
theorem fl_X_163_4 : FL "MovieBoxes" 163 4 6 false := ⟨_, _, _, "MovieBoxes$Box", rfl, by decide, rfl, Or.inl w_79, Or.inl rfl⟩
theorem fl_X_163_5 : FL "MovieBoxes" 163 5 6 false := ⟨_, _, _, "MovieBoxes$Box", rfl, by decide, rfl, Or.inl w_79, Or.inl rfl⟩
theorem fb_X_163 : FB "MovieBoxes" 163 6 .int := fb5 fl_X_163_1 fl_X_163_2 fl_X_163_3 fl_X_163_4 fl_X_163_5 rfl rfl rfl rfl rfl
theorem d_X_readRow_65 : decode prog_1_method_12_code 65 = .ok (.aload 4, 2) := by decide +kernel
theorem d_X_readRow_67 : decode prog_1_method_12_code 67 = .ok (.aload_n 1, 1) := by decide +kernel
theorem d_X_readRow_68 : decode prog_1_method_12_code 68 = .ok (.getfield 166, 3) := by decide +kernel
set_option maxRecDepth 20000 in
theorem w_80 : Cond.fieldLink "MovieBoxes" 166 "MovieBoxes$Holder" "number" "I" ∈ gt := gt_of (in_t1 (List.mem_of_getElem? (i := 80) rfl)) rfl
set_option maxRecDepth 20000 in
theorem w_81 : Cond.sameField "MovieBoxes$Holder" "MovieBoxes$Box" "number" "I" ∈ gt := gt_of (in_t1 (List.mem_of_getElem? (i := 81) rfl)) rfl
theorem fl_X_166_1 : FL "MovieBoxes" 166 1 6 false := ⟨_, _, _, "MovieBoxes$Holder", rfl, by decide, rfl, Or.inl w_80, Or.inr w_81⟩
theorem fl_X_166_2 : FL "MovieBoxes" 166 2 6 false := ⟨_, _, _, "MovieBoxes$Holder", rfl, by decide, rfl, Or.inl w_80, Or.inr w_81⟩
theorem fl_X_166_3 : FL "MovieBoxes" 166 3 6 false := ⟨_, _, _, "MovieBoxes$Holder", rfl, by decide, rfl, Or.inl w_80, Or.inr w_81⟩
theorem fl_X_166_4 : FL "MovieBoxes" 166 4 6 false := ⟨_, _, _, "MovieBoxes$Holder", rfl, by decide, rfl, Or.inl w_80, Or.inr w_81⟩
theorem fl_X_166_5 : FL "MovieBoxes" 166 5 6 false := ⟨_, _, _, "MovieBoxes$Holder", rfl, by decide, rfl, Or.inl w_80, Or.inr w_81⟩
theorem fb_X_166 : FB "MovieBoxes" 166 6 .int := fb5 fl_X_166_1 fl_X_166_2 fl_X_166_3 fl_X_166_4 fl_X_166_5 rfl rfl rfl rfl rfl
theorem d_X_readRow_71 : decode prog_1_method_12_code 71 = .ok (.putfield 167, 3) := by decide +kernel
set_option maxRecDepth 20000 in
theorem w_82 : Cond.fieldLink "MovieBoxes" 167 "MovieBoxes$Box" "holder" "I" ∈ gt := gt_of (in_t1 (List.mem_of_getElem? (i := 82) rfl)) rfl
theorem fl_X_167_1 : FL "MovieBoxes" 167 1 7 false := ⟨_, _, _, "MovieBoxes$Box", rfl, by decide, rfl, Or.inl w_82, Or.inl rfl⟩
theorem fl_X_167_2 : FL "MovieBoxes" 167 2 7 false := ⟨_, _, _, "MovieBoxes$Box", rfl, by decide, rfl, Or.inl w_82, Or.inl rfl⟩
theorem fl_X_167_3 : FL "MovieBoxes" 167 3 7 false := ⟨_, _, _, "MovieBoxes$Box", rfl, by decide, rfl, Or.inl w_82, Or.inl rfl⟩
theorem fl_X_167_4 : FL "MovieBoxes" 167 4 7 false := ⟨_, _, _, "MovieBoxes$Box", rfl, by decide, rfl, Or.inl w_82, Or.inl rfl⟩
theorem fl_X_167_5 : FL "MovieBoxes" 167 5 7 false := ⟨_, _, _, "MovieBoxes$Box", rfl, by decide, rfl, Or.inl w_82, Or.inl rfl⟩
theorem fb_X_167 : FB "MovieBoxes" 167 7 .int := fb5 fl_X_167_1 fl_X_167_2 fl_X_167_3 fl_X_167_4 fl_X_167_5 rfl rfl rfl rfl rfl
theorem d_X_readRow_74 : decode prog_1_method_12_code 74 = .ok (.aload_n 0, 1) := by decide +kernel
theorem d_X_readRow_75 : decode prog_1_method_12_code 75 = .ok (.getfield 26, 3) := by decide +kernel
theorem d_X_readRow_78 : decode prog_1_method_12_code 78 = .ok (.aload 4, 2) := by decide +kernel
theorem d_X_readRow_80 : decode prog_1_method_12_code 80 = .ok (.invokevirtual 170, 3) := by decide +kernel
set_option maxRecDepth 20000 in
theorem w_405 : Cond.methodLink "MovieBoxes" 170 ⟨"java/util/ArrayList", "add", "(Ljava/lang/Object;)Z"⟩ ∈ gt := gt_of (in_t2 (List.mem_of_getElem? (i := 165) rfl)) rfl
set_option maxRecDepth 20000 in
theorem w_406 : Cond.instanceMethod ⟨"java/util/ArrayList", "add", "(Ljava/lang/Object;)Z"⟩ ∈ gt := gt_of (in_t2 (List.mem_of_getElem? (i := 166) rfl)) rfl
set_option maxRecDepth 20000 in
theorem w_407 : Cond.selects "java/util/ArrayList" ⟨"java/util/ArrayList", "add", "(Ljava/lang/Object;)Z"⟩ ⟨"java/util/ArrayList", "add", "(Ljava/lang/Object;)Z"⟩ ∈ gt := gt_of (in_t2 (List.mem_of_getElem? (i := 167) rfl)) rfl
set_option maxRecDepth 20000 in
theorem w_408 : Cond.code ⟨"java/util/ArrayList", "add", "(Ljava/lang/Object;)Z"⟩ prog_21_method_25_code 2 (some .boolean) ∈ gt := gt_of (in_t2 (List.mem_of_getElem? (i := 168) rfl)) rfl
theorem lk_X_170 : LkV "MovieBoxes" 170 q_A_add1 1 := ⟨(List.forall_mem_cons.mpr ⟨w_405, (List.forall_mem_cons.mpr ⟨w_406, (List.forall_mem_cons.mpr ⟨w_407, (List.forall_mem_cons.mpr ⟨w_6, (fun _ h => absurd h List.not_mem_nil)⟩)⟩)⟩)⟩), w_408, by decide +kernel⟩
theorem d_X_readRow_83 : decode prog_1_method_12_code 83 = .ok (.pop, 1) := by decide +kernel
theorem d_X_readRow_84 : decode prog_1_method_12_code 84 = .ok (.aload_n 1, 1) := by decide +kernel
theorem d_X_readRow_85 : decode prog_1_method_12_code 85 = .ok (.aload 4, 2) := by decide +kernel
theorem d_X_readRow_87 : decode prog_1_method_12_code 87 = .ok (.invokevirtual 174, 3) := by decide +kernel
set_option maxRecDepth 20000 in
theorem w_462 : Cond.methodLink "MovieBoxes" 174 ⟨"MovieBoxes$Holder", "take", "(LMovieBoxes$Box;)V"⟩ ∈ gt := gt_of (in_t2 (List.mem_of_getElem? (i := 222) rfl)) rfl
set_option maxRecDepth 20000 in
theorem w_463 : Cond.instanceMethod ⟨"MovieBoxes$Holder", "take", "(LMovieBoxes$Box;)V"⟩ ∈ gt := gt_of (in_t2 (List.mem_of_getElem? (i := 223) rfl)) rfl
set_option maxRecDepth 20000 in
theorem w_464 : Cond.selects "MovieBoxes$Holder" ⟨"MovieBoxes$Holder", "take", "(LMovieBoxes$Box;)V"⟩ ⟨"MovieBoxes$Holder", "take", "(LMovieBoxes$Box;)V"⟩ ∈ gt := gt_of (in_t2 (List.mem_of_getElem? (i := 224) rfl)) rfl
set_option maxRecDepth 20000 in
theorem w_465 : Cond.code ⟨"MovieBoxes$Holder", "take", "(LMovieBoxes$Box;)V"⟩ prog_3_method_3_code 2 (none : Option Jvm.ClassFile.FieldType) ∈ gt := gt_of (in_t2 (List.mem_of_getElem? (i := 225) rfl)) rfl
theorem lk_X_174 : LkV "MovieBoxes" 174 q_H_take 1 := ⟨(List.forall_mem_cons.mpr ⟨w_462, (List.forall_mem_cons.mpr ⟨w_463, (List.forall_mem_cons.mpr ⟨w_464, (List.forall_mem_cons.mpr ⟨w_3, (fun _ h => absurd h List.not_mem_nil)⟩)⟩)⟩)⟩), w_465, by decide +kernel⟩
theorem d_X_readRow_114 : decode prog_1_method_12_code 114 = .ok (.istore 5, 2) := by decide +kernel
theorem d_X_readRow_116 : decode prog_1_method_12_code 116 = .ok (.iload 5, 2) := by decide +kernel
theorem d_X_readRow_118 : decode prog_1_method_12_code 118 = .ok (.ifCond .eq 6, 3) := by decide +kernel
theorem d_X_readRow_124 : decode prog_1_method_12_code 124 = .ok (.aload 4, 2) := by decide +kernel
theorem d_X_readRow_126 : decode prog_1_method_12_code 126 = .ok (.invokevirtual 182, 3) := by decide +kernel
set_option maxRecDepth 20000 in
theorem w_466 : Cond.methodLink "MovieBoxes" 182 ⟨"MovieBoxes$Box", "end", "()I"⟩ ∈ gt := gt_of (in_t2 (List.mem_of_getElem? (i := 226) rfl)) rfl
set_option maxRecDepth 20000 in
theorem w_972 : Cond.sameMethod "MovieBoxes$Box" "MovieBoxes$Box" "end" "()I" ∈ gt := gt_of (in_t5 (List.mem_of_getElem? (i := 12) rfl)) rfl
set_option maxRecDepth 20000 in
theorem w_973 : Cond.selects "MovieBoxes$Holder" ⟨"MovieBoxes$Box", "end", "()I"⟩ ⟨"MovieBoxes$Box", "end", "()I"⟩ ∈ gt := gt_of (in_t5 (List.mem_of_getElem? (i := 13) rfl)) rfl
theorem lu_X_182_H : LkU "MovieBoxes" 182 "MovieBoxes$Holder" "MovieBoxes$Box" ⟨"MovieBoxes$Box", "end", "()I"⟩ q_B_end 0 := ⟨(List.forall_mem_cons.mpr ⟨w_466, (List.forall_mem_cons.mpr ⟨w_972, (List.forall_mem_cons.mpr ⟨w_973, (List.forall_mem_cons.mpr ⟨w_256, (List.forall_mem_cons.mpr ⟨w_2, (fun _ h => absurd h List.not_mem_nil)⟩)⟩)⟩)⟩)⟩), w_257, Or.inl nw_254, by decide +kernel⟩
set_option maxRecDepth 20000 in
theorem w_974 : Cond.selects "MovieBoxes$Leaf" ⟨"MovieBoxes$Box", "end", "()I"⟩ ⟨"MovieBoxes$Box", "end", "()I"⟩ ∈ gt := gt_of (in_t5 (List.mem_of_getElem? (i := 14) rfl)) rfl
theorem lu_X_182_L : LkU "MovieBoxes" 182 "MovieBoxes$Leaf" "MovieBoxes$Box" ⟨"MovieBoxes$Box", "end", "()I"⟩ q_B_end 0 := ⟨(List.forall_mem_cons.mpr ⟨w_466, (List.forall_mem_cons.mpr ⟨w_972, (List.forall_mem_cons.mpr ⟨w_974, (List.forall_mem_cons.mpr ⟨w_256, (List.forall_mem_cons.mpr ⟨w_2, (fun _ h => absurd h List.not_mem_nil)⟩)⟩)⟩)⟩)⟩), w_257, Or.inl nw_254, by decide +kernel⟩
set_option maxRecDepth 20000 in
theorem w_977 : Cond.selects "MovieBoxes$Table" ⟨"MovieBoxes$Box", "end", "()I"⟩ ⟨"MovieBoxes$Box", "end", "()I"⟩ ∈ gt := gt_of (in_t5 (List.mem_of_getElem? (i := 17) rfl)) rfl
theorem lu_X_182_T : LkU "MovieBoxes" 182 "MovieBoxes$Table" "MovieBoxes$Box" ⟨"MovieBoxes$Box", "end", "()I"⟩ q_B_end 0 := ⟨(List.forall_mem_cons.mpr ⟨w_466, (List.forall_mem_cons.mpr ⟨w_972, (List.forall_mem_cons.mpr ⟨w_977, (List.forall_mem_cons.mpr ⟨w_256, (List.forall_mem_cons.mpr ⟨w_2, (fun _ h => absurd h List.not_mem_nil)⟩)⟩)⟩)⟩)⟩), w_257, Or.inl nw_254, by decide +kernel⟩
set_option maxRecDepth 20000 in
theorem w_975 : Cond.selects "MovieBoxes$PlaceTable" ⟨"MovieBoxes$Box", "end", "()I"⟩ ⟨"MovieBoxes$Box", "end", "()I"⟩ ∈ gt := gt_of (in_t5 (List.mem_of_getElem? (i := 15) rfl)) rfl
theorem lu_X_182_P : LkU "MovieBoxes" 182 "MovieBoxes$PlaceTable" "MovieBoxes$Box" ⟨"MovieBoxes$Box", "end", "()I"⟩ q_B_end 0 := ⟨(List.forall_mem_cons.mpr ⟨w_466, (List.forall_mem_cons.mpr ⟨w_972, (List.forall_mem_cons.mpr ⟨w_975, (List.forall_mem_cons.mpr ⟨w_256, (List.forall_mem_cons.mpr ⟨w_2, (fun _ h => absurd h List.not_mem_nil)⟩)⟩)⟩)⟩)⟩), w_257, Or.inl nw_254, by decide +kernel⟩
set_option maxRecDepth 20000 in
theorem w_976 : Cond.selects "MovieBoxes$SizeTable" ⟨"MovieBoxes$Box", "end", "()I"⟩ ⟨"MovieBoxes$Box", "end", "()I"⟩ ∈ gt := gt_of (in_t5 (List.mem_of_getElem? (i := 16) rfl)) rfl
theorem lu_X_182_S : LkU "MovieBoxes" 182 "MovieBoxes$SizeTable" "MovieBoxes$Box" ⟨"MovieBoxes$Box", "end", "()I"⟩ q_B_end 0 := ⟨(List.forall_mem_cons.mpr ⟨w_466, (List.forall_mem_cons.mpr ⟨w_972, (List.forall_mem_cons.mpr ⟨w_976, (List.forall_mem_cons.mpr ⟨w_256, (List.forall_mem_cons.mpr ⟨w_2, (fun _ h => absurd h List.not_mem_nil)⟩)⟩)⟩)⟩)⟩), w_257, Or.inl nw_254, by decide +kernel⟩
theorem lb_X_182 : LkB "MovieBoxes" 182 "MovieBoxes$Box" ⟨"MovieBoxes$Box", "end", "()I"⟩ q_B_end 0 := ⟨lu_X_182_H, lu_X_182_L, lu_X_182_T, lu_X_182_P, lu_X_182_S⟩
theorem d_X_readRow_129 : decode prog_1_method_12_code 129 = .ok (.istore_n 3, 1) := by decide +kernel
theorem d_X_readRow_130 : decode prog_1_method_12_code 130 = .ok (.goto (-118), 3) := by decide +kernel
theorem d_X_readRow_121 : decode prog_1_method_12_code 121 = .ok (.iload 5, 2) := by decide +kernel
theorem d_X_readRow_123 : decode prog_1_method_12_code 123 = .ok (.ireturn, 1) := by decide +kernel
theorem d_X_readRow_90 : decode prog_1_method_12_code 90 = .ok (.aload 4, 2) := by decide +kernel
theorem d_X_readRow_92 : decode prog_1_method_12_code 92 = .ok (.instanceof 16, 3) := by decide +kernel
theorem d_X_readRow_95 : decode prog_1_method_12_code 95 = .ok (.ifCond .eq 18, 3) := by decide +kernel
theorem d_X_readRow_98 : decode prog_1_method_12_code 98 = .ok (.aload_n 0, 1) := by decide +kernel
theorem d_X_readRow_99 : decode prog_1_method_12_code 99 = .ok (.aload 4, 2) := by decide +kernel
theorem d_X_readRow_101 : decode prog_1_method_12_code 101 = .ok (.checkcast 16, 3) := by decide +kernel
theorem d_X_readRow_104 : decode prog_1_method_12_code 104 = .ok (.iload_n 2, 1) := by decide +kernel
theorem d_X_readRow_105 : decode prog_1_method_12_code 105 = .ok (.iconst 1, 1) := by decide +kernel
theorem d_X_readRow_106 : decode prog_1_method_12_code 106 = .ok (.iadd, 1) := by decide +kernel
theorem d_X_readRow_107 : decode prog_1_method_12_code 107 = .ok (.invokestatic 178, 3) := by decide +kernel
set_option maxRecDepth 20000 in
theorem w_243 : Cond.methodLink "MovieBoxes" 178 ⟨"MovieBoxes", "readRow", "(LMovieBoxes;LMovieBoxes$Holder;I)I"⟩ ∈ gt := gt_of (in_t2 (List.mem_of_getElem? (i := 3) rfl)) rfl
set_option maxRecDepth 20000 in
theorem w_244 : Cond.static ⟨"MovieBoxes", "readRow", "(LMovieBoxes;LMovieBoxes$Holder;I)I"⟩ ∈ gt := gt_of (in_t2 (List.mem_of_getElem? (i := 4) rfl)) rfl
set_option maxRecDepth 20000 in
theorem w_245 : Cond.code ⟨"MovieBoxes", "readRow", "(LMovieBoxes;LMovieBoxes$Holder;I)I"⟩ prog_1_method_12_code 6 (some .int) ∈ gt := gt_of (in_t2 (List.mem_of_getElem? (i := 5) rfl)) rfl
theorem lk_X_178 : LkS "MovieBoxes" 178 q_X_readRow 3 := ⟨(List.forall_mem_cons.mpr ⟨w_243, (List.forall_mem_cons.mpr ⟨w_244, (List.forall_mem_cons.mpr ⟨w_1, (fun _ h => absurd h List.not_mem_nil)⟩)⟩)⟩), w_245, by decide +kernel⟩
theorem d_X_readRow_110 : decode prog_1_method_12_code 110 = .ok (.goto 4, 3) := by decide +kernel
theorem d_X_readRow_113 : decode prog_1_method_12_code 113 = .ok (.iconst 0, 1) := by decide +kernel
theorem d_X_readRow_32 : decode prog_1_method_12_code 32 = .ok (.iconst 2, 1) := by decide +kernel
theorem d_X_readRow_33 : decode prog_1_method_12_code 33 = .ok (.ireturn, 1) := by decide +kernel
theorem d_X_readRow_0 : decode prog_1_method_12_code 0 = .ok (.iload_n 2, 1) := by decide +kernel
theorem d_X_readRow_1 : decode prog_1_method_12_code 1 = .ok (.iconst 2, 1) := by decide +kernel
theorem d_X_readRow_2 : decode prog_1_method_12_code 2 = .ok (.if_icmp .le 5, 3) := by decide +kernel
theorem d_X_readRow_7 : decode prog_1_method_12_code 7 = .ok (.aload_n 1, 1) := by decide +kernel
theorem d_X_readRow_8 : decode prog_1_method_12_code 8 = .ok (.invokevirtual 151, 3) := by decide +kernel
set_option maxRecDepth 20000 in
theorem w_246 : Cond.methodLink "MovieBoxes" 151 ⟨"MovieBoxes$Holder", "start", "()I"⟩ ∈ gt := gt_of (in_t2 (List.mem_of_getElem? (i := 6) rfl)) rfl
set_option maxRecDepth 20000 in
theorem w_247 : Cond.sameMethod "MovieBoxes$Holder" "MovieBoxes$Box" "start" "()I" ∈ gt := gt_of (in_t2 (List.mem_of_getElem? (i := 7) rfl)) rfl
set_option maxRecDepth 20000 in
theorem w_249 : Cond.selects "MovieBoxes$Holder" ⟨"MovieBoxes$Holder", "start", "()I"⟩ ⟨"MovieBoxes$Box", "start", "()I"⟩ ∈ gt := gt_of (in_t2 (List.mem_of_getElem? (i := 9) rfl)) rfl
set_option maxRecDepth 20000 in
theorem w_250 : Cond.instanceMethod ⟨"MovieBoxes$Box", "start", "()I"⟩ ∈ gt := gt_of (in_t2 (List.mem_of_getElem? (i := 10) rfl)) rfl
set_option maxRecDepth 20000 in
theorem nw_248 : Cond.declares ⟨"MovieBoxes$Box", "start", "()I"⟩ ∈ nwl := nw_of (in_t2 (List.mem_of_getElem? (i := 8) rfl)) rfl
set_option maxRecDepth 20000 in
theorem w_251 : Cond.code ⟨"MovieBoxes$Box", "start", "()I"⟩ prog_2_method_3_code 1 (some .int) ∈ gt := gt_of (in_t2 (List.mem_of_getElem? (i := 11) rfl)) rfl
theorem lu_X_151_H : LkU "MovieBoxes" 151 "MovieBoxes$Holder" "MovieBoxes$Box" ⟨"MovieBoxes$Holder", "start", "()I"⟩ q_B_start 0 := ⟨(List.forall_mem_cons.mpr ⟨w_246, (List.forall_mem_cons.mpr ⟨w_247, (List.forall_mem_cons.mpr ⟨w_249, (List.forall_mem_cons.mpr ⟨w_250, (List.forall_mem_cons.mpr ⟨w_2, (fun _ h => absurd h List.not_mem_nil)⟩)⟩)⟩)⟩)⟩), w_251, Or.inl nw_248, by decide +kernel⟩
theorem d_X_readRow_11 : decode prog_1_method_12_code 11 = .ok (.istore_n 3, 1) := by decide +kernel
/-! ===== the component: readRow ===== -/
/-- the number of boxes that a row adds -/
def rowN (F : Nat) (u : mS) (p : Int) (lev : Nat) : Nat := ((rowL F u p lev).2 0 1 - u 0 1).toNat
/-- readRow's contract on a level -/
def RR (G : gG) (l : Launch) (F lev : Nat) : Prop := ∀ (y : xP) (z u : mS) (hb : Int), pI G y z u → -1 ≤ hb ∧ hb < yn y → z 27 hb = 1 → z 28 hb = hb → u 8 lev = z 2 hb + z 3 hb → u 9 lev = hb → 0 ≤ z 2 hb + z 5 hb → z 5 hb ≤ z 3 hb → z 2 hb + z 3 hb ≤ 1000 → 21 ≤ F + yn y →
  Ct G l q_X_readRow (10 - lev) (3 * rowN F u (z 2 hb + z 5 hb) lev + 1) (56 * rowN F u (z 2 hb + z 5 hb) lev + 14) [.ref (yc y 0), .ref (yo y hb), vI lev] (xW G y z) (fun r w => ∃ (y' : xP) (z' : mS), r = some (vI (rowL F u (z 2 hb + z 5 hb) lev).1) ∧ w = xW G y' z' ∧ pI G y' z' (rowL F u (z 2 hb + z 5 hb) lev).2 ∧ fr y z y' z')
theorem pI_open {G : gG} {y : xP} {z u : mS} (h : pI G y z u) (i a b : Int) : pI G y z (sset (sset u 8 i a) 9 i b) := by
  obtain ⟨h1, h2, h3, h4, h5, h6⟩ := h
  exact ⟨h1, h2, h3, h4, h5, h6⟩
theorem sset_rf {b b' : Nat} (h : b = b') : Value.ref b = Value.ref b' := by rw [h]
section XREADROW
variable (G : gG) (l : Launch)
set_option maxRecDepth 8000 in
theorem c_X_readRow (F0 lev : Nat) (hlev : lev ≤ 2) (IH : ∀ F, lev < 2 → RR G l F (lev + 1)) : RR G l F0 lev := by
  intro y0 z0 u0 hb hP0 hh hc1 hc28 hu8 hu9 hs0 hs1 hs2 hF0
  refine Ct.intro [some (.ref (yc y0 0)), some (.ref (yo y0 hb)), some (vI lev), none, none, none] (by decide) (Nat.le_of_ble_eq_true rfl) rfl (fun sz => ?_)
  generalize hQ : (fun (r : Option Value) (w : va_W) => ∃ (y' : xP) (z' : mS), r = some (vI (rowL F0 u0 (z0 2 hb + z0 5 hb) lev).1) ∧ w = xW G y' z' ∧ pI G y' z' (rowL F0 u0 (z0 2 hb + z0 5 hb) lev).2 ∧ fr y0 z0 y' z') = Q
  generalize hMC : 3 * rowN F0 u0 (z0 2 hb + z0 5 hb) lev + 1 = MC
  generalize hMS : 56 * rowN F0 u0 (z0 2 hb + z0 5 hb) lev + 14 = MS
  have hn0 := hP0.1.1
  have lp : ∀ (F : Nat) (y : xP) (z u : mS) (p : Int) (kc sc : Nat), 21 ≤ F + yn y → pI G y z u → fr y0 z0 y z → u 8 lev = z0 2 hb + z0 3 hb → u 9 lev = hb → 0 ≤ p → p ≤ z0 2 hb + z0 3 hb → kc + 3 * rowN F u p lev + 1 ≤ MC → sc + 56 * rowN F u p lev + 14 ≤ MS → rowL F0 u0 (z0 2 hb + z0 5 hb) lev = rowL F u p lev → WP (mth G l q_X_readRow (10 - lev) MC MS (xW G y0 z0) sz Q) kc sc (xW G y z) 12 [some (.ref (yc y 0)), some (.ref (yo y hb)), some (vI lev), some (vI p), none, none] [] := by
    intro F
    induction F with
    | zero =>
      intro y z u p kc sc h1 hP
      have := hP.1.1
      omega
    | succ F ih =>
      intro y z u p kc sc hF hP hfr hu8' hu9' hp0 hp1 hkc hsc htie
      obtain ⟨⟨a1, a2, a3⟩, a4, a5, a6, a7, a8, a9⟩ := id hfr
      have b27 : z 27 hb = 1 := by rw [a5 27 hb rfl (by omega) (by omega) (by omega) hh.2]; exact hc1
      have b28 : z 28 hb = hb := by rw [a5 28 hb rfl (by omega) (by omega) (by omega) hh.2]; exact hc28
      have b2 : z 2 hb = z0 2 hb := a5 2 hb rfl (by omega) (by omega) (by omega) hh.2
      have b3 : z 3 hb = z0 3 hb := a5 3 hb rfl (by omega) (by omega) (by omega) hh.2
      have hk : -1 ≤ hb ∧ hb < yn y := by omega
      have hn := hP.1.1
      have hsz : z 0 1 = yn y := hP.1.2.1
      refine r_iload_n d_X_readRow_12 rfl ?_
      refine r_aload_n d_X_readRow_13 rfl rfl ?_
      refine r_kU0 d_X_readRow_14 lu_X_154_H (c_B_end G l y z hb hk (by omega)) (13 + hb).toNat rfl (xw_bc hk b27) (Nat.le_of_ble_eq_true rfl) (rokD (by omega) (Nat.le_of_ble_eq_true rfl)) ⟨show _ ≤ MC by omega, show _ ≤ MS by omega⟩ (fun r ws2 hq => ?_)
      obtain ⟨rfl, hw⟩ := hq; rw [hw]; clear hw
      show WP _ _ _ _ _ _ (_ :: _)
      rw [b2, b3]
      refine r_icmp_ge 133 d_X_readRow_17 (by decide) (by unfold i32; omega) (by unfold i32; omega) (fun h1 => ?_) (fun h1 => ?_)
      · refine r_iconst d_X_readRow_133 ?_
        refine r_iret d_X_readRow_134 rfl (by first | omega | exact (show _ ≤ MC by omega) | exact (show _ ≤ MS by omega)) (by first | omega | exact (show _ ≤ MC by omega) | exact (show _ ≤ MS by omega)) ?_
        have e : rowL (F + 1) u p lev = (0, u) := by unfold rowL; rw [if_pos (by omega)]
        rw [e] at htie
        rw [← hQ, htie]
        exact ⟨y, z, rfl, rfl, hP, hfr⟩
      have hpe : p ≠ u 8 lev := by omega
      refine r_aload_n d_X_readRow_20 rfl rfl ?_
      refine r_get d_X_readRow_21 fl_X_26_0 0 rfl rfl ?_
      refine r_cV0 d_X_readRow_24 lk_X_157 (c_A_size G l _ 3 (yc y 3) (z 0 7) (z 0 1) (.ref (ye y)) rfl) 3 rfl rfl (Nat.le_of_ble_eq_true rfl) (rokD (by omega) (Nat.le_of_ble_eq_true rfl)) ⟨(by first | omega | exact (show _ ≤ MC by omega) | exact (show _ ≤ MS by omega)), (by first | omega | exact (show _ ≤ MC by omega) | exact (show _ ≤ MS by omega))⟩ (fun r ws2 hq => ?_)
      obtain ⟨rfl, hw⟩ := hq; rw [hw]; clear hw
      show WP _ _ _ _ _ _ (_ :: _)
      rw [hsz]
      refine r_bipush d_X_readRow_27 (by decide) ?_
      refine r_icmp_lt 34 d_X_readRow_29 (by decide) (by unfold i32; omega) (by unfold i32; omega) (fun h2 => ?_) (fun h2 => ?_)
      · have hn19 : yn y ≤ 19 := by omega
        have h20 : u 0 1 ≠ 20 := by rw [hP.1.2.2.1]; omega
        have hu1 : u 1 = z 1 := hP.1.2.2.2.1
        have hby : byOk z := hP.1.2.2.2.2.1
        refine r_aload_n d_X_readRow_34 rfl rfl ?_
        refine r_iload_n d_X_readRow_35 rfl ?_
        refine r_aload_n d_X_readRow_36 rfl rfl ?_
        refine r_kU0 d_X_readRow_37 lu_X_154_H (c_B_end G l y z hb hk (by omega)) (13 + hb).toNat rfl (xw_bc hk b27) (Nat.le_of_ble_eq_true rfl) (rokD (by omega) (Nat.le_of_ble_eq_true rfl)) ⟨show _ ≤ MC by omega, show _ ≤ MS by omega⟩ (fun r ws2 hq => ?_)
        obtain ⟨rfl, hw⟩ := hq; rw [hw]; clear hw
        show WP _ _ _ _ _ _ (_ :: _)
        rw [b2, b3]
        refine r_iload_n d_X_readRow_40 rfl ?_
        refine r_kV3 d_X_readRow_41 lk_X_159 (c_X_readBox G l y z p (z0 2 hb + z0 3 hb) lev hby (by omega) (by omega) hP.2.1 hn19 (pI_tr hP)) 0 rfl rfl (Nat.le_of_ble_eq_true rfl) (rokD (by omega) (Nat.le_of_ble_eq_true rfl)) ⟨show _ ≤ MC by omega, show _ ≤ MS by omega⟩ (fun r ws2 hq => ?_)
        rcases hq with ⟨hno, rfl, hw⟩|⟨hok, b, kp, R, z1, rfl, hw, hK1, hx⟩
        show WP _ _ _ _ _ _ (_ :: _)
        · rw [hw]
          show WP _ _ _ _ _ _ (.null :: _)
          refine r_astore d_X_readRow_44 (Nat.le_of_ble_eq_true rfl) rfl rfl ?_
          show WP _ _ _ _ _ [_, _, _, _, _, _] _
          refine r_aload d_X_readRow_46 rfl rfl ?_
          refine r_ifnonnull (r := none) 53 d_X_readRow_48 (by decide) (fun _ => ?_) (fun a hz => by cases hz)
          refine r_iconst d_X_readRow_51 ?_
          refine r_iret d_X_readRow_52 rfl (by first | omega | exact (show _ ≤ MC by omega) | exact (show _ ≤ MS by omega)) (by first | omega | exact (show _ ≤ MC by omega) | exact (show _ ≤ MS by omega)) ?_
          have e : rowL (F + 1) u p lev = (1, u) := by unfold rowL; rw [if_neg hpe, if_neg h20, if_neg (by rw [hu1, hu8']; exact hno)]
          rw [e] at htie
          rw [← hQ, htie]
          exact ⟨y, z, rfl, rfl, hP, hfr⟩
        · rw [hw]
          clear hw
          show WP _ _ _ _ _ _ (.ref b :: _)
          have hadd := fun (ea N : Nat) (m : Int) (hN : 10 ≤ N ∧ N ≤ 28 ∧ ((yn y : Nat) : Int) + 1 ≤ N) => pI_add hP hn19 hK1 hx hk hN (m := m) (ea := ea)
          have elO1 : elO G (yA y b kp R) (yn y) := by
            have e : gO (updI (yo y) (yn y) b) (yn y) = gO (yo y) (yn y) := gO_cg (fun i i0 i1 => by rw [updI_at, if_neg (by omega)])
            rcases hP.2.2.2.1 with h | ⟨N, n1, n2, n3, n4, n5⟩
            · exact Or.inl h
            · exact Or.inr ⟨N, by show yE y = [(ye y, aQ G 5 N (gO (updI (yo y) (yn y) b) (yn y)))]; rw [e]; exact n1, n2, n3, n4, n5⟩
          have g0 : yc y 0 = yc (yA y b kp R) 0 := rfl
          have g1 : yo y hb = yo (yA y b kp R) hb := by show _ = updI (yo y) (yn y) b hb; rw [updI_at, if_neg (by omega)]
          have g2 : b = yo (yA y b kp R) (yn y) := by show b = updI (yo y) (yn y) b (yn y); rw [updI_at, if_pos rfl]
          have ny1 : yn (yA y b kp R) = yn y + 1 := rfl
          generalize hy1 : yA y b kp R = y1 at hK1 hadd elO1 g0 g1 g2 ny1 ⊢
          have zo : ∀ (c : Nat) (k : Int), k < yn y → c ≠ 21 → z1 c k = z c k := fun c k k1 k2 => hx.1 c k (Or.inl (by omega)) k2
          have z01 : z1 0 1 = yn y := (hx.1 0 1 (Or.inr rfl) (by omega)).trans hsz
          have hcl : ∀ k : Int, -1 ≤ k → k < yn y1 → 1 ≤ z1 27 k ∧ z1 27 k ≤ 5 := by
            intro k k0 k1
            by_cases hkn : k = (yn y : Int)
            · subst hkn; rw [hx.2.2.2.2.2.2.2.1]; exact clN_b _
            · rw [zo 27 k (by omega) (by omega)]; exact pI_cl hP k0 (by omega)
          have hkn : -1 ≤ ((yn y : Nat) : Int) ∧ ((yn y : Nat) : Int) < yn y1 := by omega
          have hk1 : -1 ≤ hb ∧ hb < yn y1 := by omega
          have hcn := hcl (yn y) hkn.1 hkn.2
          have hrN : 1 ≤ rowN (F + 1) u p lev := by
            unfold rowN
            have o1 := op_01 u p lev
            have o2 := ad_01 u p lev
            have o3 := hP.1.2.2.1
            unfold rowL
            rw [if_neg hpe, if_neg h20, if_pos (by rw [hu1, hu8']; exact hok)]
            split
            · have q1 := rowL_fu F (opU u p lev) (p + hdH (u 1) p) (lev + 1) (by omega)
              split
              · have q2 := rowL_fu F (rowL F (opU u p lev) (p + hdH (u 1) p) (lev + 1)).2 (p + hdS (u 1) p (u 8 lev - p)) lev q1.2.2.1
                omega
              · omega
            · have q1 := rowL_fu F (adU u p lev) (p + hdS (u 1) p (u 8 lev - p)) lev (by omega)
              omega
          refine r_astore d_X_readRow_44 (Nat.le_of_ble_eq_true rfl) rfl rfl ?_
          show WP _ _ _ _ _ [_, _, _, _, _, _] _
          refine r_aload d_X_readRow_46 rfl rfl ?_
          refine r_ifnonnull (r := some b) 53 d_X_readRow_48 (by decide) (fun hz => by cases hz) (fun a hz => ?_)
          rw [g0, g1, g2]
          refine r_aload d_X_readRow_53 rfl rfl ?_
          refine r_aload_n d_X_readRow_55 rfl rfl ?_
          refine r_get d_X_readRow_56 fl_X_26_0 0 rfl rfl ?_
          refine r_cV0 d_X_readRow_59 lk_X_157 (c_A_size G l _ 3 (yc y1 3) (z1 0 7) (z1 0 1) (.ref (ye y1)) rfl) 3 rfl rfl (Nat.le_of_ble_eq_true rfl) (rokD (by omega) (Nat.le_of_ble_eq_true rfl)) ⟨(by first | omega | exact (show _ ≤ MC by omega) | exact (show _ ≤ MS by omega)), (by first | omega | exact (show _ ≤ MC by omega) | exact (show _ ≤ MS by omega))⟩ (fun r ws2 hq => ?_)
          obtain ⟨rfl, hw⟩ := hq; rw [hw]; clear hw
          show WP _ _ _ _ _ _ (_ :: _)
          rw [z01]
          refine r_putB (c := 28) d_X_readRow_62 fb_X_163 (((yn y : Nat) : Int)) hkn hcn rfl rfl rfl (bs_of (by decide) rfl) ?_
          show WP _ _ _ (xW G y1 _) _ _ _
          generalize hz2 : sset z1 28 (yn y) (yn y) = z2
          have t2 : ∀ c, c ≠ 28 → z2 c = z1 c := fun c hc => by rw [← hz2]; exact sset_ne hc
          have hcn2 : 1 ≤ z2 27 (yn y) ∧ z2 27 (yn y) ≤ 5 := by rw [t2 27 (by omega)]; exact hcn
          have hch2 : 1 ≤ z2 27 hb ∧ z2 27 hb ≤ 5 := by rw [t2 27 (by omega)]; exact hcl hb hk1.1 hk1.2
          have v28 : z2 28 hb = hb := by rw [← hz2, sset_nj (by omega), zo 28 hb hk.2 (by omega)]; exact b28
          refine r_aload d_X_readRow_65 rfl rfl ?_
          refine r_aload_n d_X_readRow_67 rfl rfl ?_
          refine r_getB d_X_readRow_68 fb_X_166 (hb) hk1 hch2 rfl ?_
          rw [v28]
          refine r_putB (c := 7) d_X_readRow_71 fb_X_167 (((yn y : Nat) : Int)) hkn hcn2 rfl rfl rfl (bs_of (by decide) rfl) ?_
          show WP _ _ _ (xW G y1 _) _ _ _
          generalize hz3 : sset z2 7 (yn y) hb = z3
          have t3 : ∀ c, c ≠ 28 → c ≠ 7 → z3 c = z1 c := fun c hc hc2 => by rw [← hz3, sset_ne hc2]; exact t2 c hc
          have v01 : z3 0 1 = yn y := by rw [t3 0 (by omega) (by omega)]; exact z01
          refine r_aload_n d_X_readRow_74 rfl rfl ?_
          refine r_get d_X_readRow_75 fl_X_26_0 0 rfl rfl ?_
          refine r_aload d_X_readRow_78 rfl rfl ?_
          refine r_kV1 d_X_readRow_80 lk_X_170 (c_X_add G l y1 z3 (yn y) v01 (by omega) hkn.2 (fun k k0 k1 => by rw [t3 27 (by omega) (by omega)]; exact hcl k (by omega) k1) elO1) 3 rfl rfl (Nat.le_of_ble_eq_true rfl) (rokD (by omega) (Nat.le_of_ble_eq_true rfl)) ⟨show _ ≤ MC by omega, show _ ≤ MS by omega⟩ (fun r ws2 hq => ?_)
          obtain ⟨rfl, ea, N, hw, hN⟩ := hq; rw [hw]; clear hw
          show WP _ _ _ _ _ _ (_ :: _)
          refine r_pop d_X_readRow_83 rfl ?_
          have hadd2 := hadd ea N (z3 0 7 + 1) hN
          rw [hz2, hz3] at hadd2
          generalize hz4 : sset (sset z3 0 7 (z3 0 7 + 1)) 0 1 (((yn y : Nat) : Int) + 1) = z4 at hadd2 ⊢
          have t4 : ∀ c, c ≠ 28 → c ≠ 7 → c ≠ 0 → z4 c = z1 c := fun c q1 q2 q3 => by rw [← hz4, sset_ne q3, sset_ne q3]; exact t3 c q1 q2
          have v25 : z4 25 hb = z 25 hb := by rw [t4 25 (by omega) (by omega) (by omega)]; exact zo 25 hb hk.2 (by omega)
          have v25b := lst_b (z 7) hb (yn y)
          rw [← (hP.2.2.1.1 hb hk.1 hk.2).2] at v25b
          generalize hy2 : yL y1 ea [(ea, aQ G 5 N (gO (yo y1) (((yn y : Nat) : Int) + 1)))] = y2 at hadd2 ⊢
          have k0 : yc y1 = yc y2 := by rw [← hy2]
          have k1 : yo y1 = yo y2 := by rw [← hy2]
          have k2 : yn y1 = yn y2 := by rw [← hy2]
          rw [k0, k1]
          rw [k2] at ny1 hk1 hkn
          refine r_aload_n d_X_readRow_84 rfl rfl ?_
          refine r_aload d_X_readRow_85 rfl rfl ?_
          refine r_cV1 d_X_readRow_87 lk_X_174 (c_H_take G l y2 z4 hb (yn y) hk1 (by rw [t4 27 (by omega) (by omega) (by omega), zo 27 hb hk.2 (by omega)]; exact b27) (by omega) (by rw [v25]; omega) (fun q => by rw [t4 27 (by omega) (by omega) (by omega)]; exact hcl _ (by omega) (by rw [k2]; omega))) (13 + hb).toNat rfl (xw_bc hk1 (by rw [t4 27 (by omega) (by omega) (by omega), zo 27 hb hk.2 (by omega)]; exact b27)) (Nat.le_of_ble_eq_true rfl) (rokD (by omega) (Nat.le_of_ble_eq_true rfl)) ⟨(by first | omega | exact (show _ ≤ MC by omega) | exact (show _ ≤ MS by omega)), (by first | omega | exact (show _ ≤ MC by omega) | exact (show _ ≤ MS by omega))⟩ (fun r ws2 hq => ?_)
          obtain ⟨rfl, hw⟩ := hq; rw [hw]; clear hw
          show WP _ _ _ _ _ _ _
          generalize hz5 : tkS z4 hb (yn y) = z5 at hadd2 ⊢
          obtain ⟨hP5, hfr5⟩ := hadd2
          have c5 := pI_cl hP5 hkn.1 hkn.2
          have b5 := hP5.2.2.2.2.2 (yn y) (by omega) hkn.2
          have hw0 : 0 ≤ hdS (z 1) p (z0 2 hb + z0 3 hb - p) ∧ p + hdS (z 1) p (z0 2 hb + z0 3 hb - p) ≤ z0 2 hb + z0 3 hb ∧ (hdH (z 1) p = 2 ∨ hdH (z 1) p = 4) := by
            have hH : hdH (z 1) p = 2 ∨ hdH (z 1) p = 4 := by unfold hdH; split <;> omega
            have q := hok
            unfold hdOk at q
            omega
          have hadE : adU u p lev = addB u p (hdS (z 1) p (z0 2 hb + z0 3 hb - p)) (z 1 (p + 1)) (hdH (z 1) p) lev hb := by unfold adU; rw [hu1, hu8', hu9']
          have s2 : z5 2 (yn y) = p := by rw [b5.1.1, addB_2, hP.1.2.2.1, if_pos rfl]
          have s3 : z5 3 (yn y) = hdS (z 1) p (z0 2 hb + z0 3 hb - p) := by rw [b5.1.2.1, addB_3, hP.1.2.2.1, if_pos rfl]
          have s4 : z5 4 (yn y) = z 1 (p + 1) := by rw [b5.1.2.2.1, addB_4, hP.1.2.2.1, if_pos rfl]
          have s5 : z5 5 (yn y) = hdH (z 1) p := by rw [b5.1.2.2.2.1, addB_5, hP.1.2.2.1, if_pos rfl]
          have s6 : z5 6 (yn y) = lev := by rw [b5.1.2.2.2.2.1, addB_6, hP.1.2.2.1, if_pos rfl]
          have s27 : z5 27 (yn y) = 1 ↔ isHold lev (z 1 (p + 1)) := by rw [b5.2.2.1, b5.2.1, s4, s6]; exact (hold_cl (by omega)).symm
          rw [← hadE] at hP5
          have j114 : ∀ (y6 : xP) (z6 u6 : mS) (f : Int) (k6 n6 : Nat), pI G y6 z6 u6 → fr y2 z5 y6 z6 → fu u u6 lev → (f = 0 ∧ 21 ≤ F + yn y6 ∧ rowL (F + 1) u p lev = rowL F u6 (p + hdS (z 1) p (z0 2 hb + z0 3 hb - p)) lev ∧ k6 + 3 * rowN F u6 (p + hdS (z 1) p (z0 2 hb + z0 3 hb - p)) lev + 1 ≤ MC ∧ n6 + 56 * rowN F u6 (p + hdS (z 1) p (z0 2 hb + z0 3 hb - p)) lev + 14 ≤ MS ∨ (f = 1 ∨ f = 2) ∧ rowL (F + 1) u p lev = (f, u6)) → k6 ≤ MC → n6 ≤ MS → WP (mth G l q_X_readRow (10 - lev) MC MS (xW G y0 z0) sz Q) k6 n6 (xW G y6 z6) 114 [some (.ref (yc y6 0)), some (.ref (yo y6 hb)), some (vI lev), some (vI p), some (.ref (yo y6 (yn y))), none] [vI f] := by
            intro y6 z6 u6 f k6 n6 hP6 hfr6 hfu6 hcase hk6 hn6
            have hf3 : f = 0 ∨ f = 1 ∨ f = 2 := by rcases hcase with h | h; exact Or.inl h.1; exact Or.inr h.1
            have hk6' : -1 ≤ ((yn y : Nat) : Int) ∧ ((yn y : Nat) : Int) < yn y6 := by have := hfr6.1.2.2; omega
            have hc6 := pI_cl hP6 hk6'.1 hk6'.2
            refine r_istore d_X_readRow_114 (Nat.le_of_ble_eq_true rfl) rfl ?_
            show WP _ _ _ _ _ [_, _, _, _, _, _] _
            refine r_iload d_X_readRow_116 rfl ?_
            refine r_if_eq 124 d_X_readRow_118 (by decide) (by unfold i32; omega) (fun hf0 => ?_) (fun hf0 => ?_)
            · rcases hcase with ⟨-, q1, q2, q3, q4⟩ | ⟨q1, -⟩
              · refine r_aload d_X_readRow_124 rfl rfl ?_
                refine r_kB0 d_X_readRow_126 lb_X_182 (yn y) (c_B_end G l y6 z6 (yn y) hk6' hc6) hk6' hc6 (Nat.le_of_ble_eq_true rfl) (rokD (by omega) (Nat.le_of_ble_eq_true rfl)) ⟨show _ ≤ MC by omega, show _ ≤ MS by omega⟩ (fun r ws2 hq => ?_)
                obtain ⟨rfl, hw⟩ := hq; rw [hw]; clear hw
                show WP _ _ _ _ _ _ (_ :: _)
                rw [hfr6.2.2.1 2 (yn y) rfl (by omega) (by omega) (by omega) hkn.2, hfr6.2.2.1 3 (yn y) rfl (by omega) (by omega) (by omega) hkn.2, s2, s3]
                refine r_istore_n d_X_readRow_129 (Nat.le_of_ble_eq_true rfl) rfl ?_
                show WP _ _ _ _ _ [_, _, _, _, _, _] _
                refine r_goto 12 d_X_readRow_130 (by decide) ?_
                refine wp_mask [true, true, true, true, false, false] rfl ?_
                exact ih y6 z6 u6 _ k6 n6 q1 hP6 (hfr.tr (hfr5.tr hfr6)) ((hfu6.1 lev (Nat.le_refl _)).1.trans hu8') ((hfu6.1 lev (Nat.le_refl _)).2.trans hu9') (by omega) hw0.2.1 q3 q4 (htie.trans q2)
              · omega
            · rcases hcase with ⟨q1, -⟩ | ⟨q1, q2⟩
              · omega
              · refine r_iload d_X_readRow_121 rfl ?_
                refine r_iret d_X_readRow_123 rfl (by first | omega | exact (show _ ≤ MC by omega) | exact (show _ ≤ MS by omega)) (by first | omega | exact (show _ ≤ MC by omega) | exact (show _ ≤ MS by omega)) ?_
                rw [q2] at htie
                rw [← hQ, htie]
                exact ⟨y6, z6, rfl, rfl, hP6, hfr.tr (hfr5.tr hfr6)⟩
          have u801 : u 0 1 = yn y := hP.1.2.2.1
          have rowE : rowL (F + 1) u p lev = if isHold lev (z 1 (p + 1)) then (if (rowL F (opU u p lev) (p + hdH (z 1) p) (lev + 1)).1 = 0 then rowL F (rowL F (opU u p lev) (p + hdH (z 1) p) (lev + 1)).2 (p + hdS (z 1) p (z0 2 hb + z0 3 hb - p)) lev else rowL F (opU u p lev) (p + hdH (z 1) p) (lev + 1)) else rowL F (adU u p lev) (p + hdS (z 1) p (z0 2 hb + z0 3 hb - p)) lev := by
            conv => lhs; unfold rowL
            rw [if_neg hpe, if_neg h20, if_pos (by rw [hu1, hu8']; exact hok), hu1, hu8']
          have o1 := op_01 u p lev
          have o2 := ad_01 u p lev
          refine r_aload d_X_readRow_90 rfl rfl ?_
          refine r_instH d_X_readRow_92 w_29 (yn y) hkn c5 (fun hcl5 => ?_) (fun hcl5 => ?_)
          · have hh5 := s27.mp hcl5
            have hl2 : lev < 2 := by unfold isHold at hh5; omega
            have fa := rowL_fu F (opU u p lev) (p + hdH (z 1) p) (lev + 1) (by omega)
            have hq5 := hok
            unfold hdOk at hq5
            rw [if_pos hh5] at rowE
            refine r_if_eq 113 d_X_readRow_95 (by decide) (by unfold i32; omega) (fun hz => ?_) (fun hz => ?_)
            · omega
            refine r_aload_n d_X_readRow_98 rfl rfl ?_
            refine r_aload d_X_readRow_99 rfl rfl ?_
            refine r_castH d_X_readRow_101 w_29 (yn y) hkn hcl5 ?_
            refine r_iload_n d_X_readRow_104 rfl ?_
            refine r_iconst d_X_readRow_105 ?_
            refine r_iadd d_X_readRow_106 ?_
            rw [show ((lev : Nat) : Int) + 1 = ((lev + 1 : Nat) : Int) by omega]
            have hrr := IH F hl2 y2 z5 (opU u p lev) (yn y) (pI_open hP5 _ _ _) hkn hcl5 b5.2.2.2.1 (by rw [s2, s3]; show sset (sset _ 8 _ _) 9 _ _ 8 _ = _; rw [sset_ne (by omega), sset_eq, hu1, hu8']) (by show sset (sset _ 8 _ _) 9 _ _ 9 _ = _; rw [sset_eq, u801]) (by rw [s2, s5]; omega) (by rw [s3, s5]; omega) (by rw [s2, s3]; omega) (by omega)
            rw [s2, s5] at hrr
            have hrow : rowN (F + 1) u p lev = 1 + rowN F (opU u p lev) (p + hdH (z 1) p) (lev + 1) + (if (rowL F (opU u p lev) (p + hdH (z 1) p) (lev + 1)).1 = 0 then rowN F (rowL F (opU u p lev) (p + hdH (z 1) p) (lev + 1)).2 (p + hdS (z 1) p (z0 2 hb + z0 3 hb - p)) lev else 0) := by
              unfold rowN
              rw [rowE]
              have fb := rowL_fu F (rowL F (opU u p lev) (p + hdH (z 1) p) (lev + 1)).2 (p + hdS (z 1) p (z0 2 hb + z0 3 hb - p)) lev fa.2.2.1
              split <;> omega
            refine r_kS3 d_X_readRow_107 lk_X_178 (hrr) (Nat.le_of_ble_eq_true rfl) (rokD (by omega) (Nat.le_of_ble_eq_true rfl)) ⟨show _ ≤ MC by omega, show _ ≤ MS by omega⟩ (fun r ws2 hq => ?_)
            obtain ⟨y6, z6, rfl, hw, hP6, hfr6⟩ := hq; rw [hw]; clear hw
            show WP _ _ _ _ _ _ (_ :: _)
            refine r_goto 114 d_X_readRow_110 (by decide) ?_
            rw [← hfr6.1.1, ← hfr6.2.1 hb (by omega), ← hfr6.2.1 (yn y) hkn.2]
            refine j114 y6 z6 _ _ _ _ hP6 hfr6 ((fu_op u p lev).tr fa.1 (Nat.le_succ _)) ?_ (by omega) (by omega)
            by_cases hr0 : (rowL F (opU u p lev) (p + hdH (z 1) p) (lev + 1)).1 = 0
            · rw [if_pos hr0] at rowE hrow
              refine Or.inl ⟨hr0, by have := hfr6.1.2.2; omega, rowE, by omega, by omega⟩
            · rw [if_neg hr0] at rowE hrow
              exact Or.inr ⟨by have := fa.2.2.2; omega, rowE⟩
          · have hh5 : ¬ isHold lev (z 1 (p + 1)) := fun q => hcl5 (s27.mpr q)
            rw [if_neg hh5] at rowE
            have fa := rowL_fu F (adU u p lev) (p + hdS (z 1) p (z0 2 hb + z0 3 hb - p)) lev (by omega)
            have hrow : rowN (F + 1) u p lev = 1 + rowN F (adU u p lev) (p + hdS (z 1) p (z0 2 hb + z0 3 hb - p)) lev := by
              unfold rowN
              rw [rowE]
              omega
            refine r_if_eq 113 d_X_readRow_95 (by decide) (by unfold i32; omega) (fun hz => ?_) (fun hz => ?_)
            · refine r_iconst d_X_readRow_113 ?_
              exact j114 y2 z5 (adU u p lev) 0 _ _ hP5 (fr.rf _ _) (fu_add u _ _ _ _ _ _ lev) (Or.inl ⟨rfl, by omega, rowE, by omega, by omega⟩) (by omega) (by omega)
            · omega
      · refine r_iconst d_X_readRow_32 ?_
        refine r_iret d_X_readRow_33 rfl (by first | omega | exact (show _ ≤ MC by omega) | exact (show _ ≤ MS by omega)) (by first | omega | exact (show _ ≤ MC by omega) | exact (show _ ≤ MS by omega)) ?_
        have e : rowL (F + 1) u p lev = (2, u) := by unfold rowL; rw [if_neg hpe, if_pos (by rw [hP.1.2.2.1]; omega)]
        rw [e] at htie
        rw [← hQ, htie]
        exact ⟨y, z, rfl, rfl, hP, hfr⟩
  refine r_iload_n d_X_readRow_0 rfl ?_
  refine r_iconst d_X_readRow_1 ?_
  refine r_icmp_le 7 d_X_readRow_2 (by decide) (by unfold i32; omega) (by unfold i32; omega) (fun h1 => ?_) (fun h1 => ?_)
  · refine r_aload_n d_X_readRow_7 rfl rfl ?_
    refine r_kU0 d_X_readRow_8 lu_X_151_H (c_B_start G l y0 z0 hb hh (by omega)) (13 + hb).toNat rfl (xw_bc hh hc1) (Nat.le_of_ble_eq_true rfl) (rokD (by omega) (Nat.le_of_ble_eq_true rfl)) ⟨Nat.zero_le _, Nat.zero_le _⟩ (fun r ws2 hq => ?_)
    obtain ⟨rfl, hw⟩ := hq; rw [hw]; clear hw
    show WP _ _ _ _ _ _ (_ :: _)
    refine r_istore_n d_X_readRow_11 (Nat.le_of_ble_eq_true rfl) rfl ?_
    show WP _ _ _ _ _ [_, _, _, _, _, _] _
    exact lp F0 y0 z0 u0 _ 0 0 hF0 hP0 (fr.rf _ _) hu8 hu9 hs0 (by omega) (by omega) (by omega) rfl
  · omega
end XREADROW
