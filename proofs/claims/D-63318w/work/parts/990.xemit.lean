abbrev q_X_emit : Mi := (⟨"MovieBoxes", "emit", "(LMovieBoxes;LMovieBoxes$Box;II)I"⟩, prog_1_method_27_code, 7, (some .int))
theorem d_X_emit_196 : decode prog_1_method_27_code 196 = .ok (.iload_n 2, 1) := by decide +kernel
theorem d_X_emit_197 : decode prog_1_method_27_code 197 = .ok (.aload_n 1, 1) := by decide +kernel
theorem d_X_emit_198 : decode prog_1_method_27_code 198 = .ok (.getfield 297, 3) := by decide +kernel
theorem d_X_emit_201 : decode prog_1_method_27_code 201 = .ok (.iadd, 1) := by decide +kernel
theorem d_X_emit_202 : decode prog_1_method_27_code 202 = .ok (.ireturn, 1) := by decide +kernel
theorem d_X_emit_114 : decode prog_1_method_27_code 114 = .ok (.aload_n 1, 1) := by decide +kernel
theorem d_X_emit_115 : decode prog_1_method_27_code 115 = .ok (.instanceof 16, 3) := by decide +kernel
theorem d_X_emit_163 : decode prog_1_method_27_code 163 = .ok (.goto 33, 3) := by decide +kernel
theorem d_X_emit_135 : decode prog_1_method_27_code 135 = .ok (.aload 6, 2) := by decide +kernel
theorem d_X_emit_137 : decode prog_1_method_27_code 137 = .ok (.ifnull 26, 3) := by decide +kernel
theorem d_X_emit_140 : decode prog_1_method_27_code 140 = .ok (.aload_n 0, 1) := by decide +kernel
theorem d_X_emit_141 : decode prog_1_method_27_code 141 = .ok (.aload 6, 2) := by decide +kernel
theorem d_X_emit_143 : decode prog_1_method_27_code 143 = .ok (.iload 4, 2) := by decide +kernel
theorem d_X_emit_145 : decode prog_1_method_27_code 145 = .ok (.iload_n 3, 1) := by decide +kernel
theorem d_X_emit_146 : decode prog_1_method_27_code 146 = .ok (.iconst 1, 1) := by decide +kernel
theorem d_X_emit_147 : decode prog_1_method_27_code 147 = .ok (.iadd, 1) := by decide +kernel
theorem d_X_emit_148 : decode prog_1_method_27_code 148 = .ok (.invokestatic 303, 3) := by decide +kernel
set_option maxRecDepth 20000 in
theorem w_666 : Cond.methodLink "MovieBoxes" 303 ⟨"MovieBoxes", "emit", "(LMovieBoxes;LMovieBoxes$Box;II)I"⟩ ∈ gt := gt_of (in_t3 (List.mem_of_getElem? (i := 186) rfl)) rfl
set_option maxRecDepth 20000 in
theorem w_667 : Cond.static ⟨"MovieBoxes", "emit", "(LMovieBoxes;LMovieBoxes$Box;II)I"⟩ ∈ gt := gt_of (in_t3 (List.mem_of_getElem? (i := 187) rfl)) rfl
set_option maxRecDepth 20000 in
theorem w_668 : Cond.code ⟨"MovieBoxes", "emit", "(LMovieBoxes;LMovieBoxes$Box;II)I"⟩ prog_1_method_27_code 7 (some .int) ∈ gt := gt_of (in_t3 (List.mem_of_getElem? (i := 188) rfl)) rfl
theorem lk_X_303 : LkS "MovieBoxes" 303 q_X_emit 4 := ⟨(List.forall_mem_cons.mpr ⟨w_666, (List.forall_mem_cons.mpr ⟨w_667, (List.forall_mem_cons.mpr ⟨w_1, (fun _ h => absurd h List.not_mem_nil)⟩)⟩)⟩), w_668, by decide +kernel⟩
theorem d_X_emit_151 : decode prog_1_method_27_code 151 = .ok (.istore 4, 2) := by decide +kernel
theorem d_X_emit_153 : decode prog_1_method_27_code 153 = .ok (.aload 6, 2) := by decide +kernel
theorem d_X_emit_155 : decode prog_1_method_27_code 155 = .ok (.getfield 223, 3) := by decide +kernel
theorem d_X_emit_158 : decode prog_1_method_27_code 158 = .ok (.astore 6, 2) := by decide +kernel
theorem d_X_emit_160 : decode prog_1_method_27_code 160 = .ok (.goto (-25), 3) := by decide +kernel
theorem d_X_emit_118 : decode prog_1_method_27_code 118 = .ok (.ifCond .eq 48, 3) := by decide +kernel
theorem d_X_emit_121 : decode prog_1_method_27_code 121 = .ok (.iload_n 3, 1) := by decide +kernel
theorem d_X_emit_122 : decode prog_1_method_27_code 122 = .ok (.iconst 3, 1) := by decide +kernel
theorem d_X_emit_123 : decode prog_1_method_27_code 123 = .ok (.if_icmp .ge 43, 3) := by decide +kernel
theorem d_X_emit_126 : decode prog_1_method_27_code 126 = .ok (.aload_n 1, 1) := by decide +kernel
theorem d_X_emit_127 : decode prog_1_method_27_code 127 = .ok (.checkcast 16, 3) := by decide +kernel
theorem d_X_emit_130 : decode prog_1_method_27_code 130 = .ok (.getfield 219, 3) := by decide +kernel
theorem d_X_emit_133 : decode prog_1_method_27_code 133 = .ok (.astore 6, 2) := by decide +kernel
theorem d_X_emit_166 : decode prog_1_method_27_code 166 = .ok (.aload_n 1, 1) := by decide +kernel
theorem d_X_emit_167 : decode prog_1_method_27_code 167 = .ok (.instanceof 289, 3) := by decide +kernel
theorem d_X_emit_170 : decode prog_1_method_27_code 170 = .ok (.ifCond .eq 26, 3) := by decide +kernel
theorem d_X_emit_173 : decode prog_1_method_27_code 173 = .ok (.aload_n 1, 1) := by decide +kernel
theorem d_X_emit_174 : decode prog_1_method_27_code 174 = .ok (.checkcast 289, 3) := by decide +kernel
theorem d_X_emit_177 : decode prog_1_method_27_code 177 = .ok (.aload_n 0, 1) := by decide +kernel
theorem d_X_emit_178 : decode prog_1_method_27_code 178 = .ok (.getfield 7, 3) := by decide +kernel
theorem d_X_emit_181 : decode prog_1_method_27_code 181 = .ok (.aload_n 0, 1) := by decide +kernel
theorem d_X_emit_182 : decode prog_1_method_27_code 182 = .ok (.getfield 13, 3) := by decide +kernel
set_option maxRecDepth 20000 in
theorem w_163 : Cond.fieldLink "MovieBoxes" 13 "MovieBoxes" "made" "[B" ∈ gt := gt_of (in_t1 (List.mem_of_getElem? (i := 163) rfl)) rfl
theorem fl_X_13_0 : FL "MovieBoxes" 13 0 1 true := ⟨_, _, _, "MovieBoxes", rfl, by decide, rfl, Or.inl w_163, Or.inl rfl⟩
theorem d_X_emit_185 : decode prog_1_method_27_code 185 = .ok (.iload 4, 2) := by decide +kernel
theorem d_X_emit_187 : decode prog_1_method_27_code 187 = .ok (.aload_n 0, 1) := by decide +kernel
theorem d_X_emit_188 : decode prog_1_method_27_code 188 = .ok (.getfield 47, 3) := by decide +kernel
theorem d_X_emit_191 : decode prog_1_method_27_code 191 = .ok (.invokeinterface 307 5, 5) := by decide +kernel
set_option maxRecDepth 20000 in
theorem w_688 : Cond.methodLink "MovieBoxes" 307 ⟨"MovieBoxes$Written", "copyTo", "([B[BI[I)V"⟩ ∈ gt := gt_of (in_t3 (List.mem_of_getElem? (i := 208) rfl)) rfl
set_option maxRecDepth 20000 in
theorem w_691 : Cond.selects "MovieBoxes$Leaf" ⟨"MovieBoxes$Written", "copyTo", "([B[BI[I)V"⟩ ⟨"MovieBoxes$Leaf", "copyTo", "([B[BI[I)V"⟩ ∈ gt := gt_of (in_t3 (List.mem_of_getElem? (i := 211) rfl)) rfl
set_option maxRecDepth 20000 in
theorem w_693 : Cond.instanceMethod ⟨"MovieBoxes$Leaf", "copyTo", "([B[BI[I)V"⟩ ∈ gt := gt_of (in_t3 (List.mem_of_getElem? (i := 213) rfl)) rfl
set_option maxRecDepth 20000 in
theorem w_695 : Cond.code ⟨"MovieBoxes$Leaf", "copyTo", "([B[BI[I)V"⟩ prog_5_method_4_code 5 (none : Option Jvm.ClassFile.FieldType) ∈ gt := gt_of (in_t3 (List.mem_of_getElem? (i := 215) rfl)) rfl
theorem lf_X_307_L : LkF "MovieBoxes" 307 "MovieBoxes$Leaf" ⟨"MovieBoxes$Written", "copyTo", "([B[BI[I)V"⟩ q_L_copyTo 4 := ⟨(List.forall_mem_cons.mpr ⟨w_688, (List.forall_mem_cons.mpr ⟨w_691, (List.forall_mem_cons.mpr ⟨w_693, (List.forall_mem_cons.mpr ⟨w_11, (fun _ h => absurd h List.not_mem_nil)⟩)⟩)⟩)⟩), w_695, by decide +kernel, by decide +kernel⟩
set_option maxRecDepth 20000 in
theorem w_704 : Cond.selects "MovieBoxes$Table" ⟨"MovieBoxes$Written", "copyTo", "([B[BI[I)V"⟩ ⟨"MovieBoxes$Leaf", "copyTo", "([B[BI[I)V"⟩ ∈ gt := gt_of (in_t3 (List.mem_of_getElem? (i := 224) rfl)) rfl
theorem lf_X_307_T : LkF "MovieBoxes" 307 "MovieBoxes$Table" ⟨"MovieBoxes$Written", "copyTo", "([B[BI[I)V"⟩ q_L_copyTo 4 := ⟨(List.forall_mem_cons.mpr ⟨w_688, (List.forall_mem_cons.mpr ⟨w_704, (List.forall_mem_cons.mpr ⟨w_693, (List.forall_mem_cons.mpr ⟨w_11, (fun _ h => absurd h List.not_mem_nil)⟩)⟩)⟩)⟩), w_695, by decide +kernel, by decide +kernel⟩
set_option maxRecDepth 20000 in
theorem w_697 : Cond.selects "MovieBoxes$PlaceTable" ⟨"MovieBoxes$Written", "copyTo", "([B[BI[I)V"⟩ ⟨"MovieBoxes$PlaceTable", "copyTo", "([B[BI[I)V"⟩ ∈ gt := gt_of (in_t3 (List.mem_of_getElem? (i := 217) rfl)) rfl
set_option maxRecDepth 20000 in
theorem w_699 : Cond.instanceMethod ⟨"MovieBoxes$PlaceTable", "copyTo", "([B[BI[I)V"⟩ ∈ gt := gt_of (in_t3 (List.mem_of_getElem? (i := 219) rfl)) rfl
set_option maxRecDepth 20000 in
theorem w_701 : Cond.code ⟨"MovieBoxes$PlaceTable", "copyTo", "([B[BI[I)V"⟩ prog_6_method_7_code 8 (none : Option Jvm.ClassFile.FieldType) ∈ gt := gt_of (in_t3 (List.mem_of_getElem? (i := 221) rfl)) rfl
theorem lf_X_307_P : LkF "MovieBoxes" 307 "MovieBoxes$PlaceTable" ⟨"MovieBoxes$Written", "copyTo", "([B[BI[I)V"⟩ q_P_copyTo 4 := ⟨(List.forall_mem_cons.mpr ⟨w_688, (List.forall_mem_cons.mpr ⟨w_697, (List.forall_mem_cons.mpr ⟨w_699, (List.forall_mem_cons.mpr ⟨w_13, (fun _ h => absurd h List.not_mem_nil)⟩)⟩)⟩)⟩), w_701, by decide +kernel, by decide +kernel⟩
set_option maxRecDepth 20000 in
theorem w_702 : Cond.selects "MovieBoxes$SizeTable" ⟨"MovieBoxes$Written", "copyTo", "([B[BI[I)V"⟩ ⟨"MovieBoxes$Leaf", "copyTo", "([B[BI[I)V"⟩ ∈ gt := gt_of (in_t3 (List.mem_of_getElem? (i := 222) rfl)) rfl
theorem lf_X_307_S : LkF "MovieBoxes" 307 "MovieBoxes$SizeTable" ⟨"MovieBoxes$Written", "copyTo", "([B[BI[I)V"⟩ q_L_copyTo 4 := ⟨(List.forall_mem_cons.mpr ⟨w_688, (List.forall_mem_cons.mpr ⟨w_702, (List.forall_mem_cons.mpr ⟨w_693, (List.forall_mem_cons.mpr ⟨w_11, (fun _ h => absurd h List.not_mem_nil)⟩)⟩)⟩)⟩), w_695, by decide +kernel, by decide +kernel⟩
theorem d_X_emit_76 : decode prog_1_method_27_code 76 = .ok (.iload 5, 2) := by decide +kernel
theorem d_X_emit_78 : decode prog_1_method_27_code 78 = .ok (.ifCond .eq 36, 3) := by decide +kernel
theorem d_X_emit_81 : decode prog_1_method_27_code 81 = .ok (.aload_n 0, 1) := by decide +kernel
theorem d_X_emit_82 : decode prog_1_method_27_code 82 = .ok (.getfield 13, 3) := by decide +kernel
theorem d_X_emit_85 : decode prog_1_method_27_code 85 = .ok (.iload 4, 2) := by decide +kernel
theorem d_X_emit_87 : decode prog_1_method_27_code 87 = .ok (.iinc 4 1, 3) := by decide +kernel
theorem d_X_emit_90 : decode prog_1_method_27_code 90 = .ok (.aload_n 1, 1) := by decide +kernel
theorem d_X_emit_91 : decode prog_1_method_27_code 91 = .ok (.getfield 297, 3) := by decide +kernel
theorem d_X_emit_94 : decode prog_1_method_27_code 94 = .ok (.bipush 8, 2) := by decide +kernel
theorem d_X_emit_96 : decode prog_1_method_27_code 96 = .ok (.ishr, 1) := by decide +kernel
theorem d_X_emit_97 : decode prog_1_method_27_code 97 = .ok (.i2b, 1) := by decide +kernel
theorem d_X_emit_98 : decode prog_1_method_27_code 98 = .ok (.bastore, 1) := by decide +kernel
theorem d_X_emit_99 : decode prog_1_method_27_code 99 = .ok (.aload_n 0, 1) := by decide +kernel
theorem d_X_emit_100 : decode prog_1_method_27_code 100 = .ok (.getfield 13, 3) := by decide +kernel
theorem d_X_emit_103 : decode prog_1_method_27_code 103 = .ok (.iload 4, 2) := by decide +kernel
theorem d_X_emit_105 : decode prog_1_method_27_code 105 = .ok (.iinc 4 1, 3) := by decide +kernel
theorem d_X_emit_108 : decode prog_1_method_27_code 108 = .ok (.aload_n 1, 1) := by decide +kernel
theorem d_X_emit_109 : decode prog_1_method_27_code 109 = .ok (.getfield 297, 3) := by decide +kernel
theorem d_X_emit_112 : decode prog_1_method_27_code 112 = .ok (.i2b, 1) := by decide +kernel
theorem d_X_emit_113 : decode prog_1_method_27_code 113 = .ok (.bastore, 1) := by decide +kernel
theorem d_X_emit_40 : decode prog_1_method_27_code 40 = .ok (.i2b, 1) := by decide +kernel
theorem d_X_emit_41 : decode prog_1_method_27_code 41 = .ok (.bastore, 1) := by decide +kernel
theorem d_X_emit_74 : decode prog_1_method_27_code 74 = .ok (.i2b, 1) := by decide +kernel
theorem d_X_emit_75 : decode prog_1_method_27_code 75 = .ok (.bastore, 1) := by decide +kernel
theorem d_X_emit_42 : decode prog_1_method_27_code 42 = .ok (.aload_n 0, 1) := by decide +kernel
theorem d_X_emit_43 : decode prog_1_method_27_code 43 = .ok (.getfield 13, 3) := by decide +kernel
theorem d_X_emit_46 : decode prog_1_method_27_code 46 = .ok (.iload 4, 2) := by decide +kernel
theorem d_X_emit_48 : decode prog_1_method_27_code 48 = .ok (.iinc 4 1, 3) := by decide +kernel
theorem d_X_emit_51 : decode prog_1_method_27_code 51 = .ok (.aload_n 1, 1) := by decide +kernel
theorem d_X_emit_52 : decode prog_1_method_27_code 52 = .ok (.instanceof 289, 3) := by decide +kernel
theorem d_X_emit_55 : decode prog_1_method_27_code 55 = .ok (.ifCond .eq 15, 3) := by decide +kernel
theorem d_X_emit_58 : decode prog_1_method_27_code 58 = .ok (.aload_n 1, 1) := by decide +kernel
theorem d_X_emit_59 : decode prog_1_method_27_code 59 = .ok (.checkcast 289, 3) := by decide +kernel
theorem d_X_emit_62 : decode prog_1_method_27_code 62 = .ok (.invokeinterface 300 1, 5) := by decide +kernel
set_option maxRecDepth 20000 in
theorem w_670 : Cond.methodLink "MovieBoxes" 300 ⟨"MovieBoxes$Written", "typeToWrite", "()I"⟩ ∈ gt := gt_of (in_t3 (List.mem_of_getElem? (i := 190) rfl)) rfl
set_option maxRecDepth 20000 in
theorem w_673 : Cond.selects "MovieBoxes$Leaf" ⟨"MovieBoxes$Written", "typeToWrite", "()I"⟩ ⟨"MovieBoxes$Leaf", "typeToWrite", "()I"⟩ ∈ gt := gt_of (in_t3 (List.mem_of_getElem? (i := 193) rfl)) rfl
set_option maxRecDepth 20000 in
theorem w_675 : Cond.instanceMethod ⟨"MovieBoxes$Leaf", "typeToWrite", "()I"⟩ ∈ gt := gt_of (in_t3 (List.mem_of_getElem? (i := 195) rfl)) rfl
set_option maxRecDepth 20000 in
theorem w_677 : Cond.code ⟨"MovieBoxes$Leaf", "typeToWrite", "()I"⟩ prog_5_method_2_code 1 (some .int) ∈ gt := gt_of (in_t3 (List.mem_of_getElem? (i := 197) rfl)) rfl
theorem lf_X_300_L : LkF "MovieBoxes" 300 "MovieBoxes$Leaf" ⟨"MovieBoxes$Written", "typeToWrite", "()I"⟩ q_L_typeToWrite 0 := ⟨(List.forall_mem_cons.mpr ⟨w_670, (List.forall_mem_cons.mpr ⟨w_673, (List.forall_mem_cons.mpr ⟨w_675, (List.forall_mem_cons.mpr ⟨w_11, (fun _ h => absurd h List.not_mem_nil)⟩)⟩)⟩)⟩), w_677, by decide +kernel, by decide +kernel⟩
theorem d_X_emit_67 : decode prog_1_method_27_code 67 = .ok (.goto 7, 3) := by decide +kernel
set_option maxRecDepth 20000 in
theorem w_685 : Cond.selects "MovieBoxes$Table" ⟨"MovieBoxes$Written", "typeToWrite", "()I"⟩ ⟨"MovieBoxes$Leaf", "typeToWrite", "()I"⟩ ∈ gt := gt_of (in_t3 (List.mem_of_getElem? (i := 205) rfl)) rfl
theorem lf_X_300_T : LkF "MovieBoxes" 300 "MovieBoxes$Table" ⟨"MovieBoxes$Written", "typeToWrite", "()I"⟩ q_L_typeToWrite 0 := ⟨(List.forall_mem_cons.mpr ⟨w_670, (List.forall_mem_cons.mpr ⟨w_685, (List.forall_mem_cons.mpr ⟨w_675, (List.forall_mem_cons.mpr ⟨w_11, (fun _ h => absurd h List.not_mem_nil)⟩)⟩)⟩)⟩), w_677, by decide +kernel, by decide +kernel⟩
set_option maxRecDepth 20000 in
theorem w_678 : Cond.selects "MovieBoxes$PlaceTable" ⟨"MovieBoxes$Written", "typeToWrite", "()I"⟩ ⟨"MovieBoxes$PlaceTable", "typeToWrite", "()I"⟩ ∈ gt := gt_of (in_t3 (List.mem_of_getElem? (i := 198) rfl)) rfl
set_option maxRecDepth 20000 in
theorem w_680 : Cond.instanceMethod ⟨"MovieBoxes$PlaceTable", "typeToWrite", "()I"⟩ ∈ gt := gt_of (in_t3 (List.mem_of_getElem? (i := 200) rfl)) rfl
set_option maxRecDepth 20000 in
theorem w_682 : Cond.code ⟨"MovieBoxes$PlaceTable", "typeToWrite", "()I"⟩ prog_6_method_5_code 1 (some .int) ∈ gt := gt_of (in_t3 (List.mem_of_getElem? (i := 202) rfl)) rfl
theorem lf_X_300_P : LkF "MovieBoxes" 300 "MovieBoxes$PlaceTable" ⟨"MovieBoxes$Written", "typeToWrite", "()I"⟩ q_P_typeToWrite 0 := ⟨(List.forall_mem_cons.mpr ⟨w_670, (List.forall_mem_cons.mpr ⟨w_678, (List.forall_mem_cons.mpr ⟨w_680, (List.forall_mem_cons.mpr ⟨w_13, (fun _ h => absurd h List.not_mem_nil)⟩)⟩)⟩)⟩), w_682, by decide +kernel, by decide +kernel⟩
set_option maxRecDepth 20000 in
theorem w_683 : Cond.selects "MovieBoxes$SizeTable" ⟨"MovieBoxes$Written", "typeToWrite", "()I"⟩ ⟨"MovieBoxes$Leaf", "typeToWrite", "()I"⟩ ∈ gt := gt_of (in_t3 (List.mem_of_getElem? (i := 203) rfl)) rfl
theorem lf_X_300_S : LkF "MovieBoxes" 300 "MovieBoxes$SizeTable" ⟨"MovieBoxes$Written", "typeToWrite", "()I"⟩ q_L_typeToWrite 0 := ⟨(List.forall_mem_cons.mpr ⟨w_670, (List.forall_mem_cons.mpr ⟨w_683, (List.forall_mem_cons.mpr ⟨w_675, (List.forall_mem_cons.mpr ⟨w_11, (fun _ h => absurd h List.not_mem_nil)⟩)⟩)⟩)⟩), w_677, by decide +kernel, by decide +kernel⟩
theorem d_X_emit_70 : decode prog_1_method_27_code 70 = .ok (.aload_n 1, 1) := by decide +kernel
theorem d_X_emit_71 : decode prog_1_method_27_code 71 = .ok (.getfield 136, 3) := by decide +kernel
theorem d_X_emit_16 : decode prog_1_method_27_code 16 = .ok (.istore 5, 2) := by decide +kernel
theorem d_X_emit_18 : decode prog_1_method_27_code 18 = .ok (.aload_n 0, 1) := by decide +kernel
theorem d_X_emit_19 : decode prog_1_method_27_code 19 = .ok (.getfield 13, 3) := by decide +kernel
theorem d_X_emit_22 : decode prog_1_method_27_code 22 = .ok (.iload 4, 2) := by decide +kernel
theorem d_X_emit_24 : decode prog_1_method_27_code 24 = .ok (.iinc 4 1, 3) := by decide +kernel
theorem d_X_emit_27 : decode prog_1_method_27_code 27 = .ok (.iload 5, 2) := by decide +kernel
theorem d_X_emit_29 : decode prog_1_method_27_code 29 = .ok (.ifCond .eq 7, 3) := by decide +kernel
theorem d_X_emit_36 : decode prog_1_method_27_code 36 = .ok (.aload_n 1, 1) := by decide +kernel
theorem d_X_emit_37 : decode prog_1_method_27_code 37 = .ok (.getfield 297, 3) := by decide +kernel
theorem d_X_emit_32 : decode prog_1_method_27_code 32 = .ok (.iconst 1, 1) := by decide +kernel
theorem d_X_emit_33 : decode prog_1_method_27_code 33 = .ok (.goto 7, 3) := by decide +kernel
theorem d_X_emit_0 : decode prog_1_method_27_code 0 = .ok (.iload_n 2, 1) := by decide +kernel
theorem d_X_emit_1 : decode prog_1_method_27_code 1 = .ok (.istore 4, 2) := by decide +kernel
theorem d_X_emit_3 : decode prog_1_method_27_code 3 = .ok (.aload_n 1, 1) := by decide +kernel
theorem d_X_emit_4 : decode prog_1_method_27_code 4 = .ok (.getfield 294, 3) := by decide +kernel
theorem d_X_emit_7 : decode prog_1_method_27_code 7 = .ok (.iconst 4, 1) := by decide +kernel
theorem d_X_emit_8 : decode prog_1_method_27_code 8 = .ok (.if_icmp .ne 7, 3) := by decide +kernel
theorem d_X_emit_15 : decode prog_1_method_27_code 15 = .ok (.iconst 0, 1) := by decide +kernel
theorem d_X_emit_11 : decode prog_1_method_27_code 11 = .ok (.iconst 1, 1) := by decide +kernel
theorem d_X_emit_12 : decode prog_1_method_27_code 12 = .ok (.goto 4, 3) := by decide +kernel
/-! ===== the component: emit ===== -/
theorem md_take {z : mS} {to : Int} {M N : List Int} (h : mdP z to (M ++ N)) : mdP z to M := by
  intro j hj
  have := h j (by rw [List.length_append]; omega)
  rw [this, List.getD_eq_getElem?_getD, List.getElem?_append_left hj, List.getD_eq_getElem?_getD]
/-- boxes that aren't of the movie aren't written -/
theorem bxL_skip {v : mS} {w gr : Int} : ∀ (d a : Nat), (∀ j : Int, a ≤ j → j < a + d → ¬ (j = v 0 2 ∨ 0 < v 6 j)) → bxL v w gr (a + d) = bxL v w gr a
  | 0, a, _ => rfl
  | d + 1, a, h => by
    have ih := bxL_skip (w := w) (gr := gr) d a (fun j h1 h2 => h j h1 (by omega))
    have e : bxL v w gr (a + (d + 1)) = bxL v w gr (a + d) ++ (if ((a + d : Nat) : Int) = v 0 2 ∨ 0 < v 6 ((a + d : Nat) : Int) then wbL v w gr ((a + d : Nat) : Int) else []) := rfl
    rw [e, if_neg (h ((a + d : Nat) : Int) (by omega) (by omega)), List.append_nil, ih]
theorem bxL_skip' {v : mS} {w gr : Int} {a b : Nat} (hab : a ≤ b) (h : ∀ j : Int, a ≤ j → j < b → ¬ (j = v 0 2 ∨ 0 < v 6 j)) : bxL v w gr b = bxL v w gr a := by
  have := bxL_skip (v := v) (w := w) (gr := gr) (b - a) a (fun j h1 h2 => h j h1 (by omega))
  rw [show a + (b - a) = b by omega] at this
  exact this
theorem bxL_s {v : mS} {w gr : Int} {k : Nat} (h : (k : Int) = v 0 2 ∨ 0 < v 6 k) : bxL v w gr (k + 1) = bxL v w gr k ++ wbL v w gr k := by
  show bxL v w gr k ++ _ = _
  rw [if_pos h]
theorem bxL_le {v : mS} {w gr : Int} {a b : Nat} (h : a ≤ b) : (bxL v w gr a).length ≤ (bxL v w gr b).length := by
  induction b with
  | zero => rw [show a = 0 by omega]; exact Nat.le_refl _
  | succ b ih =>
    by_cases e : a = b + 1
    · rw [e]; exact Nat.le_refl _
    · have := ih (by omega)
      show _ ≤ (bxL v w gr b ++ _).length
      rw [List.length_append]
      omega
theorem nxt_skip {z : mS} {b : Int} {n : Nat} : ∀ (d a : Nat), a + d ≤ n → (∀ j : Int, a ≤ j → j < a + d → z 7 j ≠ b) → nxt (z 7) b (n - a) (a : Int) = nxt (z 7) b (n - (a + d)) ((a + d : Nat) : Int)
  | 0, a, _, _ => rfl
  | d + 1, a, ha, hj => by
    have e1 : n - a = (n - (a + 1)) + 1 := by omega
    rw [e1]
    conv => lhs; unfold nxt
    rw [if_neg (hj a (by omega) (by omega))]
    have := nxt_skip (z := z) (b := b) (n := n) d (a + 1) (by omega) (fun j a1 a2 => hj j (by omega) (by omega))
    rw [show a + 1 + d = a + (d + 1) by omega] at this
    exact this
/-- while boxes are written: lengths, places, the part of the file -/
def eI (G : gG) (y : xP) (z v : mS) (w to : Int) : Prop := fW G y z v w ∧ o2Ok v ∧ (∀ k : Int, 0 ≤ k → k < yn y → (k = v 0 2 ∨ 0 < v 6 k) → gd13 v w z k) ∧ (∀ t : Nat, (t : Int) < v 0 3 → z 19 (pbx v t) = 256 * t ∧ ∀ c : Nat, (c : Int) < pv v (pbx v t) 0 → z 22 (256 * t + c) = npO v t (1 + c) (nlF v w 3 (v 0 2)) ∧ i32 (npO v t (1 + c) (nlF v w 3 (v 0 2)))) ∧ 0 ≤ to ∧ to + ((bxL v w (nlF v w 3 (v 0 2)) (yn y)).length : Int) ≤ 1000
theorem eI_cz {G : gG} {y : xP} {z z' v : mS} {w to : Int} (hc : ∀ c, c ≠ 20 → z' c = z c) (h : eI G y z v w to) : eI G y z' v w to := by
  obtain ⟨a, b, c, d, e⟩ := h
  refine ⟨fW_cz (fun j _ => by rw [hc 0 (by omega)]) (fun i hi => hc i (by rintro rfl; revert hi; decide)) a, b, ?_, ?_, e⟩
  · unfold gd13; rw [hc 13 (by omega), hc 14 (by omega)]; exact c
  · rw [hc 19 (by omega), hc 22 (by omega)]; exact d
/-- emit's contract on a level -/
def ES (G : gG) (l : Launch) (v : mS) (w to : Int) (lev : Nat) : Prop := ∀ (y : xP) (z : mS) (b : Nat), eI G y z v w to → (b : Int) < yn y → v 6 b = lev → ((b : Int) = v 0 2 ∨ 0 < v 6 b) → mdP z to (bxL v w (nlF v w 3 (v 0 2)) b) →
  Ct G l q_X_emit (10 - lev) 0 0 [.ref (yc y 0), .ref (yo y b), vI (to + (bxL v w (nlF v w 3 (v 0 2)) b).length), vI lev] (xW G y z) (fun r x => r = some (vI (to + (bxL v w (nlF v w 3 (v 0 2)) b).length + nlF v w 3 b)) ∧ ∃ (z' : mS) (e : Nat), x = xW G y z' ∧ (∀ c, c ≠ 20 → z' c = z c) ∧ (∀ j, j < to + (bxL v w (nlF v w 3 (v 0 2)) b).length → z' 20 j = z 20 j) ∧ (b < e ∧ e ≤ yn y) ∧ mdP z' to (bxL v w (nlF v w 3 (v 0 2)) e) ∧ ((bxL v w (nlF v w 3 (v 0 2)) e).length : Int) = (bxL v w (nlF v w 3 (v 0 2)) b).length + nlF v w 3 b ∧ (lev = 0 → e = yn y) ∧ (lev = 2 → e = b + 1) ∧ (0 < lev → (∀ j : Int, b < j → j < e → v 6 j = 2) ∧ ∀ j : Int, e ≤ j → j < yn y → v 6 j = 2 → v 7 j ≠ b))
/-- the track of a box of places -/
theorem tk_Pb {v : mS} (hf : fsOk v) {t : Nat} (ht : (t : Int) < v 0 3) : tkO v (pbx v t) = t := by
  have h3 := hf.1.2.2.2.1
  have hb := tkF_b v (pbx v t) (v 0 3).toNat
  have h0 : 0 ≤ tkF v (pbx v t) (v 0 3).toNat := Classical.byContradiction fun q => tkF_all (s := v) (k := pbx v t) (n := (v 0 3).toNat) (by omega) t (by omega) rfl
  have e := hb.2.2 h0
  obtain ⟨j, j1, j2, j3, -⟩ := pbx_in hf (t := t) (by omega) ht
  obtain ⟨i, i1, i2, i3, -⟩ := pbx_in hf (t := tkF v (pbx v t) (v 0 3).toNat) h0 (by omega)
  have := hf.2.2.2.1.2 i j (by omega) (by omega) (by omega) (by omega) i3 (by rw [← i2, ← j2]; exact e)
  show tkF v (pbx v t) (v 0 3).toNat = t
  omega
section XEMIT
variable (G : gG) (l : Launch) (v : mS) (w to : Int)
/-- the bytes of a box, as emit writes them -/
theorem wb_leaf {y : xP} {z : mS} (h : fW G y z v w) (gr : Int) {k : Int} (h0 : 0 ≤ k) (h1 : k < yn y) (h27 : z 27 k ≠ 1) : (z 27 k = 4 → ∃ t : Nat, (t : Int) < v 0 3 ∧ pbx v t = k ∧ wbL v w gr k = hdL v w k ++ (pv v k 0 :: cL v t (if z 18 k = 1 ∨ z 26 k = 8 then 1 else 0) gr (pv v k 0).toNat) ∧ (if wider v w k then 79 else v 4 k) = (if z 18 k = 1 ∨ z 26 k = 8 then 79 else z 4 k)) ∧ (z 27 k ≠ 4 → wbL v w gr k = hdL v w k ++ bL v k (z 3 k - z 5 k).toNat ∧ (if wider v w k then 79 else v 4 k) = z 4 k) := by
  obtain ⟨hq, ⟨hf, -⟩, -, hK, hw, h4, hg, hn⟩ := id h
  obtain ⟨⟨g2, g3, g4, g5, g6, g7⟩, g26, g27, -⟩ := hq.2.2.2.2.2 k h0 h1
  have hr : rdOk v := hf.1.2.1
  have hrk := hr.2 k h0 (by rw [hq.1.2.2.1]; exact h1)
  have hnh : ¬ isHold (v 6 k) (v 4 k) := fun q => h27 (by rw [g27, g26, g4, g6]; exact (hold_cl (by omega)).mp q)
  have h3 := hf.1.2.2.2.1
  constructor
  · intro c4
    obtain ⟨h18, t, ht, ep⟩ := h4 k h0 h1 c4
    have etk := tk_Pb hf ht
    rw [ep] at etk
    have h26 := narrow_26 h ht
    rw [ep] at h26
    have hX := (hK t ht).2.2.1 4 (by omega) (by omega) (hK t ht).2.2.2.2.2.2
    change tX y z v 4 (pbx v t) at hX
    rw [ep] at hX
    have hgt := hg t ht
    rw [ep] at hgt
    obtain ⟨j, j1, j2, j3, j4, j5, j6⟩ := pbx_in hf (t := t) (by omega) ht
    rw [ep] at j5
    have h79 : v 4 k = 79 ↔ z 26 k = 8 := by
      rw [hX.2.2.2.2.2.2.2]
      constructor
      · intro q; exact ⟨rfl, by omega⟩
      · rintro ⟨-, q⟩
        rcases j1 with e | e
        · rw [e, show (8 * (t : Int) + 4) % 8 = 4 by omega] at j5; exact absurd (kdO_4.1 j5) q
        · rw [e, show (8 * (t : Int) + 5) % 8 = 5 by omega] at j5; exact kdO_4.2 j5
    have hwid : wider v w k ↔ (z 18 k = 1 ∨ z 26 k = 8) := by
      unfold wider
      rw [etk, h79, hgt]
      constructor
      · rintro ⟨-, q | q⟩
        · exact Or.inr q
        · exact Or.inl q
      · rintro (q | q)
        · exact ⟨by omega, Or.inr q⟩
        · exact ⟨by omega, Or.inl q⟩
    refine ⟨t, ht, ep, ?_, ?_⟩
    · unfold wbL
      rw [if_pos (show 0 ≤ tkO v k by rw [etk]; omega)]
      by_cases q : wider v w k
      · rw [if_pos q, if_pos (hwid.mp q), etk, ep]
      · rw [if_neg q, if_neg (fun e => q (hwid.mpr e)), etk, ep]
    · by_cases q : wider v w k
      · rw [if_pos q, if_pos (hwid.mp q)]
      · rw [if_neg q, if_neg (fun e => q (hwid.mpr e)), g4]
  · intro c4
    have etk : tkO v k = -1 := tkF_no (fun t ht e => c4 (by rw [← e]; exact tK_c4 (hK t (by omega))))
    refine ⟨?_, ?_⟩
    · unfold wbL
      rw [if_neg (show ¬ 0 ≤ tkO v k by rw [etk]; omega), if_neg hnh, g3, g5]
    · rw [if_neg (by unfold wider; rw [etk]; omega), g4]
theorem wb_hold {y : xP} {z : mS} (h : fW G y z v w) (gr : Int) {k : Int} (h0 : 0 ≤ k) (h1 : k < yn y) (h27 : z 27 k = 1) : wbL v w gr k = hdL v w k ∧ (if wider v w k then 79 else v 4 k) = z 4 k := by
  obtain ⟨hq, ⟨hf, -⟩, -, hK, hw, h4, hg, hn⟩ := id h
  obtain ⟨⟨g2, g3, g4, g5, g6, g7⟩, g26, g27, -⟩ := hq.2.2.2.2.2 k h0 h1
  have hr : rdOk v := hf.1.2.1
  have hrk := hr.2 k h0 (by rw [hq.1.2.2.1]; exact h1)
  have h3 := hf.1.2.2.2.1
  have hh : isHold (v 6 k) (v 4 k) := (hold_cl (by omega)).mpr (by rw [← g4, ← g6, ← g26, ← g27]; exact h27)
  have etk : tkO v k = -1 := tkF_no (fun t ht e => by
    have := tK_c4 (hK t (by omega))
    change z 27 (pbx v t) = 4 at this
    rw [e] at this
    omega)
  refine ⟨?_, ?_⟩
  · unfold wbL
    rw [if_neg (show ¬ 0 ≤ tkO v k by rw [etk]; omega), if_pos hh, List.append_nil]
  · rw [if_neg (by unfold wider; rw [etk]; omega), g4]
set_option maxRecDepth 8000 in
set_option maxHeartbeats 8000000 in
theorem c_X_emit (lev : Nat) (hlev : lev ≤ 2) (IH : lev < 2 → ES G l v w to (lev + 1)) : ES G l v w to lev := by
  intro y z b hE hb1 hl6 hbm hM
  obtain ⟨hW, hO2, hgd, hmv, hto, hlen⟩ := id hE
  have hb1' : -1 ≤ (b : Int) ∧ (b : Int) < yn y := by omega
  obtain ⟨hq', ⟨hf, -⟩, -, hK, -, h4, -, -⟩ := id hW
  have hr : rdOk v := hf.1.2.1
  have ho : hoOk v := hf.1.2.2.1
  have hby : byOk v := hf.1.1
  have h01 : v 0 1 = yn y := hq'.1.2.2.1
  have hB := qI_bI hq'
  have hcb := bI_cl hB hb1'.1 hb1'.2
  obtain ⟨⟨g2, g3, g4, g5, g6, g7⟩, g26, g27, -⟩ := hq'.2.2.2.2.2 b (by omega) hb1
  have hrb := hr.2 b (by omega) (by omega)
  have hnl := nlF_3 hr ho w b (by omega) (by omega)
  have hwl := wbL_len hf (w := w) (nlF v w 3 (v 0 2)) (k := b) (by omega) (by omega)
  obtain ⟨e13, e14⟩ := hgd b (by omega) hb1 hbm
  have hbs : bxL v w (nlF v w 3 (v 0 2)) (b + 1) = bxL v w (nlF v w 3 (v 0 2)) b ++ wbL v w (nlF v w 3 (v 0 2)) b := bxL_s hbm
  have hls : (bxL v w (nlF v w 3 (v 0 2)) (b + 1)).length ≤ (bxL v w (nlF v w 3 (v 0 2)) (yn y)).length := bxL_le (by omega)
  rw [hbs, List.length_append] at hls
  generalize hgr : nlF v w 3 (v 0 2) = gr at *
  generalize hMM : bxL v w gr b = M at *
  refine Ct.intro [some (.ref (yc y 0)), some (.ref (yo y b)), some (vI (to + M.length)), some (vI lev), none, none, none] (by decide) (Nat.le_of_ble_eq_true rfl) rfl (fun sz => ?_)
  generalize hQ : (fun (r : Option Value) (x : va_W) => r = some (vI (to + M.length + nlF v w 3 b)) ∧ ∃ (z' : mS) (e : Nat), x = xW G y z' ∧ (∀ c, c ≠ 20 → z' c = z c) ∧ (∀ j, j < to + M.length → z' 20 j = z 20 j) ∧ (b < e ∧ e ≤ yn y) ∧ mdP z' to (bxL v w gr e) ∧ ((bxL v w gr e).length : Int) = M.length + nlF v w 3 b ∧ (lev = 0 → e = yn y) ∧ (lev = 2 → e = b + 1) ∧ (0 < lev → (∀ j : Int, b < j → j < e → v 6 j = 2) ∧ ∀ j : Int, e ≤ j → j < yn y → v 6 j = 2 → v 7 j ≠ b)) = Q
  have hdl : (hdL v w b).length = if nhO v b (pyF v w b) = 4 then 4 else 2 := by
    unfold hdL
    split <;> rfl
  have hhl : ((hdL v w b).length : Int) = nhO v b (pyF v w b) := by
    rw [hdl]
    have hh : nhO v b (pyF v w b) = 2 ∨ nhO v b (pyF v w b) = 4 := by unfold nhO; split <;> omega
    split <;> omega
  have hwh : ((hdL v w b).length : Int) ≤ (wbL v w gr b).length := by
    unfold wbL
    rw [List.length_append]
    omega
  -- the end
  have fin : ∀ (z' : mS) (e : Nat) (x4 x5 x6 : Option Value), (∀ c, c ≠ 20 → z' c = z c) → (∀ j, j < to + M.length → z' 20 j = z 20 j) → (b < e ∧ e ≤ yn y) → mdP z' to (bxL v w gr e) → ((bxL v w gr e).length : Int) = M.length + nlF v w 3 b → (lev = 0 → e = yn y) → (lev = 2 → e = b + 1) → (0 < lev → (∀ j : Int, b < j → j < e → v 6 j = 2) ∧ ∀ j : Int, e ≤ j → j < yn y → v 6 j = 2 → v 7 j ≠ b) → WP (mth G l q_X_emit (10 - lev) 0 0 (xW G y z) sz Q) 0 0 (xW G y z') 196 [some (.ref (yc y 0)), some (.ref (yo y b)), some (vI (to + M.length)), some (vI lev), x4, x5, x6] [] := by
    intro z' e x4 x5 x6 q1 q2 q3 q4 q5 q6 q6' q7
    have hc' : 1 ≤ z' 27 b ∧ z' 27 b ≤ 5 := by rw [q1 27 (by omega)]; exact hcb
    have e14' : z' 14 b = nlF v w 3 b := by rw [q1 14 (by omega)]; exact e14
    refine r_iload_n d_X_emit_196 rfl ?_
    refine r_aload_n d_X_emit_197 rfl rfl ?_
    refine r_getB d_X_emit_198 fb_X_297 ((b : Int)) hb1' hc' rfl ?_
    rw [e14']
    refine r_iadd d_X_emit_201 ?_
    refine r_iret d_X_emit_202 rfl (Nat.le_of_ble_eq_true rfl) (Nat.le_of_ble_eq_true rfl) ?_
    rw [← hQ]
    exact ⟨rfl, z', e, rfl, q1, q2, q3, q4, q5, q6, q6', q7⟩
  -- behind the header
  have c114 : ∀ (z1 : mS) (lg5 : Int), (∀ c, c ≠ 20 → z1 c = z c) → (∀ j, j < to + M.length → z1 20 j = z 20 j) → mdP z1 to (M ++ hdL v w b) → WP (mth G l q_X_emit (10 - lev) 0 0 (xW G y z) sz Q) 0 0 (xW G y z1) 114 [some (.ref (yc y 0)), some (.ref (yo y b)), some (vI (to + M.length)), some (vI lev), some (vI (to + (M ++ hdL v w b).length)), some (vI lg5), none] [] := by
    intro z1 lg5 hz hpre hm1
    have hE1 := eI_cz hz hE
    have hc1 : 1 ≤ z1 27 b ∧ z1 27 b ≤ 5 := by rw [hz 27 (by omega)]; exact hcb
    have e27 : z1 27 b = z 27 b := by rw [hz 27 (by omega)]
    refine r_aload_n d_X_emit_114 rfl rfl ?_
    refine r_instH d_X_emit_115 w_29 b hb1' hc1 (fun h27 => ?_) (fun h27 => ?_)
    · -- a holder
      have h27z : z 27 b = 1 := by rw [← e27]; exact h27
      have hwb := (wb_hold G v w hW gr (by omega) hb1 h27z).1
      have hH : isHold (v 6 b) (v 4 b) := (hold_cl (by omega)).mpr (by rw [← g4, ← g6, ← g26, ← g27]; exact h27z)
      have hl1 : lev < 2 := by unfold isHold at hH; omega
      have hpy := pyF_h hf (w := w) (k := b) (by omega) (by omega) hH
      have g7' : ∀ j : Int, 0 ≤ j → j < yn y → z 7 j = v 7 j := fun j a c => (hq'.2.2.2.2.2 j a c).1.2.2.2.2.2
      rw [← hwb, ← hbs] at hm1 ⊢
      -- what may lie behind m: see the notes
      have lp : ∀ (F m : Nat) (z2 : mS), yn y - m ≤ F → b < m → m ≤ yn y → (∀ c, c ≠ 20 → z2 c = z c) → (∀ j, j < to + M.length → z2 20 j = z 20 j) → mdP z2 to (bxL v w gr m) → ((bxL v w gr m).length : Int) = M.length + nhO v b (pyF v w b) + sumI (fun j => if v 7 j = b then nlF v w 3 j else 0) m → (lev = 1 → ∀ j : Int, b < j → j < m → v 6 j = 2) → (lev = 0 → ∀ j : Int, m ≤ j → j < yn y → v 6 j = 2 → m ≤ v 7 j) → WP (mth G l q_X_emit (10 - lev) 0 0 (xW G y z) sz Q) 0 0 (xW G y z2) 135 [some (.ref (yc y 0)), some (.ref (yo y b)), some (vI (to + M.length)), some (vI lev), some (vI (to + (bxL v w gr m).length)), some (vI lg5), some (va_rf (rN (yo y) (nxt (z 7) b (yn y - m) m)))] [] := by
        intro F
        have kid : ∀ j : Int, 0 ≤ j → j < yn y → v 7 j = b → v 6 j = lev + 1 := by
          intro j j0 j1 j2
          have hrj := hr.2 j j0 (by omega)
          have hoj := ho j j0 (by omega)
          rcases (by omega : v 6 j = 0 ∨ v 6 j = 1 ∨ v 6 j = 2) with q | q | q
          · have := hoj.1 q; omega
          · have := (hoj.2.1 q).2.2.1; rw [j2] at this; omega
          · have := (hoj.2.2 q).2.2.1; rw [j2] at this; omega
        have kid0 : lev = 0 → ∀ j : Int, 0 ≤ j → j < yn y → v 6 j = 1 → v 7 j = b := by
          intro q j j0 j1 j2
          obtain ⟨a1, a2, a3, a4⟩ := (ho j j0 (by omega)).2.1 j2
          have := hf.2.1.2.1 (v 7 j) a1 (by omega) a3 a4
          omega
        -- boxes from m on, ahead of the next child, are none of the movie's
        have skip : ∀ (m e : Nat), b < m → m ≤ e → e ≤ yn y → (lev = 1 → ∀ j : Int, b < j → j < m → v 6 j = 2) → (lev = 0 → ∀ j : Int, m ≤ j → j < yn y → v 6 j = 2 → m ≤ v 7 j) → (∀ j : Int, m ≤ j → j < e → z 7 j ≠ b) → (lev = 1 → e < yn y ∧ v 7 e = b) → ∀ j : Int, m ≤ j → j < e → ¬ (j = v 0 2 ∨ 0 < v 6 j) := by
          intro m e hbm' hme hen p1 p0 hno hch j j0 j1 q
          have hrj := hr.2 j (by omega) (by omega)
          have hno' : v 7 j ≠ b := by rw [← g7' j (by omega) (by omega)]; exact hno j j0 j1
          have hmvl := hf.2.1.2.2
          have hbmv : v 0 2 ≤ b := by
            rcases hbm with q | q
            · omega
            · have := hmvl b (by omega) (by omega) q; omega
          have hj6 : 0 < v 6 j := by
            rcases q with q | q
            · omega
            · exact q
          rcases (by omega : lev = 0 ∨ lev = 1) with hl | hl
          · rcases (by omega : v 6 j = 1 ∨ v 6 j = 2) with q2 | q2
            · exact hno' (kid0 hl j (by omega) (by omega) q2)
            · have a := p0 hl j j0 (by omega) q2
              obtain ⟨a1, a2, a3, a4⟩ := (ho j (by omega) (by omega)).2.2 q2
              have := kid0 hl (v 7 j) a1 (by omega) a3
              have h7 := hno (v 7 j) a (by omega)
              rw [g7' (v 7 j) a1 (by omega)] at h7
              exact h7 this
          · obtain ⟨e1, e2⟩ := hch hl
            have e6 : v 6 e = 2 := by have := kid e (by omega) (by omega) e2; omega
            have q2 : v 6 j = 2 := hO2 e j (by omega) (by omega) e6 (by rw [e2]; omega) j1
            obtain ⟨a1, a2, a3, a4⟩ := (ho j (by omega) (by omega)).2.2 q2
            rcases (by omega : v 7 j < b ∨ v 7 j = b ∨ b < v 7 j) with w1 | w1 | w1
            · have := hO2 j b (by omega) (by omega) q2 w1 (by omega); omega
            · exact hno' w1
            · have := hO2 e (v 7 j) (by omega) (by omega) e6 (by rw [e2]; exact w1) (by omega); omega
        have done : ∀ (m : Nat) (z2 : mS) (x6 : Option Value), b < m → m ≤ yn y → (∀ c, c ≠ 20 → z2 c = z c) → (∀ j, j < to + M.length → z2 20 j = z 20 j) → mdP z2 to (bxL v w gr m) → ((bxL v w gr m).length : Int) = M.length + nhO v b (pyF v w b) + sumI (fun j => if v 7 j = b then nlF v w 3 j else 0) m → (lev = 1 → ∀ j : Int, b < j → j < m → v 6 j = 2) → (lev = 0 → ∀ j : Int, m ≤ j → j < yn y → v 6 j = 2 → m ≤ v 7 j) → (∀ j : Int, m ≤ j → j < yn y → z 7 j ≠ b) → WP (mth G l q_X_emit (10 - lev) 0 0 (xW G y z) sz Q) 0 0 (xW G y z2) 163 [some (.ref (yc y 0)), some (.ref (yo y b)), some (vI (to + M.length)), some (vI lev), some (vI (to + (bxL v w gr m).length)), some (vI lg5), x6] [] := by
          intro m z2 x6 q1 q2 q3 q4 q5 q6 q7 q8 q9
          have es : sumI (fun j => if v 7 j = b then nlF v w 3 j else 0) m = pyF v w b := by
            rw [hpy]
            unfold chS
            rw [show (v 0 1).toNat = yn y by omega]
            refine (sumI_cut q2 (fun i a c => if_neg ?_)).symm
            rw [← g7' i (by omega) (by omega)]
            exact q9 i (by omega) (by omega)
          refine r_goto 196 d_X_emit_163 (by decide) ?_
          rcases (by omega : lev = 0 ∨ lev = 1) with hl | hl
          · have ebx := bxL_skip' (v := v) (w := w) (gr := gr) q2 (skip m (yn y) q1 q2 (Nat.le_refl _) q7 q8 q9 (fun h => by omega))
            exact fin z2 (yn y) _ _ _ q3 q4 ⟨by omega, Nat.le_refl _⟩ (by rw [ebx]; exact q5) (by rw [ebx]; omega) (fun _ => rfl) (fun h => by omega) (fun h => by omega)
          · exact fin z2 m _ _ _ q3 q4 ⟨q1, q2⟩ q5 (by omega) (fun h => by omega) (fun h => by omega) (fun _ => ⟨q7 hl, fun j a c d e => q9 j a c (by rw [g7' j (by omega) c]; exact e)⟩)
        induction F with
        | zero =>
          intro m z2 hF q1 q2 q3 q4 q5 q6 q7 q8
          rw [show yn y - m = 0 by omega]
          refine r_aload d_X_emit_135 rfl (isRf_rf _) ?_
          refine r_ifnull 163 d_X_emit_137 (by decide) (fun hn => ?_) (fun hna hn => ?_)
          · exact done m z2 _ q1 q2 q3 q4 q5 q6 q7 q8 (fun j a c => by omega)
          · cases hn
        | succ F ih =>
          intro m z2 hF q1 q2 q3 q4 q5 q6 q7 q8
          rcases nxt_step (z := z) (h := b) q2 with ⟨e, hno⟩ | ⟨k, e, b1, b2, b3, b4⟩
          · rw [e]
            refine r_aload d_X_emit_135 rfl (isRf_rf _) ?_
            refine r_ifnull 163 d_X_emit_137 (by decide) (fun hn => ?_) (fun hna hn => ?_)
            · exact done m z2 _ q1 q2 q3 q4 q5 q6 q7 q8 hno
            · cases hn
          · rw [e, rN_nn (by omega)]
            have hkb : -1 ≤ (k : Int) ∧ (k : Int) < yn y := by omega
            have hvk : v 7 k = b := by rw [← g7' k (by omega) (by omega)]; exact b3
            have hl6k := kid k (by omega) (by omega) hvk
            have hE2 := eI_cz q3 hE
            have ebx := bxL_skip' (v := v) (w := w) (gr := gr) b1 (skip m k q1 b1 (by omega) q7 q8 b4 (fun _ => ⟨b2, hvk⟩))
            have esm : sumI (fun j => if v 7 j = b then nlF v w 3 j else 0) k = sumI (fun j => if v 7 j = b then nlF v w 3 j else 0) m := sumI_cut b1 (fun j a c => if_neg (by
              rw [← g7' j (by omega) (by omega)]
              exact b4 j (by omega) (by omega)))
            have hct := IH hl1 y z2 k hE2 (by omega) (by rw [hl6k]; omega) (Or.inr (by omega)) (by rw [hgr, ebx]; exact q5)
            rw [hgr, ebx] at hct
            refine r_aload d_X_emit_135 rfl rfl ?_
            refine r_ifnull (r := some (yo y k)) 163 d_X_emit_137 (by decide) (fun q => by cases q) (fun _ _ => ?_)
            refine r_aload_n d_X_emit_140 rfl rfl ?_
            refine r_aload d_X_emit_141 rfl rfl ?_
            refine r_iload d_X_emit_143 rfl ?_
            refine r_iload_n d_X_emit_145 rfl ?_
            refine r_iconst d_X_emit_146 ?_
            refine r_iadd d_X_emit_147 ?_
            rw [show ((lev : Nat) : Int) + 1 = ((lev + 1 : Nat) : Int) by omega]
            refine r_cS4 d_X_emit_148 lk_X_303 (hct) (Nat.le_of_ble_eq_true rfl) (rokD (by omega) (Nat.le_of_ble_eq_true rfl)) ⟨(Nat.le_of_ble_eq_true rfl), (Nat.le_of_ble_eq_true rfl)⟩ (fun r ws2 hq => ?_)
            obtain ⟨rfl, z3, ee, rfl, w1, w2, w3, w4, w5, w6, w6', w7⟩ := hq
            show WP _ _ _ _ _ _ (_ :: _)
            refine r_istore d_X_emit_151 (Nat.le_of_ble_eq_true rfl) rfl ?_
            show WP _ _ _ _ _ [_, _, _, _, _, _, _] _
            have hz3 : ∀ c, c ≠ 20 → z3 c = z c := fun c a => (w1 c a).trans (q3 c a)
            have hck : 1 ≤ z3 27 k ∧ z3 27 k ≤ 5 := by rw [hz3 27 (by omega)]; exact bI_cl hB hkb.1 hkb.2
            obtain ⟨w8, w9⟩ := w7 (by omega)
            refine r_aload d_X_emit_153 rfl rfl ?_
            refine r_getB d_X_emit_155 fb_X_223 ((k : Int)) hkb hck rfl ?_
            have e23 : z3 23 k = z 23 k := by rw [hz3 23 (by omega)]
            rw [e23, bI_next hB b2, b3]
            refine r_astore d_X_emit_158 (Nat.le_of_ble_eq_true rfl) rfl (isRf_rf _) ?_
            show WP _ _ _ _ _ [_, _, _, _, _, _, _] _
            refine r_goto 135 d_X_emit_160 (by decide) ?_
            have enx := nxt_skip (z := z) (b := b) (n := yn y) (ee - (k + 1)) (k + 1) (by omega) (fun j a1 a2 => by
              rw [g7' j (by omega) (by omega)]
              intro q
              have a3 := w8 j (by omega) (by omega)
              have a4 := kid j (by omega) (by omega) q
              rcases (by omega : lev = 0 ∨ lev = 1) with hl | hl
              · omega
              · have := w6' (by omega); omega)
            rw [show k + 1 + (ee - (k + 1)) = ee by omega] at enx
            rw [enx, show to + ((bxL v w gr m).length : Int) + nlF v w 3 k = to + (bxL v w gr ee).length by omega]
            have hMm : M.length ≤ (bxL v w gr m).length := by rw [← hMM]; exact bxL_le (by omega)
            refine ih ee z3 (by omega) (by omega) w3.2 hz3 (fun j hj => (w2 j (by omega)).trans (q4 j hj)) w4 ?_ (fun hl j a1 a2 => ?_) (fun hl j a1 a2 a3 => ?_)
            · have e3 : sumI (fun j => if v 7 j = b then nlF v w 3 j else 0) ee = sumI (fun j => if v 7 j = b then nlF v w 3 j else 0) k + nlF v w 3 k := by
                have hz0 : ∀ j : Nat, k + 1 ≤ j → j < ee → (if v 7 (j : Int) = b then nlF v w 3 j else 0) = 0 := fun j a1 a2 => if_neg (fun q => by
                  have a3 := w8 j (by omega) (by omega)
                  have a4 := kid j (by omega) (by omega) q
                  rcases (by omega : lev = 0 ∨ lev = 1) with hl | hl
                  · omega
                  · have := w6' (by omega); omega)
                rw [sumI_cut (f := fun j => if v 7 j = b then nlF v w 3 j else 0) (m := k + 1) (n := ee) (by omega) hz0]
                show sumI _ k + (if v 7 (k : Int) = b then nlF v w 3 k else 0) = _
                rw [if_pos hvk]
              rw [e3, esm]
              omega
            · have hee := w6' (by omega)
              rcases (by omega : j < m ∨ (m ≤ j ∧ j < k) ∨ j = k) with q | q | q
              · exact q7 hl j a1 q
              · exact hO2 k j (by omega) (by omega) (by omega) (by rw [hvk]; exact a1) q.2
              · rw [q, hl6k, hl]; rfl
            · obtain ⟨x1, x2, x3, x4⟩ := (ho j (by omega) (by omega)).2.2 a3
              have hm7 := q8 hl j (by omega) a2 a3
              have hkid := kid0 hl (v 7 j) x1 (by omega) x3
              have hnk : v 7 j ≠ k := w9 j a1 a2 a3
              rcases (by omega : v 7 j < k ∨ (k < v 7 j ∧ v 7 j < ee) ∨ (ee : Int) ≤ v 7 j) with q | q | q
              · exfalso
                have := b4 (v 7 j) hm7 q
                rw [g7' (v 7 j) x1 (by omega)] at this
                exact this hkid
              · have := w8 (v 7 j) q.1 q.2; omega
              · exact q
      refine r_if_eq 166 d_X_emit_118 (by decide) (by unfold i32; omega) (fun h1 => ?_) (fun h1 => ?_)
      · omega
      · refine r_iload_n d_X_emit_121 rfl ?_
        refine r_iconst d_X_emit_122 ?_
        refine r_icmp_ge 166 d_X_emit_123 (by decide) (by unfold i32; omega) (by unfold i32; omega) (fun h2 => ?_) (fun h2 => ?_)
        · omega
        · refine r_aload_n d_X_emit_126 rfl rfl ?_
          refine r_castH d_X_emit_127 w_29 b hb1' h27 ?_
          refine r_getX d_X_emit_130 fl_X_219_1 ((b : Int)) hb1' h27 rfl ?_
          have e24 : z1 24 b = z 24 b := by rw [hz 24 (by omega)]
          rw [e24, (hB.1.1 b hb1'.1 hb1'.2).1]
          have enx := nxt_skip (z := z) (b := b) (n := yn y) (b + 1) 0 (by omega) (fun j a1 a2 => by
            have := hq'.2.2.1.2.2 j (by omega) (by omega)
            omega)
          rw [Nat.sub_zero, Nat.zero_add] at enx
          have enx : nxt (z 7) b (yn y) 0 = nxt (z 7) b (yn y - (b + 1)) ((b + 1 : Nat) : Int) := enx
          rw [enx]
          refine r_astore d_X_emit_133 (Nat.le_of_ble_eq_true rfl) rfl (isRf_rf _) ?_
          show WP _ _ _ _ _ [_, _, _, _, _, _, _] _
          have hlb : ((bxL v w gr (b + 1)).length : Int) = M.length + nhO v b (pyF v w b) := by
            rw [hbs, List.length_append]
            rw [if_pos hH] at hwl
            omega
          refine lp (yn y) (b + 1) z1 (by omega) (by omega) (by omega) hz hpre hm1 ?_ (fun hl j a1 a2 => by omega) (fun hl j a1 a2 a3 => ?_)
          · have e0 : sumI (fun j => if v 7 j = b then nlF v w 3 j else 0) (b + 1) = 0 := sumI_0 (fun i hi => if_neg (fun q => by
              have := hq'.2.2.1.2.2 i (by omega) (by omega)
              rw [g7' i (by omega) (by omega)] at this
              omega))
            rw [e0, hlb]
            omega
          · obtain ⟨x1, x2, x3, x4⟩ := (ho j (by omega) (by omega)).2.2 a3
            have := hf.2.1.2.2 (v 7 j) x1 (by omega) (by omega)
            omega
    · -- no holder
      have h27z : z 27 b ≠ 1 := by rw [← e27]; exact h27
      have hnh : ¬ isHold (v 6 b) (v 4 b) := fun q => h27z (by rw [g27, g26, g4, g6]; exact (hold_cl (by omega)).mp q)
      have hlev0 : lev ≠ 0 := fun q => hnh (by
        have : (b : Int) = v 0 2 := by omega
        rw [this]
        exact Or.inl ⟨hf.2.1.1.2.2.1, hf.2.1.1.2.2.2⟩)
      rw [if_neg hnh] at hwl
      have hx1 : 0 ≤ z1 2 b ∧ 0 ≤ z1 5 b ∧ z1 5 b ≤ z1 3 b ∧ z1 2 b + z1 3 b ≤ 1000 := by
        rw [hz 2 (by omega), hz 3 (by omega), hz 5 (by omega), g2, g3, g5]; omega
      have c196 : ∀ z' : mS, (∀ c, c ≠ 20 → z' c = z c) → (∀ j, j < to + M.length → z' 20 j = z 20 j) → mdP z' to (bxL v w gr (b + 1)) → WP (mth G l q_X_emit (10 - lev) 0 0 (xW G y z) sz Q) 0 0 (xW G y z') 196 [some (.ref (yc y 0)), some (.ref (yo y b)), some (vI (to + M.length)), some (vI lev), some (vI (to + (M ++ hdL v w b).length)), some (vI lg5), none] [] := by
        intro z' q1 q2 q3
        refine fin z' (b + 1) _ _ _ q1 q2 ⟨by omega, by omega⟩ q3 ?_ (fun h => absurd h hlev0) (fun _ => rfl) (fun _ => ⟨fun j a1 a2 => by omega, fun j a1 a2 a3 a4 => ?_⟩)
        · rw [hbs, List.length_append]
          omega
        · obtain ⟨x1, x2, x3, x4⟩ := (ho j (by omega) (by omega)).2.2 a3
          rw [a4] at x3 x4
          exact hnh (Or.inr ⟨x3, x4⟩)
      have hwl2 := wb_leaf G v w hW gr (k := b) (by omega) hb1 h27z
      have hML : ((M ++ hdL v w b).length : Int) = M.length + nhO v b (pyF v w b) := by rw [List.length_append]; omega
      refine r_if_eq 166 d_X_emit_118 (by decide) (by unfold i32; omega) (fun h1 => ?_) (fun h1 => ?_)
      · refine r_aload_n d_X_emit_166 rfl rfl ?_
        refine r_instW d_X_emit_167 w_628 b hb1' hc1 (fun h5 => ?_) (fun h5 => ?_)
        · refine r_if_eq 196 d_X_emit_170 (by decide) (by unfold i32; omega) (fun h6 => ?_) (fun h6 => ?_)
          · omega
          · refine r_aload_n d_X_emit_173 rfl rfl ?_
            refine r_castW d_X_emit_174 w_628 b hb1' ⟨h5, hc1.2⟩ ?_
            refine r_aload_n d_X_emit_177 rfl rfl ?_
            refine r_get d_X_emit_178 fl_X_7_0 0 rfl rfl ?_
            refine r_aload_n d_X_emit_181 rfl rfl ?_
            refine r_get d_X_emit_182 fl_X_13_0 0 rfl rfl ?_
            refine r_iload d_X_emit_185 rfl ?_
            refine r_aload_n d_X_emit_187 rfl rfl ?_
            refine r_get d_X_emit_188 fl_X_47_0 0 rfl rfl ?_
            have leaf : z 27 b ≠ 4 → (0 ≤ to + ((M ++ hdL v w b).length : Int) ∧ to + ((M ++ hdL v w b).length : Int) + (z1 3 b - z1 5 b) ≤ 1000) ∧ WP (mth G l q_X_emit (10 - lev) 0 0 (xW G y z) sz Q) 0 0 (xW G y (sfn z1 20 (cpyI (z1 1) (z1 20) (z1 2 b + z1 5 b) (to + (M ++ hdL v w b).length) (z1 3 b - z1 5 b)))) 196 [some (.ref (yc y 0)), some (.ref (yo y b)), some (vI (to + M.length)), some (vI lev), some (vI (to + (M ++ hdL v w b).length)), some (vI lg5), none] [] := by
              intro c4
              have hwb := (hwl2.2 c4).1
              have e35 : z1 3 b - z1 5 b = z 3 b - z 5 b := by rw [hz 3 (by omega), hz 5 (by omega)]
              have hlw : ((wbL v w gr b).length : Int) = (hdL v w b).length + (z 3 b - z 5 b) := by
                rw [hwb, List.length_append, bL_len]
                rw [hz 3 (by omega), hz 5 (by omega)] at hx1
                omega
              refine ⟨by rw [e35]; omega, c196 _ (fun c hc => by show (if c = 20 then _ else z1 c) = _; rw [if_neg hc]; exact hz c hc) (fun j hj => ?_) ?_⟩
              · show cpyI _ _ _ _ _ j = _
                unfold cpyI
                rw [if_neg (by omega)]
                exact hpre j hj
              · rw [hbs, hwb, ← List.append_assoc]
                refine md_ext hm1 (fun j hj => ?_) (fun i hi => ?_)
                · show cpyI _ _ _ _ _ j = _
                  unfold cpyI
                  rw [if_neg (by omega)]
                · rw [bL_len] at hi
                  show cpyI _ _ _ _ _ _ = _
                  unfold cpyI
                  rw [bL_at v b _ i hi, if_pos (by rw [e35]; omega), show to + ((M ++ hdL v w b).length : Int) + (i : Int) - (to + ((M ++ hdL v w b).length : Int)) = i by omega]
                  have hpi := pv_b hby b i
                  have e1 : z1 1 (z1 2 b + z1 5 b + i) = pv v b i := by
                    unfold pv
                    rw [hz 1 (by omega), hz 2 (by omega), hz 5 (by omega), g2, g5, hq'.1.2.2.2.1]
                  rw [e1]
                  omega
            rcases (by omega : z1 27 b = 2 ∨ z1 27 b = 3 ∨ z1 27 b = 4 ∨ z1 27 b = 5) with h | h | h | h
            · obtain ⟨l1, l2⟩ := leaf (by omega)
              refine r_kF4 d_X_emit_191 lf_X_307_L (c_L_copy G l y z1 b (to + (M ++ hdL v w b).length) hb1' hc1 hx1 l1) (13 + (b : Int)).toNat rfl (xw_bc hb1' h) (Nat.le_of_ble_eq_true rfl) (rokD (by omega) (Nat.le_of_ble_eq_true rfl)) ⟨(Nat.le_of_ble_eq_true rfl), (Nat.le_of_ble_eq_true rfl)⟩ (fun r ws2 hq => ?_)
              obtain ⟨rfl, rfl⟩ := hq
              show WP _ _ _ _ _ _ _
              exact l2
            · obtain ⟨l1, l2⟩ := leaf (by omega)
              refine r_kF4 d_X_emit_191 lf_X_307_T (c_L_copy G l y z1 b (to + (M ++ hdL v w b).length) hb1' hc1 hx1 l1) (13 + (b : Int)).toNat rfl (xw_bc hb1' h) (Nat.le_of_ble_eq_true rfl) (rokD (by omega) (Nat.le_of_ble_eq_true rfl)) ⟨(Nat.le_of_ble_eq_true rfl), (Nat.le_of_ble_eq_true rfl)⟩ (fun r ws2 hq => ?_)
              obtain ⟨rfl, rfl⟩ := hq
              show WP _ _ _ _ _ _ _
              exact l2
            · have h4z : z 27 b = 4 := by rw [← e27]; exact h
              obtain ⟨h18, -⟩ := h4 b (by omega) hb1 h4z
              obtain ⟨t, ht, ep, hwb, -⟩ := hwl2.1 h4z
              have hX := (hK t ht).2.2.1 4 (by omega) (by omega) (hK t ht).2.2.2.2.2.2
              change tX y z v 4 (pbx v t) at hX
              rw [ep] at hX
              have h17 := hX.2.2.2.2.1
              rw [if_neg (by omega)] at h17
              obtain ⟨m19, m22⟩ := hmv t ht
              rw [ep] at m19 m22
              have hbp := pv_b hby b 0
              have t1 := (hK t ht).1.1
              have e18 : z1 18 b = z 18 b := by rw [hz 18 (by omega)]
              have e26' : z1 26 b = z 26 b := by rw [hz 26 (by omega)]
              have hlw : ((wbL v w gr b).length : Int) = (hdL v w b).length + 1 + (if z 18 b = 1 ∨ z 26 b = 8 then 2 * pv v b 0 else pv v b 0) := by
                rw [hwb, List.length_append, List.length_cons, cL_len]
                by_cases q : z 18 b = 1 ∨ z 26 b = 8
                · rw [if_pos q, if_pos q, if_neg (by omega)]; omega
                · rw [if_neg q, if_neg q, if_pos rfl]; omega
              have hcp := c_P_copy G l y z1 v t b to gr (M ++ hdL v w b) hb1' h (by rw [e26']; exact ⟨hX.2.2.2.1.1, hX.2.2.2.1.2.1⟩) (by rw [e18]; exact h18) (by rw [hz 17 (by omega)]; exact h17) hbp (by rw [hz 19 (by omega)]; exact m19) t1 (fun c hc => by rw [hz 22 (by omega)]; exact (m22 c hc).1) (fun c hc => (m22 c hc).2) hm1 hto (by rw [e18, e26']; omega)
              refine r_kF4 d_X_emit_191 lf_X_307_P (hcp) (13 + (b : Int)).toNat rfl (xw_bc hb1' h) (Nat.le_of_ble_eq_true rfl) (rokD (by omega) (Nat.le_of_ble_eq_true rfl)) ⟨(Nat.le_of_ble_eq_true rfl), (Nat.le_of_ble_eq_true rfl)⟩ (fun r ws2 hq => ?_)
              obtain ⟨rfl, z', rfl, p1, p2, p3⟩ := hq
              show WP _ _ _ _ _ _ _
              refine c196 z' (fun c hc => (p1 c hc).trans (hz c hc)) (fun j hj => (p3 j (by omega)).trans (hpre j hj)) ?_
              rw [hbs, hwb, ← List.append_assoc]
              rw [e18, e26'] at p2
              exact p2
            · obtain ⟨l1, l2⟩ := leaf (by omega)
              refine r_kF4 d_X_emit_191 lf_X_307_S (c_L_copy G l y z1 b (to + (M ++ hdL v w b).length) hb1' hc1 hx1 l1) (13 + (b : Int)).toNat rfl (xw_bc hb1' h) (Nat.le_of_ble_eq_true rfl) (rokD (by omega) (Nat.le_of_ble_eq_true rfl)) ⟨(Nat.le_of_ble_eq_true rfl), (Nat.le_of_ble_eq_true rfl)⟩ (fun r ws2 hq => ?_)
              obtain ⟨rfl, rfl⟩ := hq
              show WP _ _ _ _ _ _ _
              exact l2
        · exact absurd h5 h27
      · exact absurd rfl h1
  -- the header
  have hnb := nlF_b hr hby w 3 b (by omega) (by omega)
  rw [nB_3] at hnb
  have htyp : (if wider v w b then 79 else v 4 b) = (if z 27 b = 4 ∧ (z 18 b = 1 ∨ z 26 b = 8) then 79 else z 4 b) := by
    by_cases c1 : z 27 b = 1
    · rw [if_neg (show ¬ (z 27 b = 4 ∧ _) by omega)]
      exact (wb_hold G v w hW gr (by omega) hb1 c1).2
    · have := wb_leaf G v w hW gr (k := b) (by omega) hb1 c1
      by_cases c4 : z 27 b = 4
      · obtain ⟨t, ht, ep, hwb, q⟩ := this.1 c4
        rw [q]
        by_cases c5 : z 18 b = 1 ∨ z 26 b = 8
        · rw [if_pos c5, if_pos ⟨c4, c5⟩]
        · rw [if_neg c5, if_neg (fun e => c5 e.2)]
      · rw [(this.2 c4).2, if_neg (fun e => c4 e.1)]
  have hto2 : to + (M.length : Int) + (hdL v w b).length ≤ 1000 := by omega
  have c16 : ∀ lg : Int, (lg = 0 ∨ lg = 1) → (lg = 1 ↔ nhO v b (pyF v w b) = 4) → WP (mth G l q_X_emit (10 - lev) 0 0 (xW G y z) sz Q) 0 0 (xW G y z) 16 [some (.ref (yc y 0)), some (.ref (yo y b)), some (vI (to + M.length)), some (vI lev), some (vI (to + M.length)), none, none] [vI lg] := by
    intro lg hlg01 hlg
    have hd2 : (2 : Int) ≤ (hdL v w b).length ∧ (lg = 1 → ((hdL v w b).length : Int) = 4) := by
      rw [hdl]
      by_cases q : nhO v b (pyF v w b) = 4
      · rw [if_pos q]; omega
      · rw [if_neg q]; exact ⟨by omega, fun e => absurd (hlg.mp e) q⟩
    -- behind the type
    have c76 : ∀ (z2 : mS), (∀ c, c ≠ 20 → z2 c = z c) → (∀ j, j < to + M.length → z2 20 j = z 20 j) → mdP z2 to (M ++ [if nhO v b (pyF v w b) = 4 then 1 else nlF v w 3 b] ++ [if wider v w b then 79 else v 4 b]) → WP (mth G l q_X_emit (10 - lev) 0 0 (xW G y z) sz Q) 0 0 (xW G y z2) 76 [some (.ref (yc y 0)), some (.ref (yo y b)), some (vI (to + M.length)), some (vI lev), some (vI (to + M.length + 1 + 1)), some (vI lg), none] [] := by
      intro z2 hz2 hpre2 hm2
      have hc2 : 1 ≤ z2 27 b ∧ z2 27 b ≤ 5 := by rw [hz2 27 (by omega)]; exact hcb
      have e14' : z2 14 b = nlF v w 3 b := by rw [hz2 14 (by omega)]; exact e14
      refine r_iload d_X_emit_76 rfl ?_
      refine r_if_eq 114 d_X_emit_78 (by decide) (by unfold i32; omega) (fun h1 => ?_) (fun h1 => ?_)
      · have n4 : ¬ nhO v b (pyF v w b) = 4 := fun q => by have := hlg.mpr q; omega
        have eh : M ++ [if nhO v b (pyF v w b) = 4 then 1 else nlF v w 3 b] ++ [if wider v w b then 79 else v 4 b] = M ++ hdL v w b := by
          unfold hdL
          rw [if_neg n4, if_neg n4, List.append_assoc, List.append_nil]
          rfl
        rw [eh] at hm2
        have := c114 z2 lg hz2 hpre2 hm2
        rw [show to + ((M ++ hdL v w b).length : Int) = to + M.length + 1 + 1 by
          rw [List.length_append, hdl, if_neg n4]; omega] at this
        exact this
      · have n4 : nhO v b (pyF v w b) = 4 := hlg.mp (by omega)
        have h4l := hd2.2 (by omega)
        have hL2 : ((M ++ [if nhO v b (pyF v w b) = 4 then 1 else nlF v w 3 b] ++ [if wider v w b then 79 else v 4 b]).length : Int) = M.length + 2 := by
          rw [List.length_append, List.length_append]; show ((_ + 1 + 1 : Nat) : Int) = _; omega
        refine r_aload_n d_X_emit_81 rfl rfl ?_
        refine r_get d_X_emit_82 fl_X_13_0 0 rfl rfl ?_
        refine r_iload d_X_emit_85 rfl ?_
        refine r_iinc d_X_emit_87 rfl (Nat.le_of_ble_eq_true rfl) rfl ?_
        show WP _ _ _ _ _ [_, _, _, _, _, _, _] _
        refine r_aload_n d_X_emit_90 rfl rfl ?_
        refine r_getB d_X_emit_91 fb_X_297 ((b : Int)) hb1' hc2 rfl ?_
        refine r_bipush d_X_emit_94 (by decide) ?_
        rw [e14']
        refine r_ishrR d_X_emit_96 ?_
        rw [zI_shr8 (by unfold i32; omega)]
        refine r_i2b d_X_emit_97 ?_
        refine r_bast _ d_X_emit_98 2 rfl ⟨by omega, by omega, by omega⟩ xw_2 ?_
        show WP _ _ _ (xW G y (sset z2 20 (to + M.length + 1 + 1) (nlF v w 3 b / 256 % 256))) _ _ _
        have hm3 := md_put hm2 (p := to + M.length + 1 + 1) (by omega) (nlF v w 3 b / 256)
        have f20 : ∀ c, c ≠ 20 → sset z2 20 (to + M.length + 1 + 1) (nlF v w 3 b / 256 % 256) c = z c := fun c hc => by rw [sset_ne hc]; exact hz2 c hc
        have fpre : ∀ j, j < to + M.length → sset z2 20 (to + M.length + 1 + 1) (nlF v w 3 b / 256 % 256) 20 j = z 20 j := fun j hj => by rw [sset_nj (by omega)]; exact hpre2 j hj
        generalize sset z2 20 (to + M.length + 1 + 1) (nlF v w 3 b / 256 % 256) = z3 at hm3 f20 fpre ⊢
        have hc3 : 1 ≤ z3 27 b ∧ z3 27 b ≤ 5 := by rw [f20 27 (by omega)]; exact hcb
        have e14'' : z3 14 b = nlF v w 3 b := by rw [f20 14 (by omega)]; exact e14
        refine r_aload_n d_X_emit_99 rfl rfl ?_
        refine r_get d_X_emit_100 fl_X_13_0 0 rfl rfl ?_
        refine r_iload d_X_emit_103 rfl ?_
        refine r_iinc d_X_emit_105 rfl (Nat.le_of_ble_eq_true rfl) rfl ?_
        show WP _ _ _ _ _ [_, _, _, _, _, _, _] _
        refine r_aload_n d_X_emit_108 rfl rfl ?_
        refine r_getB d_X_emit_109 fb_X_297 ((b : Int)) hb1' hc3 rfl ?_
        rw [e14'']
        refine r_i2b d_X_emit_112 ?_
        refine r_bast _ d_X_emit_113 2 rfl ⟨by omega, by omega, by omega⟩ xw_2 ?_
        show WP _ _ _ (xW G y (sset z3 20 (to + M.length + 1 + 1 + 1) (nlF v w 3 b % 256))) _ _ _
        have hm4 := md_put hm3 (p := to + M.length + 1 + 1 + 1) (by rw [List.length_append]; show _ = to + ((_ + 1 : Nat) : Int); omega) (nlF v w 3 b % 256)
        rw [show nlF v w 3 b % 256 % 256 = nlF v w 3 b % 256 by omega] at hm4
        have eh : M ++ [if nhO v b (pyF v w b) = 4 then 1 else nlF v w 3 b] ++ [if wider v w b then 79 else v 4 b] ++ [nlF v w 3 b / 256] ++ [nlF v w 3 b % 256] = M ++ hdL v w b := by
          unfold hdL
          rw [if_pos n4, if_pos n4, List.append_assoc, List.append_assoc, List.append_assoc]
          rfl
        rw [eh] at hm4
        have := c114 _ lg (fun c hc => by rw [sset_ne hc]; exact f20 c hc) (fun j hj => by rw [sset_nj (by omega)]; exact fpre j hj) hm4
        rw [show to + ((M ++ hdL v w b).length : Int) = to + M.length + 1 + 1 + 1 + 1 by
          rw [List.length_append]; omega] at this
        exact this
    -- behind the first byte
    have c40 : ∀ x : Int, x = (if nhO v b (pyF v w b) = 4 then 1 else nlF v w 3 b) → WP (mth G l q_X_emit (10 - lev) 0 0 (xW G y z) sz Q) 0 0 (xW G y z) 40 [some (.ref (yc y 0)), some (.ref (yo y b)), some (vI (to + M.length)), some (vI lev), some (vI (to + M.length + 1)), some (vI lg), none] [vI x, vI (to + M.length), .ref (yc y 2)] := by
      intro x hx
      refine r_i2b d_X_emit_40 ?_
      refine r_bast _ d_X_emit_41 2 rfl ⟨by omega, by omega, by omega⟩ xw_2 ?_
      show WP _ _ _ (xW G y (sset z 20 (to + M.length) (x % 256))) _ _ _
      have hm1 := md_put hM (p := to + M.length) rfl x
      have f20 : ∀ c, c ≠ 20 → sset z 20 (to + M.length) (x % 256) c = z c := fun c hc => sset_ne hc
      have fpre : ∀ j, j < to + M.length → sset z 20 (to + M.length) (x % 256) 20 j = z 20 j := fun j hj => sset_nj (by omega)
      generalize sset z 20 (to + M.length) (x % 256) = z1 at hm1 f20 fpre ⊢
      have hc1 : 1 ≤ z1 27 b ∧ z1 27 b ≤ 5 := by rw [f20 27 (by omega)]; exact hcb
      have c74 : ∀ ty : Int, ty = (if wider v w b then 79 else v 4 b) → WP (mth G l q_X_emit (10 - lev) 0 0 (xW G y z) sz Q) 0 0 (xW G y z1) 74 [some (.ref (yc y 0)), some (.ref (yo y b)), some (vI (to + M.length)), some (vI lev), some (vI (to + M.length + 1 + 1)), some (vI lg), none] [vI ty, vI (to + M.length + 1), .ref (yc y 2)] := by
        intro ty hty
        refine r_i2b d_X_emit_74 ?_
        refine r_bast _ d_X_emit_75 2 rfl ⟨by omega, by omega, by omega⟩ xw_2 ?_
        show WP _ _ _ (xW G y (sset z1 20 (to + M.length + 1) (ty % 256))) _ _ _
        refine c76 _ (fun c hc => by rw [sset_ne hc]; exact f20 c hc) (fun j hj => by rw [sset_nj (by omega)]; exact fpre j hj) ?_
        rw [← hx, ← hty]
        exact md_put hm1 (by rw [List.length_append]; show _ = to + ((_ + 1 : Nat) : Int); omega) ty
      have z14 : z1 4 b = z 4 b := by rw [f20 4 (by omega)]
      refine r_aload_n d_X_emit_42 rfl rfl ?_
      refine r_get d_X_emit_43 fl_X_13_0 0 rfl rfl ?_
      refine r_iload d_X_emit_46 rfl ?_
      refine r_iinc d_X_emit_48 rfl (Nat.le_of_ble_eq_true rfl) rfl ?_
      show WP _ _ _ _ _ [_, _, _, _, _, _, _] _
      refine r_aload_n d_X_emit_51 rfl rfl ?_
      refine r_instW d_X_emit_52 w_628 b hb1' hc1 (fun h5 => ?_) (fun h5 => ?_)
      · refine r_if_eq 70 d_X_emit_55 (by decide) (by unfold i32; omega) (fun h6 => ?_) (fun h6 => ?_)
        · omega
        · refine r_aload_n d_X_emit_58 rfl rfl ?_
          refine r_castW d_X_emit_59 w_628 b hb1' ⟨h5, hc1.2⟩ ?_
          have z127 : z1 27 b = z 27 b := by rw [f20 27 (by omega)]
          rcases (by omega : z1 27 b = 2 ∨ z1 27 b = 3 ∨ z1 27 b = 4 ∨ z1 27 b = 5) with h | h | h | h
          · refine r_kF0 d_X_emit_62 lf_X_300_L (c_L_type G l y z1 b hb1' hc1) (13 + (b : Int)).toNat rfl (xw_bc hb1' h) (Nat.le_of_ble_eq_true rfl) (rokD (by omega) (Nat.le_of_ble_eq_true rfl)) ⟨(Nat.le_of_ble_eq_true rfl), (Nat.le_of_ble_eq_true rfl)⟩ (fun r ws2 hq => ?_)
            obtain ⟨rfl, rfl⟩ := hq
            show WP _ _ _ _ _ _ (_ :: _)
            refine r_goto 74 d_X_emit_67 (by decide) ?_
            exact c74 _ (by rw [htyp, if_neg (by omega)]; exact z14)
          · refine r_kF0 d_X_emit_62 lf_X_300_T (c_L_type G l y z1 b hb1' hc1) (13 + (b : Int)).toNat rfl (xw_bc hb1' h) (Nat.le_of_ble_eq_true rfl) (rokD (by omega) (Nat.le_of_ble_eq_true rfl)) ⟨(Nat.le_of_ble_eq_true rfl), (Nat.le_of_ble_eq_true rfl)⟩ (fun r ws2 hq => ?_)
            obtain ⟨rfl, rfl⟩ := hq
            show WP _ _ _ _ _ _ (_ :: _)
            refine r_goto 74 d_X_emit_67 (by decide) ?_
            exact c74 _ (by rw [htyp, if_neg (by omega)]; exact z14)
          · obtain ⟨h18, -⟩ := h4 b (by omega) hb1 (by omega)
            have o26 := hB.2.2 b (by omega) (by omega)
            have z118 : z1 18 b = z 18 b := by rw [f20 18 (by omega)]
            have z126 : z1 26 b = z 26 b := by rw [f20 26 (by omega)]
            refine r_kF0 d_X_emit_62 lf_X_300_P (c_P_type G l y z1 b hb1' h (by rw [z126]; exact ⟨o26.1, o26.2.1⟩) (by rw [z118]; exact h18)) (13 + (b : Int)).toNat rfl (xw_bc hb1' h) (Nat.le_of_ble_eq_true rfl) (rokD (by omega) (Nat.le_of_ble_eq_true rfl)) ⟨(Nat.le_of_ble_eq_true rfl), (Nat.le_of_ble_eq_true rfl)⟩ (fun r ws2 hq => ?_)
            obtain ⟨rfl, rfl⟩ := hq
            show WP _ _ _ _ _ _ (_ :: _)
            refine r_goto 74 d_X_emit_67 (by decide) ?_
            refine c74 _ ?_
            rw [htyp, z118, z126, z14]
            by_cases q : z 18 b = 1 ∨ z 26 b = 8
            · rw [if_pos q, if_pos ⟨by omega, q⟩]
            · rw [if_neg q, if_neg (fun e => q e.2)]
          · refine r_kF0 d_X_emit_62 lf_X_300_S (c_L_type G l y z1 b hb1' hc1) (13 + (b : Int)).toNat rfl (xw_bc hb1' h) (Nat.le_of_ble_eq_true rfl) (rokD (by omega) (Nat.le_of_ble_eq_true rfl)) ⟨(Nat.le_of_ble_eq_true rfl), (Nat.le_of_ble_eq_true rfl)⟩ (fun r ws2 hq => ?_)
            obtain ⟨rfl, rfl⟩ := hq
            show WP _ _ _ _ _ _ (_ :: _)
            refine r_goto 74 d_X_emit_67 (by decide) ?_
            exact c74 _ (by rw [htyp, if_neg (by omega)]; exact z14)
      · have z127 : z1 27 b = z 27 b := by rw [f20 27 (by omega)]
        refine r_if_eq 70 d_X_emit_55 (by decide) (by unfold i32; omega) (fun h6 => ?_) (fun h6 => ?_)
        · refine r_aload_n d_X_emit_70 rfl rfl ?_
          refine r_getB d_X_emit_71 fb_X_136 ((b : Int)) hb1' hc1 rfl ?_
          exact c74 _ (by rw [htyp, if_neg (by omega)]; exact z14)
        · omega
    refine r_istore d_X_emit_16 (Nat.le_of_ble_eq_true rfl) rfl ?_
    show WP _ _ _ _ _ [_, _, _, _, _, _, _] _
    refine r_aload_n d_X_emit_18 rfl rfl ?_
    refine r_get d_X_emit_19 fl_X_13_0 0 rfl rfl ?_
    refine r_iload d_X_emit_22 rfl ?_
    refine r_iinc d_X_emit_24 rfl (Nat.le_of_ble_eq_true rfl) rfl ?_
    show WP _ _ _ _ _ [_, _, _, _, _, _, _] _
    refine r_iload d_X_emit_27 rfl ?_
    refine r_if_eq 36 d_X_emit_29 (by decide) (by unfold i32; omega) (fun h1 => ?_) (fun h1 => ?_)
    · refine r_aload_n d_X_emit_36 rfl rfl ?_
      refine r_getB d_X_emit_37 fb_X_297 ((b : Int)) hb1' hcb rfl ?_
      rw [e14]
      exact c40 _ (by rw [if_neg (fun q => by have := hlg.mpr q; omega)])
    · refine r_iconst d_X_emit_32 ?_
      refine r_goto 40 d_X_emit_33 (by decide) ?_
      exact c40 1 (by rw [if_pos (hlg.mp (by omega))])
  refine r_iload_n d_X_emit_0 rfl ?_
  refine r_istore d_X_emit_1 (Nat.le_of_ble_eq_true rfl) rfl ?_
  show WP _ _ _ _ _ [_, _, _, _, _, _, _] _
  refine r_aload_n d_X_emit_3 rfl rfl ?_
  refine r_getB d_X_emit_4 fb_X_294 ((b : Int)) hb1' hcb rfl ?_
  refine r_iconst d_X_emit_7 ?_
  rw [e13]
  refine r_icmp_ne 15 d_X_emit_8 (by decide) (by unfold i32 nhO; split <;> omega) (by unfold i32; omega) (fun h1 => ?_) (fun h1 => ?_)
  · refine r_iconst d_X_emit_15 ?_
    exact c16 0 (Or.inl rfl) ⟨fun q => by omega, fun q => absurd q h1⟩
  · refine r_iconst d_X_emit_11 ?_
    refine r_goto 16 d_X_emit_12 (by decide) ?_
    exact c16 1 (Or.inr rfl) ⟨fun _ => Classical.not_not.mp h1, fun _ => rfl⟩
theorem c_X_emit0 : ES G l v w to 0 := by
  have h2 : ES G l v w to 2 := c_X_emit G l v w to 2 (by omega) (fun h => by omega)
  have h1 : ES G l v w to 1 := c_X_emit G l v w to 1 (by omega) (fun _ => h2)
  exact c_X_emit G l v w to 0 (by omega) (fun _ => h1)
end XEMIT
