abbrev q_M_countsWrong : Mi := (⟨"MovieBoxesModel", "countsWrong", "(I)Z"⟩, prog_12_method_17_code, 12, (some .boolean))
theorem d_M_countsWrong_50 : decode prog_12_method_17_code 50 = .ok (.iconst 1, 1) := by decide +kernel
theorem d_M_countsWrong_51 : decode prog_12_method_17_code 51 = .ok (.ireturn, 1) := by decide +kernel
theorem d_M_countsWrong_207 : decode prog_12_method_17_code 207 = .ok (.iload 11, 2) := by decide +kernel
theorem d_M_countsWrong_209 : decode prog_12_method_17_code 209 = .ok (.iload 10, 2) := by decide +kernel
theorem d_M_countsWrong_211 : decode prog_12_method_17_code 211 = .ok (.if_icmp .ge 35, 3) := by decide +kernel
theorem d_M_countsWrong_246 : decode prog_12_method_17_code 246 = .ok (.iload 9, 2) := by decide +kernel
theorem d_M_countsWrong_248 : decode prog_12_method_17_code 248 = .ok (.ireturn, 1) := by decide +kernel
theorem d_M_countsWrong_238 : decode prog_12_method_17_code 238 = .ok (.istore 9, 2) := by decide +kernel
theorem d_M_countsWrong_240 : decode prog_12_method_17_code 240 = .ok (.iinc 11 1, 3) := by decide +kernel
theorem d_M_countsWrong_243 : decode prog_12_method_17_code 243 = .ok (.goto (-36), 3) := by decide +kernel
theorem d_M_countsWrong_214 : decode prog_12_method_17_code 214 = .ok (.iload 9, 2) := by decide +kernel
theorem d_M_countsWrong_216 : decode prog_12_method_17_code 216 = .ok (.ifCond .ne 17, 3) := by decide +kernel
theorem d_M_countsWrong_233 : decode prog_12_method_17_code 233 = .ok (.iconst 1, 1) := by decide +kernel
theorem d_M_countsWrong_234 : decode prog_12_method_17_code 234 = .ok (.goto 4, 3) := by decide +kernel
theorem d_M_countsWrong_219 : decode prog_12_method_17_code 219 = .ok (.aload_n 0, 1) := by decide +kernel
theorem d_M_countsWrong_220 : decode prog_12_method_17_code 220 = .ok (.iload 8, 2) := by decide +kernel
theorem d_M_countsWrong_222 : decode prog_12_method_17_code 222 = .ok (.iconst 1, 1) := by decide +kernel
theorem d_M_countsWrong_223 : decode prog_12_method_17_code 223 = .ok (.iload 11, 2) := by decide +kernel
theorem d_M_countsWrong_225 : decode prog_12_method_17_code 225 = .ok (.iadd, 1) := by decide +kernel
theorem d_M_countsWrong_226 : decode prog_12_method_17_code 226 = .ok (.invokevirtual 106, 3) := by decide +kernel
theorem d_M_countsWrong_229 : decode prog_12_method_17_code 229 = .ok (.iload_n 2, 1) := by decide +kernel
theorem d_M_countsWrong_230 : decode prog_12_method_17_code 230 = .ok (.if_icmp .le 7, 3) := by decide +kernel
theorem d_M_countsWrong_237 : decode prog_12_method_17_code 237 = .ok (.iconst 0, 1) := by decide +kernel
theorem d_M_countsWrong_134 : decode prog_12_method_17_code 134 = .ok (.iload 8, 2) := by decide +kernel
theorem d_M_countsWrong_136 : decode prog_12_method_17_code 136 = .ok (.iload 4, 2) := by decide +kernel
theorem d_M_countsWrong_138 : decode prog_12_method_17_code 138 = .ok (.if_icmp .gt 21, 3) := by decide +kernel
theorem d_M_countsWrong_202 : decode prog_12_method_17_code 202 = .ok (.istore 10, 2) := by decide +kernel
theorem d_M_countsWrong_204 : decode prog_12_method_17_code 204 = .ok (.iconst 0, 1) := by decide +kernel
theorem d_M_countsWrong_205 : decode prog_12_method_17_code 205 = .ok (.istore 11, 2) := by decide +kernel
theorem d_M_countsWrong_184 : decode prog_12_method_17_code 184 = .ok (.istore 9, 2) := by decide +kernel
theorem d_M_countsWrong_186 : decode prog_12_method_17_code 186 = .ok (.iload 8, 2) := by decide +kernel
theorem d_M_countsWrong_188 : decode prog_12_method_17_code 188 = .ok (.ifCond .ge 7, 3) := by decide +kernel
theorem d_M_countsWrong_195 : decode prog_12_method_17_code 195 = .ok (.aload_n 0, 1) := by decide +kernel
theorem d_M_countsWrong_196 : decode prog_12_method_17_code 196 = .ok (.iload 8, 2) := by decide +kernel
theorem d_M_countsWrong_198 : decode prog_12_method_17_code 198 = .ok (.iconst 0, 1) := by decide +kernel
theorem d_M_countsWrong_199 : decode prog_12_method_17_code 199 = .ok (.invokevirtual 106, 3) := by decide +kernel
theorem d_M_countsWrong_191 : decode prog_12_method_17_code 191 = .ok (.iconst 0, 1) := by decide +kernel
theorem d_M_countsWrong_192 : decode prog_12_method_17_code 192 = .ok (.goto 10, 3) := by decide +kernel
theorem d_M_countsWrong_159 : decode prog_12_method_17_code 159 = .ok (.aload_n 0, 1) := by decide +kernel
theorem d_M_countsWrong_160 : decode prog_12_method_17_code 160 = .ok (.getfield 40, 3) := by decide +kernel
theorem d_M_countsWrong_163 : decode prog_12_method_17_code 163 = .ok (.bipush 8, 2) := by decide +kernel
theorem d_M_countsWrong_165 : decode prog_12_method_17_code 165 = .ok (.iload_n 1, 1) := by decide +kernel
theorem d_M_countsWrong_166 : decode prog_12_method_17_code 166 = .ok (.imul, 1) := by decide +kernel
theorem d_M_countsWrong_167 : decode prog_12_method_17_code 167 = .ok (.bipush 6, 2) := by decide +kernel
theorem d_M_countsWrong_169 : decode prog_12_method_17_code 169 = .ok (.iadd, 1) := by decide +kernel
theorem d_M_countsWrong_170 : decode prog_12_method_17_code 170 = .ok (.iaload, 1) := by decide +kernel
theorem d_M_countsWrong_171 : decode prog_12_method_17_code 171 = .ok (.istore 8, 2) := by decide +kernel
theorem d_M_countsWrong_173 : decode prog_12_method_17_code 173 = .ok (.iload 7, 2) := by decide +kernel
theorem d_M_countsWrong_175 : decode prog_12_method_17_code 175 = .ok (.iload_n 2, 1) := by decide +kernel
theorem d_M_countsWrong_176 : decode prog_12_method_17_code 176 = .ok (.if_icmp .eq 7, 3) := by decide +kernel
theorem d_M_countsWrong_183 : decode prog_12_method_17_code 183 = .ok (.iconst 0, 1) := by decide +kernel
theorem d_M_countsWrong_179 : decode prog_12_method_17_code 179 = .ok (.iconst 1, 1) := by decide +kernel
theorem d_M_countsWrong_180 : decode prog_12_method_17_code 180 = .ok (.goto 4, 3) := by decide +kernel
theorem d_M_countsWrong_141 : decode prog_12_method_17_code 141 = .ok (.iload 7, 2) := by decide +kernel
theorem d_M_countsWrong_143 : decode prog_12_method_17_code 143 = .ok (.aload_n 0, 1) := by decide +kernel
theorem d_M_countsWrong_144 : decode prog_12_method_17_code 144 = .ok (.iload_n 1, 1) := by decide +kernel
theorem d_M_countsWrong_145 : decode prog_12_method_17_code 145 = .ok (.iload 8, 2) := by decide +kernel
theorem d_M_countsWrong_147 : decode prog_12_method_17_code 147 = .ok (.invokevirtual 119, 3) := by decide +kernel
set_option maxRecDepth 20000 in
theorem w_852 : Cond.methodLink "MovieBoxesModel" 119 ⟨"MovieBoxesModel", "many", "(II)I"⟩ ∈ gt := gt_of (in_t4 (List.mem_of_getElem? (i := 132) rfl)) rfl
set_option maxRecDepth 20000 in
theorem w_854 : Cond.instanceMethod ⟨"MovieBoxesModel", "many", "(II)I"⟩ ∈ gt := gt_of (in_t4 (List.mem_of_getElem? (i := 134) rfl)) rfl
set_option maxRecDepth 20000 in
theorem ws_M_many : Cond.selects "MovieBoxesModel" ⟨"MovieBoxesModel", "many", "(II)I"⟩ ⟨"MovieBoxesModel", "many", "(II)I"⟩ ∈ gt := gt_of (in_p2 (List.mem_of_getElem? (i := 9) rfl)) rfl
set_option maxRecDepth 20000 in
theorem w_855 : Cond.code ⟨"MovieBoxesModel", "many", "(II)I"⟩ prog_12_method_24_code 4 (some .int) ∈ gt := gt_of (in_t4 (List.mem_of_getElem? (i := 135) rfl)) rfl
theorem lk_M_119 : LkV "MovieBoxesModel" 119 q_M_many 2 := ⟨(List.forall_mem_cons.mpr ⟨w_852, (List.forall_mem_cons.mpr ⟨w_854, (List.forall_mem_cons.mpr ⟨ws_M_many, (List.forall_mem_cons.mpr ⟨w_8, (fun _ h => absurd h List.not_mem_nil)⟩)⟩)⟩)⟩), w_855, by decide +kernel⟩
theorem d_M_countsWrong_150 : decode prog_12_method_17_code 150 = .ok (.iadd, 1) := by decide +kernel
theorem d_M_countsWrong_151 : decode prog_12_method_17_code 151 = .ok (.istore 7, 2) := by decide +kernel
theorem d_M_countsWrong_153 : decode prog_12_method_17_code 153 = .ok (.iinc 8 1, 3) := by decide +kernel
theorem d_M_countsWrong_156 : decode prog_12_method_17_code 156 = .ok (.goto (-22), 3) := by decide +kernel
theorem d_M_countsWrong_96 : decode prog_12_method_17_code 96 = .ok (.iload 7, 2) := by decide +kernel
theorem d_M_countsWrong_98 : decode prog_12_method_17_code 98 = .ok (.iload 6, 2) := by decide +kernel
theorem d_M_countsWrong_100 : decode prog_12_method_17_code 100 = .ok (.if_icmp .ge 28, 3) := by decide +kernel
theorem d_M_countsWrong_128 : decode prog_12_method_17_code 128 = .ok (.iconst 0, 1) := by decide +kernel
theorem d_M_countsWrong_129 : decode prog_12_method_17_code 129 = .ok (.istore 7, 2) := by decide +kernel
theorem d_M_countsWrong_131 : decode prog_12_method_17_code 131 = .ok (.iconst 1, 1) := by decide +kernel
theorem d_M_countsWrong_132 : decode prog_12_method_17_code 132 = .ok (.istore 8, 2) := by decide +kernel
theorem d_M_countsWrong_103 : decode prog_12_method_17_code 103 = .ok (.aload_n 0, 1) := by decide +kernel
theorem d_M_countsWrong_104 : decode prog_12_method_17_code 104 = .ok (.iload 5, 2) := by decide +kernel
theorem d_M_countsWrong_106 : decode prog_12_method_17_code 106 = .ok (.iconst 1, 1) := by decide +kernel
theorem d_M_countsWrong_107 : decode prog_12_method_17_code 107 = .ok (.iconst 3, 1) := by decide +kernel
theorem d_M_countsWrong_108 : decode prog_12_method_17_code 108 = .ok (.iload 7, 2) := by decide +kernel
theorem d_M_countsWrong_110 : decode prog_12_method_17_code 110 = .ok (.imul, 1) := by decide +kernel
theorem d_M_countsWrong_111 : decode prog_12_method_17_code 111 = .ok (.iadd, 1) := by decide +kernel
theorem d_M_countsWrong_112 : decode prog_12_method_17_code 112 = .ok (.invokevirtual 106, 3) := by decide +kernel
theorem d_M_countsWrong_115 : decode prog_12_method_17_code 115 = .ok (.iload 4, 2) := by decide +kernel
theorem d_M_countsWrong_117 : decode prog_12_method_17_code 117 = .ok (.if_icmp .le 5, 3) := by decide +kernel
theorem d_M_countsWrong_122 : decode prog_12_method_17_code 122 = .ok (.iinc 7 1, 3) := by decide +kernel
theorem d_M_countsWrong_125 : decode prog_12_method_17_code 125 = .ok (.goto (-29), 3) := by decide +kernel
theorem d_M_countsWrong_120 : decode prog_12_method_17_code 120 = .ok (.iconst 1, 1) := by decide +kernel
theorem d_M_countsWrong_121 : decode prog_12_method_17_code 121 = .ok (.ireturn, 1) := by decide +kernel
theorem d_M_countsWrong_52 : decode prog_12_method_17_code 52 = .ok (.aload_n 0, 1) := by decide +kernel
theorem d_M_countsWrong_53 : decode prog_12_method_17_code 53 = .ok (.iload_n 1, 1) := by decide +kernel
theorem d_M_countsWrong_54 : decode prog_12_method_17_code 54 = .ok (.invokevirtual 116, 3) := by decide +kernel
set_option maxRecDepth 20000 in
theorem w_844 : Cond.methodLink "MovieBoxesModel" 116 ⟨"MovieBoxesModel", "chunkCount", "(I)I"⟩ ∈ gt := gt_of (in_t4 (List.mem_of_getElem? (i := 124) rfl)) rfl
set_option maxRecDepth 20000 in
theorem w_846 : Cond.instanceMethod ⟨"MovieBoxesModel", "chunkCount", "(I)I"⟩ ∈ gt := gt_of (in_t4 (List.mem_of_getElem? (i := 126) rfl)) rfl
set_option maxRecDepth 20000 in
theorem ws_M_chunkCount : Cond.selects "MovieBoxesModel" ⟨"MovieBoxesModel", "chunkCount", "(I)I"⟩ ⟨"MovieBoxesModel", "chunkCount", "(I)I"⟩ ∈ gt := gt_of (in_p2 (List.mem_of_getElem? (i := 7) rfl)) rfl
set_option maxRecDepth 20000 in
theorem w_847 : Cond.code ⟨"MovieBoxesModel", "chunkCount", "(I)I"⟩ prog_12_method_21_code 3 (some .int) ∈ gt := gt_of (in_t4 (List.mem_of_getElem? (i := 127) rfl)) rfl
theorem lk_M_116 : LkV "MovieBoxesModel" 116 q_M_chunkCount 1 := ⟨(List.forall_mem_cons.mpr ⟨w_844, (List.forall_mem_cons.mpr ⟨w_846, (List.forall_mem_cons.mpr ⟨ws_M_chunkCount, (List.forall_mem_cons.mpr ⟨w_8, (fun _ h => absurd h List.not_mem_nil)⟩)⟩)⟩)⟩), w_847, by decide +kernel⟩
theorem d_M_countsWrong_57 : decode prog_12_method_17_code 57 = .ok (.istore 4, 2) := by decide +kernel
theorem d_M_countsWrong_59 : decode prog_12_method_17_code 59 = .ok (.aload_n 0, 1) := by decide +kernel
theorem d_M_countsWrong_60 : decode prog_12_method_17_code 60 = .ok (.getfield 40, 3) := by decide +kernel
theorem d_M_countsWrong_63 : decode prog_12_method_17_code 63 = .ok (.bipush 8, 2) := by decide +kernel
theorem d_M_countsWrong_65 : decode prog_12_method_17_code 65 = .ok (.iload_n 1, 1) := by decide +kernel
theorem d_M_countsWrong_66 : decode prog_12_method_17_code 66 = .ok (.imul, 1) := by decide +kernel
theorem d_M_countsWrong_67 : decode prog_12_method_17_code 67 = .ok (.iconst 2, 1) := by decide +kernel
theorem d_M_countsWrong_68 : decode prog_12_method_17_code 68 = .ok (.iadd, 1) := by decide +kernel
theorem d_M_countsWrong_69 : decode prog_12_method_17_code 69 = .ok (.iaload, 1) := by decide +kernel
theorem d_M_countsWrong_70 : decode prog_12_method_17_code 70 = .ok (.istore 5, 2) := by decide +kernel
theorem d_M_countsWrong_72 : decode prog_12_method_17_code 72 = .ok (.aload_n 0, 1) := by decide +kernel
theorem d_M_countsWrong_73 : decode prog_12_method_17_code 73 = .ok (.iload 5, 2) := by decide +kernel
theorem d_M_countsWrong_75 : decode prog_12_method_17_code 75 = .ok (.iconst 0, 1) := by decide +kernel
theorem d_M_countsWrong_76 : decode prog_12_method_17_code 76 = .ok (.invokevirtual 106, 3) := by decide +kernel
theorem d_M_countsWrong_93 : decode prog_12_method_17_code 93 = .ok (.iconst 0, 1) := by decide +kernel
theorem d_M_countsWrong_94 : decode prog_12_method_17_code 94 = .ok (.istore 7, 2) := by decide +kernel
theorem d_M_countsWrong_79 : decode prog_12_method_17_code 79 = .ok (.istore 6, 2) := by decide +kernel
theorem d_M_countsWrong_81 : decode prog_12_method_17_code 81 = .ok (.iload 4, 2) := by decide +kernel
theorem d_M_countsWrong_83 : decode prog_12_method_17_code 83 = .ok (.ifCond .le 10, 3) := by decide +kernel
theorem d_M_countsWrong_86 : decode prog_12_method_17_code 86 = .ok (.iload 6, 2) := by decide +kernel
theorem d_M_countsWrong_88 : decode prog_12_method_17_code 88 = .ok (.ifCond .ne 5, 3) := by decide +kernel
theorem d_M_countsWrong_91 : decode prog_12_method_17_code 91 = .ok (.iconst 1, 1) := by decide +kernel
theorem d_M_countsWrong_92 : decode prog_12_method_17_code 92 = .ok (.ireturn, 1) := by decide +kernel
theorem d_M_countsWrong_0 : decode prog_12_method_17_code 0 = .ok (.aload_n 0, 1) := by decide +kernel
theorem d_M_countsWrong_1 : decode prog_12_method_17_code 1 = .ok (.iload_n 1, 1) := by decide +kernel
theorem d_M_countsWrong_2 : decode prog_12_method_17_code 2 = .ok (.invokevirtual 110, 3) := by decide +kernel
set_option maxRecDepth 20000 in
theorem w_836 : Cond.methodLink "MovieBoxesModel" 110 ⟨"MovieBoxesModel", "sampleCount", "(I)I"⟩ ∈ gt := gt_of (in_t4 (List.mem_of_getElem? (i := 116) rfl)) rfl
set_option maxRecDepth 20000 in
theorem w_838 : Cond.instanceMethod ⟨"MovieBoxesModel", "sampleCount", "(I)I"⟩ ∈ gt := gt_of (in_t4 (List.mem_of_getElem? (i := 118) rfl)) rfl
set_option maxRecDepth 20000 in
theorem ws_M_sampleCount : Cond.selects "MovieBoxesModel" ⟨"MovieBoxesModel", "sampleCount", "(I)I"⟩ ⟨"MovieBoxesModel", "sampleCount", "(I)I"⟩ ∈ gt := gt_of (in_p2 (List.mem_of_getElem? (i := 5) rfl)) rfl
set_option maxRecDepth 20000 in
theorem w_839 : Cond.code ⟨"MovieBoxesModel", "sampleCount", "(I)I"⟩ prog_12_method_18_code 2 (some .int) ∈ gt := gt_of (in_t4 (List.mem_of_getElem? (i := 119) rfl)) rfl
theorem lk_M_110 : LkV "MovieBoxesModel" 110 q_M_sampleCount 1 := ⟨(List.forall_mem_cons.mpr ⟨w_836, (List.forall_mem_cons.mpr ⟨w_838, (List.forall_mem_cons.mpr ⟨ws_M_sampleCount, (List.forall_mem_cons.mpr ⟨w_8, (fun _ h => absurd h List.not_mem_nil)⟩)⟩)⟩)⟩), w_839, by decide +kernel⟩
theorem d_M_countsWrong_5 : decode prog_12_method_17_code 5 = .ok (.istore_n 2, 1) := by decide +kernel
theorem d_M_countsWrong_6 : decode prog_12_method_17_code 6 = .ok (.aload_n 0, 1) := by decide +kernel
theorem d_M_countsWrong_7 : decode prog_12_method_17_code 7 = .ok (.getfield 40, 3) := by decide +kernel
theorem d_M_countsWrong_10 : decode prog_12_method_17_code 10 = .ok (.bipush 8, 2) := by decide +kernel
theorem d_M_countsWrong_12 : decode prog_12_method_17_code 12 = .ok (.iload_n 1, 1) := by decide +kernel
theorem d_M_countsWrong_13 : decode prog_12_method_17_code 13 = .ok (.imul, 1) := by decide +kernel
theorem d_M_countsWrong_14 : decode prog_12_method_17_code 14 = .ok (.iconst 1, 1) := by decide +kernel
theorem d_M_countsWrong_15 : decode prog_12_method_17_code 15 = .ok (.iadd, 1) := by decide +kernel
theorem d_M_countsWrong_16 : decode prog_12_method_17_code 16 = .ok (.iaload, 1) := by decide +kernel
theorem d_M_countsWrong_17 : decode prog_12_method_17_code 17 = .ok (.istore_n 3, 1) := by decide +kernel
theorem d_M_countsWrong_18 : decode prog_12_method_17_code 18 = .ok (.aload_n 0, 1) := by decide +kernel
theorem d_M_countsWrong_19 : decode prog_12_method_17_code 19 = .ok (.aload_n 0, 1) := by decide +kernel
theorem d_M_countsWrong_20 : decode prog_12_method_17_code 20 = .ok (.getfield 40, 3) := by decide +kernel
theorem d_M_countsWrong_23 : decode prog_12_method_17_code 23 = .ok (.bipush 8, 2) := by decide +kernel
theorem d_M_countsWrong_25 : decode prog_12_method_17_code 25 = .ok (.iload_n 1, 1) := by decide +kernel
theorem d_M_countsWrong_26 : decode prog_12_method_17_code 26 = .ok (.imul, 1) := by decide +kernel
theorem d_M_countsWrong_27 : decode prog_12_method_17_code 27 = .ok (.iconst 0, 1) := by decide +kernel
theorem d_M_countsWrong_28 : decode prog_12_method_17_code 28 = .ok (.iadd, 1) := by decide +kernel
theorem d_M_countsWrong_29 : decode prog_12_method_17_code 29 = .ok (.iaload, 1) := by decide +kernel
theorem d_M_countsWrong_30 : decode prog_12_method_17_code 30 = .ok (.invokevirtual 113, 3) := by decide +kernel
set_option maxRecDepth 20000 in
theorem w_840 : Cond.methodLink "MovieBoxesModel" 113 ⟨"MovieBoxesModel", "total", "(I)I"⟩ ∈ gt := gt_of (in_t4 (List.mem_of_getElem? (i := 120) rfl)) rfl
set_option maxRecDepth 20000 in
theorem w_842 : Cond.instanceMethod ⟨"MovieBoxesModel", "total", "(I)I"⟩ ∈ gt := gt_of (in_t4 (List.mem_of_getElem? (i := 122) rfl)) rfl
set_option maxRecDepth 20000 in
theorem ws_M_total : Cond.selects "MovieBoxesModel" ⟨"MovieBoxesModel", "total", "(I)I"⟩ ⟨"MovieBoxesModel", "total", "(I)I"⟩ ∈ gt := gt_of (in_p2 (List.mem_of_getElem? (i := 6) rfl)) rfl
set_option maxRecDepth 20000 in
theorem w_843 : Cond.code ⟨"MovieBoxesModel", "total", "(I)I"⟩ prog_12_method_16_code 4 (some .int) ∈ gt := gt_of (in_t4 (List.mem_of_getElem? (i := 123) rfl)) rfl
theorem lk_M_113 : LkV "MovieBoxesModel" 113 q_M_total 1 := ⟨(List.forall_mem_cons.mpr ⟨w_840, (List.forall_mem_cons.mpr ⟨w_842, (List.forall_mem_cons.mpr ⟨ws_M_total, (List.forall_mem_cons.mpr ⟨w_8, (fun _ h => absurd h List.not_mem_nil)⟩)⟩)⟩)⟩), w_843, by decide +kernel⟩
theorem d_M_countsWrong_33 : decode prog_12_method_17_code 33 = .ok (.iload_n 2, 1) := by decide +kernel
theorem d_M_countsWrong_34 : decode prog_12_method_17_code 34 = .ok (.if_icmp .ne 16, 3) := by decide +kernel
theorem d_M_countsWrong_37 : decode prog_12_method_17_code 37 = .ok (.iload_n 3, 1) := by decide +kernel
theorem d_M_countsWrong_38 : decode prog_12_method_17_code 38 = .ok (.ifCond .lt 14, 3) := by decide +kernel
theorem d_M_countsWrong_41 : decode prog_12_method_17_code 41 = .ok (.aload_n 0, 1) := by decide +kernel
theorem d_M_countsWrong_42 : decode prog_12_method_17_code 42 = .ok (.iload_n 3, 1) := by decide +kernel
theorem d_M_countsWrong_43 : decode prog_12_method_17_code 43 = .ok (.invokevirtual 113, 3) := by decide +kernel
theorem d_M_countsWrong_46 : decode prog_12_method_17_code 46 = .ok (.iload_n 2, 1) := by decide +kernel
theorem d_M_countsWrong_47 : decode prog_12_method_17_code 47 = .ok (.if_icmp .eq 5, 3) := by decide +kernel
/-! ===== the model: countsWrong, settle ===== -/
/-- how many samples chunk c (from 1) has; how many lie ahead of chunk c + 1; its bytes; its DATA box -/
def mnO (s : mS) (t c : Int) : Int := pv s (tb s t 2) (2 + 3 * rowU s (tb s t 2) c (pv s (tb s t 2) 0).toNat)
def smp (s : mS) (t : Int) (c : Nat) : Int := sumI (fun c => mnO s t (1 + c)) c
def cby (s : mS) (t : Int) (c : Nat) : Int := sumI (fun i => szO s t (smp s t c + i)) (mnO s t (1 + c)).toNat
def hmO (s : mS) (t : Int) (c : Nat) : Int := dbx s (cpl s t (1 + c)) (cby s t c) (s 0 1).toNat 0
abbrev totO (s : mS) (k : Int) : Int := sumI (fun r => pv s k (1 + 2 * r)) (pv s k 0).toNat
def cntBad (s : mS) (t : Int) : Prop := ¬ totO s (tb s t 0) = pv s (tb s t 3) 1 ∨ (0 ≤ tb s t 1 ∧ ¬ totO s (tb s t 1) = pv s (tb s t 3) 1) ∨ (0 < pv s (pbx s t) 0 ∧ pv s (tb s t 2) 0 = 0) ∨ exB (fun r => pv s (pbx s t) 0 < pv s (tb s t 2) (1 + 3 * r)) (pv s (tb s t 2) 0).toNat ∨ ¬ smp s t (pv s (pbx s t) 0).toNat = pv s (tb s t 3) 1 ∨ (0 ≤ tb s t 6 ∧ exB (fun r => pv s (tb s t 3) 1 < pv s (tb s t 6) (1 + r)) (pv s (tb s t 6) 0).toNat)
theorem mnO_b {s : mS} (h : byOk s) (t c : Int) : 0 ≤ mnO s t c ∧ mnO s t c < 256 := pv_b h _ _
theorem sumI_mono {f : Int → Int} (hf : ∀ i, 0 ≤ f i) {a b : Nat} (h : a ≤ b) : sumI f a ≤ sumI f b := by
  induction b with
  | zero => have : a = 0 := by omega
            subst this; exact Int.le_refl _
  | succ b ih =>
    rcases Nat.lt_or_ge a (b + 1) with q | q
    · have := ih (by omega)
      have := hf b
      show sumI f a ≤ sumI f b + f b
      omega
    · have : a = b + 1 := by omega
      subst this; exact Int.le_refl _
theorem sumI_le {f : Int → Int} {B : Int} (hf : ∀ i, 0 ≤ f i ∧ f i ≤ B) : ∀ a : Nat, 0 ≤ sumI f a ∧ sumI f a ≤ B * a
  | 0 => by simp [sumI]
  | a + 1 => by
    have h1 := sumI_le hf a
    have h2 := hf a
    show 0 ≤ sumI f a + f a ∧ sumI f a + f a ≤ B * ((a + 1 : Nat) : Int)
    have : B * ((a + 1 : Nat) : Int) = B * a + B := by rw [Int.natCast_add, Int.mul_add]; simp
    omega
/-- what the tables of track t are, once the rows are right -/
def trOk (s : mS) (t : Int) : Prop := tbl s (tb s t 0) 2 ∧ (0 ≤ tb s t 1 → tbl s (tb s t 1) 2) ∧ tbl s (tb s t 2) 3 ∧ (bxok s (tb s t 3) ∧ 2 ≤ s 3 (tb s t 3) - s 5 (tb s t 3) ∧ (pv s (tb s t 3) 0 = 0 → s 3 (tb s t 3) - s 5 (tb s t 3) = 2 + pv s (tb s t 3) 1)) ∧ (bxok s (pbx s t) ∧ 1 ≤ s 3 (pbx s t) - s 5 (pbx s t) ∧ (s 4 (pbx s t) = 111 → s 3 (pbx s t) - s 5 (pbx s t) = 1 + pv s (pbx s t) 0) ∧ (¬ s 4 (pbx s t) = 111 → s 3 (pbx s t) - s 5 (pbx s t) = 1 + 2 * pv s (pbx s t) 0) ∧ 0 ≤ s 4 (pbx s t) ∧ s 4 (pbx s t) < 256) ∧ (0 ≤ tb s t 6 → tbl s (tb s t 6) 1) ∧ (0 ≤ tb s t 7 → tbl s (tb s t 7) 2) ∧ (∀ j, 0 ≤ j → j < 16 → -1 ≤ s 11 j ∧ s 11 j < 20)
theorem trOk.i {s : mS} {t : Int} (h : trOk s t) (ht : 0 ≤ t ∧ t ≤ 1) {kd : Int} (hk : 0 ≤ kd ∧ kd < 8) : -1 ≤ tb s t kd ∧ tb s t kd < 20 := h.2.2.2.2.2.2.2 (8 * t + kd) (by omega) (by omega)
section MODEL8
variable (G : gG) (l : Launch) (ad : Nat → Nat)
theorem c_M_countsWrong (s : mS) (t : Int) (hb : byOk s) (ht : 0 ≤ t ∧ t ≤ 1) (hT : trOk s t) : Ct G l q_M_countsWrong 3 0 0 [.ref (ad 0), vI t] (mW G ad s) (fun r w => r = some (vI (b2 (cntBad s t))) ∧ w = mW G ad s) := by
  refine Ct.intro [some (.ref (ad 0)), some (vI t), none, none, none, none, none, none, none, none, none, none] (by decide) (Nat.le_of_ble_eq_true rfl) rfl (fun sz => ?_)
  generalize hQ : (fun r w => r = some (vI (b2 (cntBad s t))) ∧ w = mW G ad s) = Q
  have i1 := hT.i ht (kd := 1) (by omega)
  have i4 := hT.i ht (kd := 4) (by omega)
  have i6 := hT.i ht (kd := 6) (by omega)
  obtain ⟨k0, k1, k2, k3, k4, k6, k7, -⟩ := id hT
  have hn := pv_b hb (tb s t 3) 1
  have hch := pv_b hb (pbx s t) 0
  have hro := pv_b hb (tb s t 2) 0
  have tb0 : ∀ k, 0 ≤ totO s k ∧ totO s k ≤ 255 * (pv s k 0).toNat := fun k => sumI_le (fun i => by have := pv_b hb k (1 + 2 * i); omega) _
  have hf : cntBad s t → ∀ x, x = 1 → x = b2 (cntBad s t) := fun h x hx => by rw [hx, b2_t h]
  generalize hn1 : pv s (tb s t 3) 1 = n at hn
  generalize hc1 : pv s (pbx s t) 0 = ch at hch
  generalize hr1 : pv s (tb s t 2) 0 = ro at hro
  have ysA : ∀ (x4 x5 x6 x7 x8 x9 x10 x11 : Option Value), cntBad s t → WP (mth G l q_M_countsWrong 3 0 0 (mW G ad s) sz Q) 0 0 (mW G ad s) 50 [some (.ref (ad 0)), some (vI t), some (vI n), some (vI (tb s t 1)), x4, x5, x6, x7, x8, x9, x10, x11] [] := by
    intro x4 x5 x6 x7 x8 x9 x10 x11 h
    refine r_iconst d_M_countsWrong_50 ?_
    refine r_zret d_M_countsWrong_51 rfl (by first | exact Or.inl rfl | exact Or.inr rfl) (Nat.le_of_ble_eq_true rfl) (Nat.le_of_ble_eq_true rfl) ?_
    rw [← hQ]; exact ⟨by rw [b2_t h], rfl⟩
  -- the last loop
  have l3 : ∀ (m r : Nat) (mk : Int) (x7 : Option Value), mk = (if tb s t 6 < 0 then 0 else pv s (tb s t 6) 0) → (r : Int) + m = mk → (b2 (cntBad s t) = b2 (¬ smp s t ch.toNat = n ∨ exB (fun r => n < pv s (tb s t 6) (1 + r)) mk.toNat)) → WP (mth G l q_M_countsWrong 3 0 0 (mW G ad s) sz Q) 0 0 (mW G ad s) 207 [some (.ref (ad 0)), some (vI t), some (vI n), some (vI (tb s t 1)), some (vI ch), some (vI (tb s t 2)), some (vI ro), x7, some (vI (tb s t 6)), some (vI (b2 (¬ smp s t ch.toNat = n ∨ exB (fun r => n < pv s (tb s t 6) (1 + r)) r))), some (vI mk), some (vI r)] [] := by
    intro m
    induction m with
    | zero =>
      intro r mk x7 hmk hr hE
      have hmb : 0 ≤ mk ∧ mk < 256 := by rw [hmk]; split; omega; exact pv_b hb _ _
      refine r_iload d_M_countsWrong_207 rfl ?_
      refine r_iload d_M_countsWrong_209 rfl ?_
      refine r_icmp_ge 246 d_M_countsWrong_211 (by decide) (by unfold i32; omega) (by unfold i32; omega) (fun g1 => ?_) (fun g1 => ?_)
      · refine r_iload d_M_countsWrong_246 rfl ?_
        refine r_zret d_M_countsWrong_248 rfl (b2_b _) (Nat.le_of_ble_eq_true rfl) (Nat.le_of_ble_eq_true rfl) ?_
        rw [← hQ]; exact ⟨by rw [hE, show r = mk.toNat by omega], rfl⟩
      · exact absurd g1 (by omega)
    | succ m ih =>
      intro r mk x7 hmk hr hE
      have hmb : 0 ≤ mk ∧ mk < 256 := by rw [hmk]; split; omega; exact pv_b hb _ _
      have hpos : 0 ≤ tb s t 6 := by
        rcases Int.lt_or_le (tb s t 6) 0 with h | h
        · rw [if_pos h] at hmk; omega
        · exact h
      have hk6 := k6 hpos
      have hmk2 : mk = pv s (tb s t 6) 0 := by rw [hmk, if_neg (by omega)]
      have hp := pv_b hb (tb s t 6) (1 + r)
      have ih2 := ih (r + 1) mk x7 hmk (by omega) hE
      rw [b2_c (show _ ↔ ((¬ smp s t ch.toNat = n ∨ exB (fun r => n < pv s (tb s t 6) (1 + r)) r) ∨ n < pv s (tb s t 6) (1 + r)) from by rw [exB_s, or_assoc])] at ih2
      have hwb := b2_b (¬ smp s t ch.toNat = n ∨ exB (fun r => n < pv s (tb s t 6) (1 + r)) r)
      generalize (¬ smp s t ch.toNat = n ∨ exB (fun r => n < pv s (tb s t 6) (1 + r)) r) = E at ih2 hwb ⊢
      have J : ∀ x, x = b2 (E ∨ n < pv s (tb s t 6) (1 + r)) → WP (mth G l q_M_countsWrong 3 0 0 (mW G ad s) sz Q) 0 0 (mW G ad s) 238 [some (.ref (ad 0)), some (vI t), some (vI n), some (vI (tb s t 1)), some (vI ch), some (vI (tb s t 2)), some (vI ro), x7, some (vI (tb s t 6)), some (vI (b2 E)), some (vI mk), some (vI r)] [vI x] := by
        intro x hx
        rw [hx]
        refine r_istore d_M_countsWrong_238 (Nat.le_of_ble_eq_true rfl) rfl ?_
        show WP _ _ _ _ _ [_, _, _, _, _, _, _, _, _, _, _, _] _
        refine r_iinc d_M_countsWrong_240 rfl (Nat.le_of_ble_eq_true rfl) rfl ?_
        show WP _ _ _ _ _ [_, _, _, _, _, _, _, _, _, _, _, _] _
        refine r_goto 207 d_M_countsWrong_243 (by decide) ?_
        exact ih2
      refine r_iload d_M_countsWrong_207 rfl ?_
      refine r_iload d_M_countsWrong_209 rfl ?_
      refine r_icmp_ge 246 d_M_countsWrong_211 (by decide) (by unfold i32; omega) (by unfold i32; omega) (fun g1 => ?_) (fun g1 => ?_)
      · exact absurd g1 (by omega)
      refine r_iload d_M_countsWrong_214 rfl ?_
      refine r_if_ne 233 d_M_countsWrong_216 (by decide) (by unfold i32; omega) (fun g2 => ?_) (fun g2 => ?_)
      · refine r_iconst d_M_countsWrong_233 ?_
        refine r_goto 238 d_M_countsWrong_234 (by decide) ?_
        exact J 1 (by rw [b2_t]; exact Or.inl (b2_1.mp (by omega)))
      have hnE : ¬ E := b2_0.mp (by omega)
      refine r_aload_n d_M_countsWrong_219 rfl rfl ?_
      refine r_iload d_M_countsWrong_220 rfl ?_
      refine r_iconst d_M_countsWrong_222 ?_
      refine r_iload d_M_countsWrong_223 rfl ?_
      refine r_iadd d_M_countsWrong_225 ?_
      refine r_cV2 d_M_countsWrong_226 lk_M_106 (c_M_payB G l ad s (tb s t 6) (1 + r) hk6.1 (by omega)) 0 rfl rfl (Nat.le_of_ble_eq_true rfl) (rok rfl rfl) ⟨(Nat.le_of_ble_eq_true rfl), (Nat.le_of_ble_eq_true rfl)⟩ (fun r ws2 hq => ?_)
      obtain ⟨rfl, rfl⟩ := hq
      show WP _ _ _ _ _ _ (_ :: _)
      refine r_iload_n d_M_countsWrong_229 rfl ?_
      refine r_icmp_le 237 d_M_countsWrong_230 (by decide) (by unfold i32; omega) (by unfold i32; omega) (fun g3 => ?_) (fun g3 => ?_)
      · refine r_iconst d_M_countsWrong_237 ?_
        exact J 0 (by rw [b2_f]; rintro (h | h); exact hnE h; omega)
      · refine r_iconst d_M_countsWrong_233 ?_
        refine r_goto 238 d_M_countsWrong_234 (by decide) ?_
        exact J 1 (by rw [b2_t]; exact Or.inr (by omega))
  -- the samples of all chunks
  have l2 : ∀ (m c : Nat) (x9 x10 x11 : Option Value), (c : Int) + m = ch → (0 < ch → ¬ ro = 0) → (b2 (cntBad s t) = b2 (¬ smp s t ch.toNat = n ∨ (0 ≤ tb s t 6 ∧ exB (fun r => n < pv s (tb s t 6) (1 + r)) (pv s (tb s t 6) 0).toNat))) → WP (mth G l q_M_countsWrong 3 0 0 (mW G ad s) sz Q) 0 0 (mW G ad s) 134 [some (.ref (ad 0)), some (vI t), some (vI n), some (vI (tb s t 1)), some (vI ch), some (vI (tb s t 2)), some (vI ro), some (vI (smp s t c)), some (vI (1 + c)), x9, x10, x11] [] := by
    intro m
    induction m with
    | zero =>
      intro c x9 x10 x11 hc hro2 hE
      have hsb : 0 ≤ smp s t c ∧ smp s t c ≤ 255 * (c : Nat) := sumI_le (fun i => by have := mnO_b hb t (1 + i); omega) _
      have hc2 : c = ch.toNat := by omega
      refine r_iload d_M_countsWrong_134 rfl ?_
      refine r_iload d_M_countsWrong_136 rfl ?_
      refine r_icmp_gt 159 d_M_countsWrong_138 (by decide) (by unfold i32; omega) (by unfold i32; omega) (fun g1 => ?_) (fun g1 => ?_)
      · have j202 : ∀ mk, mk = (if tb s t 6 < 0 then 0 else pv s (tb s t 6) 0) → WP (mth G l q_M_countsWrong 3 0 0 (mW G ad s) sz Q) 0 0 (mW G ad s) 202 [some (.ref (ad 0)), some (vI t), some (vI n), some (vI (tb s t 1)), some (vI ch), some (vI (tb s t 2)), some (vI ro), some (vI (smp s t c)), some (vI (tb s t 6)), some (vI (b2 (¬ smp s t ch.toNat = n))), x10, x11] [vI mk] := by
          intro mk hmk
          have hmb : 0 ≤ mk ∧ mk < 256 := by rw [hmk]; split; omega; exact pv_b hb _ _
          have := l3 mk.toNat 0 mk (some (vI (smp s t c))) hmk (by omega) (by
            rw [hE]
            refine b2_c ⟨fun h => h.imp id (fun q => ?_), fun h => h.imp id (fun q => ?_)⟩
            · rw [hmk, if_neg (by omega)]; exact q.2
            · rcases Int.lt_or_le (tb s t 6) 0 with h6 | h6
              · rw [hmk, if_pos h6] at q; exact absurd q (exB_0 _)
              · rw [hmk, if_neg (by omega)] at q; exact ⟨h6, q⟩)
          rw [b2_c (show (¬ smp s t ch.toNat = n ∨ exB (fun r => n < pv s (tb s t 6) (1 + r)) 0) ↔ ¬ smp s t ch.toNat = n from ⟨fun h => h.elim id (fun q => absurd q (exB_0 _)), Or.inl⟩)] at this
          refine r_istore d_M_countsWrong_202 (Nat.le_of_ble_eq_true rfl) rfl ?_
          show WP _ _ _ _ _ [_, _, _, _, _, _, _, _, _, _, _, _] _
          refine r_iconst d_M_countsWrong_204 ?_
          refine r_istore d_M_countsWrong_205 (Nat.le_of_ble_eq_true rfl) rfl ?_
          show WP _ _ _ _ _ [_, _, _, _, _, _, _, _, _, _, _, _] _
          exact this
        have j184 : ∀ x, x = b2 (¬ smp s t ch.toNat = n) → WP (mth G l q_M_countsWrong 3 0 0 (mW G ad s) sz Q) 0 0 (mW G ad s) 184 [some (.ref (ad 0)), some (vI t), some (vI n), some (vI (tb s t 1)), some (vI ch), some (vI (tb s t 2)), some (vI ro), some (vI (smp s t c)), some (vI (tb s t 6)), x9, x10, x11] [vI x] := by
          intro x hx
          rw [hx]
          refine r_istore d_M_countsWrong_184 (Nat.le_of_ble_eq_true rfl) rfl ?_
          show WP _ _ _ _ _ [_, _, _, _, _, _, _, _, _, _, _, _] _
          refine r_iload d_M_countsWrong_186 rfl ?_
          refine r_if_ge 195 d_M_countsWrong_188 (by decide) (by unfold i32; omega) (fun g2 => ?_) (fun g2 => ?_)
          · have hk6 := k6 g2
            have := pv_b hb (tb s t 6) 0
            refine r_aload_n d_M_countsWrong_195 rfl rfl ?_
            refine r_iload d_M_countsWrong_196 rfl ?_
            refine r_iconst d_M_countsWrong_198 ?_
            refine r_cV2 d_M_countsWrong_199 lk_M_106 (c_M_payB G l ad s (tb s t 6) 0 hk6.1 (by omega)) 0 rfl rfl (Nat.le_of_ble_eq_true rfl) (rok rfl rfl) ⟨(Nat.le_of_ble_eq_true rfl), (Nat.le_of_ble_eq_true rfl)⟩ (fun r ws2 hq => ?_)
            obtain ⟨rfl, rfl⟩ := hq
            show WP _ _ _ _ _ _ (_ :: _)
            exact j202 _ (by rw [if_neg (by omega)])
          · refine r_iconst d_M_countsWrong_191 ?_
            refine r_goto 202 d_M_countsWrong_192 (by decide) ?_
            exact j202 0 (by rw [if_pos (by omega)])
        refine r_aload_n d_M_countsWrong_159 rfl rfl ?_
        refine r_get d_M_countsWrong_160 fl_M_40_7 0 rfl rfl ?_
        refine r_bipush d_M_countsWrong_163 (by decide) ?_
        refine r_iload_n d_M_countsWrong_165 rfl ?_
        refine r_imul d_M_countsWrong_166 ?_
        refine r_bipush d_M_countsWrong_167 (by decide) ?_
        refine r_iadd d_M_countsWrong_169 ?_
        refine r_iald d_M_countsWrong_170 11 rfl (by omega) ?_
        show WP _ 0 0 _ _ _ (vI (tb s t 6) :: _)
        refine r_istore d_M_countsWrong_171 (Nat.le_of_ble_eq_true rfl) rfl ?_
        show WP _ _ _ _ _ [_, _, _, _, _, _, _, _, _, _, _, _] _
        refine r_iload d_M_countsWrong_173 rfl ?_
        refine r_iload_n d_M_countsWrong_175 rfl ?_
        refine r_icmp_eq 183 d_M_countsWrong_176 (by decide) (by unfold i32; omega) (by unfold i32; omega) (fun g2 => ?_) (fun g2 => ?_)
        · refine r_iconst d_M_countsWrong_183 ?_
          exact j184 0 (by rw [b2_f]; rw [← hc2]; omega)
        · refine r_iconst d_M_countsWrong_179 ?_
          refine r_goto 184 d_M_countsWrong_180 (by decide) ?_
          exact j184 1 (by rw [b2_t]; rw [← hc2]; omega)
      · exact absurd g1 (by omega)
    | succ m ih =>
      intro c x9 x10 x11 hc hro2 hE
      refine r_iload d_M_countsWrong_134 rfl ?_
      refine r_iload d_M_countsWrong_136 rfl ?_
      refine r_icmp_gt 159 d_M_countsWrong_138 (by decide) (by unfold i32; omega) (by unfold i32; omega) (fun g1 => ?_) (fun g1 => ?_)
      · exact absurd g1 (by omega)
      have := hro2 (by omega)
      refine r_iload d_M_countsWrong_141 rfl ?_
      refine r_aload_n d_M_countsWrong_143 rfl rfl ?_
      refine r_iload_n d_M_countsWrong_144 rfl ?_
      refine r_iload d_M_countsWrong_145 rfl ?_
      refine r_cV2 d_M_countsWrong_147 lk_M_119 (c_M_many G l ad s t (1 + c) hb ht (by unfold i32; omega) k2 (by omega)) 0 rfl rfl (Nat.le_of_ble_eq_true rfl) (rok rfl rfl) ⟨(Nat.le_of_ble_eq_true rfl), (Nat.le_of_ble_eq_true rfl)⟩ (fun r ws2 hq => ?_)
      obtain ⟨rfl, rfl⟩ := hq
      show WP _ _ _ _ _ _ (_ :: _)
      refine r_iadd d_M_countsWrong_150 ?_
      refine r_istore d_M_countsWrong_151 (Nat.le_of_ble_eq_true rfl) rfl ?_
      show WP _ _ _ _ _ [_, _, _, _, _, _, _, _, _, _, _, _] _
      refine r_iinc d_M_countsWrong_153 rfl (Nat.le_of_ble_eq_true rfl) rfl ?_
      show WP _ _ _ _ _ [_, _, _, _, _, _, _, _, _, _, _, _] _
      refine r_goto 134 d_M_countsWrong_156 (by decide) ?_
      have J := ih (c + 1) x9 x10 x11 (by omega) hro2 hE
      rw [show (1 : Int) + ((c + 1 : Nat) : Int) = 1 + c + 1 by omega] at J
      exact J
  -- the first chunks of the rows
  have l1 : ∀ (m r : Nat) (x8 x9 x10 x11 : Option Value), (r : Int) + m = ro → (0 < ch → ¬ ro = 0) → ¬ exB (fun r => ch < pv s (tb s t 2) (1 + 3 * r)) r → (¬ exB (fun r => ch < pv s (tb s t 2) (1 + 3 * r)) ro.toNat → b2 (cntBad s t) = b2 (¬ smp s t ch.toNat = n ∨ (0 ≤ tb s t 6 ∧ exB (fun r => n < pv s (tb s t 6) (1 + r)) (pv s (tb s t 6) 0).toNat))) → (exB (fun r => ch < pv s (tb s t 2) (1 + 3 * r)) ro.toNat → cntBad s t) → WP (mth G l q_M_countsWrong 3 0 0 (mW G ad s) sz Q) 0 0 (mW G ad s) 96 [some (.ref (ad 0)), some (vI t), some (vI n), some (vI (tb s t 1)), some (vI ch), some (vI (tb s t 2)), some (vI ro), some (vI r), x8, x9, x10, x11] [] := by
    intro m
    induction m with
    | zero =>
      intro r x8 x9 x10 x11 hr hro2 hex hE1 hE2
      refine r_iload d_M_countsWrong_96 rfl ?_
      refine r_iload d_M_countsWrong_98 rfl ?_
      refine r_icmp_ge 128 d_M_countsWrong_100 (by decide) (by unfold i32; omega) (by unfold i32; omega) (fun g1 => ?_) (fun g1 => ?_)
      · refine r_iconst d_M_countsWrong_128 ?_
        refine r_istore d_M_countsWrong_129 (Nat.le_of_ble_eq_true rfl) rfl ?_
        show WP _ _ _ _ _ [_, _, _, _, _, _, _, _, _, _, _, _] _
        refine r_iconst d_M_countsWrong_131 ?_
        refine r_istore d_M_countsWrong_132 (Nat.le_of_ble_eq_true rfl) rfl ?_
        show WP _ _ _ _ _ [_, _, _, _, _, _, _, _, _, _, _, _] _
        exact l2 ch.toNat 0 _ _ _ (by omega) hro2 (hE1 (by rw [show ro.toNat = r by omega]; exact hex))
      · exact absurd g1 (by omega)
    | succ m ih =>
      intro r x8 x9 x10 x11 hr hro2 hex hE1 hE2
      have hp := pv_b hb (tb s t 2) (1 + 3 * r)
      refine r_iload d_M_countsWrong_96 rfl ?_
      refine r_iload d_M_countsWrong_98 rfl ?_
      refine r_icmp_ge 128 d_M_countsWrong_100 (by decide) (by unfold i32; omega) (by unfold i32; omega) (fun g1 => ?_) (fun g1 => ?_)
      · exact absurd g1 (by omega)
      refine r_aload_n d_M_countsWrong_103 rfl rfl ?_
      refine r_iload d_M_countsWrong_104 rfl ?_
      refine r_iconst d_M_countsWrong_106 ?_
      refine r_iconst d_M_countsWrong_107 ?_
      refine r_iload d_M_countsWrong_108 rfl ?_
      refine r_imul d_M_countsWrong_110 ?_
      refine r_iadd d_M_countsWrong_111 ?_
      refine r_cV2 d_M_countsWrong_112 lk_M_106 (c_M_payB G l ad s (tb s t 2) (1 + 3 * r) k2.1 (by omega)) 0 rfl rfl (Nat.le_of_ble_eq_true rfl) (rok rfl rfl) ⟨(Nat.le_of_ble_eq_true rfl), (Nat.le_of_ble_eq_true rfl)⟩ (fun r ws2 hq => ?_)
      obtain ⟨rfl, rfl⟩ := hq
      show WP _ _ _ _ _ _ (_ :: _)
      refine r_iload d_M_countsWrong_115 rfl ?_
      refine r_icmp_le 122 d_M_countsWrong_117 (by decide) (by unfold i32; omega) (by unfold i32; omega) (fun g2 => ?_) (fun g2 => ?_)
      · refine r_iinc d_M_countsWrong_122 rfl (Nat.le_of_ble_eq_true rfl) rfl ?_
        show WP _ _ _ _ _ [_, _, _, _, _, _, _, _, _, _, _, _] _
        refine r_goto 96 d_M_countsWrong_125 (by decide) ?_
        exact ih (r + 1) _ _ _ _ (by omega) hro2 (by rw [exB_s]; rintro (h | h); exact hex h; omega) hE1 hE2
      · refine r_iconst d_M_countsWrong_120 ?_
        refine r_zret d_M_countsWrong_121 rfl (by first | exact Or.inl rfl | exact Or.inr rfl) (Nat.le_of_ble_eq_true rfl) (Nat.le_of_ble_eq_true rfl) ?_
        rw [← hQ]; exact ⟨by rw [b2_t (hE2 ⟨r, by omega, by omega⟩)], rfl⟩
  have j52 : totO s (tb s t 0) = n → (0 ≤ tb s t 1 → totO s (tb s t 1) = n) → WP (mth G l q_M_countsWrong 3 0 0 (mW G ad s) sz Q) 0 0 (mW G ad s) 52 [some (.ref (ad 0)), some (vI t), some (vI n), some (vI (tb s t 1)), none, none, none, none, none, none, none, none] [] := by
    intro e0 e1
    refine r_aload_n d_M_countsWrong_52 rfl rfl ?_
    refine r_iload_n d_M_countsWrong_53 rfl ?_
    refine r_cV1 d_M_countsWrong_54 lk_M_116 (c_M_chunkCount G l ad s t ht (by unfold i32; omega) k4.1 k4.2.1) 0 rfl rfl (Nat.le_of_ble_eq_true rfl) (rok rfl rfl) ⟨(Nat.le_of_ble_eq_true rfl), (Nat.le_of_ble_eq_true rfl)⟩ (fun r ws2 hq => ?_)
    obtain ⟨rfl, rfl⟩ := hq
    show WP _ _ _ _ _ _ (_ :: _)
    rw [hc1]
    refine r_istore d_M_countsWrong_57 (Nat.le_of_ble_eq_true rfl) rfl ?_
    show WP _ _ _ _ _ [_, _, _, _, _, _, _, _, _, _, _, _] _
    refine r_aload_n d_M_countsWrong_59 rfl rfl ?_
    refine r_get d_M_countsWrong_60 fl_M_40_7 0 rfl rfl ?_
    refine r_bipush d_M_countsWrong_63 (by decide) ?_
    refine r_iload_n d_M_countsWrong_65 rfl ?_
    refine r_imul d_M_countsWrong_66 ?_
    refine r_iconst d_M_countsWrong_67 ?_
    refine r_iadd d_M_countsWrong_68 ?_
    refine r_iald d_M_countsWrong_69 11 rfl (by omega) ?_
    show WP _ 0 0 _ _ _ (vI (tb s t 2) :: _)
    refine r_istore d_M_countsWrong_70 (Nat.le_of_ble_eq_true rfl) rfl ?_
    show WP _ _ _ _ _ [_, _, _, _, _, _, _, _, _, _, _, _] _
    refine r_aload_n d_M_countsWrong_72 rfl rfl ?_
    refine r_iload d_M_countsWrong_73 rfl ?_
    refine r_iconst d_M_countsWrong_75 ?_
    refine r_cV2 d_M_countsWrong_76 lk_M_106 (c_M_payB G l ad s (tb s t 2) 0 k2.1 (by omega)) 0 rfl rfl (Nat.le_of_ble_eq_true rfl) (rok rfl rfl) ⟨(Nat.le_of_ble_eq_true rfl), (Nat.le_of_ble_eq_true rfl)⟩ (fun r ws2 hq => ?_)
    obtain ⟨rfl, rfl⟩ := hq
    show WP _ _ _ _ _ _ (_ :: _)
    rw [hr1]
    have j93 : (0 < ch → ¬ ro = 0) → WP (mth G l q_M_countsWrong 3 0 0 (mW G ad s) sz Q) 0 0 (mW G ad s) 93 [some (.ref (ad 0)), some (vI t), some (vI n), some (vI (tb s t 1)), some (vI ch), some (vI (tb s t 2)), some (vI ro), none, none, none, none, none] [] := by
      intro h
      refine r_iconst d_M_countsWrong_93 ?_
      refine r_istore d_M_countsWrong_94 (Nat.le_of_ble_eq_true rfl) rfl ?_
      show WP _ _ _ _ _ [_, _, _, _, _, _, _, _, _, _, _, _] _
      refine l1 ro.toNat 0 _ _ _ _ (by omega) h (exB_0 _) (fun hex => b2_c ⟨fun q => ?_, fun q => ?_⟩) (fun hex => ?_)
      · unfold cntBad at q
        rw [hn1, hc1, hr1] at q
        rcases q with q | q | q | q | q | q
        · exact absurd e0 q
        · exact absurd (e1 q.1) q.2
        · exact absurd q.2 (h q.1)
        · exact absurd q hex
        · exact Or.inl q
        · exact Or.inr q
      · unfold cntBad
        rw [hn1, hc1, hr1]
        rcases q with q | q
        · exact Or.inr (Or.inr (Or.inr (Or.inr (Or.inl q))))
        · exact Or.inr (Or.inr (Or.inr (Or.inr (Or.inr q))))
      · unfold cntBad
        rw [hn1, hc1, hr1]
        exact Or.inr (Or.inr (Or.inr (Or.inl hex)))
    refine r_istore d_M_countsWrong_79 (Nat.le_of_ble_eq_true rfl) rfl ?_
    show WP _ _ _ _ _ [_, _, _, _, _, _, _, _, _, _, _, _] _
    refine r_iload d_M_countsWrong_81 rfl ?_
    refine r_if_le 93 d_M_countsWrong_83 (by decide) (by unfold i32; omega) (fun g1 => ?_) (fun g1 => ?_)
    · exact j93 (fun h => absurd h (by omega))
    refine r_iload d_M_countsWrong_86 rfl ?_
    refine r_if_ne 93 d_M_countsWrong_88 (by decide) (by unfold i32; omega) (fun g2 => ?_) (fun g2 => ?_)
    · exact j93 (fun _ => g2)
    · refine r_iconst d_M_countsWrong_91 ?_
      refine r_zret d_M_countsWrong_92 rfl (by first | exact Or.inl rfl | exact Or.inr rfl) (Nat.le_of_ble_eq_true rfl) (Nat.le_of_ble_eq_true rfl) ?_
      rw [← hQ]; exact ⟨by rw [b2_t]; unfold cntBad; rw [hn1, hc1, hr1]; exact Or.inr (Or.inr (Or.inl ⟨by omega, by omega⟩)), rfl⟩
  refine r_aload_n d_M_countsWrong_0 rfl rfl ?_
  refine r_iload_n d_M_countsWrong_1 rfl ?_
  refine r_cV1 d_M_countsWrong_2 lk_M_110 (c_M_sampleCount G l ad s t ht k3.1 k3.2.1) 0 rfl rfl (Nat.le_of_ble_eq_true rfl) (rok rfl rfl) ⟨(Nat.le_of_ble_eq_true rfl), (Nat.le_of_ble_eq_true rfl)⟩ (fun r ws2 hq => ?_)
  obtain ⟨rfl, rfl⟩ := hq
  show WP _ _ _ _ _ _ (_ :: _)
  rw [hn1]
  refine r_istore_n d_M_countsWrong_5 (Nat.le_of_ble_eq_true rfl) rfl ?_
  show WP _ _ _ _ _ [_, _, _, _, _, _, _, _, _, _, _, _] _
  refine r_aload_n d_M_countsWrong_6 rfl rfl ?_
  refine r_get d_M_countsWrong_7 fl_M_40_7 0 rfl rfl ?_
  refine r_bipush d_M_countsWrong_10 (by decide) ?_
  refine r_iload_n d_M_countsWrong_12 rfl ?_
  refine r_imul d_M_countsWrong_13 ?_
  refine r_iconst d_M_countsWrong_14 ?_
  refine r_iadd d_M_countsWrong_15 ?_
  refine r_iald d_M_countsWrong_16 11 rfl (by omega) ?_
  show WP _ 0 0 _ _ _ (vI (tb s t 1) :: _)
  refine r_istore_n d_M_countsWrong_17 (Nat.le_of_ble_eq_true rfl) rfl ?_
  show WP _ _ _ _ _ [_, _, _, _, _, _, _, _, _, _, _, _] _
  refine r_aload_n d_M_countsWrong_18 rfl rfl ?_
  refine r_aload_n d_M_countsWrong_19 rfl rfl ?_
  refine r_get d_M_countsWrong_20 fl_M_40_7 0 rfl rfl ?_
  refine r_bipush d_M_countsWrong_23 (by decide) ?_
  refine r_iload_n d_M_countsWrong_25 rfl ?_
  refine r_imul d_M_countsWrong_26 ?_
  refine r_iconst d_M_countsWrong_27 ?_
  refine r_iadd d_M_countsWrong_28 ?_
  refine r_iald d_M_countsWrong_29 11 rfl (by omega) ?_
  have ht0 := tb0 (tb s t 0)
  have hp0 := pv_b hb (tb s t 0) 0
  refine r_cV1 d_M_countsWrong_30 lk_M_113 (c_M_total G l ad s (tb s t 0) hb k0) 0 rfl rfl (Nat.le_of_ble_eq_true rfl) (rok rfl rfl) ⟨(Nat.le_of_ble_eq_true rfl), (Nat.le_of_ble_eq_true rfl)⟩ (fun r ws2 hq => ?_)
  obtain ⟨rfl, rfl⟩ := hq
  show WP _ _ _ _ _ _ (_ :: _)
  refine r_iload_n d_M_countsWrong_33 rfl ?_
  refine r_icmp_ne 50 d_M_countsWrong_34 (by decide) (by show -2147483648 ≤ totO s (tb s t 0) ∧ totO s (tb s t 0) < 2147483648; omega) (by unfold i32; omega) (fun g1 => ?_) (fun g1 => ?_)
  · exact ysA _ _ _ _ _ _ _ _ (by unfold cntBad; rw [hn1]; exact Or.inl g1)
  have e0 : totO s (tb s t 0) = n := by
    by_cases h : totO s (tb s t 0) = n
    · exact h
    · exact absurd h g1
  refine r_iload_n d_M_countsWrong_37 rfl ?_
  refine r_if_lt 52 d_M_countsWrong_38 (by decide) (by unfold i32; omega) (fun g2 => ?_) (fun g2 => ?_)
  · exact j52 e0 (fun h => absurd h (by omega))
  have hk1 := k1 (by omega)
  have ht1 := tb0 (tb s t 1)
  have hp1 := pv_b hb (tb s t 1) 0
  refine r_aload_n d_M_countsWrong_41 rfl rfl ?_
  refine r_iload_n d_M_countsWrong_42 rfl ?_
  refine r_cV1 d_M_countsWrong_43 lk_M_113 (c_M_total G l ad s (tb s t 1) hb hk1) 0 rfl rfl (Nat.le_of_ble_eq_true rfl) (rok rfl rfl) ⟨(Nat.le_of_ble_eq_true rfl), (Nat.le_of_ble_eq_true rfl)⟩ (fun r ws2 hq => ?_)
  obtain ⟨rfl, rfl⟩ := hq
  show WP _ _ _ _ _ _ (_ :: _)
  refine r_iload_n d_M_countsWrong_46 rfl ?_
  refine r_icmp_eq 52 d_M_countsWrong_47 (by decide) (by show -2147483648 ≤ totO s (tb s t 1) ∧ totO s (tb s t 1) < 2147483648; omega) (by unfold i32; omega) (fun g3 => ?_) (fun g3 => ?_)
  · exact j52 e0 (fun _ => g3)
  · exact ysA _ _ _ _ _ _ _ _ (by unfold cntBad; rw [hn1]; exact Or.inr (Or.inl ⟨by omega, g3⟩))
end MODEL8
/-- home, chunk by chunk -/
noncomputable def stS (s : mS) (t : Int) : Nat → mS
  | 0 => s
  | m + 1 => sset (stS s t m) 12 (256 * t + (1 + m)) (hmO s t m)
theorem stS_c (s : mS) (t : Int) : ∀ (m c : Nat), c ≠ 12 → stS s t m c = s c
  | 0, _, _ => rfl
  | m + 1, c, h => by
    rw [← stS_c s t m c h]
    funext j
    show sset (stS s t m) 12 (256 * t + (1 + m)) (hmO s t m) c j = _
    rw [sset_at, if_neg h]
theorem dbx_cg {s u : mS} (h2 : u 2 = s 2) (h3 : u 3 = s 3) (h4 : u 4 = s 4) (h5 : u 5 = s 5) (h6 : u 6 = s 6) (p b : Int) : ∀ (n : Nat) (k : Int), dbx u p b n k = dbx s p b n k
  | 0, _ => rfl
  | n + 1, k => by
    unfold dbx dbC
    rw [h2, h3, h4, h5, h6, dbx_cg h2 h3 h4 h5 h6 p b n (k + 1)]
theorem dbx_b (s : mS) (p b : Int) : ∀ (n : Nat) (k : Int), 0 ≤ k → -1 ≤ dbx s p b n k ∧ dbx s p b n k < k + n
  | 0, k, h => by unfold dbx; omega
  | n + 1, k, h => by
    have := dbx_b s p b n (k + 1) (by omega)
    unfold dbx
    split <;> omega
