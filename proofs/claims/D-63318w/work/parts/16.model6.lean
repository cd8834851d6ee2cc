abbrev q_M_kindsWrong : Mi := (⟨"MovieBoxesModel", "kindsWrong", "()Z"⟩, prog_12_method_14_code, 6, (some .boolean))
theorem d_M_kindsWrong_228 : decode prog_12_method_14_code 228 = .ok (.iload_n 3, 1) := by decide +kernel
theorem d_M_kindsWrong_229 : decode prog_12_method_14_code 229 = .ok (.aload_n 0, 1) := by decide +kernel
theorem d_M_kindsWrong_230 : decode prog_12_method_14_code 230 = .ok (.getfield 83, 3) := by decide +kernel
set_option maxRecDepth 20000 in
theorem w_724 : Cond.fieldLink "MovieBoxesModel" 83 "MovieBoxesModel" "trackCount" "I" ∈ gt := gt_of (in_t4 (List.mem_of_getElem? (i := 4) rfl)) rfl
theorem fl_M_83_7 : FL "MovieBoxesModel" 83 7 12 false := ⟨_, _, _, "MovieBoxesModel", rfl, by decide, rfl, Or.inl w_724, Or.inl rfl⟩
theorem d_M_kindsWrong_233 : decode prog_12_method_14_code 233 = .ok (.if_icmp .ge 110, 3) := by decide +kernel
theorem d_M_kindsWrong_343 : decode prog_12_method_14_code 343 = .ok (.iload_n 2, 1) := by decide +kernel
theorem d_M_kindsWrong_344 : decode prog_12_method_14_code 344 = .ok (.ireturn, 1) := by decide +kernel
theorem d_M_kindsWrong_336 : decode prog_12_method_14_code 336 = .ok (.istore_n 2, 1) := by decide +kernel
theorem d_M_kindsWrong_337 : decode prog_12_method_14_code 337 = .ok (.iinc 3 1, 3) := by decide +kernel
theorem d_M_kindsWrong_340 : decode prog_12_method_14_code 340 = .ok (.goto (-112), 3) := by decide +kernel
theorem d_M_kindsWrong_331 : decode prog_12_method_14_code 331 = .ok (.iconst 1, 1) := by decide +kernel
theorem d_M_kindsWrong_332 : decode prog_12_method_14_code 332 = .ok (.goto 4, 3) := by decide +kernel
theorem d_M_kindsWrong_276 : decode prog_12_method_14_code 276 = .ok (.istore 5, 2) := by decide +kernel
theorem d_M_kindsWrong_278 : decode prog_12_method_14_code 278 = .ok (.iload_n 2, 1) := by decide +kernel
theorem d_M_kindsWrong_279 : decode prog_12_method_14_code 279 = .ok (.ifCond .ne 52, 3) := by decide +kernel
theorem d_M_kindsWrong_282 : decode prog_12_method_14_code 282 = .ok (.iload 4, 2) := by decide +kernel
theorem d_M_kindsWrong_284 : decode prog_12_method_14_code 284 = .ok (.iload 5, 2) := by decide +kernel
theorem d_M_kindsWrong_286 : decode prog_12_method_14_code 286 = .ok (.if_icmp .eq 45, 3) := by decide +kernel
theorem d_M_kindsWrong_289 : decode prog_12_method_14_code 289 = .ok (.aload_n 0, 1) := by decide +kernel
theorem d_M_kindsWrong_290 : decode prog_12_method_14_code 290 = .ok (.getfield 40, 3) := by decide +kernel
theorem d_M_kindsWrong_293 : decode prog_12_method_14_code 293 = .ok (.bipush 8, 2) := by decide +kernel
theorem d_M_kindsWrong_295 : decode prog_12_method_14_code 295 = .ok (.iload_n 3, 1) := by decide +kernel
theorem d_M_kindsWrong_296 : decode prog_12_method_14_code 296 = .ok (.imul, 1) := by decide +kernel
theorem d_M_kindsWrong_297 : decode prog_12_method_14_code 297 = .ok (.iconst 0, 1) := by decide +kernel
theorem d_M_kindsWrong_298 : decode prog_12_method_14_code 298 = .ok (.iadd, 1) := by decide +kernel
theorem d_M_kindsWrong_299 : decode prog_12_method_14_code 299 = .ok (.iaload, 1) := by decide +kernel
theorem d_M_kindsWrong_300 : decode prog_12_method_14_code 300 = .ok (.ifCond .lt 31, 3) := by decide +kernel
theorem d_M_kindsWrong_303 : decode prog_12_method_14_code 303 = .ok (.aload_n 0, 1) := by decide +kernel
theorem d_M_kindsWrong_304 : decode prog_12_method_14_code 304 = .ok (.getfield 40, 3) := by decide +kernel
theorem d_M_kindsWrong_307 : decode prog_12_method_14_code 307 = .ok (.bipush 8, 2) := by decide +kernel
theorem d_M_kindsWrong_309 : decode prog_12_method_14_code 309 = .ok (.iload_n 3, 1) := by decide +kernel
theorem d_M_kindsWrong_310 : decode prog_12_method_14_code 310 = .ok (.imul, 1) := by decide +kernel
theorem d_M_kindsWrong_311 : decode prog_12_method_14_code 311 = .ok (.iconst 2, 1) := by decide +kernel
theorem d_M_kindsWrong_312 : decode prog_12_method_14_code 312 = .ok (.iadd, 1) := by decide +kernel
theorem d_M_kindsWrong_313 : decode prog_12_method_14_code 313 = .ok (.iaload, 1) := by decide +kernel
theorem d_M_kindsWrong_314 : decode prog_12_method_14_code 314 = .ok (.ifCond .lt 17, 3) := by decide +kernel
theorem d_M_kindsWrong_317 : decode prog_12_method_14_code 317 = .ok (.aload_n 0, 1) := by decide +kernel
theorem d_M_kindsWrong_318 : decode prog_12_method_14_code 318 = .ok (.getfield 40, 3) := by decide +kernel
theorem d_M_kindsWrong_321 : decode prog_12_method_14_code 321 = .ok (.bipush 8, 2) := by decide +kernel
theorem d_M_kindsWrong_323 : decode prog_12_method_14_code 323 = .ok (.iload_n 3, 1) := by decide +kernel
theorem d_M_kindsWrong_324 : decode prog_12_method_14_code 324 = .ok (.imul, 1) := by decide +kernel
theorem d_M_kindsWrong_325 : decode prog_12_method_14_code 325 = .ok (.iconst 3, 1) := by decide +kernel
theorem d_M_kindsWrong_326 : decode prog_12_method_14_code 326 = .ok (.iadd, 1) := by decide +kernel
theorem d_M_kindsWrong_327 : decode prog_12_method_14_code 327 = .ok (.iaload, 1) := by decide +kernel
theorem d_M_kindsWrong_328 : decode prog_12_method_14_code 328 = .ok (.ifCond .ge 7, 3) := by decide +kernel
theorem d_M_kindsWrong_335 : decode prog_12_method_14_code 335 = .ok (.iconst 0, 1) := by decide +kernel
theorem d_M_kindsWrong_255 : decode prog_12_method_14_code 255 = .ok (.istore 4, 2) := by decide +kernel
theorem d_M_kindsWrong_257 : decode prog_12_method_14_code 257 = .ok (.aload_n 0, 1) := by decide +kernel
theorem d_M_kindsWrong_258 : decode prog_12_method_14_code 258 = .ok (.getfield 40, 3) := by decide +kernel
theorem d_M_kindsWrong_261 : decode prog_12_method_14_code 261 = .ok (.bipush 8, 2) := by decide +kernel
theorem d_M_kindsWrong_263 : decode prog_12_method_14_code 263 = .ok (.iload_n 3, 1) := by decide +kernel
theorem d_M_kindsWrong_264 : decode prog_12_method_14_code 264 = .ok (.imul, 1) := by decide +kernel
theorem d_M_kindsWrong_265 : decode prog_12_method_14_code 265 = .ok (.iconst 5, 1) := by decide +kernel
theorem d_M_kindsWrong_266 : decode prog_12_method_14_code 266 = .ok (.iadd, 1) := by decide +kernel
theorem d_M_kindsWrong_267 : decode prog_12_method_14_code 267 = .ok (.iaload, 1) := by decide +kernel
theorem d_M_kindsWrong_268 : decode prog_12_method_14_code 268 = .ok (.ifCond .lt 7, 3) := by decide +kernel
theorem d_M_kindsWrong_275 : decode prog_12_method_14_code 275 = .ok (.iconst 0, 1) := by decide +kernel
theorem d_M_kindsWrong_271 : decode prog_12_method_14_code 271 = .ok (.iconst 1, 1) := by decide +kernel
theorem d_M_kindsWrong_272 : decode prog_12_method_14_code 272 = .ok (.goto 4, 3) := by decide +kernel
theorem d_M_kindsWrong_236 : decode prog_12_method_14_code 236 = .ok (.aload_n 0, 1) := by decide +kernel
theorem d_M_kindsWrong_237 : decode prog_12_method_14_code 237 = .ok (.getfield 40, 3) := by decide +kernel
theorem d_M_kindsWrong_240 : decode prog_12_method_14_code 240 = .ok (.bipush 8, 2) := by decide +kernel
theorem d_M_kindsWrong_242 : decode prog_12_method_14_code 242 = .ok (.iload_n 3, 1) := by decide +kernel
theorem d_M_kindsWrong_243 : decode prog_12_method_14_code 243 = .ok (.imul, 1) := by decide +kernel
theorem d_M_kindsWrong_244 : decode prog_12_method_14_code 244 = .ok (.iconst 4, 1) := by decide +kernel
theorem d_M_kindsWrong_245 : decode prog_12_method_14_code 245 = .ok (.iadd, 1) := by decide +kernel
theorem d_M_kindsWrong_246 : decode prog_12_method_14_code 246 = .ok (.iaload, 1) := by decide +kernel
theorem d_M_kindsWrong_247 : decode prog_12_method_14_code 247 = .ok (.ifCond .lt 7, 3) := by decide +kernel
theorem d_M_kindsWrong_254 : decode prog_12_method_14_code 254 = .ok (.iconst 0, 1) := by decide +kernel
theorem d_M_kindsWrong_250 : decode prog_12_method_14_code 250 = .ok (.iconst 1, 1) := by decide +kernel
theorem d_M_kindsWrong_251 : decode prog_12_method_14_code 251 = .ok (.goto 4, 3) := by decide +kernel
theorem d_M_kindsWrong_224 : decode prog_12_method_14_code 224 = .ok (.iconst 1, 1) := by decide +kernel
theorem d_M_kindsWrong_225 : decode prog_12_method_14_code 225 = .ok (.ireturn, 1) := by decide +kernel
theorem d_M_kindsWrong_32 : decode prog_12_method_14_code 32 = .ok (.iload_n 3, 1) := by decide +kernel
theorem d_M_kindsWrong_33 : decode prog_12_method_14_code 33 = .ok (.aload_n 0, 1) := by decide +kernel
theorem d_M_kindsWrong_34 : decode prog_12_method_14_code 34 = .ok (.getfield 64, 3) := by decide +kernel
theorem d_M_kindsWrong_37 : decode prog_12_method_14_code 37 = .ok (.if_icmp .ge 166, 3) := by decide +kernel
theorem d_M_kindsWrong_203 : decode prog_12_method_14_code 203 = .ok (.iload_n 1, 1) := by decide +kernel
theorem d_M_kindsWrong_204 : decode prog_12_method_14_code 204 = .ok (.iconst 1, 1) := by decide +kernel
theorem d_M_kindsWrong_205 : decode prog_12_method_14_code 205 = .ok (.if_icmp .ne 19, 3) := by decide +kernel
theorem d_M_kindsWrong_208 : decode prog_12_method_14_code 208 = .ok (.aload_n 0, 1) := by decide +kernel
theorem d_M_kindsWrong_209 : decode prog_12_method_14_code 209 = .ok (.getfield 83, 3) := by decide +kernel
theorem d_M_kindsWrong_212 : decode prog_12_method_14_code 212 = .ok (.iconst 1, 1) := by decide +kernel
theorem d_M_kindsWrong_213 : decode prog_12_method_14_code 213 = .ok (.if_icmp .lt 11, 3) := by decide +kernel
theorem d_M_kindsWrong_216 : decode prog_12_method_14_code 216 = .ok (.aload_n 0, 1) := by decide +kernel
theorem d_M_kindsWrong_217 : decode prog_12_method_14_code 217 = .ok (.getfield 83, 3) := by decide +kernel
theorem d_M_kindsWrong_220 : decode prog_12_method_14_code 220 = .ok (.iconst 2, 1) := by decide +kernel
theorem d_M_kindsWrong_221 : decode prog_12_method_14_code 221 = .ok (.if_icmp .le 5, 3) := by decide +kernel
theorem d_M_kindsWrong_226 : decode prog_12_method_14_code 226 = .ok (.iconst 0, 1) := by decide +kernel
theorem d_M_kindsWrong_227 : decode prog_12_method_14_code 227 = .ok (.istore_n 3, 1) := by decide +kernel
theorem d_M_kindsWrong_197 : decode prog_12_method_14_code 197 = .ok (.iinc 3 1, 3) := by decide +kernel
theorem d_M_kindsWrong_200 : decode prog_12_method_14_code 200 = .ok (.goto (-168), 3) := by decide +kernel
theorem d_M_kindsWrong_140 : decode prog_12_method_14_code 140 = .ok (.istore 4, 2) := by decide +kernel
theorem d_M_kindsWrong_142 : decode prog_12_method_14_code 142 = .ok (.iload 4, 2) := by decide +kernel
theorem d_M_kindsWrong_144 : decode prog_12_method_14_code 144 = .ok (.ifCond .lt 53, 3) := by decide +kernel
theorem d_M_kindsWrong_147 : decode prog_12_method_14_code 147 = .ok (.aload_n 0, 1) := by decide +kernel
theorem d_M_kindsWrong_148 : decode prog_12_method_14_code 148 = .ok (.getfield 83, 3) := by decide +kernel
theorem d_M_kindsWrong_151 : decode prog_12_method_14_code 151 = .ok (.iconst 2, 1) := by decide +kernel
theorem d_M_kindsWrong_152 : decode prog_12_method_14_code 152 = .ok (.if_icmp .gt 45, 3) := by decide +kernel
theorem d_M_kindsWrong_188 : decode prog_12_method_14_code 188 = .ok (.istore_n 2, 1) := by decide +kernel
theorem d_M_kindsWrong_189 : decode prog_12_method_14_code 189 = .ok (.aload_n 0, 1) := by decide +kernel
theorem d_M_kindsWrong_190 : decode prog_12_method_14_code 190 = .ok (.getfield 40, 3) := by decide +kernel
theorem d_M_kindsWrong_193 : decode prog_12_method_14_code 193 = .ok (.iload 5, 2) := by decide +kernel
theorem d_M_kindsWrong_195 : decode prog_12_method_14_code 195 = .ok (.iload_n 3, 1) := by decide +kernel
theorem d_M_kindsWrong_196 : decode prog_12_method_14_code 196 = .ok (.iastore, 1) := by decide +kernel
theorem d_M_kindsWrong_155 : decode prog_12_method_14_code 155 = .ok (.bipush 8, 2) := by decide +kernel
theorem d_M_kindsWrong_157 : decode prog_12_method_14_code 157 = .ok (.aload_n 0, 1) := by decide +kernel
theorem d_M_kindsWrong_158 : decode prog_12_method_14_code 158 = .ok (.getfield 83, 3) := by decide +kernel
theorem d_M_kindsWrong_161 : decode prog_12_method_14_code 161 = .ok (.iconst 1, 1) := by decide +kernel
theorem d_M_kindsWrong_162 : decode prog_12_method_14_code 162 = .ok (.isub, 1) := by decide +kernel
theorem d_M_kindsWrong_163 : decode prog_12_method_14_code 163 = .ok (.imul, 1) := by decide +kernel
theorem d_M_kindsWrong_164 : decode prog_12_method_14_code 164 = .ok (.iload 4, 2) := by decide +kernel
theorem d_M_kindsWrong_166 : decode prog_12_method_14_code 166 = .ok (.iadd, 1) := by decide +kernel
theorem d_M_kindsWrong_167 : decode prog_12_method_14_code 167 = .ok (.istore 5, 2) := by decide +kernel
theorem d_M_kindsWrong_169 : decode prog_12_method_14_code 169 = .ok (.iload_n 2, 1) := by decide +kernel
theorem d_M_kindsWrong_170 : decode prog_12_method_14_code 170 = .ok (.ifCond .ne 13, 3) := by decide +kernel
theorem d_M_kindsWrong_183 : decode prog_12_method_14_code 183 = .ok (.iconst 1, 1) := by decide +kernel
theorem d_M_kindsWrong_184 : decode prog_12_method_14_code 184 = .ok (.goto 4, 3) := by decide +kernel
theorem d_M_kindsWrong_173 : decode prog_12_method_14_code 173 = .ok (.aload_n 0, 1) := by decide +kernel
theorem d_M_kindsWrong_174 : decode prog_12_method_14_code 174 = .ok (.getfield 40, 3) := by decide +kernel
theorem d_M_kindsWrong_177 : decode prog_12_method_14_code 177 = .ok (.iload 5, 2) := by decide +kernel
theorem d_M_kindsWrong_179 : decode prog_12_method_14_code 179 = .ok (.iaload, 1) := by decide +kernel
theorem d_M_kindsWrong_180 : decode prog_12_method_14_code 180 = .ok (.ifCond .lt 7, 3) := by decide +kernel
theorem d_M_kindsWrong_187 : decode prog_12_method_14_code 187 = .ok (.iconst 0, 1) := by decide +kernel
theorem d_M_kindsWrong_117 : decode prog_12_method_14_code 117 = .ok (.aload_n 0, 1) := by decide +kernel
theorem d_M_kindsWrong_118 : decode prog_12_method_14_code 118 = .ok (.getfield 25, 3) := by decide +kernel
theorem d_M_kindsWrong_121 : decode prog_12_method_14_code 121 = .ok (.iload_n 3, 1) := by decide +kernel
theorem d_M_kindsWrong_122 : decode prog_12_method_14_code 122 = .ok (.iaload, 1) := by decide +kernel
theorem d_M_kindsWrong_123 : decode prog_12_method_14_code 123 = .ok (.iconst 2, 1) := by decide +kernel
theorem d_M_kindsWrong_124 : decode prog_12_method_14_code 124 = .ok (.if_icmp .ne 15, 3) := by decide +kernel
theorem d_M_kindsWrong_139 : decode prog_12_method_14_code 139 = .ok (.iconst (-1), 1) := by decide +kernel
theorem d_M_kindsWrong_127 : decode prog_12_method_14_code 127 = .ok (.aload_n 0, 1) := by decide +kernel
theorem d_M_kindsWrong_128 : decode prog_12_method_14_code 128 = .ok (.getfield 19, 3) := by decide +kernel
theorem d_M_kindsWrong_131 : decode prog_12_method_14_code 131 = .ok (.iload_n 3, 1) := by decide +kernel
theorem d_M_kindsWrong_132 : decode prog_12_method_14_code 132 = .ok (.iaload, 1) := by decide +kernel
theorem d_M_kindsWrong_133 : decode prog_12_method_14_code 133 = .ok (.invokestatic 99, 3) := by decide +kernel
set_option maxRecDepth 20000 in
theorem w_817 : Cond.methodLink "MovieBoxesModel" 99 ⟨"MovieBoxesModel", "kindOf", "(I)I"⟩ ∈ gt := gt_of (in_t4 (List.mem_of_getElem? (i := 97) rfl)) rfl
set_option maxRecDepth 20000 in
theorem w_818 : Cond.static ⟨"MovieBoxesModel", "kindOf", "(I)I"⟩ ∈ gt := gt_of (in_t4 (List.mem_of_getElem? (i := 98) rfl)) rfl
set_option maxRecDepth 20000 in
theorem w_819 : Cond.code ⟨"MovieBoxesModel", "kindOf", "(I)I"⟩ prog_12_method_12_code 1 (some .int) ∈ gt := gt_of (in_t4 (List.mem_of_getElem? (i := 99) rfl)) rfl
theorem lk_M_99 : LkS "MovieBoxesModel" 99 q_M_kindOf 1 := ⟨(List.forall_mem_cons.mpr ⟨w_817, (List.forall_mem_cons.mpr ⟨w_818, (List.forall_mem_cons.mpr ⟨w_8, (fun _ h => absurd h List.not_mem_nil)⟩)⟩)⟩), w_819, by decide +kernel⟩
theorem d_M_kindsWrong_136 : decode prog_12_method_14_code 136 = .ok (.goto 4, 3) := by decide +kernel
theorem d_M_kindsWrong_68 : decode prog_12_method_14_code 68 = .ok (.aload_n 0, 1) := by decide +kernel
theorem d_M_kindsWrong_69 : decode prog_12_method_14_code 69 = .ok (.getfield 25, 3) := by decide +kernel
theorem d_M_kindsWrong_72 : decode prog_12_method_14_code 72 = .ok (.iload_n 3, 1) := by decide +kernel
theorem d_M_kindsWrong_73 : decode prog_12_method_14_code 73 = .ok (.iaload, 1) := by decide +kernel
theorem d_M_kindsWrong_74 : decode prog_12_method_14_code 74 = .ok (.iconst 1, 1) := by decide +kernel
theorem d_M_kindsWrong_75 : decode prog_12_method_14_code 75 = .ok (.if_icmp .ne 42, 3) := by decide +kernel
theorem d_M_kindsWrong_78 : decode prog_12_method_14_code 78 = .ok (.aload_n 0, 1) := by decide +kernel
theorem d_M_kindsWrong_79 : decode prog_12_method_14_code 79 = .ok (.getfield 19, 3) := by decide +kernel
theorem d_M_kindsWrong_82 : decode prog_12_method_14_code 82 = .ok (.iload_n 3, 1) := by decide +kernel
theorem d_M_kindsWrong_83 : decode prog_12_method_14_code 83 = .ok (.iaload, 1) := by decide +kernel
theorem d_M_kindsWrong_84 : decode prog_12_method_14_code 84 = .ok (.bipush 84, 2) := by decide +kernel
theorem d_M_kindsWrong_86 : decode prog_12_method_14_code 86 = .ok (.if_icmp .ne 31, 3) := by decide +kernel
theorem d_M_kindsWrong_89 : decode prog_12_method_14_code 89 = .ok (.aload_n 0, 1) := by decide +kernel
theorem d_M_kindsWrong_90 : decode prog_12_method_14_code 90 = .ok (.getfield 83, 3) := by decide +kernel
theorem d_M_kindsWrong_93 : decode prog_12_method_14_code 93 = .ok (.iconst 2, 1) := by decide +kernel
theorem d_M_kindsWrong_94 : decode prog_12_method_14_code 94 = .ok (.if_icmp .ge 13, 3) := by decide +kernel
theorem d_M_kindsWrong_107 : decode prog_12_method_14_code 107 = .ok (.aload_n 0, 1) := by decide +kernel
theorem d_M_kindsWrong_108 : decode prog_12_method_14_code 108 = .ok (.dup, 1) := by decide +kernel
theorem d_M_kindsWrong_109 : decode prog_12_method_14_code 109 = .ok (.getfield 83, 3) := by decide +kernel
theorem d_M_kindsWrong_112 : decode prog_12_method_14_code 112 = .ok (.iconst 1, 1) := by decide +kernel
theorem d_M_kindsWrong_113 : decode prog_12_method_14_code 113 = .ok (.iadd, 1) := by decide +kernel
theorem d_M_kindsWrong_114 : decode prog_12_method_14_code 114 = .ok (.putfield 83, 3) := by decide +kernel
theorem d_M_kindsWrong_97 : decode prog_12_method_14_code 97 = .ok (.aload_n 0, 1) := by decide +kernel
theorem d_M_kindsWrong_98 : decode prog_12_method_14_code 98 = .ok (.getfield 37, 3) := by decide +kernel
set_option maxRecDepth 20000 in
theorem w_725 : Cond.fieldLink "MovieBoxesModel" 37 "MovieBoxesModel" "trackBox" "[I" ∈ gt := gt_of (in_t4 (List.mem_of_getElem? (i := 5) rfl)) rfl
theorem fl_M_37_7 : FL "MovieBoxesModel" 37 7 13 true := ⟨_, _, _, "MovieBoxesModel", rfl, by decide, rfl, Or.inl w_725, Or.inl rfl⟩
theorem d_M_kindsWrong_101 : decode prog_12_method_14_code 101 = .ok (.aload_n 0, 1) := by decide +kernel
theorem d_M_kindsWrong_102 : decode prog_12_method_14_code 102 = .ok (.getfield 83, 3) := by decide +kernel
theorem d_M_kindsWrong_105 : decode prog_12_method_14_code 105 = .ok (.iload_n 3, 1) := by decide +kernel
theorem d_M_kindsWrong_106 : decode prog_12_method_14_code 106 = .ok (.iastore, 1) := by decide +kernel
theorem d_M_kindsWrong_40 : decode prog_12_method_14_code 40 = .ok (.aload_n 0, 1) := by decide +kernel
theorem d_M_kindsWrong_41 : decode prog_12_method_14_code 41 = .ok (.getfield 25, 3) := by decide +kernel
theorem d_M_kindsWrong_44 : decode prog_12_method_14_code 44 = .ok (.iload_n 3, 1) := by decide +kernel
theorem d_M_kindsWrong_45 : decode prog_12_method_14_code 45 = .ok (.iaload, 1) := by decide +kernel
theorem d_M_kindsWrong_46 : decode prog_12_method_14_code 46 = .ok (.ifCond .ne 22, 3) := by decide +kernel
theorem d_M_kindsWrong_49 : decode prog_12_method_14_code 49 = .ok (.aload_n 0, 1) := by decide +kernel
theorem d_M_kindsWrong_50 : decode prog_12_method_14_code 50 = .ok (.getfield 19, 3) := by decide +kernel
theorem d_M_kindsWrong_53 : decode prog_12_method_14_code 53 = .ok (.iload_n 3, 1) := by decide +kernel
theorem d_M_kindsWrong_54 : decode prog_12_method_14_code 54 = .ok (.iaload, 1) := by decide +kernel
theorem d_M_kindsWrong_55 : decode prog_12_method_14_code 55 = .ok (.bipush 77, 2) := by decide +kernel
theorem d_M_kindsWrong_57 : decode prog_12_method_14_code 57 = .ok (.if_icmp .ne 11, 3) := by decide +kernel
theorem d_M_kindsWrong_60 : decode prog_12_method_14_code 60 = .ok (.iinc 1 1, 3) := by decide +kernel
theorem d_M_kindsWrong_63 : decode prog_12_method_14_code 63 = .ok (.aload_n 0, 1) := by decide +kernel
theorem d_M_kindsWrong_64 : decode prog_12_method_14_code 64 = .ok (.iload_n 3, 1) := by decide +kernel
theorem d_M_kindsWrong_65 : decode prog_12_method_14_code 65 = .ok (.putfield 96, 3) := by decide +kernel
set_option maxRecDepth 20000 in
theorem w_723 : Cond.fieldLink "MovieBoxesModel" 96 "MovieBoxesModel" "movie" "I" ∈ gt := gt_of (in_t4 (List.mem_of_getElem? (i := 3) rfl)) rfl
theorem fl_M_96_7 : FL "MovieBoxesModel" 96 7 11 false := ⟨_, _, _, "MovieBoxesModel", rfl, by decide, rfl, Or.inl w_723, Or.inl rfl⟩
theorem d_M_kindsWrong_11 : decode prog_12_method_14_code 11 = .ok (.iload_n 3, 1) := by decide +kernel
theorem d_M_kindsWrong_12 : decode prog_12_method_14_code 12 = .ok (.bipush 16, 2) := by decide +kernel
theorem d_M_kindsWrong_14 : decode prog_12_method_14_code 14 = .ok (.if_icmp .ge 16, 3) := by decide +kernel
theorem d_M_kindsWrong_30 : decode prog_12_method_14_code 30 = .ok (.iconst 0, 1) := by decide +kernel
theorem d_M_kindsWrong_31 : decode prog_12_method_14_code 31 = .ok (.istore_n 3, 1) := by decide +kernel
theorem d_M_kindsWrong_17 : decode prog_12_method_14_code 17 = .ok (.aload_n 0, 1) := by decide +kernel
theorem d_M_kindsWrong_18 : decode prog_12_method_14_code 18 = .ok (.getfield 40, 3) := by decide +kernel
theorem d_M_kindsWrong_21 : decode prog_12_method_14_code 21 = .ok (.iload_n 3, 1) := by decide +kernel
theorem d_M_kindsWrong_22 : decode prog_12_method_14_code 22 = .ok (.iconst (-1), 1) := by decide +kernel
theorem d_M_kindsWrong_23 : decode prog_12_method_14_code 23 = .ok (.iastore, 1) := by decide +kernel
theorem d_M_kindsWrong_24 : decode prog_12_method_14_code 24 = .ok (.iinc 3 1, 3) := by decide +kernel
theorem d_M_kindsWrong_27 : decode prog_12_method_14_code 27 = .ok (.goto (-16), 3) := by decide +kernel
theorem d_M_kindsWrong_0 : decode prog_12_method_14_code 0 = .ok (.iconst 0, 1) := by decide +kernel
theorem d_M_kindsWrong_1 : decode prog_12_method_14_code 1 = .ok (.istore_n 1, 1) := by decide +kernel
theorem d_M_kindsWrong_2 : decode prog_12_method_14_code 2 = .ok (.aload_n 0, 1) := by decide +kernel
theorem d_M_kindsWrong_3 : decode prog_12_method_14_code 3 = .ok (.iconst 0, 1) := by decide +kernel
theorem d_M_kindsWrong_4 : decode prog_12_method_14_code 4 = .ok (.putfield 83, 3) := by decide +kernel
theorem d_M_kindsWrong_7 : decode prog_12_method_14_code 7 = .ok (.iconst 0, 1) := by decide +kernel
theorem d_M_kindsWrong_8 : decode prog_12_method_14_code 8 = .ok (.istore_n 2, 1) := by decide +kernel
theorem d_M_kindsWrong_9 : decode prog_12_method_14_code 9 = .ok (.iconst 0, 1) := by decide +kernel
theorem d_M_kindsWrong_10 : decode prog_12_method_14_code 10 = .ok (.istore_n 3, 1) := by decide +kernel
/-! ===== the model: kindsWrong ===== -/
/-- who holds a box -/
def hoOk (s : mS) : Prop := ∀ k, 0 ≤ k → k < s 0 1 → (s 6 k = 0 → s 7 k = -1) ∧ (s 6 k = 1 → 0 ≤ s 7 k ∧ s 7 k < k ∧ s 6 (s 7 k) = 0 ∧ s 4 (s 7 k) = 77) ∧ (s 6 k = 2 → 0 ≤ s 7 k ∧ s 7 k < k ∧ s 6 (s 7 k) = 1 ∧ s 4 (s 7 k) = 84)
def fl16 (s : mS) : Nat → mS
  | 0 => s
  | k + 1 => sset (fl16 s k) 11 k (-1)
def kdA (t : mS) (k : Int) : mS := if t 6 k = 0 ∧ t 4 k = 77 then sset t 0 2 k else t
def kdM (t : mS) (mv k : Int) : Int := if t 6 k = 0 ∧ t 4 k = 77 then mv + 1 else mv
def kdB (t : mS) (k : Int) : mS := if t 6 k = 1 ∧ t 4 k = 84 then sset (if t 0 3 < 2 then sset t 10 (t 0 3) k else t) 0 3 (t 0 3 + 1) else t
def kdK (t : mS) (k : Int) : Int := if t 6 k = 2 then kdO (t 4 k) else -1
def kdC (t : mS) (k : Int) : mS := if 0 ≤ kdK t k ∧ t 0 3 ≤ 2 then sset t 11 (8 * (t 0 3 - 1) + kdK t k) k else t
def kdW (t : mS) (wr k : Int) : Int := if 0 ≤ kdK t k ∧ t 0 3 ≤ 2 then (if ¬ wr = 0 ∨ 0 ≤ t 11 (8 * (t 0 3 - 1) + kdK t k) then 1 else 0) else wr
def kdF (s : mS) : Nat → mS × Int × Int
  | 0 => (fl16 (sset s 0 3 0) 16, 0, 0)
  | k + 1 => (kdC (kdB (kdA (kdF s k).1 k) k) k, kdM (kdF s k).1 (kdF s k).2.1 k, kdW (kdB (kdA (kdF s k).1 k) k) (kdF s k).2.2 k)
def kdE (t : mS) (wr : Int) : Nat → Int
  | 0 => wr
  | j + 1 => if ¬ kdE t wr j = 0 ∨ (0 ≤ tb t j 4 ↔ 0 ≤ tb t j 5) ∨ tb t j 0 < 0 ∨ tb t j 2 < 0 ∨ tb t j 3 < 0 then 1 else 0
/-- the answer of kindsWrong (1: wrong), and its state -/
def kdR (s : mS) : Int := if ¬ (kdF s (s 0 1).toNat).2.1 = 1 ∨ (kdF s (s 0 1).toNat).1 0 3 < 1 ∨ 2 < (kdF s (s 0 1).toNat).1 0 3 then 1 else kdE (kdF s (s 0 1).toNat).1 (kdF s (s 0 1).toNat).2.2 ((kdF s (s 0 1).toNat).1 0 3).toNat
theorem kdO_b (t : Int) : -1 ≤ kdO t ∧ kdO t ≤ 7 := by unfold kdO; (repeat' split) <;> omega
theorem kdK_b (t : mS) (k : Int) : -1 ≤ kdK t k ∧ kdK t k ≤ 7 := by
  unfold kdK
  split
  · exact kdO_b _
  · omega
theorem kdE_b (t : mS) (wr : Int) (h : wr = 0 ∨ wr = 1) : ∀ j, kdE t wr j = 0 ∨ kdE t wr j = 1
  | 0 => h
  | j + 1 => by unfold kdE; split <;> omega
/-- what the second loop keeps -/
def kdI (s t : mS) (k : Nat) (mv wr : Int) : Prop := (∀ c, c = 1 ∨ 2 ≤ c → c ≠ 10 → c ≠ 11 → t c = s c) ∧ t 0 0 = s 0 0 ∧ t 0 1 = s 0 1 ∧ t 0 4 = s 0 4 ∧ 0 ≤ t 0 3 ∧ t 0 3 ≤ k ∧ (∀ j : Int, 0 ≤ j → j < (k : Int) → s 6 j = 1 → s 4 j = 84 → 1 ≤ t 0 3) ∧ (∀ j, 0 ≤ j → j < 16 → -1 ≤ t 11 j ∧ t 11 j < k) ∧ 0 ≤ mv ∧ mv ≤ k ∧ (wr = 0 ∨ wr = 1)
section MODEL6
variable (G : gG) (l : Launch) (ad : Nat → Nat)
theorem c_M_kindsWrong (s : mS) (hr : rdOk s) (ho : hoOk s) : Ct G l q_M_kindsWrong 1 0 0 [.ref (ad 0)] (mW G ad s) (fun r w => r = some (vI (kdR s)) ∧ w = mW G ad (kdF s (s 0 1).toNat).1) := by
  refine Ct.intro [some (.ref (ad 0)), none, none, none, none, none] (by decide) (Nat.le_of_ble_eq_true rfl) rfl (fun sz => ?_)
  generalize hQ : (fun r w => r = some (vI (kdR s)) ∧ w = mW G ad (kdF s (s 0 1).toNat).1) = Q
  obtain ⟨hcn, hbx⟩ := hr
  -- the last loop
  have l3 : ∀ (t : mS) (wr : Int) (m j : Nat) (x4 x5 : Option Value), (kdF s (s 0 1).toNat).1 = t → (kdF s (s 0 1).toNat).2.1 = 1 → (kdF s (s 0 1).toNat).2.2 = wr → (wr = 0 ∨ wr = 1) → 1 ≤ t 0 3 → t 0 3 ≤ 2 → (j : Int) + m = t 0 3 → (∀ j, 0 ≤ j → j < 16 → -1 ≤ t 11 j ∧ t 11 j < 20) → WP (mth G l q_M_kindsWrong 1 0 0 (mW G ad s) sz Q) 0 0 (mW G ad t) 228 [some (.ref (ad 0)), some (vI 1), some (vI (kdE t wr j)), some (vI j), x4, x5] [] := by
    intro t wr m
    induction m with
    | zero =>
      intro j x4 x5 e1 e2 e3 hw h1 h2 hj h11
      have hb := kdE_b t wr hw j
      refine r_iload_n d_M_kindsWrong_228 rfl ?_
      refine r_aload_n d_M_kindsWrong_229 rfl rfl ?_
      refine r_get d_M_kindsWrong_230 fl_M_83_7 0 rfl rfl ?_
      refine r_icmp_ge 343 d_M_kindsWrong_233 (by decide) (by unfold i32; omega) (by unfold i32; omega) (fun g1 => ?_) (fun g1 => ?_)
      · refine r_iload_n d_M_kindsWrong_343 rfl ?_
        refine r_zret d_M_kindsWrong_344 rfl hb (Nat.le_of_ble_eq_true rfl) (Nat.le_of_ble_eq_true rfl) ?_
        rw [← hQ, e1]
        refine ⟨?_, rfl⟩
        unfold kdR
        rw [e1, e2, e3, if_neg (by omega), show (t 0 3).toNat = j by omega]
      · exact absurd g1 (by omega)
    | succ m ih =>
      intro j x4 x5 e1 e2 e3 hw h1 h2 hj h11
      have hb := kdE_b t wr hw j
      have t0 := h11 (8 * (j : Int) + 0) (by omega) (by omega)
      have t2 := h11 (8 * (j : Int) + 2) (by omega) (by omega)
      have t3 := h11 (8 * (j : Int) + 3) (by omega) (by omega)
      have t4 := h11 (8 * (j : Int) + 4) (by omega) (by omega)
      have t5 := h11 (8 * (j : Int) + 5) (by omega) (by omega)
      have J : ∀ w, w = kdE t wr (j + 1) → ∀ (x4 x5 : Option Value), WP (mth G l q_M_kindsWrong 1 0 0 (mW G ad s) sz Q) 0 0 (mW G ad t) 336 [some (.ref (ad 0)), some (vI 1), some (vI (kdE t wr j)), some (vI j), x4, x5] [vI w] := by
        intro w hw2 x4 x5
        refine r_istore_n d_M_kindsWrong_336 (Nat.le_of_ble_eq_true rfl) rfl ?_
        show WP _ _ _ _ _ [_, _, _, _, _, _] _
        refine r_iinc d_M_kindsWrong_337 rfl (Nat.le_of_ble_eq_true rfl) rfl ?_
        show WP _ _ _ _ _ [_, _, _, _, _, _] _
        refine r_goto 228 d_M_kindsWrong_340 (by decide) ?_
        rw [hw2]
        exact ih (j + 1) x4 x5 e1 e2 e3 hw h1 h2 (by omega) h11
      have eE : kdE t wr (j + 1) = if ¬ kdE t wr j = 0 ∨ (0 ≤ tb t j 4 ↔ 0 ≤ tb t j 5) ∨ tb t j 0 < 0 ∨ tb t j 2 < 0 ∨ tb t j 3 < 0 then 1 else 0 := rfl
      rw [eE] at J
      have yes : (¬ kdE t wr j = 0 ∨ (0 ≤ tb t j 4 ↔ 0 ≤ tb t j 5) ∨ tb t j 0 < 0 ∨ tb t j 2 < 0 ∨ tb t j 3 < 0) → ∀ (x4 x5 : Option Value), WP (mth G l q_M_kindsWrong 1 0 0 (mW G ad s) sz Q) 0 0 (mW G ad t) 331 [some (.ref (ad 0)), some (vI 1), some (vI (kdE t wr j)), some (vI j), x4, x5] [] := by
        intro h x4 x5
        refine r_iconst d_M_kindsWrong_331 ?_
        refine r_goto 336 d_M_kindsWrong_332 (by decide) ?_
        exact J 1 (by rw [if_pos h]) _ _
      have j276 : ∀ n w, n = (if 0 ≤ tb t j 4 then 1 else 0) → w = (if 0 ≤ tb t j 5 then 1 else 0) → WP (mth G l q_M_kindsWrong 1 0 0 (mW G ad s) sz Q) 0 0 (mW G ad t) 276 [some (.ref (ad 0)), some (vI 1), some (vI (kdE t wr j)), some (vI j), some (vI n), x5] [vI w] := by
        intro n w hn hw2
        have hn2 : (n = w) ↔ (0 ≤ tb t j 4 ↔ 0 ≤ tb t j 5) := by
          rw [hn, hw2]
          by_cases a : 0 ≤ tb t j 4 <;> by_cases b : 0 ≤ tb t j 5 <;> simp [a, b]
        have hnb : n = 0 ∨ n = 1 := by rw [hn]; split <;> omega
        have hwb : w = 0 ∨ w = 1 := by rw [hw2]; split <;> omega
        refine r_istore d_M_kindsWrong_276 (Nat.le_of_ble_eq_true rfl) rfl ?_
        show WP _ _ _ _ _ [_, _, _, _, _, _] _
        refine r_iload_n d_M_kindsWrong_278 rfl ?_
        refine r_if_ne 331 d_M_kindsWrong_279 (by decide) (by unfold i32; omega) (fun g1 => ?_) (fun g1 => ?_)
        · exact yes (Or.inl g1) _ _
        refine r_iload d_M_kindsWrong_282 rfl ?_
        refine r_iload d_M_kindsWrong_284 rfl ?_
        refine r_icmp_eq 331 d_M_kindsWrong_286 (by decide) (by unfold i32; omega) (by unfold i32; omega) (fun g2 => ?_) (fun g2 => ?_)
        · exact yes (Or.inr (Or.inl (hn2.mp g2))) _ _
        refine r_aload_n d_M_kindsWrong_289 rfl rfl ?_
        refine r_get d_M_kindsWrong_290 fl_M_40_7 0 rfl rfl ?_
        refine r_bipush d_M_kindsWrong_293 (by decide) ?_
        refine r_iload_n d_M_kindsWrong_295 rfl ?_
        refine r_imul d_M_kindsWrong_296 ?_
        refine r_iconst d_M_kindsWrong_297 ?_
        refine r_iadd d_M_kindsWrong_298 ?_
        refine r_iald d_M_kindsWrong_299 11 rfl (by omega) ?_
        refine r_if_lt 331 d_M_kindsWrong_300 (by decide) (by unfold i32; omega) (fun g3 => ?_) (fun g3 => ?_)
        · exact yes (Or.inr (Or.inr (Or.inl g3))) _ _
        refine r_aload_n d_M_kindsWrong_303 rfl rfl ?_
        refine r_get d_M_kindsWrong_304 fl_M_40_7 0 rfl rfl ?_
        refine r_bipush d_M_kindsWrong_307 (by decide) ?_
        refine r_iload_n d_M_kindsWrong_309 rfl ?_
        refine r_imul d_M_kindsWrong_310 ?_
        refine r_iconst d_M_kindsWrong_311 ?_
        refine r_iadd d_M_kindsWrong_312 ?_
        refine r_iald d_M_kindsWrong_313 11 rfl (by omega) ?_
        refine r_if_lt 331 d_M_kindsWrong_314 (by decide) (by unfold i32; omega) (fun g4 => ?_) (fun g4 => ?_)
        · exact yes (Or.inr (Or.inr (Or.inr (Or.inl g4)))) _ _
        refine r_aload_n d_M_kindsWrong_317 rfl rfl ?_
        refine r_get d_M_kindsWrong_318 fl_M_40_7 0 rfl rfl ?_
        refine r_bipush d_M_kindsWrong_321 (by decide) ?_
        refine r_iload_n d_M_kindsWrong_323 rfl ?_
        refine r_imul d_M_kindsWrong_324 ?_
        refine r_iconst d_M_kindsWrong_325 ?_
        refine r_iadd d_M_kindsWrong_326 ?_
        refine r_iald d_M_kindsWrong_327 11 rfl (by omega) ?_
        refine r_if_ge 335 d_M_kindsWrong_328 (by decide) (by unfold i32; omega) (fun g5 => ?_) (fun g5 => ?_)
        · refine r_iconst d_M_kindsWrong_335 ?_
          refine J 0 ?_ _ _
          rw [if_neg]
          intro h
          rcases h with h | h | h | h | h
          · exact g1 h
          · exact g2 (hn2.mpr h)
          · exact g3 h
          · exact g4 h
          · exact absurd h (Int.not_lt.mpr g5)
        · exact yes (Or.inr (Or.inr (Or.inr (Or.inr (Int.not_le.mp g5))))) _ _
      have j255 : ∀ n, n = (if 0 ≤ tb t j 4 then 1 else 0) → WP (mth G l q_M_kindsWrong 1 0 0 (mW G ad s) sz Q) 0 0 (mW G ad t) 255 [some (.ref (ad 0)), some (vI 1), some (vI (kdE t wr j)), some (vI j), x4, x5] [vI n] := by
        intro n hn
        refine r_istore d_M_kindsWrong_255 (Nat.le_of_ble_eq_true rfl) rfl ?_
        show WP _ _ _ _ _ [_, _, _, _, _, _] _
        refine r_aload_n d_M_kindsWrong_257 rfl rfl ?_
        refine r_get d_M_kindsWrong_258 fl_M_40_7 0 rfl rfl ?_
        refine r_bipush d_M_kindsWrong_261 (by decide) ?_
        refine r_iload_n d_M_kindsWrong_263 rfl ?_
        refine r_imul d_M_kindsWrong_264 ?_
        refine r_iconst d_M_kindsWrong_265 ?_
        refine r_iadd d_M_kindsWrong_266 ?_
        refine r_iald d_M_kindsWrong_267 11 rfl (by omega) ?_
        refine r_if_lt 275 d_M_kindsWrong_268 (by decide) (by unfold i32; omega) (fun g1 => ?_) (fun g1 => ?_)
        · refine r_iconst d_M_kindsWrong_275 ?_
          exact j276 n 0 hn (by rw [if_neg (Int.not_le.mpr g1)])
        · refine r_iconst d_M_kindsWrong_271 ?_
          refine r_goto 276 d_M_kindsWrong_272 (by decide) ?_
          exact j276 n 1 hn (by rw [if_pos (Int.not_lt.mp g1)])
      refine r_iload_n d_M_kindsWrong_228 rfl ?_
      refine r_aload_n d_M_kindsWrong_229 rfl rfl ?_
      refine r_get d_M_kindsWrong_230 fl_M_83_7 0 rfl rfl ?_
      refine r_icmp_ge 343 d_M_kindsWrong_233 (by decide) (by unfold i32; omega) (by unfold i32; omega) (fun g1 => ?_) (fun g1 => ?_)
      · exact absurd g1 (by omega)
      refine r_aload_n d_M_kindsWrong_236 rfl rfl ?_
      refine r_get d_M_kindsWrong_237 fl_M_40_7 0 rfl rfl ?_
      refine r_bipush d_M_kindsWrong_240 (by decide) ?_
      refine r_iload_n d_M_kindsWrong_242 rfl ?_
      refine r_imul d_M_kindsWrong_243 ?_
      refine r_iconst d_M_kindsWrong_244 ?_
      refine r_iadd d_M_kindsWrong_245 ?_
      refine r_iald d_M_kindsWrong_246 11 rfl (by omega) ?_
      refine r_if_lt 254 d_M_kindsWrong_247 (by decide) (by unfold i32; omega) (fun g2 => ?_) (fun g2 => ?_)
      · refine r_iconst d_M_kindsWrong_254 ?_
        exact j255 0 (by rw [if_neg (Int.not_le.mpr g2)])
      · refine r_iconst d_M_kindsWrong_250 ?_
        refine r_goto 255 d_M_kindsWrong_251 (by decide) ?_
        exact j255 1 (by rw [if_pos (Int.not_lt.mp g2)])
  -- the second loop
  have l2 : ∀ (m k : Nat) (t : mS) (mv wr : Int) (x4 x5 : Option Value), (k : Int) + m = s 0 1 → kdF s k = (t, mv, wr) → kdI s t k mv wr → WP (mth G l q_M_kindsWrong 1 0 0 (mW G ad s) sz Q) 0 0 (mW G ad t) 32 [some (.ref (ad 0)), some (vI mv), some (vI wr), some (vI k), x4, x5] [] := by
    intro m
    induction m with
    | zero =>
      intro k t mv wr x4 x5 hk hF hI
      obtain ⟨i1, i2, i3, i4, i5, i6, i7, i8, i9, i10, i11⟩ := hI
      have hk2 : (s 0 1).toNat = k := by omega
      have bad : ¬ mv = 1 ∨ t 0 3 < 1 ∨ 2 < t 0 3 → WP (mth G l q_M_kindsWrong 1 0 0 (mW G ad s) sz Q) 0 0 (mW G ad t) 224 [some (.ref (ad 0)), some (vI mv), some (vI wr), some (vI k), x4, x5] [] := by
        intro h
        refine r_iconst d_M_kindsWrong_224 ?_
        refine r_zret d_M_kindsWrong_225 rfl (by first | exact Or.inl rfl | exact Or.inr rfl) (Nat.le_of_ble_eq_true rfl) (Nat.le_of_ble_eq_true rfl) ?_
        rw [← hQ, hk2, hF]
        refine ⟨?_, rfl⟩
        unfold kdR
        rw [hk2, hF, if_pos h]
      refine r_iload_n d_M_kindsWrong_32 rfl ?_
      refine r_aload_n d_M_kindsWrong_33 rfl rfl ?_
      refine r_get d_M_kindsWrong_34 fl_M_64_7 0 rfl rfl ?_
      rw [i3]
      refine r_icmp_ge 203 d_M_kindsWrong_37 (by decide) (by unfold i32; omega) (by unfold i32; omega) (fun g1 => ?_) (fun g1 => ?_)
      · refine r_iload_n d_M_kindsWrong_203 rfl ?_
        refine r_iconst d_M_kindsWrong_204 ?_
        refine r_icmp_ne 224 d_M_kindsWrong_205 (by decide) (by unfold i32; omega) (by unfold i32; omega) (fun g2 => ?_) (fun g2 => ?_)
        · exact bad (Or.inl g2)
        refine r_aload_n d_M_kindsWrong_208 rfl rfl ?_
        refine r_get d_M_kindsWrong_209 fl_M_83_7 0 rfl rfl ?_
        refine r_iconst d_M_kindsWrong_212 ?_
        refine r_icmp_lt 224 d_M_kindsWrong_213 (by decide) (by unfold i32; omega) (by unfold i32; omega) (fun g3 => ?_) (fun g3 => ?_)
        · exact bad (by omega)
        refine r_aload_n d_M_kindsWrong_216 rfl rfl ?_
        refine r_get d_M_kindsWrong_217 fl_M_83_7 0 rfl rfl ?_
        refine r_iconst d_M_kindsWrong_220 ?_
        refine r_icmp_le 226 d_M_kindsWrong_221 (by decide) (by unfold i32; omega) (by unfold i32; omega) (fun g4 => ?_) (fun g4 => ?_)
        · have hmv : mv = 1 := by omega
          subst hmv
          refine r_iconst d_M_kindsWrong_226 ?_
          refine r_istore_n d_M_kindsWrong_227 (Nat.le_of_ble_eq_true rfl) rfl ?_
          show WP _ _ _ _ _ [_, _, _, _, _, _] _
          exact l3 t wr (t 0 3).toNat 0 _ _ (by rw [hk2, hF]) (by rw [hk2, hF]) (by rw [hk2, hF]) i11 (by omega) (by omega) (by omega) (fun j h1 h2 => by have := i8 j h1 h2; omega)
        · exact bad (by omega)
      · exact absurd g1 (by omega)
    | succ m ih =>
      intro k t mv wr x4 x5 hk hF hI
      obtain ⟨i1, i2, i3, i4, i5, i6, i7, i8, i9, i10, i11⟩ := hI
      have hb := hbx k (by omega) (by omega)
      have ho2 := (ho k (by omega) (by omega)).2.2
      have e6 : t 6 = s 6 := i1 6 (by omega) (by omega) (by omega)
      have e4 : t 4 = s 4 := i1 4 (by omega) (by omega) (by omega)
      have e6k : t 6 k = s 6 k := by rw [e6]
      have e4k : t 4 k = s 4 k := by rw [e4]
      have hF1 : kdF s (k + 1) = (kdC (kdB (kdA t k) k) k, kdM t mv k, kdW (kdB (kdA t k) k) wr k) := by
        rw [kdF, hF]
      -- what holds after the first two ifs
      have hA : ∀ c j, c ≠ 0 → kdA t k c j = t c j := by
        intro c j hc
        unfold kdA
        split
        · simp only [sset_at]; rw [if_neg hc]
        · rfl
      have hA0 : ∀ j, j ≠ 2 → kdA t k 0 j = t 0 j := by
        intro j hj
        unfold kdA
        split
        · simp only [sset_at, updI_at, reduceIte]; rw [if_neg hj]
        · rfl
      generalize hAe : kdA t k = tA at hA hA0 hF1
      have hA6 : tA 6 k = s 6 k := by rw [hA 6 k (by omega), e6]
      have hA4 : tA 4 k = s 4 k := by rw [hA 4 k (by omega), e4]
      have hA3 : tA 0 3 = t 0 3 := hA0 3 (by omega)
      have hB : ∀ c j, c ≠ 0 → c ≠ 10 → kdB tA k c j = t c j := by
        intro c j hc h10
        rw [← hA c j hc]
        unfold kdB
        split
        · simp only [sset_at]
          rw [if_neg hc]
          split
          · simp only [sset_at]; rw [if_neg h10]
          · rfl
        · rfl
      have hB0 : ∀ j, j ≠ 2 → j ≠ 3 → kdB tA k 0 j = t 0 j := by
        intro j hj hj3
        rw [← hA0 j hj]
        unfold kdB
        split
        · simp only [sset_at, updI_at, reduceIte]
          rw [if_neg hj3]
          split
          · simp only [sset_at, reduceIte, Nat.reduceEqDiff]
          · rfl
        · rfl
      have hB3 : kdB tA k 0 3 = if s 6 k = 1 ∧ s 4 k = 84 then t 0 3 + 1 else t 0 3 := by
        unfold kdB
        rw [hA6, hA4]
        split
        · simp only [sset_at, updI_at, reduceIte]; rw [hA3]
        · exact hA3
      have J117 : WP (mth G l q_M_kindsWrong 1 0 0 (mW G ad s) sz Q) 0 0 (mW G ad (kdB tA k)) 117 [some (.ref (ad 0)), some (vI (kdM t mv k)), some (vI wr), some (vI k), x4, x5] [] := by
        generalize hBe : kdB tA k = tB at hB hB0 hB3 hF1
        have hB6 : tB 6 k = s 6 k := by rw [hB 6 k (by omega) (by omega), e6]
        have hB4 : tB 4 k = s 4 k := by rw [hB 4 k (by omega) (by omega), e4]
        have hB3b : 0 ≤ tB 0 3 ∧ tB 0 3 ≤ (k : Int) + 1 := by rw [hB3]; split <;> omega
        have hI' : ∀ (x4 x5 : Option Value), WP (mth G l q_M_kindsWrong 1 0 0 (mW G ad s) sz Q) 0 0 (mW G ad (kdC tB k)) 197 [some (.ref (ad 0)), some (vI (kdM t mv k)), some (vI (kdW tB wr k)), some (vI k), x4, x5] [] := by
          intro x4 x5
          refine r_iinc d_M_kindsWrong_197 rfl (Nat.le_of_ble_eq_true rfl) rfl ?_
          show WP _ _ _ _ _ [_, _, _, _, _, _] _
          refine r_goto 32 d_M_kindsWrong_200 (by decide) ?_
          have hC : ∀ c j, c ≠ 0 → c ≠ 10 → c ≠ 11 → kdC tB k c j = t c j := by
            intro c j h1 h2 h3
            rw [← hB c j h1 h2]
            unfold kdC
            split
            · simp only [sset_at]; rw [if_neg h3]
            · rfl
          have hC0 : ∀ j, kdC tB k 0 j = tB 0 j := by
            intro j
            unfold kdC
            split
            · simp only [sset_at, reduceIte, Nat.reduceEqDiff]
            · rfl
          refine ih (k + 1) (kdC tB k) (kdM t mv k) (kdW tB wr k) _ _ (by omega) hF1 ⟨?_, ?_, ?_, ?_, ?_, ?_, ?_, ?_, ?_, ?_, ?_⟩
          · intro c hc h10 h11
            rw [← i1 c hc h10 h11]
            funext j
            exact hC c j (by omega) h10 h11
          · rw [hC0, hB0 0 (by omega) (by omega), i2]
          · rw [hC0, hB0 1 (by omega) (by omega), i3]
          · rw [hC0, hB0 4 (by omega) (by omega), i4]
          · rw [hC0]; omega
          · rw [hC0]; omega
          · intro j h1 h2 h6 h4
            rw [hC0, hB3]
            by_cases hj : j = k
            · subst hj
              rw [if_pos ⟨h6, h4⟩]; omega
            · have := i7 j h1 (by omega) h6 h4
              split <;> omega
          · intro j h1 h2
            have h3 := i8 j h1 h2
            unfold kdC
            split
            · simp only [sset_at, updI_at, reduceIte]
              split
              · omega
              · rw [hB 11 j (by omega) (by omega)]; omega
            · rw [hB 11 j (by omega) (by omega)]; omega
          · unfold kdM; split <;> omega
          · unfold kdM; split <;> omega
          · unfold kdW
            split
            · split <;> omega
            · exact i11
        have j140 : ∀ kd, kd = kdK tB k → WP (mth G l q_M_kindsWrong 1 0 0 (mW G ad s) sz Q) 0 0 (mW G ad tB) 140 [some (.ref (ad 0)), some (vI (kdM t mv k)), some (vI wr), some (vI k), x4, x5] [vI kd] := by
          intro kd hkd
          have hkb := kdK_b tB k
          rw [← hkd] at hkb
          have eC : kdC tB k = if 0 ≤ kd ∧ tB 0 3 ≤ 2 then sset tB 11 (8 * (tB 0 3 - 1) + kd) k else tB := by rw [hkd]; rfl
          have eW : kdW tB wr k = if 0 ≤ kd ∧ tB 0 3 ≤ 2 then (if ¬ wr = 0 ∨ 0 ≤ tB 11 (8 * (tB 0 3 - 1) + kd) then 1 else 0) else wr := by rw [hkd]; rfl
          rw [eC, eW] at hI'
          refine r_istore d_M_kindsWrong_140 (Nat.le_of_ble_eq_true rfl) rfl ?_
          show WP _ _ _ _ _ [_, _, _, _, _, _] _
          refine r_iload d_M_kindsWrong_142 rfl ?_
          refine r_if_lt 197 d_M_kindsWrong_144 (by decide) (by unfold i32; omega) (fun g1 => ?_) (fun g1 => ?_)
          · rw [if_neg (by omega), if_neg (by omega)] at hI'
            exact hI' _ _
          refine r_aload_n d_M_kindsWrong_147 rfl rfl ?_
          refine r_get d_M_kindsWrong_148 fl_M_83_7 0 rfl rfl ?_
          refine r_iconst d_M_kindsWrong_151 ?_
          refine r_icmp_gt 197 d_M_kindsWrong_152 (by decide) (by unfold i32; omega) (by unfold i32; omega) (fun g2 => ?_) (fun g2 => ?_)
          · rw [if_neg (by omega), if_neg (by omega)] at hI'
            exact hI' _ _
          rw [if_pos (by omega), if_pos (by omega)] at hI'
          -- a table: a track is open
          have h6 : s 6 k = 2 := by
            have : kd = if s 6 k = 2 then kdO (s 4 k) else -1 := by rw [hkd]; unfold kdK; rw [hB6, hB4]
            by_cases h : s 6 k = 2
            · exact h
            · rw [if_neg h] at this; omega
          have h3 : 1 ≤ tB 0 3 := by
            obtain ⟨q1, q2, q3, q4⟩ := ho2 h6
            have := i7 (s 7 k) q1 q2 q3 q4
            rw [hB3]; split <;> omega
          have h11 := i8 (8 * (tB 0 3 - 1) + kd) (by omega) (by omega)
          rw [← hB 11 _ (by omega) (by omega)] at h11
          have j188 : ∀ w, w = (if ¬ wr = 0 ∨ 0 ≤ tB 11 (8 * (tB 0 3 - 1) + kd) then 1 else 0) → WP (mth G l q_M_kindsWrong 1 0 0 (mW G ad s) sz Q) 0 0 (mW G ad tB) 188 [some (.ref (ad 0)), some (vI (kdM t mv k)), some (vI wr), some (vI k), some (vI kd), some (vI (8 * (tB 0 3 - 1) + kd))] [vI w] := by
            intro w hw
            rw [← hw] at hI'
            refine r_istore_n d_M_kindsWrong_188 (Nat.le_of_ble_eq_true rfl) rfl ?_
            show WP _ _ _ _ _ [_, _, _, _, _, _] _
            refine r_aload_n d_M_kindsWrong_189 rfl rfl ?_
            refine r_get d_M_kindsWrong_190 fl_M_40_7 0 rfl rfl ?_
            refine r_iload d_M_kindsWrong_193 rfl ?_
            refine r_iload_n d_M_kindsWrong_195 rfl ?_
            refine r_iast _ d_M_kindsWrong_196 11 rfl (by omega) mw_11 ?_
            exact hI' _ _
          refine r_bipush d_M_kindsWrong_155 (by decide) ?_
          refine r_aload_n d_M_kindsWrong_157 rfl rfl ?_
          refine r_get d_M_kindsWrong_158 fl_M_83_7 0 rfl rfl ?_
          refine r_iconst d_M_kindsWrong_161 ?_
          refine r_isub d_M_kindsWrong_162 ?_
          refine r_imul d_M_kindsWrong_163 ?_
          refine r_iload d_M_kindsWrong_164 rfl ?_
          refine r_iadd d_M_kindsWrong_166 ?_
          refine r_istore d_M_kindsWrong_167 (Nat.le_of_ble_eq_true rfl) rfl ?_
          show WP _ _ _ _ _ [_, _, _, _, _, _] _
          refine r_iload_n d_M_kindsWrong_169 rfl ?_
          refine r_if_ne 183 d_M_kindsWrong_170 (by decide) (by unfold i32; omega) (fun g3 => ?_) (fun g3 => ?_)
          · refine r_iconst d_M_kindsWrong_183 ?_
            refine r_goto 188 d_M_kindsWrong_184 (by decide) ?_
            exact j188 1 (by rw [if_pos (Or.inl g3)])
          refine r_aload_n d_M_kindsWrong_173 rfl rfl ?_
          refine r_get d_M_kindsWrong_174 fl_M_40_7 0 rfl rfl ?_
          refine r_iload d_M_kindsWrong_177 rfl ?_
          refine r_iald d_M_kindsWrong_179 11 rfl (by omega) ?_
          refine r_if_lt 187 d_M_kindsWrong_180 (by decide) (by unfold i32; omega) (fun g4 => ?_) (fun g4 => ?_)
          · refine r_iconst d_M_kindsWrong_187 ?_
            exact j188 0 (by rw [if_neg (by omega)])
          · refine r_iconst d_M_kindsWrong_183 ?_
            refine r_goto 188 d_M_kindsWrong_184 (by decide) ?_
            exact j188 1 (by rw [if_pos (Or.inr (by omega))])
        refine r_aload_n d_M_kindsWrong_117 rfl rfl ?_
        refine r_get d_M_kindsWrong_118 fl_M_25_7 0 rfl rfl ?_
        refine r_iload_n d_M_kindsWrong_121 rfl ?_
        refine r_iald d_M_kindsWrong_122 6 rfl (by omega) ?_
        refine r_iconst d_M_kindsWrong_123 ?_
        rw [hB6]
        refine r_icmp_ne 139 d_M_kindsWrong_124 (by decide) (by unfold i32; omega) (by unfold i32; omega) (fun g1 => ?_) (fun g1 => ?_)
        · refine r_iconst d_M_kindsWrong_139 ?_
          exact j140 (-1) (by unfold kdK; rw [hB6, if_neg g1])
        · refine r_aload_n d_M_kindsWrong_127 rfl rfl ?_
          refine r_get d_M_kindsWrong_128 fl_M_19_7 0 rfl rfl ?_
          refine r_iload_n d_M_kindsWrong_131 rfl ?_
          refine r_iald d_M_kindsWrong_132 4 rfl (by omega) ?_
          refine r_cS1 d_M_kindsWrong_133 lk_M_99 (c_M_kindOf G l (mW G ad tB) (tB 4 k) (by rw [hB4]; unfold i32; omega)) (Nat.le_of_ble_eq_true rfl) (rok rfl rfl) ⟨(Nat.le_of_ble_eq_true rfl), (Nat.le_of_ble_eq_true rfl)⟩ (fun r ws2 hq => ?_)
          obtain ⟨rfl, rfl⟩ := hq
          show WP _ _ _ _ _ _ (_ :: _)
          refine r_goto 140 d_M_kindsWrong_136 (by decide) ?_
          exact j140 _ (by unfold kdK; rw [hB6, if_pos (by omega)])
      have J68 : WP (mth G l q_M_kindsWrong 1 0 0 (mW G ad s) sz Q) 0 0 (mW G ad tA) 68 [some (.ref (ad 0)), some (vI (kdM t mv k)), some (vI wr), some (vI k), x4, x5] [] := by
        have eB : kdB tA k = if s 6 k = 1 ∧ s 4 k = 84 then sset (if tA 0 3 < 2 then sset tA 10 (tA 0 3) k else tA) 0 3 (tA 0 3 + 1) else tA := by unfold kdB; rw [hA6, hA4]
        rw [eB] at J117
        refine r_aload_n d_M_kindsWrong_68 rfl rfl ?_
        refine r_get d_M_kindsWrong_69 fl_M_25_7 0 rfl rfl ?_
        refine r_iload_n d_M_kindsWrong_72 rfl ?_
        refine r_iald d_M_kindsWrong_73 6 rfl (by omega) ?_
        refine r_iconst d_M_kindsWrong_74 ?_
        rw [hA6]
        refine r_icmp_ne 117 d_M_kindsWrong_75 (by decide) (by unfold i32; omega) (by unfold i32; omega) (fun g1 => ?_) (fun g1 => ?_)
        · rw [if_neg (by omega)] at J117
          exact J117
        refine r_aload_n d_M_kindsWrong_78 rfl rfl ?_
        refine r_get d_M_kindsWrong_79 fl_M_19_7 0 rfl rfl ?_
        refine r_iload_n d_M_kindsWrong_82 rfl ?_
        refine r_iald d_M_kindsWrong_83 4 rfl (by omega) ?_
        refine r_bipush d_M_kindsWrong_84 (by decide) ?_
        rw [hA4]
        refine r_icmp_ne 117 d_M_kindsWrong_86 (by decide) (by unfold i32; omega) (by unfold i32; omega) (fun g2 => ?_) (fun g2 => ?_)
        · rw [if_neg (by omega)] at J117
          exact J117
        rw [if_pos (by omega)] at J117
        rw [hA3] at J117
        refine r_aload_n d_M_kindsWrong_89 rfl rfl ?_
        refine r_get d_M_kindsWrong_90 fl_M_83_7 0 rfl rfl ?_
        refine r_iconst d_M_kindsWrong_93 ?_
        rw [hA3]
        refine r_icmp_ge 107 d_M_kindsWrong_94 (by decide) (by unfold i32; omega) (by unfold i32; omega) (fun g3 => ?_) (fun g3 => ?_)
        · rw [if_neg (by omega)] at J117
          refine r_aload_n d_M_kindsWrong_107 rfl rfl ?_
          refine r_dup d_M_kindsWrong_108 rfl ?_
          refine r_get d_M_kindsWrong_109 fl_M_83_7 0 rfl rfl ?_
          rw [hA3]
          refine r_iconst d_M_kindsWrong_112 ?_
          refine r_iadd d_M_kindsWrong_113 ?_
          refine r_put _ d_M_kindsWrong_114 fl_M_83_7 0 rfl rfl rfl (Nat.le_of_ble_eq_true rfl) mwp_trackCount ?_
          exact J117
        · rw [if_pos (by omega)] at J117
          refine r_aload_n d_M_kindsWrong_97 rfl rfl ?_
          refine r_get d_M_kindsWrong_98 fl_M_37_7 0 rfl rfl ?_
          refine r_aload_n d_M_kindsWrong_101 rfl rfl ?_
          refine r_get d_M_kindsWrong_102 fl_M_83_7 0 rfl rfl ?_
          rw [hA3]
          refine r_iload_n d_M_kindsWrong_105 rfl ?_
          refine r_iast _ d_M_kindsWrong_106 10 rfl (by omega) mw_10 ?_
          refine r_aload_n d_M_kindsWrong_107 rfl rfl ?_
          refine r_dup d_M_kindsWrong_108 rfl ?_
          refine r_get d_M_kindsWrong_109 fl_M_83_7 0 rfl rfl ?_
          simp only [sset_at, reduceIte, Nat.reduceEqDiff]
          rw [hA3]
          refine r_iconst d_M_kindsWrong_112 ?_
          refine r_iadd d_M_kindsWrong_113 ?_
          refine r_put _ d_M_kindsWrong_114 fl_M_83_7 0 rfl rfl rfl (Nat.le_of_ble_eq_true rfl) mwp_trackCount ?_
          exact J117
      have eA : tA = if s 6 k = 0 ∧ s 4 k = 77 then sset t 0 2 k else t := by rw [← hAe]; unfold kdA; rw [e6k, e4k]
      have eM : kdM t mv k = if s 6 k = 0 ∧ s 4 k = 77 then mv + 1 else mv := by unfold kdM; rw [e6k, e4k]
      rw [eA, eM] at J68
      refine r_iload_n d_M_kindsWrong_32 rfl ?_
      refine r_aload_n d_M_kindsWrong_33 rfl rfl ?_
      refine r_get d_M_kindsWrong_34 fl_M_64_7 0 rfl rfl ?_
      rw [i3]
      refine r_icmp_ge 203 d_M_kindsWrong_37 (by decide) (by unfold i32; omega) (by unfold i32; omega) (fun g1 => ?_) (fun g1 => ?_)
      · exact absurd g1 (by omega)
      refine r_aload_n d_M_kindsWrong_40 rfl rfl ?_
      refine r_get d_M_kindsWrong_41 fl_M_25_7 0 rfl rfl ?_
      refine r_iload_n d_M_kindsWrong_44 rfl ?_
      refine r_iald d_M_kindsWrong_45 6 rfl (by omega) ?_
      rw [e6k]
      refine r_if_ne 68 d_M_kindsWrong_46 (by decide) (by unfold i32; omega) (fun g2 => ?_) (fun g2 => ?_)
      · rw [if_neg (by omega), if_neg (by omega)] at J68
        exact J68
      refine r_aload_n d_M_kindsWrong_49 rfl rfl ?_
      refine r_get d_M_kindsWrong_50 fl_M_19_7 0 rfl rfl ?_
      refine r_iload_n d_M_kindsWrong_53 rfl ?_
      refine r_iald d_M_kindsWrong_54 4 rfl (by omega) ?_
      refine r_bipush d_M_kindsWrong_55 (by decide) ?_
      rw [e4k]
      refine r_icmp_ne 68 d_M_kindsWrong_57 (by decide) (by unfold i32; omega) (by unfold i32; omega) (fun g3 => ?_) (fun g3 => ?_)
      · rw [if_neg (by omega), if_neg (by omega)] at J68
        exact J68
      rw [if_pos (by omega), if_pos (by omega)] at J68
      refine r_iinc d_M_kindsWrong_60 rfl (Nat.le_of_ble_eq_true rfl) rfl ?_
      show WP _ _ _ _ _ [_, _, _, _, _, _] _
      refine r_aload_n d_M_kindsWrong_63 rfl rfl ?_
      refine r_iload_n d_M_kindsWrong_64 rfl ?_
      refine r_put _ d_M_kindsWrong_65 fl_M_96_7 0 rfl rfl rfl (Nat.le_of_ble_eq_true rfl) mwp_movie ?_
      exact J68
  -- the first loop
  have l1 : ∀ (m k : Nat), k + m = 16 → WP (mth G l q_M_kindsWrong 1 0 0 (mW G ad s) sz Q) 0 0 (mW G ad (fl16 (sset s 0 3 0) k)) 11 [some (.ref (ad 0)), some (vI 0), some (vI 0), some (vI k), none, none] [] := by
    intro m
    induction m with
    | zero =>
      intro k hk
      have hk2 : k = 16 := by omega
      subst hk2
      refine r_iload_n d_M_kindsWrong_11 rfl ?_
      refine r_bipush d_M_kindsWrong_12 (by decide) ?_
      refine r_icmp_ge 30 d_M_kindsWrong_14 (by decide) (by unfold i32; omega) (by unfold i32; omega) (fun g1 => ?_) (fun g1 => ?_)
      · refine r_iconst d_M_kindsWrong_30 ?_
        refine r_istore_n d_M_kindsWrong_31 (Nat.le_of_ble_eq_true rfl) rfl ?_
        show WP _ _ _ _ _ [_, _, _, _, _, _] _
        refine l2 (s 0 1).toNat 0 _ 0 0 _ _ (by omega) rfl ?_
        have hf : ∀ (n c : Nat), c ≠ 11 → fl16 (sset s 0 3 0) n c = sset s 0 3 0 c := by
          intro n
          induction n with
          | zero => intro c _; rfl
          | succ n ihn =>
            intro c hc
            rw [← ihn c hc]
            funext j
            show sset (fl16 (sset s 0 3 0) n) 11 n (-1) c j = fl16 (sset s 0 3 0) n c j
            rw [sset_at, if_neg hc]
        have h11 : ∀ (n : Nat) (j : Int), 0 ≤ j → j < n → fl16 (sset s 0 3 0) n 11 j = -1 := by
          intro n
          induction n with
          | zero => intro j h1 h2; omega
          | succ n ihn =>
            intro j h1 h2
            unfold fl16
            simp only [sset_at, updI_at, reduceIte]
            split
            · rfl
            · exact ihn j h1 (by omega)
        refine ⟨?_, ?_, ?_, ?_, ?_, ?_, ?_, ?_, by omega, by omega, Or.inl rfl⟩
        · intro c hc h10 h11
          rw [hf 16 c h11]
          funext j
          simp only [sset_at]
          rw [if_neg (by omega)]
        · rw [hf 16 0 (by omega)]; simp only [sset_at, updI_at, reduceIte, Int.reduceEq]
        · rw [hf 16 0 (by omega)]; simp only [sset_at, updI_at, reduceIte, Int.reduceEq]
        · rw [hf 16 0 (by omega)]; simp only [sset_at, updI_at, reduceIte, Int.reduceEq]
        · rw [hf 16 0 (by omega)]; simp only [sset_at, updI_at, reduceIte]; omega
        · rw [hf 16 0 (by omega)]; simp only [sset_at, updI_at, reduceIte]; omega
        · intro j h1 h2; omega
        · intro j h1 h2
          rw [h11 16 j h1 (by omega)]; omega
      · exact absurd g1 (by omega)
    | succ m ih =>
      intro k hk
      refine r_iload_n d_M_kindsWrong_11 rfl ?_
      refine r_bipush d_M_kindsWrong_12 (by decide) ?_
      refine r_icmp_ge 30 d_M_kindsWrong_14 (by decide) (by unfold i32; omega) (by unfold i32; omega) (fun g1 => ?_) (fun g1 => ?_)
      · exact absurd g1 (by omega)
      refine r_aload_n d_M_kindsWrong_17 rfl rfl ?_
      refine r_get d_M_kindsWrong_18 fl_M_40_7 0 rfl rfl ?_
      refine r_iload_n d_M_kindsWrong_21 rfl ?_
      refine r_iconst d_M_kindsWrong_22 ?_
      refine r_iast _ d_M_kindsWrong_23 11 rfl (by omega) mw_11 ?_
      refine r_iinc d_M_kindsWrong_24 rfl (Nat.le_of_ble_eq_true rfl) rfl ?_
      show WP _ _ _ _ _ [_, _, _, _, _, _] _
      refine r_goto 11 d_M_kindsWrong_27 (by decide) ?_
      exact ih (k + 1) (by omega)
  refine r_iconst d_M_kindsWrong_0 ?_
  refine r_istore_n d_M_kindsWrong_1 (Nat.le_of_ble_eq_true rfl) rfl ?_
  show WP _ _ _ _ _ [_, _, _, _, _, _] _
  refine r_aload_n d_M_kindsWrong_2 rfl rfl ?_
  refine r_iconst d_M_kindsWrong_3 ?_
  refine r_put _ d_M_kindsWrong_4 fl_M_83_7 0 rfl rfl rfl (Nat.le_of_ble_eq_true rfl) mwp_trackCount ?_
  refine r_iconst d_M_kindsWrong_7 ?_
  refine r_istore_n d_M_kindsWrong_8 (Nat.le_of_ble_eq_true rfl) rfl ?_
  show WP _ _ _ _ _ [_, _, _, _, _, _] _
  refine r_iconst d_M_kindsWrong_9 ?_
  refine r_istore_n d_M_kindsWrong_10 (Nat.le_of_ble_eq_true rfl) rfl ?_
  show WP _ _ _ _ _ [_, _, _, _, _, _] _
  exact l1 16 0 (by omega)
end MODEL6
