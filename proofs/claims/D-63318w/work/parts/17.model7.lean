abbrev q_M_rowsWrong : Mi := (⟨"MovieBoxesModel", "rowsWrong", "(II)Z"⟩, prog_12_method_15_code, 10, (some .boolean))
theorem d_M_rowsWrong_94 : decode prog_12_method_15_code 94 = .ok (.iconst 1, 1) := by decide +kernel
theorem d_M_rowsWrong_95 : decode prog_12_method_15_code 95 = .ok (.ireturn, 1) := by decide +kernel
theorem d_M_rowsWrong_110 : decode prog_12_method_15_code 110 = .ok (.iload 7, 2) := by decide +kernel
theorem d_M_rowsWrong_112 : decode prog_12_method_15_code 112 = .ok (.iload 5, 2) := by decide +kernel
theorem d_M_rowsWrong_114 : decode prog_12_method_15_code 114 = .ok (.if_icmp .ge 150, 3) := by decide +kernel
theorem d_M_rowsWrong_264 : decode prog_12_method_15_code 264 = .ok (.iload 6, 2) := by decide +kernel
theorem d_M_rowsWrong_266 : decode prog_12_method_15_code 266 = .ok (.ireturn, 1) := by decide +kernel
theorem d_M_rowsWrong_258 : decode prog_12_method_15_code 258 = .ok (.iinc 7 1, 3) := by decide +kernel
theorem d_M_rowsWrong_261 : decode prog_12_method_15_code 261 = .ok (.goto (-151), 3) := by decide +kernel
theorem d_M_rowsWrong_117 : decode prog_12_method_15_code 117 = .ok (.iload_n 2, 1) := by decide +kernel
theorem d_M_rowsWrong_118 : decode prog_12_method_15_code 118 = .ok (.iconst 2, 1) := by decide +kernel
theorem d_M_rowsWrong_119 : decode prog_12_method_15_code 119 = .ok (.if_icmp .ne 89, 3) := by decide +kernel
theorem d_M_rowsWrong_208 : decode prog_12_method_15_code 208 = .ok (.iload_n 2, 1) := by decide +kernel
theorem d_M_rowsWrong_209 : decode prog_12_method_15_code 209 = .ok (.bipush 6, 2) := by decide +kernel
theorem d_M_rowsWrong_211 : decode prog_12_method_15_code 211 = .ok (.if_icmp .ne 47, 3) := by decide +kernel
theorem d_M_rowsWrong_214 : decode prog_12_method_15_code 214 = .ok (.aload_n 0, 1) := by decide +kernel
theorem d_M_rowsWrong_215 : decode prog_12_method_15_code 215 = .ok (.iload_n 1, 1) := by decide +kernel
theorem d_M_rowsWrong_216 : decode prog_12_method_15_code 216 = .ok (.iconst 1, 1) := by decide +kernel
theorem d_M_rowsWrong_217 : decode prog_12_method_15_code 217 = .ok (.iload 7, 2) := by decide +kernel
theorem d_M_rowsWrong_219 : decode prog_12_method_15_code 219 = .ok (.iadd, 1) := by decide +kernel
theorem d_M_rowsWrong_220 : decode prog_12_method_15_code 220 = .ok (.invokevirtual 106, 3) := by decide +kernel
theorem d_M_rowsWrong_256 : decode prog_12_method_15_code 256 = .ok (.istore 6, 2) := by decide +kernel
theorem d_M_rowsWrong_248 : decode prog_12_method_15_code 248 = .ok (.if_icmp .gt 7, 3) := by decide +kernel
theorem d_M_rowsWrong_255 : decode prog_12_method_15_code 255 = .ok (.iconst 0, 1) := by decide +kernel
theorem d_M_rowsWrong_251 : decode prog_12_method_15_code 251 = .ok (.iconst 1, 1) := by decide +kernel
theorem d_M_rowsWrong_252 : decode prog_12_method_15_code 252 = .ok (.goto 4, 3) := by decide +kernel
theorem d_M_rowsWrong_223 : decode prog_12_method_15_code 223 = .ok (.istore 8, 2) := by decide +kernel
theorem d_M_rowsWrong_225 : decode prog_12_method_15_code 225 = .ok (.iload 6, 2) := by decide +kernel
theorem d_M_rowsWrong_227 : decode prog_12_method_15_code 227 = .ok (.ifCond .ne 24, 3) := by decide +kernel
theorem d_M_rowsWrong_230 : decode prog_12_method_15_code 230 = .ok (.iload 8, 2) := by decide +kernel
theorem d_M_rowsWrong_232 : decode prog_12_method_15_code 232 = .ok (.iload 7, 2) := by decide +kernel
theorem d_M_rowsWrong_234 : decode prog_12_method_15_code 234 = .ok (.ifCond .ne 7, 3) := by decide +kernel
theorem d_M_rowsWrong_241 : decode prog_12_method_15_code 241 = .ok (.aload_n 0, 1) := by decide +kernel
theorem d_M_rowsWrong_242 : decode prog_12_method_15_code 242 = .ok (.iload_n 1, 1) := by decide +kernel
theorem d_M_rowsWrong_243 : decode prog_12_method_15_code 243 = .ok (.iload 7, 2) := by decide +kernel
theorem d_M_rowsWrong_245 : decode prog_12_method_15_code 245 = .ok (.invokevirtual 106, 3) := by decide +kernel
theorem d_M_rowsWrong_237 : decode prog_12_method_15_code 237 = .ok (.iconst 0, 1) := by decide +kernel
theorem d_M_rowsWrong_238 : decode prog_12_method_15_code 238 = .ok (.goto 10, 3) := by decide +kernel
theorem d_M_rowsWrong_206 : decode prog_12_method_15_code 206 = .ok (.istore 6, 2) := by decide +kernel
theorem d_M_rowsWrong_175 : decode prog_12_method_15_code 175 = .ok (.istore 9, 2) := by decide +kernel
theorem d_M_rowsWrong_177 : decode prog_12_method_15_code 177 = .ok (.iload 6, 2) := by decide +kernel
theorem d_M_rowsWrong_179 : decode prog_12_method_15_code 179 = .ok (.ifCond .ne 22, 3) := by decide +kernel
theorem d_M_rowsWrong_201 : decode prog_12_method_15_code 201 = .ok (.iconst 1, 1) := by decide +kernel
theorem d_M_rowsWrong_202 : decode prog_12_method_15_code 202 = .ok (.goto 4, 3) := by decide +kernel
theorem d_M_rowsWrong_182 : decode prog_12_method_15_code 182 = .ok (.iload 9, 2) := by decide +kernel
theorem d_M_rowsWrong_184 : decode prog_12_method_15_code 184 = .ok (.ifCond .eq 17, 3) := by decide +kernel
theorem d_M_rowsWrong_187 : decode prog_12_method_15_code 187 = .ok (.aload_n 0, 1) := by decide +kernel
theorem d_M_rowsWrong_188 : decode prog_12_method_15_code 188 = .ok (.iload_n 1, 1) := by decide +kernel
theorem d_M_rowsWrong_189 : decode prog_12_method_15_code 189 = .ok (.iconst 2, 1) := by decide +kernel
theorem d_M_rowsWrong_190 : decode prog_12_method_15_code 190 = .ok (.iconst 3, 1) := by decide +kernel
theorem d_M_rowsWrong_191 : decode prog_12_method_15_code 191 = .ok (.iload 7, 2) := by decide +kernel
theorem d_M_rowsWrong_193 : decode prog_12_method_15_code 193 = .ok (.imul, 1) := by decide +kernel
theorem d_M_rowsWrong_194 : decode prog_12_method_15_code 194 = .ok (.iadd, 1) := by decide +kernel
theorem d_M_rowsWrong_195 : decode prog_12_method_15_code 195 = .ok (.invokevirtual 106, 3) := by decide +kernel
theorem d_M_rowsWrong_198 : decode prog_12_method_15_code 198 = .ok (.ifCond .ne 7, 3) := by decide +kernel
theorem d_M_rowsWrong_205 : decode prog_12_method_15_code 205 = .ok (.iconst 0, 1) := by decide +kernel
theorem d_M_rowsWrong_122 : decode prog_12_method_15_code 122 = .ok (.aload_n 0, 1) := by decide +kernel
theorem d_M_rowsWrong_123 : decode prog_12_method_15_code 123 = .ok (.iload_n 1, 1) := by decide +kernel
theorem d_M_rowsWrong_124 : decode prog_12_method_15_code 124 = .ok (.iconst 1, 1) := by decide +kernel
theorem d_M_rowsWrong_125 : decode prog_12_method_15_code 125 = .ok (.iconst 3, 1) := by decide +kernel
theorem d_M_rowsWrong_126 : decode prog_12_method_15_code 126 = .ok (.iload 7, 2) := by decide +kernel
theorem d_M_rowsWrong_128 : decode prog_12_method_15_code 128 = .ok (.imul, 1) := by decide +kernel
theorem d_M_rowsWrong_129 : decode prog_12_method_15_code 129 = .ok (.iadd, 1) := by decide +kernel
theorem d_M_rowsWrong_130 : decode prog_12_method_15_code 130 = .ok (.invokevirtual 106, 3) := by decide +kernel
theorem d_M_rowsWrong_133 : decode prog_12_method_15_code 133 = .ok (.istore 8, 2) := by decide +kernel
theorem d_M_rowsWrong_135 : decode prog_12_method_15_code 135 = .ok (.iload 7, 2) := by decide +kernel
theorem d_M_rowsWrong_137 : decode prog_12_method_15_code 137 = .ok (.ifCond .ne 17, 3) := by decide +kernel
theorem d_M_rowsWrong_154 : decode prog_12_method_15_code 154 = .ok (.iload 8, 2) := by decide +kernel
theorem d_M_rowsWrong_156 : decode prog_12_method_15_code 156 = .ok (.aload_n 0, 1) := by decide +kernel
theorem d_M_rowsWrong_157 : decode prog_12_method_15_code 157 = .ok (.iload_n 1, 1) := by decide +kernel
theorem d_M_rowsWrong_158 : decode prog_12_method_15_code 158 = .ok (.iconst 3, 1) := by decide +kernel
theorem d_M_rowsWrong_159 : decode prog_12_method_15_code 159 = .ok (.iload 7, 2) := by decide +kernel
theorem d_M_rowsWrong_161 : decode prog_12_method_15_code 161 = .ok (.imul, 1) := by decide +kernel
theorem d_M_rowsWrong_162 : decode prog_12_method_15_code 162 = .ok (.iconst 2, 1) := by decide +kernel
theorem d_M_rowsWrong_163 : decode prog_12_method_15_code 163 = .ok (.isub, 1) := by decide +kernel
theorem d_M_rowsWrong_164 : decode prog_12_method_15_code 164 = .ok (.invokevirtual 106, 3) := by decide +kernel
theorem d_M_rowsWrong_167 : decode prog_12_method_15_code 167 = .ok (.if_icmp .le 7, 3) := by decide +kernel
theorem d_M_rowsWrong_174 : decode prog_12_method_15_code 174 = .ok (.iconst 0, 1) := by decide +kernel
theorem d_M_rowsWrong_170 : decode prog_12_method_15_code 170 = .ok (.iconst 1, 1) := by decide +kernel
theorem d_M_rowsWrong_171 : decode prog_12_method_15_code 171 = .ok (.goto 4, 3) := by decide +kernel
theorem d_M_rowsWrong_140 : decode prog_12_method_15_code 140 = .ok (.iload 8, 2) := by decide +kernel
theorem d_M_rowsWrong_142 : decode prog_12_method_15_code 142 = .ok (.iconst 1, 1) := by decide +kernel
theorem d_M_rowsWrong_143 : decode prog_12_method_15_code 143 = .ok (.if_icmp .ne 7, 3) := by decide +kernel
theorem d_M_rowsWrong_150 : decode prog_12_method_15_code 150 = .ok (.iconst 0, 1) := by decide +kernel
theorem d_M_rowsWrong_151 : decode prog_12_method_15_code 151 = .ok (.goto 24, 3) := by decide +kernel
theorem d_M_rowsWrong_146 : decode prog_12_method_15_code 146 = .ok (.iconst 1, 1) := by decide +kernel
theorem d_M_rowsWrong_147 : decode prog_12_method_15_code 147 = .ok (.goto 28, 3) := by decide +kernel
theorem d_M_rowsWrong_72 : decode prog_12_method_15_code 72 = .ok (.istore 4, 2) := by decide +kernel
theorem d_M_rowsWrong_74 : decode prog_12_method_15_code 74 = .ok (.iload_n 3, 1) := by decide +kernel
theorem d_M_rowsWrong_75 : decode prog_12_method_15_code 75 = .ok (.iconst 1, 1) := by decide +kernel
theorem d_M_rowsWrong_76 : decode prog_12_method_15_code 76 = .ok (.if_icmp .lt 18, 3) := by decide +kernel
theorem d_M_rowsWrong_79 : decode prog_12_method_15_code 79 = .ok (.iload_n 3, 1) := by decide +kernel
theorem d_M_rowsWrong_80 : decode prog_12_method_15_code 80 = .ok (.iconst 1, 1) := by decide +kernel
theorem d_M_rowsWrong_81 : decode prog_12_method_15_code 81 = .ok (.iload 4, 2) := by decide +kernel
theorem d_M_rowsWrong_83 : decode prog_12_method_15_code 83 = .ok (.aload_n 0, 1) := by decide +kernel
theorem d_M_rowsWrong_84 : decode prog_12_method_15_code 84 = .ok (.iload_n 1, 1) := by decide +kernel
theorem d_M_rowsWrong_85 : decode prog_12_method_15_code 85 = .ok (.iconst 0, 1) := by decide +kernel
theorem d_M_rowsWrong_86 : decode prog_12_method_15_code 86 = .ok (.invokevirtual 106, 3) := by decide +kernel
theorem d_M_rowsWrong_89 : decode prog_12_method_15_code 89 = .ok (.imul, 1) := by decide +kernel
theorem d_M_rowsWrong_90 : decode prog_12_method_15_code 90 = .ok (.iadd, 1) := by decide +kernel
theorem d_M_rowsWrong_91 : decode prog_12_method_15_code 91 = .ok (.if_icmp .eq 5, 3) := by decide +kernel
theorem d_M_rowsWrong_96 : decode prog_12_method_15_code 96 = .ok (.aload_n 0, 1) := by decide +kernel
theorem d_M_rowsWrong_97 : decode prog_12_method_15_code 97 = .ok (.iload_n 1, 1) := by decide +kernel
theorem d_M_rowsWrong_98 : decode prog_12_method_15_code 98 = .ok (.iconst 0, 1) := by decide +kernel
theorem d_M_rowsWrong_99 : decode prog_12_method_15_code 99 = .ok (.invokevirtual 106, 3) := by decide +kernel
theorem d_M_rowsWrong_102 : decode prog_12_method_15_code 102 = .ok (.istore 5, 2) := by decide +kernel
theorem d_M_rowsWrong_104 : decode prog_12_method_15_code 104 = .ok (.iconst 0, 1) := by decide +kernel
theorem d_M_rowsWrong_105 : decode prog_12_method_15_code 105 = .ok (.istore 6, 2) := by decide +kernel
theorem d_M_rowsWrong_107 : decode prog_12_method_15_code 107 = .ok (.iconst 0, 1) := by decide +kernel
theorem d_M_rowsWrong_108 : decode prog_12_method_15_code 108 = .ok (.istore 7, 2) := by decide +kernel
theorem d_M_rowsWrong_0 : decode prog_12_method_15_code 0 = .ok (.aload_n 0, 1) := by decide +kernel
theorem d_M_rowsWrong_1 : decode prog_12_method_15_code 1 = .ok (.iload_n 1, 1) := by decide +kernel
theorem d_M_rowsWrong_2 : decode prog_12_method_15_code 2 = .ok (.invokevirtual 103, 3) := by decide +kernel
set_option maxRecDepth 20000 in
theorem w_824 : Cond.methodLink "MovieBoxesModel" 103 ⟨"MovieBoxesModel", "payLength", "(I)I"⟩ ∈ gt := gt_of (in_t4 (List.mem_of_getElem? (i := 104) rfl)) rfl
set_option maxRecDepth 20000 in
theorem w_826 : Cond.instanceMethod ⟨"MovieBoxesModel", "payLength", "(I)I"⟩ ∈ gt := gt_of (in_t4 (List.mem_of_getElem? (i := 106) rfl)) rfl
set_option maxRecDepth 20000 in
theorem ws_M_payLength : Cond.selects "MovieBoxesModel" ⟨"MovieBoxesModel", "payLength", "(I)I"⟩ ⟨"MovieBoxesModel", "payLength", "(I)I"⟩ ∈ gt := gt_of (in_p2 (List.mem_of_getElem? (i := 2) rfl)) rfl
set_option maxRecDepth 20000 in
theorem w_827 : Cond.code ⟨"MovieBoxesModel", "payLength", "(I)I"⟩ prog_12_method_11_code 2 (some .int) ∈ gt := gt_of (in_t4 (List.mem_of_getElem? (i := 107) rfl)) rfl
theorem lk_M_103 : LkV "MovieBoxesModel" 103 q_M_payLength 1 := ⟨(List.forall_mem_cons.mpr ⟨w_824, (List.forall_mem_cons.mpr ⟨w_826, (List.forall_mem_cons.mpr ⟨ws_M_payLength, (List.forall_mem_cons.mpr ⟨w_8, (fun _ h => absurd h List.not_mem_nil)⟩)⟩)⟩)⟩), w_827, by decide +kernel⟩
theorem d_M_rowsWrong_5 : decode prog_12_method_15_code 5 = .ok (.istore_n 3, 1) := by decide +kernel
theorem d_M_rowsWrong_6 : decode prog_12_method_15_code 6 = .ok (.iload_n 2, 1) := by decide +kernel
theorem d_M_rowsWrong_7 : decode prog_12_method_15_code 7 = .ok (.iconst 3, 1) := by decide +kernel
theorem d_M_rowsWrong_8 : decode prog_12_method_15_code 8 = .ok (.if_icmp .ne 39, 3) := by decide +kernel
theorem d_M_rowsWrong_47 : decode prog_12_method_15_code 47 = .ok (.iload_n 2, 1) := by decide +kernel
theorem d_M_rowsWrong_48 : decode prog_12_method_15_code 48 = .ok (.iconst 2, 1) := by decide +kernel
theorem d_M_rowsWrong_49 : decode prog_12_method_15_code 49 = .ok (.if_icmp .ne 7, 3) := by decide +kernel
theorem d_M_rowsWrong_56 : decode prog_12_method_15_code 56 = .ok (.iload_n 2, 1) := by decide +kernel
theorem d_M_rowsWrong_57 : decode prog_12_method_15_code 57 = .ok (.iconst 4, 1) := by decide +kernel
theorem d_M_rowsWrong_58 : decode prog_12_method_15_code 58 = .ok (.if_icmp .eq 9, 3) := by decide +kernel
theorem d_M_rowsWrong_67 : decode prog_12_method_15_code 67 = .ok (.iconst 1, 1) := by decide +kernel
theorem d_M_rowsWrong_68 : decode prog_12_method_15_code 68 = .ok (.goto 4, 3) := by decide +kernel
theorem d_M_rowsWrong_61 : decode prog_12_method_15_code 61 = .ok (.iload_n 2, 1) := by decide +kernel
theorem d_M_rowsWrong_62 : decode prog_12_method_15_code 62 = .ok (.bipush 6, 2) := by decide +kernel
theorem d_M_rowsWrong_64 : decode prog_12_method_15_code 64 = .ok (.if_icmp .ne 7, 3) := by decide +kernel
theorem d_M_rowsWrong_71 : decode prog_12_method_15_code 71 = .ok (.iconst 2, 1) := by decide +kernel
theorem d_M_rowsWrong_52 : decode prog_12_method_15_code 52 = .ok (.iconst 3, 1) := by decide +kernel
theorem d_M_rowsWrong_53 : decode prog_12_method_15_code 53 = .ok (.goto 19, 3) := by decide +kernel
theorem d_M_rowsWrong_46 : decode prog_12_method_15_code 46 = .ok (.ireturn, 1) := by decide +kernel
theorem d_M_rowsWrong_38 : decode prog_12_method_15_code 38 = .ok (.if_icmp .eq 7, 3) := by decide +kernel
theorem d_M_rowsWrong_45 : decode prog_12_method_15_code 45 = .ok (.iconst 0, 1) := by decide +kernel
theorem d_M_rowsWrong_41 : decode prog_12_method_15_code 41 = .ok (.iconst 1, 1) := by decide +kernel
theorem d_M_rowsWrong_42 : decode prog_12_method_15_code 42 = .ok (.goto 4, 3) := by decide +kernel
theorem d_M_rowsWrong_11 : decode prog_12_method_15_code 11 = .ok (.iload_n 3, 1) := by decide +kernel
theorem d_M_rowsWrong_12 : decode prog_12_method_15_code 12 = .ok (.iconst 2, 1) := by decide +kernel
theorem d_M_rowsWrong_13 : decode prog_12_method_15_code 13 = .ok (.if_icmp .lt 28, 3) := by decide +kernel
theorem d_M_rowsWrong_16 : decode prog_12_method_15_code 16 = .ok (.iload_n 3, 1) := by decide +kernel
theorem d_M_rowsWrong_17 : decode prog_12_method_15_code 17 = .ok (.aload_n 0, 1) := by decide +kernel
theorem d_M_rowsWrong_18 : decode prog_12_method_15_code 18 = .ok (.iload_n 1, 1) := by decide +kernel
theorem d_M_rowsWrong_19 : decode prog_12_method_15_code 19 = .ok (.iconst 0, 1) := by decide +kernel
theorem d_M_rowsWrong_20 : decode prog_12_method_15_code 20 = .ok (.invokevirtual 106, 3) := by decide +kernel
theorem d_M_rowsWrong_23 : decode prog_12_method_15_code 23 = .ok (.ifCond .ne 14, 3) := by decide +kernel
theorem d_M_rowsWrong_37 : decode prog_12_method_15_code 37 = .ok (.iconst 2, 1) := by decide +kernel
theorem d_M_rowsWrong_26 : decode prog_12_method_15_code 26 = .ok (.iconst 2, 1) := by decide +kernel
theorem d_M_rowsWrong_27 : decode prog_12_method_15_code 27 = .ok (.aload_n 0, 1) := by decide +kernel
theorem d_M_rowsWrong_28 : decode prog_12_method_15_code 28 = .ok (.iload_n 1, 1) := by decide +kernel
theorem d_M_rowsWrong_29 : decode prog_12_method_15_code 29 = .ok (.iconst 1, 1) := by decide +kernel
theorem d_M_rowsWrong_30 : decode prog_12_method_15_code 30 = .ok (.invokevirtual 106, 3) := by decide +kernel
theorem d_M_rowsWrong_33 : decode prog_12_method_15_code 33 = .ok (.iadd, 1) := by decide +kernel
theorem d_M_rowsWrong_34 : decode prog_12_method_15_code 34 = .ok (.goto 4, 3) := by decide +kernel
/-! ===== the model: rowsWrong, countsWrong ===== -/
/-- 1 if it holds, else 0 -/
noncomputable def b2 (P : Prop) : Int := @ite Int P (Classical.propDecidable P) 1 0
theorem b2_t {P : Prop} (h : P) : b2 P = 1 := by unfold b2; exact if_pos h
theorem b2_f {P : Prop} (h : ¬ P) : b2 P = 0 := by unfold b2; exact if_neg h
theorem b2_b (P : Prop) : b2 P = 0 ∨ b2 P = 1 := by
  by_cases h : P
  · exact Or.inr (b2_t h)
  · exact Or.inl (b2_f h)
theorem b2_1 {P : Prop} : b2 P = 1 ↔ P := ⟨fun h => Classical.byContradiction fun q => by rw [b2_f q] at h; omega, b2_t⟩
theorem b2_0 {P : Prop} : b2 P = 0 ↔ ¬ P := ⟨fun h q => by rw [b2_t q] at h; omega, b2_f⟩
theorem b2_c {P R : Prop} (h : P ↔ R) : b2 P = b2 R := by rw [propext h]
/-- some r below n -/
def exB (p : Int → Prop) (n : Nat) : Prop := ∃ r : Nat, r < n ∧ p r
theorem exB_0 (p : Int → Prop) : ¬ exB p 0 := fun ⟨_, h, _⟩ => Nat.not_lt_zero _ h
theorem exB_s (p : Int → Prop) (n : Nat) : exB p (n + 1) ↔ exB p n ∨ p n := by
  constructor
  · rintro ⟨r, h1, h2⟩
    rcases Nat.lt_or_ge r n with h | h
    · exact Or.inl ⟨r, h, h2⟩
    · have : r = n := by omega
      subst this
      exact Or.inr h2
  · rintro (⟨r, h1, h2⟩ | h)
    · exact ⟨r, by omega, h2⟩
    · exact ⟨n, by omega, h⟩
abbrev kW (kind : Int) : Int := if kind = 2 then 3 else if kind = 4 ∨ kind = 6 then 1 else 2
def badC (s : mS) (k r : Int) : Prop := ¬ (if r = 0 then pv s k 1 = 1 else pv s k (3 * r - 2) < pv s k (1 + 3 * r)) ∨ pv s k (2 + 3 * r) = 0
def badS (s : mS) (k r : Int) : Prop := pv s k (1 + r) ≤ (if r = 0 then 0 else pv s k r)
def rowsBad (s : mS) (k kind : Int) : Prop := (kind = 3 ∧ (s 3 k - s 5 k < 2 ∨ ¬ s 3 k - s 5 k = (if pv s k 0 = 0 then 2 + pv s k 1 else 2))) ∨ (¬ kind = 3 ∧ (s 3 k - s 5 k < 1 ∨ ¬ s 3 k - s 5 k = 1 + kW kind * pv s k 0 ∨ exB (fun r => (kind = 2 ∧ badC s k r) ∨ (kind = 6 ∧ badS s k r)) (pv s k 0).toNat))
section MODEL7
variable (G : gG) (l : Launch) (ad : Nat → Nat)
theorem c_M_rowsWrong (s : mS) (k kind : Int) (hb : byOk s) (hx : bxok s k) (h5 : s 5 k ≤ s 3 k) (hkd : 0 ≤ kind ∧ kind ≤ 7) : Ct G l q_M_rowsWrong 1 0 0 [.ref (ad 0), vI k, vI kind] (mW G ad s) (fun r w => r = some (vI (b2 (rowsBad s k kind))) ∧ w = mW G ad s) := by
  refine Ct.intro [some (.ref (ad 0)), some (vI k), some (vI kind), none, none, none, none, none, none, none] (by decide) (Nat.le_of_ble_eq_true rfl) rfl (fun sz => ?_)
  generalize hQ : (fun r w => r = some (vI (b2 (rowsBad s k kind))) ∧ w = mW G ad s) = Q
  have h0 := pv_b hb k 0
  have h1 := pv_b hb k 1
  have yes : rowsBad s k kind → ∀ (x4 x5 x6 x7 x8 x9 : Option Value), WP (mth G l q_M_rowsWrong 1 0 0 (mW G ad s) sz Q) 0 0 (mW G ad s) 94 [some (.ref (ad 0)), some (vI k), some (vI kind), some (vI (s 3 k - s 5 k)), x4, x5, x6, x7, x8, x9] [] := by
    intro h x4 x5 x6 x7 x8 x9
    refine r_iconst d_M_rowsWrong_94 ?_
    refine r_zret d_M_rowsWrong_95 rfl (by first | exact Or.inl rfl | exact Or.inr rfl) (Nat.le_of_ble_eq_true rfl) (Nat.le_of_ble_eq_true rfl) ?_
    rw [← hQ]; exact ⟨by rw [b2_t h], rfl⟩
  have loop : ∀ (m r : Nat) (x8 x9 : Option Value), ¬ kind = 3 → s 3 k - s 5 k = 1 + kW kind * pv s k 0 → (r : Int) + m = pv s k 0 → WP (mth G l q_M_rowsWrong 1 0 0 (mW G ad s) sz Q) 0 0 (mW G ad s) 110 [some (.ref (ad 0)), some (vI k), some (vI kind), some (vI (s 3 k - s 5 k)), some (vI (kW kind)), some (vI (pv s k 0)), some (vI (b2 (exB (fun r => (kind = 2 ∧ badC s k r) ∨ (kind = 6 ∧ badS s k r)) r))), some (vI r), x8, x9] [] := by
    intro m
    induction m with
    | zero =>
      intro r x8 x9 h3 hl hr
      refine r_iload d_M_rowsWrong_110 rfl ?_
      refine r_iload d_M_rowsWrong_112 rfl ?_
      refine r_icmp_ge 264 d_M_rowsWrong_114 (by decide) (by unfold i32; omega) (by unfold i32; omega) (fun g1 => ?_) (fun g1 => ?_)
      · refine r_iload d_M_rowsWrong_264 rfl ?_
        refine r_zret d_M_rowsWrong_266 rfl (b2_b _) (Nat.le_of_ble_eq_true rfl) (Nat.le_of_ble_eq_true rfl) ?_
        rw [← hQ]
        refine ⟨?_, rfl⟩
        rw [show r = (pv s k 0).toNat by omega]
        congr 2
        refine b2_c ⟨fun h => Or.inr ⟨h3, Or.inr (Or.inr h)⟩, fun h => ?_⟩
        rcases h with h | ⟨_, h | h | h⟩
        · exact absurd h.1 h3
        · have : 0 ≤ kW kind * pv s k 0 := Int.mul_nonneg (by unfold kW; (repeat' split) <;> omega) (by omega)
          exact absurd h (by omega)
        · exact absurd hl h
        · exact h
      · exact absurd g1 (by omega)
    | succ m ih =>
      intro r x8 x9 h3 hl hr
      have hw0 := b2_b (exB (fun r => (kind = 2 ∧ badC s k r) ∨ (kind = 6 ∧ badS s k r)) r)
      have ih2 := fun x8 x9 => ih (r + 1) x8 x9 h3 hl (by omega)
      rw [b2_c (exB_s (fun r => (kind = 2 ∧ badC s k r) ∨ (kind = 6 ∧ badS s k r)) r)] at ih2
      generalize exB (fun r => (kind = 2 ∧ badC s k r) ∨ (kind = 6 ∧ badS s k r)) r = E at hw0 ih2 ⊢
      have hE : ∀ x, x = b2 (E ∨ ((kind = 2 ∧ badC s k r) ∨ (kind = 6 ∧ badS s k r))) → ∀ (x8 x9 : Option Value), WP (mth G l q_M_rowsWrong 1 0 0 (mW G ad s) sz Q) 0 0 (mW G ad s) 258 [some (.ref (ad 0)), some (vI k), some (vI kind), some (vI (s 3 k - s 5 k)), some (vI (kW kind)), some (vI (pv s k 0)), some (vI x), some (vI r), x8, x9] [] := by
        intro x hx2 x8 x9
        rw [hx2]
        refine r_iinc d_M_rowsWrong_258 rfl (Nat.le_of_ble_eq_true rfl) rfl ?_
        show WP _ _ _ _ _ [_, _, _, _, _, _, _, _, _, _] _
        refine r_goto 110 d_M_rowsWrong_261 (by decide) ?_
        exact ih2 _ _
      have hr2 : (r : Int) + 1 ≤ pv s k 0 := by omega
      refine r_iload d_M_rowsWrong_110 rfl ?_
      refine r_iload d_M_rowsWrong_112 rfl ?_
      refine r_icmp_ge 264 d_M_rowsWrong_114 (by decide) (by unfold i32; omega) (by unfold i32; omega) (fun g1 => ?_) (fun g1 => ?_)
      · exact absurd g1 (by omega)
      refine r_iload_n d_M_rowsWrong_117 rfl ?_
      refine r_iconst d_M_rowsWrong_118 ?_
      refine r_icmp_ne 208 d_M_rowsWrong_119 (by decide) (by unfold i32; omega) (by unfold i32; omega) (fun g2 => ?_) (fun g2 => ?_)
      · -- not CHUNKS
        refine r_iload_n d_M_rowsWrong_208 rfl ?_
        refine r_bipush d_M_rowsWrong_209 (by decide) ?_
        refine r_icmp_ne 258 d_M_rowsWrong_211 (by decide) (by unfold i32; omega) (by unfold i32; omega) (fun g3 => ?_) (fun g3 => ?_)
        · exact hE _ (b2_c ⟨Or.inl, fun h => by rcases h with h | h | h; exact h; exact absurd h.1 g2; exact absurd h.1 g3⟩) _ _
        · have hk6 : kind = 6 := by omega
          have hpl : s 3 k - s 5 k = 1 + pv s k 0 := by rw [hl]; unfold kW; rw [if_neg g2, if_pos (Or.inr hk6)]; omega
          have hp1 := pv_b hb k (1 + r)
          have hp2 := pv_b hb k r
          refine r_aload_n d_M_rowsWrong_214 rfl rfl ?_
          refine r_iload_n d_M_rowsWrong_215 rfl ?_
          refine r_iconst d_M_rowsWrong_216 ?_
          refine r_iload d_M_rowsWrong_217 rfl ?_
          refine r_iadd d_M_rowsWrong_219 ?_
          refine r_cV2 d_M_rowsWrong_220 lk_M_106 (c_M_payB G l ad s k (1 + r) hx (by omega)) 0 rfl rfl (Nat.le_of_ble_eq_true rfl) (rok rfl rfl) ⟨(Nat.le_of_ble_eq_true rfl), (Nat.le_of_ble_eq_true rfl)⟩ (fun r ws2 hq => ?_)
          obtain ⟨rfl, rfl⟩ := hq
          show WP _ _ _ _ _ _ (_ :: _)
          have j256 : ∀ x, x = b2 (E ∨ badS s k r) → WP (mth G l q_M_rowsWrong 1 0 0 (mW G ad s) sz Q) 0 0 (mW G ad s) 256 [some (.ref (ad 0)), some (vI k), some (vI kind), some (vI (s 3 k - s 5 k)), some (vI (kW kind)), some (vI (pv s k 0)), some (vI (b2 E)), some (vI r), some (vI (pv s k (1 + r))), x9] [vI x] := by
            intro x hx2
            refine r_istore d_M_rowsWrong_256 (Nat.le_of_ble_eq_true rfl) rfl ?_
            show WP _ _ _ _ _ [_, _, _, _, _, _, _, _, _, _] _
            exact hE x (by rw [hx2]; exact b2_c ⟨fun h => h.elim Or.inl (fun q => Or.inr (Or.inr ⟨hk6, q⟩)), fun h => by rcases h with h | h | h; exact Or.inl h; exact absurd h.1 g2; exact Or.inr h.2⟩) _ _
          have j248 : ∀ y, y = (if (r : Int) = 0 then 0 else pv s k r) → ¬ E → WP (mth G l q_M_rowsWrong 1 0 0 (mW G ad s) sz Q) 0 0 (mW G ad s) 248 [some (.ref (ad 0)), some (vI k), some (vI kind), some (vI (s 3 k - s 5 k)), some (vI (kW kind)), some (vI (pv s k 0)), some (vI (b2 E)), some (vI r), some (vI (pv s k (1 + r))), x9] [vI y, vI (pv s k (1 + r))] := by
            intro y hy hnE
            have hyb : 0 ≤ y ∧ y < 256 := by rw [hy]; split <;> omega
            refine r_icmp_gt 255 d_M_rowsWrong_248 (by decide) (by unfold i32; omega) (by unfold i32; omega) (fun g4 => ?_) (fun g4 => ?_)
            · refine r_iconst d_M_rowsWrong_255 ?_
              exact j256 0 (by rw [b2_f]; rintro (h | h); exact hnE h; unfold badS at h; rw [← hy] at h; omega)
            · refine r_iconst d_M_rowsWrong_251 ?_
              refine r_goto 256 d_M_rowsWrong_252 (by decide) ?_
              exact j256 1 (by rw [b2_t]; exact Or.inr (by unfold badS; rw [← hy]; omega))
          refine r_istore d_M_rowsWrong_223 (Nat.le_of_ble_eq_true rfl) rfl ?_
          show WP _ _ _ _ _ [_, _, _, _, _, _, _, _, _, _] _
          refine r_iload d_M_rowsWrong_225 rfl ?_
          refine r_if_ne 251 d_M_rowsWrong_227 (by decide) (by unfold i32; omega) (fun g4 => ?_) (fun g4 => ?_)
          · refine r_iconst d_M_rowsWrong_251 ?_
            refine r_goto 256 d_M_rowsWrong_252 (by decide) ?_
            exact j256 1 (by rw [b2_t]; exact Or.inl (b2_1.mp (by omega)))
          have hnE : ¬ E := b2_0.mp (by omega)
          refine r_iload d_M_rowsWrong_230 rfl ?_
          refine r_iload d_M_rowsWrong_232 rfl ?_
          refine r_if_ne 241 d_M_rowsWrong_234 (by decide) (by unfold i32; omega) (fun g5 => ?_) (fun g5 => ?_)
          · refine r_aload_n d_M_rowsWrong_241 rfl rfl ?_
            refine r_iload_n d_M_rowsWrong_242 rfl ?_
            refine r_iload d_M_rowsWrong_243 rfl ?_
            refine r_cV2 d_M_rowsWrong_245 lk_M_106 (c_M_payB G l ad s k r hx (by omega)) 0 rfl rfl (Nat.le_of_ble_eq_true rfl) (rok rfl rfl) ⟨(Nat.le_of_ble_eq_true rfl), (Nat.le_of_ble_eq_true rfl)⟩ (fun r ws2 hq => ?_)
            obtain ⟨rfl, rfl⟩ := hq
            show WP _ _ _ _ _ _ (_ :: _)
            exact j248 _ (by rw [if_neg g5]) hnE
          · refine r_iconst d_M_rowsWrong_237 ?_
            refine r_goto 248 d_M_rowsWrong_238 (by decide) ?_
            exact j248 0 (by rw [if_pos (by omega)]) hnE
      · have hk2 : kind = 2 := by omega
        have hpl : s 3 k - s 5 k = 1 + 3 * pv s k 0 := by rw [hl]; unfold kW; rw [if_pos hk2]
        have hp1 := pv_b hb k (1 + 3 * r)
        have hp2 := pv_b hb k (2 + 3 * r)
        have hp3 := pv_b hb k (3 * r - 2)
        have j206 : ∀ x, x = b2 (E ∨ badC s k r) → ∀ (x9 : Option Value), WP (mth G l q_M_rowsWrong 1 0 0 (mW G ad s) sz Q) 0 0 (mW G ad s) 206 [some (.ref (ad 0)), some (vI k), some (vI kind), some (vI (s 3 k - s 5 k)), some (vI (kW kind)), some (vI (pv s k 0)), some (vI (b2 E)), some (vI r), some (vI (pv s k (1 + 3 * r))), x9] [vI x] := by
          intro x hx2 x9
          refine r_istore d_M_rowsWrong_206 (Nat.le_of_ble_eq_true rfl) rfl ?_
          show WP _ _ _ _ _ [_, _, _, _, _, _, _, _, _, _] _
          refine r_iload_n d_M_rowsWrong_208 rfl ?_
          refine r_bipush d_M_rowsWrong_209 (by decide) ?_
          refine r_icmp_ne 258 d_M_rowsWrong_211 (by decide) (by unfold i32; omega) (by unfold i32; omega) (fun g3 => ?_) (fun g3 => ?_)
          · exact hE x (by rw [hx2]; exact b2_c ⟨fun h => h.elim Or.inl (fun q => Or.inr (Or.inl ⟨hk2, q⟩)), fun h => by rcases h with h | h | h; exact Or.inl h; exact Or.inr h.2; exact absurd h.1 g3⟩) _ _
          · exact absurd g3 (by omega)
        have j175 : ∀ y, y = b2 (if (r : Int) = 0 then pv s k 1 = 1 else pv s k (3 * r - 2) < pv s k (1 + 3 * r)) → WP (mth G l q_M_rowsWrong 1 0 0 (mW G ad s) sz Q) 0 0 (mW G ad s) 175 [some (.ref (ad 0)), some (vI k), some (vI kind), some (vI (s 3 k - s 5 k)), some (vI (kW kind)), some (vI (pv s k 0)), some (vI (b2 E)), some (vI r), some (vI (pv s k (1 + 3 * r))), x9] [vI y] := by
          intro y hy
          have hyb := b2_b (if (r : Int) = 0 then pv s k 1 = 1 else pv s k (3 * r - 2) < pv s k (1 + 3 * r))
          rw [← hy] at hyb
          refine r_istore d_M_rowsWrong_175 (Nat.le_of_ble_eq_true rfl) rfl ?_
          show WP _ _ _ _ _ [_, _, _, _, _, _, _, _, _, _] _
          refine r_iload d_M_rowsWrong_177 rfl ?_
          refine r_if_ne 201 d_M_rowsWrong_179 (by decide) (by unfold i32; omega) (fun g4 => ?_) (fun g4 => ?_)
          · refine r_iconst d_M_rowsWrong_201 ?_
            refine r_goto 206 d_M_rowsWrong_202 (by decide) ?_
            exact j206 1 (by rw [b2_t]; exact Or.inl (b2_1.mp (by omega))) _
          have hnE : ¬ E := b2_0.mp (by omega)
          refine r_iload d_M_rowsWrong_182 rfl ?_
          refine r_if_eq 201 d_M_rowsWrong_184 (by decide) (by unfold i32; omega) (fun g5 => ?_) (fun g5 => ?_)
          · refine r_iconst d_M_rowsWrong_201 ?_
            refine r_goto 206 d_M_rowsWrong_202 (by decide) ?_
            exact j206 1 (by rw [b2_t]; exact Or.inr (Or.inl (b2_0.mp (by omega)))) _
          have hor := b2_1.mp (show b2 (if (r : Int) = 0 then pv s k 1 = 1 else pv s k (3 * r - 2) < pv s k (1 + 3 * r)) = 1 by omega)
          refine r_aload_n d_M_rowsWrong_187 rfl rfl ?_
          refine r_iload_n d_M_rowsWrong_188 rfl ?_
          refine r_iconst d_M_rowsWrong_189 ?_
          refine r_iconst d_M_rowsWrong_190 ?_
          refine r_iload d_M_rowsWrong_191 rfl ?_
          refine r_imul d_M_rowsWrong_193 ?_
          refine r_iadd d_M_rowsWrong_194 ?_
          refine r_cV2 d_M_rowsWrong_195 lk_M_106 (c_M_payB G l ad s k (2 + 3 * r) hx (by omega)) 0 rfl rfl (Nat.le_of_ble_eq_true rfl) (rok rfl rfl) ⟨(Nat.le_of_ble_eq_true rfl), (Nat.le_of_ble_eq_true rfl)⟩ (fun r ws2 hq => ?_)
          obtain ⟨rfl, rfl⟩ := hq
          show WP _ _ _ _ _ _ (_ :: _)
          refine r_if_ne 205 d_M_rowsWrong_198 (by decide) (by unfold i32; omega) (fun g6 => ?_) (fun g6 => ?_)
          · refine r_iconst d_M_rowsWrong_205 ?_
            exact j206 0 (by rw [b2_f]; rintro (h | h | h); exact hnE h; exact h hor; exact g6 h) _
          · refine r_iconst d_M_rowsWrong_201 ?_
            refine r_goto 206 d_M_rowsWrong_202 (by decide) ?_
            exact j206 1 (by rw [b2_t]; exact Or.inr (Or.inr (by omega))) _
        refine r_aload_n d_M_rowsWrong_122 rfl rfl ?_
        refine r_iload_n d_M_rowsWrong_123 rfl ?_
        refine r_iconst d_M_rowsWrong_124 ?_
        refine r_iconst d_M_rowsWrong_125 ?_
        refine r_iload d_M_rowsWrong_126 rfl ?_
        refine r_imul d_M_rowsWrong_128 ?_
        refine r_iadd d_M_rowsWrong_129 ?_
        refine r_cV2 d_M_rowsWrong_130 lk_M_106 (c_M_payB G l ad s k (1 + 3 * r) hx (by omega)) 0 rfl rfl (Nat.le_of_ble_eq_true rfl) (rok rfl rfl) ⟨(Nat.le_of_ble_eq_true rfl), (Nat.le_of_ble_eq_true rfl)⟩ (fun r ws2 hq => ?_)
        obtain ⟨rfl, rfl⟩ := hq
        show WP _ _ _ _ _ _ (_ :: _)
        refine r_istore d_M_rowsWrong_133 (Nat.le_of_ble_eq_true rfl) rfl ?_
        show WP _ _ _ _ _ [_, _, _, _, _, _, _, _, _, _] _
        refine r_iload d_M_rowsWrong_135 rfl ?_
        refine r_if_ne 154 d_M_rowsWrong_137 (by decide) (by unfold i32; omega) (fun g3 => ?_) (fun g3 => ?_)
        · refine r_iload d_M_rowsWrong_154 rfl ?_
          refine r_aload_n d_M_rowsWrong_156 rfl rfl ?_
          refine r_iload_n d_M_rowsWrong_157 rfl ?_
          refine r_iconst d_M_rowsWrong_158 ?_
          refine r_iload d_M_rowsWrong_159 rfl ?_
          refine r_imul d_M_rowsWrong_161 ?_
          refine r_iconst d_M_rowsWrong_162 ?_
          refine r_isub d_M_rowsWrong_163 ?_
          refine r_cV2 d_M_rowsWrong_164 lk_M_106 (c_M_payB G l ad s k (3 * r - 2) hx (by omega)) 0 rfl rfl (Nat.le_of_ble_eq_true rfl) (rok rfl rfl) ⟨(Nat.le_of_ble_eq_true rfl), (Nat.le_of_ble_eq_true rfl)⟩ (fun r ws2 hq => ?_)
          obtain ⟨rfl, rfl⟩ := hq
          show WP _ _ _ _ _ _ (_ :: _)
          refine r_icmp_le 174 d_M_rowsWrong_167 (by decide) (by unfold i32; omega) (by unfold i32; omega) (fun g4 => ?_) (fun g4 => ?_)
          · refine r_iconst d_M_rowsWrong_174 ?_
            exact j175 0 (by rw [if_neg g3, b2_f]; omega)
          · refine r_iconst d_M_rowsWrong_170 ?_
            refine r_goto 175 d_M_rowsWrong_171 (by decide) ?_
            exact j175 1 (by rw [if_neg g3, b2_t]; omega)
        · have hr0 : (r : Int) = 0 := by omega
          have e1 : pv s k (1 + 3 * r) = pv s k 1 := by rw [hr0]; rfl
          refine r_iload d_M_rowsWrong_140 rfl ?_
          refine r_iconst d_M_rowsWrong_142 ?_
          refine r_icmp_ne 150 d_M_rowsWrong_143 (by decide) (by unfold i32; omega) (by unfold i32; omega) (fun g4 => ?_) (fun g4 => ?_)
          · refine r_iconst d_M_rowsWrong_150 ?_
            refine r_goto 175 d_M_rowsWrong_151 (by decide) ?_
            exact j175 0 (by rw [if_pos hr0, b2_f]; omega)
          · refine r_iconst d_M_rowsWrong_146 ?_
            refine r_goto 175 d_M_rowsWrong_147 (by decide) ?_
            exact j175 1 (by rw [if_pos hr0, b2_t]; omega)
  have j72 : ∀ w, w = kW kind → ¬ kind = 3 → WP (mth G l q_M_rowsWrong 1 0 0 (mW G ad s) sz Q) 0 0 (mW G ad s) 72 [some (.ref (ad 0)), some (vI k), some (vI kind), some (vI (s 3 k - s 5 k)), none, none, none, none, none, none] [vI w] := by
    intro w hw h3
    have hwb : w = 1 ∨ w = 2 ∨ w = 3 := by rw [hw]; unfold kW; (repeat' split) <;> omega
    have hwp : 0 ≤ w * pv s k 0 ∧ w * pv s k 0 ≤ 1000 := by rcases hwb with h | h | h <;> rw [h] <;> omega
    refine r_istore d_M_rowsWrong_72 (Nat.le_of_ble_eq_true rfl) rfl ?_
    show WP _ _ _ _ _ [_, _, _, _, _, _, _, _, _, _] _
    refine r_iload_n d_M_rowsWrong_74 rfl ?_
    refine r_iconst d_M_rowsWrong_75 ?_
    refine r_icmp_lt 94 d_M_rowsWrong_76 (by decide) (by unfold i32; omega) (by unfold i32; omega) (fun g1 => ?_) (fun g1 => ?_)
    · exact yes (Or.inr ⟨h3, Or.inl g1⟩) _ _ _ _ _ _
    refine r_iload_n d_M_rowsWrong_79 rfl ?_
    refine r_iconst d_M_rowsWrong_80 ?_
    refine r_iload d_M_rowsWrong_81 rfl ?_
    refine r_aload_n d_M_rowsWrong_83 rfl rfl ?_
    refine r_iload_n d_M_rowsWrong_84 rfl ?_
    refine r_iconst d_M_rowsWrong_85 ?_
    refine r_cV2 d_M_rowsWrong_86 lk_M_106 (c_M_payB G l ad s k 0 hx (by omega)) 0 rfl rfl (Nat.le_of_ble_eq_true rfl) (rok rfl rfl) ⟨(Nat.le_of_ble_eq_true rfl), (Nat.le_of_ble_eq_true rfl)⟩ (fun r ws2 hq => ?_)
    obtain ⟨rfl, rfl⟩ := hq
    show WP _ _ _ _ _ _ (_ :: _)
    refine r_imul d_M_rowsWrong_89 ?_
    refine r_iadd d_M_rowsWrong_90 ?_
    refine r_icmp_eq 96 d_M_rowsWrong_91 (by decide) (by unfold i32; omega) (by unfold i32; omega) (fun g2 => ?_) (fun g2 => ?_)
    · refine r_aload_n d_M_rowsWrong_96 rfl rfl ?_
      refine r_iload_n d_M_rowsWrong_97 rfl ?_
      refine r_iconst d_M_rowsWrong_98 ?_
      refine r_cV2 d_M_rowsWrong_99 lk_M_106 (c_M_payB G l ad s k 0 hx (by omega)) 0 rfl rfl (Nat.le_of_ble_eq_true rfl) (rok rfl rfl) ⟨(Nat.le_of_ble_eq_true rfl), (Nat.le_of_ble_eq_true rfl)⟩ (fun r ws2 hq => ?_)
      obtain ⟨rfl, rfl⟩ := hq
      show WP _ _ _ _ _ _ (_ :: _)
      refine r_istore d_M_rowsWrong_102 (Nat.le_of_ble_eq_true rfl) rfl ?_
      show WP _ _ _ _ _ [_, _, _, _, _, _, _, _, _, _] _
      refine r_iconst d_M_rowsWrong_104 ?_
      refine r_istore d_M_rowsWrong_105 (Nat.le_of_ble_eq_true rfl) rfl ?_
      show WP _ _ _ _ _ [_, _, _, _, _, _, _, _, _, _] _
      refine r_iconst d_M_rowsWrong_107 ?_
      refine r_istore d_M_rowsWrong_108 (Nat.le_of_ble_eq_true rfl) rfl ?_
      show WP _ _ _ _ _ [_, _, _, _, _, _, _, _, _, _] _
      rw [hw] at g2 ⊢
      have := loop (pv s k 0).toNat 0 none none h3 g2 (by omega)
      rw [b2_f (exB_0 _)] at this
      exact this
    · exact yes (Or.inr ⟨h3, Or.inr (Or.inl (by rw [← hw]; exact g2))⟩) _ _ _ _ _ _
  refine r_aload_n d_M_rowsWrong_0 rfl rfl ?_
  refine r_iload_n d_M_rowsWrong_1 rfl ?_
  refine r_cV1 d_M_rowsWrong_2 lk_M_103 (c_M_payLength G l ad s k (by omega)) 0 rfl rfl (Nat.le_of_ble_eq_true rfl) (rok rfl rfl) ⟨(Nat.le_of_ble_eq_true rfl), (Nat.le_of_ble_eq_true rfl)⟩ (fun r ws2 hq => ?_)
  obtain ⟨rfl, rfl⟩ := hq
  show WP _ _ _ _ _ _ (_ :: _)
  refine r_istore_n d_M_rowsWrong_5 (Nat.le_of_ble_eq_true rfl) rfl ?_
  show WP _ _ _ _ _ [_, _, _, _, _, _, _, _, _, _] _
  refine r_iload_n d_M_rowsWrong_6 rfl ?_
  refine r_iconst d_M_rowsWrong_7 ?_
  refine r_icmp_ne 47 d_M_rowsWrong_8 (by decide) (by unfold i32; omega) (by unfold i32; omega) (fun g1 => ?_) (fun g1 => ?_)
  · refine r_iload_n d_M_rowsWrong_47 rfl ?_
    refine r_iconst d_M_rowsWrong_48 ?_
    refine r_icmp_ne 56 d_M_rowsWrong_49 (by decide) (by unfold i32; omega) (by unfold i32; omega) (fun g2 => ?_) (fun g2 => ?_)
    · refine r_iload_n d_M_rowsWrong_56 rfl ?_
      refine r_iconst d_M_rowsWrong_57 ?_
      refine r_icmp_eq 67 d_M_rowsWrong_58 (by decide) (by unfold i32; omega) (by unfold i32; omega) (fun g3 => ?_) (fun g3 => ?_)
      · refine r_iconst d_M_rowsWrong_67 ?_
        refine r_goto 72 d_M_rowsWrong_68 (by decide) ?_
        exact j72 1 (by unfold kW; rw [if_neg g2, if_pos (Or.inl g3)]) g1
      · refine r_iload_n d_M_rowsWrong_61 rfl ?_
        refine r_bipush d_M_rowsWrong_62 (by decide) ?_
        refine r_icmp_ne 71 d_M_rowsWrong_64 (by decide) (by unfold i32; omega) (by unfold i32; omega) (fun g4 => ?_) (fun g4 => ?_)
        · refine r_iconst d_M_rowsWrong_71 ?_
          exact j72 2 (by unfold kW; rw [if_neg g2, if_neg (by omega)]) g1
        · refine r_iconst d_M_rowsWrong_67 ?_
          refine r_goto 72 d_M_rowsWrong_68 (by decide) ?_
          exact j72 1 (by unfold kW; rw [if_neg g2, if_pos (Or.inr (by omega))]) g1
    · refine r_iconst d_M_rowsWrong_52 ?_
      refine r_goto 72 d_M_rowsWrong_53 (by decide) ?_
      exact j72 3 (by unfold kW; rw [if_pos (by omega)]) g1
  · have hk3 : kind = 3 := by omega
    have j46 : ∀ x, x = b2 (s 3 k - s 5 k < 2 ∨ ¬ s 3 k - s 5 k = (if pv s k 0 = 0 then 2 + pv s k 1 else 2)) → WP (mth G l q_M_rowsWrong 1 0 0 (mW G ad s) sz Q) 0 0 (mW G ad s) 46 [some (.ref (ad 0)), some (vI k), some (vI kind), some (vI (s 3 k - s 5 k)), none, none, none, none, none, none] [vI x] := by
      intro x hx2
      refine r_zret d_M_rowsWrong_46 rfl (by rw [hx2]; exact b2_b _) (Nat.le_of_ble_eq_true rfl) (Nat.le_of_ble_eq_true rfl) ?_
      rw [← hQ, hx2]
      refine ⟨?_, rfl⟩
      congr 2
      exact b2_c ⟨fun h => Or.inl ⟨hk3, h⟩, fun h => by rcases h with h | h; exact h.2; exact absurd hk3 h.1⟩
    have j38 : ∀ y, y = (if pv s k 0 = 0 then 2 + pv s k 1 else 2) → 2 ≤ s 3 k - s 5 k → WP (mth G l q_M_rowsWrong 1 0 0 (mW G ad s) sz Q) 0 0 (mW G ad s) 38 [some (.ref (ad 0)), some (vI k), some (vI kind), some (vI (s 3 k - s 5 k)), none, none, none, none, none, none] [vI y, vI (s 3 k - s 5 k)] := by
      intro y hy h2
      have hyb : 0 ≤ y ∧ y < 300 := by rw [hy]; split <;> omega
      rw [← hy] at j46
      refine r_icmp_eq 45 d_M_rowsWrong_38 (by decide) (by unfold i32; omega) (by unfold i32; omega) (fun g4 => ?_) (fun g4 => ?_)
      · refine r_iconst d_M_rowsWrong_45 ?_
        exact j46 0 (by rw [b2_f]; omega)
      · refine r_iconst d_M_rowsWrong_41 ?_
        refine r_goto 46 d_M_rowsWrong_42 (by decide) ?_
        exact j46 1 (by rw [b2_t]; omega)
    refine r_iload_n d_M_rowsWrong_11 rfl ?_
    refine r_iconst d_M_rowsWrong_12 ?_
    refine r_icmp_lt 41 d_M_rowsWrong_13 (by decide) (by unfold i32; omega) (by unfold i32; omega) (fun g2 => ?_) (fun g2 => ?_)
    · refine r_iconst d_M_rowsWrong_41 ?_
      refine r_goto 46 d_M_rowsWrong_42 (by decide) ?_
      exact j46 1 (by rw [b2_t (Or.inl g2)])
    refine r_iload_n d_M_rowsWrong_16 rfl ?_
    refine r_aload_n d_M_rowsWrong_17 rfl rfl ?_
    refine r_iload_n d_M_rowsWrong_18 rfl ?_
    refine r_iconst d_M_rowsWrong_19 ?_
    refine r_cV2 d_M_rowsWrong_20 lk_M_106 (c_M_payB G l ad s k 0 hx (by omega)) 0 rfl rfl (Nat.le_of_ble_eq_true rfl) (rok rfl rfl) ⟨(Nat.le_of_ble_eq_true rfl), (Nat.le_of_ble_eq_true rfl)⟩ (fun r ws2 hq => ?_)
    obtain ⟨rfl, rfl⟩ := hq
    show WP _ _ _ _ _ _ (_ :: _)
    refine r_if_ne 37 d_M_rowsWrong_23 (by decide) (by unfold i32; omega) (fun g3 => ?_) (fun g3 => ?_)
    · refine r_iconst d_M_rowsWrong_37 ?_
      exact j38 2 (by rw [if_neg g3]) (by omega)
    · refine r_iconst d_M_rowsWrong_26 ?_
      refine r_aload_n d_M_rowsWrong_27 rfl rfl ?_
      refine r_iload_n d_M_rowsWrong_28 rfl ?_
      refine r_iconst d_M_rowsWrong_29 ?_
      refine r_cV2 d_M_rowsWrong_30 lk_M_106 (c_M_payB G l ad s k 1 hx (by omega)) 0 rfl rfl (Nat.le_of_ble_eq_true rfl) (rok rfl rfl) ⟨(Nat.le_of_ble_eq_true rfl), (Nat.le_of_ble_eq_true rfl)⟩ (fun r ws2 hq => ?_)
      obtain ⟨rfl, rfl⟩ := hq
      show WP _ _ _ _ _ _ (_ :: _)
      refine r_iadd d_M_rowsWrong_33 ?_
      refine r_goto 38 d_M_rowsWrong_34 (by decide) ?_
      exact j38 _ (by rw [if_pos (by omega)]) (by omega)
end MODEL7
