abbrev q_M_layout : Mi := (⟨"MovieBoxesModel", "layout", "(I)I"⟩, prog_12_method_41_code, 6, (some .int))
theorem d_M_layout_30 : decode prog_12_method_41_code 30 = .ok (.iload_n 2, 1) := by decide +kernel
theorem d_M_layout_31 : decode prog_12_method_41_code 31 = .ok (.aload_n 0, 1) := by decide +kernel
theorem d_M_layout_32 : decode prog_12_method_41_code 32 = .ok (.getfield 96, 3) := by decide +kernel
theorem d_M_layout_35 : decode prog_12_method_41_code 35 = .ok (.if_icmp .lt 202, 3) := by decide +kernel
theorem d_M_layout_237 : decode prog_12_method_41_code 237 = .ok (.aload_n 0, 1) := by decide +kernel
theorem d_M_layout_238 : decode prog_12_method_41_code 238 = .ok (.getfield 49, 3) := by decide +kernel
set_option maxRecDepth 20000 in
theorem w_729 : Cond.fieldLink "MovieBoxesModel" 49 "MovieBoxesModel" "newLen" "[I" ∈ gt := gt_of (in_t4 (List.mem_of_getElem? (i := 9) rfl)) rfl
theorem fl_M_49_7 : FL "MovieBoxesModel" 49 7 17 true := ⟨_, _, _, "MovieBoxesModel", rfl, by decide, rfl, Or.inl w_729, Or.inl rfl⟩
theorem d_M_layout_241 : decode prog_12_method_41_code 241 = .ok (.aload_n 0, 1) := by decide +kernel
theorem d_M_layout_242 : decode prog_12_method_41_code 242 = .ok (.getfield 96, 3) := by decide +kernel
theorem d_M_layout_245 : decode prog_12_method_41_code 245 = .ok (.iaload, 1) := by decide +kernel
theorem d_M_layout_246 : decode prog_12_method_41_code 246 = .ok (.ireturn, 1) := by decide +kernel
theorem d_M_layout_231 : decode prog_12_method_41_code 231 = .ok (.iinc 2 (-1), 3) := by decide +kernel
theorem d_M_layout_234 : decode prog_12_method_41_code 234 = .ok (.goto (-204), 3) := by decide +kernel
theorem d_M_layout_178 : decode prog_12_method_41_code 178 = .ok (.iastore, 1) := by decide +kernel
theorem d_M_layout_179 : decode prog_12_method_41_code 179 = .ok (.aload_n 0, 1) := by decide +kernel
theorem d_M_layout_180 : decode prog_12_method_41_code 180 = .ok (.getfield 49, 3) := by decide +kernel
theorem d_M_layout_183 : decode prog_12_method_41_code 183 = .ok (.iload_n 2, 1) := by decide +kernel
theorem d_M_layout_184 : decode prog_12_method_41_code 184 = .ok (.aload_n 0, 1) := by decide +kernel
theorem d_M_layout_185 : decode prog_12_method_41_code 185 = .ok (.getfield 46, 3) := by decide +kernel
set_option maxRecDepth 20000 in
theorem w_728 : Cond.fieldLink "MovieBoxesModel" 46 "MovieBoxesModel" "newHead" "[I" ∈ gt := gt_of (in_t4 (List.mem_of_getElem? (i := 8) rfl)) rfl
theorem fl_M_46_7 : FL "MovieBoxesModel" 46 7 16 true := ⟨_, _, _, "MovieBoxesModel", rfl, by decide, rfl, Or.inl w_728, Or.inl rfl⟩
theorem d_M_layout_188 : decode prog_12_method_41_code 188 = .ok (.iload_n 2, 1) := by decide +kernel
theorem d_M_layout_189 : decode prog_12_method_41_code 189 = .ok (.iaload, 1) := by decide +kernel
theorem d_M_layout_190 : decode prog_12_method_41_code 190 = .ok (.iload_n 3, 1) := by decide +kernel
theorem d_M_layout_191 : decode prog_12_method_41_code 191 = .ok (.iadd, 1) := by decide +kernel
theorem d_M_layout_192 : decode prog_12_method_41_code 192 = .ok (.iastore, 1) := by decide +kernel
theorem d_M_layout_193 : decode prog_12_method_41_code 193 = .ok (.aload_n 0, 1) := by decide +kernel
theorem d_M_layout_194 : decode prog_12_method_41_code 194 = .ok (.getfield 28, 3) := by decide +kernel
theorem d_M_layout_197 : decode prog_12_method_41_code 197 = .ok (.iload_n 2, 1) := by decide +kernel
theorem d_M_layout_198 : decode prog_12_method_41_code 198 = .ok (.iaload, 1) := by decide +kernel
theorem d_M_layout_199 : decode prog_12_method_41_code 199 = .ok (.ifCond .lt 32, 3) := by decide +kernel
theorem d_M_layout_202 : decode prog_12_method_41_code 202 = .ok (.aload_n 0, 1) := by decide +kernel
theorem d_M_layout_203 : decode prog_12_method_41_code 203 = .ok (.getfield 52, 3) := by decide +kernel
set_option maxRecDepth 20000 in
theorem w_730 : Cond.fieldLink "MovieBoxesModel" 52 "MovieBoxesModel" "inner" "[I" ∈ gt := gt_of (in_t4 (List.mem_of_getElem? (i := 10) rfl)) rfl
theorem fl_M_52_7 : FL "MovieBoxesModel" 52 7 18 true := ⟨_, _, _, "MovieBoxesModel", rfl, by decide, rfl, Or.inl w_730, Or.inl rfl⟩
theorem d_M_layout_206 : decode prog_12_method_41_code 206 = .ok (.aload_n 0, 1) := by decide +kernel
theorem d_M_layout_207 : decode prog_12_method_41_code 207 = .ok (.getfield 28, 3) := by decide +kernel
theorem d_M_layout_210 : decode prog_12_method_41_code 210 = .ok (.iload_n 2, 1) := by decide +kernel
theorem d_M_layout_211 : decode prog_12_method_41_code 211 = .ok (.iaload, 1) := by decide +kernel
theorem d_M_layout_212 : decode prog_12_method_41_code 212 = .ok (.aload_n 0, 1) := by decide +kernel
theorem d_M_layout_213 : decode prog_12_method_41_code 213 = .ok (.getfield 52, 3) := by decide +kernel
theorem d_M_layout_216 : decode prog_12_method_41_code 216 = .ok (.aload_n 0, 1) := by decide +kernel
theorem d_M_layout_217 : decode prog_12_method_41_code 217 = .ok (.getfield 28, 3) := by decide +kernel
theorem d_M_layout_220 : decode prog_12_method_41_code 220 = .ok (.iload_n 2, 1) := by decide +kernel
theorem d_M_layout_221 : decode prog_12_method_41_code 221 = .ok (.iaload, 1) := by decide +kernel
theorem d_M_layout_222 : decode prog_12_method_41_code 222 = .ok (.iaload, 1) := by decide +kernel
theorem d_M_layout_223 : decode prog_12_method_41_code 223 = .ok (.aload_n 0, 1) := by decide +kernel
theorem d_M_layout_224 : decode prog_12_method_41_code 224 = .ok (.getfield 49, 3) := by decide +kernel
theorem d_M_layout_227 : decode prog_12_method_41_code 227 = .ok (.iload_n 2, 1) := by decide +kernel
theorem d_M_layout_228 : decode prog_12_method_41_code 228 = .ok (.iaload, 1) := by decide +kernel
theorem d_M_layout_229 : decode prog_12_method_41_code 229 = .ok (.iadd, 1) := by decide +kernel
theorem d_M_layout_230 : decode prog_12_method_41_code 230 = .ok (.iastore, 1) := by decide +kernel
theorem d_M_layout_149 : decode prog_12_method_41_code 149 = .ok (.aload_n 0, 1) := by decide +kernel
theorem d_M_layout_150 : decode prog_12_method_41_code 150 = .ok (.getfield 46, 3) := by decide +kernel
theorem d_M_layout_153 : decode prog_12_method_41_code 153 = .ok (.iload_n 2, 1) := by decide +kernel
theorem d_M_layout_154 : decode prog_12_method_41_code 154 = .ok (.aload_n 0, 1) := by decide +kernel
theorem d_M_layout_155 : decode prog_12_method_41_code 155 = .ok (.getfield 22, 3) := by decide +kernel
theorem d_M_layout_158 : decode prog_12_method_41_code 158 = .ok (.iload_n 2, 1) := by decide +kernel
theorem d_M_layout_159 : decode prog_12_method_41_code 159 = .ok (.iaload, 1) := by decide +kernel
theorem d_M_layout_160 : decode prog_12_method_41_code 160 = .ok (.iconst 4, 1) := by decide +kernel
theorem d_M_layout_161 : decode prog_12_method_41_code 161 = .ok (.if_icmp .eq 12, 3) := by decide +kernel
theorem d_M_layout_173 : decode prog_12_method_41_code 173 = .ok (.iconst 4, 1) := by decide +kernel
theorem d_M_layout_174 : decode prog_12_method_41_code 174 = .ok (.goto 4, 3) := by decide +kernel
theorem d_M_layout_164 : decode prog_12_method_41_code 164 = .ok (.iload_n 3, 1) := by decide +kernel
theorem d_M_layout_165 : decode prog_12_method_41_code 165 = .ok (.iconst 2, 1) := by decide +kernel
theorem d_M_layout_166 : decode prog_12_method_41_code 166 = .ok (.iadd, 1) := by decide +kernel
theorem d_M_layout_167 : decode prog_12_method_41_code 167 = .ok (.sipush 255, 3) := by decide +kernel
theorem d_M_layout_170 : decode prog_12_method_41_code 170 = .ok (.if_icmp .le 7, 3) := by decide +kernel
theorem d_M_layout_177 : decode prog_12_method_41_code 177 = .ok (.iconst 2, 1) := by decide +kernel
theorem d_M_layout_81 : decode prog_12_method_41_code 81 = .ok (.iload 4, 2) := by decide +kernel
theorem d_M_layout_83 : decode prog_12_method_41_code 83 = .ok (.aload_n 0, 1) := by decide +kernel
theorem d_M_layout_84 : decode prog_12_method_41_code 84 = .ok (.getfield 83, 3) := by decide +kernel
theorem d_M_layout_87 : decode prog_12_method_41_code 87 = .ok (.if_icmp .ge 62, 3) := by decide +kernel
theorem d_M_layout_142 : decode prog_12_method_41_code 142 = .ok (.istore_n 3, 1) := by decide +kernel
theorem d_M_layout_143 : decode prog_12_method_41_code 143 = .ok (.iinc 4 1, 3) := by decide +kernel
theorem d_M_layout_146 : decode prog_12_method_41_code 146 = .ok (.goto (-65), 3) := by decide +kernel
theorem d_M_layout_121 : decode prog_12_method_41_code 121 = .ok (.istore 5, 2) := by decide +kernel
theorem d_M_layout_123 : decode prog_12_method_41_code 123 = .ok (.iload 5, 2) := by decide +kernel
theorem d_M_layout_125 : decode prog_12_method_41_code 125 = .ok (.ifCond .eq 16, 3) := by decide +kernel
theorem d_M_layout_141 : decode prog_12_method_41_code 141 = .ok (.iload_n 3, 1) := by decide +kernel
theorem d_M_layout_128 : decode prog_12_method_41_code 128 = .ok (.iconst 1, 1) := by decide +kernel
theorem d_M_layout_129 : decode prog_12_method_41_code 129 = .ok (.iconst 2, 1) := by decide +kernel
theorem d_M_layout_130 : decode prog_12_method_41_code 130 = .ok (.aload_n 0, 1) := by decide +kernel
theorem d_M_layout_131 : decode prog_12_method_41_code 131 = .ok (.iload_n 2, 1) := by decide +kernel
theorem d_M_layout_132 : decode prog_12_method_41_code 132 = .ok (.iconst 0, 1) := by decide +kernel
theorem d_M_layout_133 : decode prog_12_method_41_code 133 = .ok (.invokevirtual 106, 3) := by decide +kernel
theorem d_M_layout_136 : decode prog_12_method_41_code 136 = .ok (.imul, 1) := by decide +kernel
theorem d_M_layout_137 : decode prog_12_method_41_code 137 = .ok (.iadd, 1) := by decide +kernel
theorem d_M_layout_138 : decode prog_12_method_41_code 138 = .ok (.goto 4, 3) := by decide +kernel
theorem d_M_layout_90 : decode prog_12_method_41_code 90 = .ok (.iload_n 1, 1) := by decide +kernel
theorem d_M_layout_91 : decode prog_12_method_41_code 91 = .ok (.iload 4, 2) := by decide +kernel
theorem d_M_layout_94 : decode prog_12_method_41_code 94 = .ok (.iconst 1, 1) := by decide +kernel
theorem d_M_layout_96 : decode prog_12_method_41_code 96 = .ok (.iconst 1, 1) := by decide +kernel
theorem d_M_layout_97 : decode prog_12_method_41_code 97 = .ok (.if_icmp .ne 23, 3) := by decide +kernel
theorem d_M_layout_100 : decode prog_12_method_41_code 100 = .ok (.aload_n 0, 1) := by decide +kernel
theorem d_M_layout_101 : decode prog_12_method_41_code 101 = .ok (.getfield 40, 3) := by decide +kernel
theorem d_M_layout_104 : decode prog_12_method_41_code 104 = .ok (.bipush 8, 2) := by decide +kernel
theorem d_M_layout_106 : decode prog_12_method_41_code 106 = .ok (.iload 4, 2) := by decide +kernel
theorem d_M_layout_108 : decode prog_12_method_41_code 108 = .ok (.imul, 1) := by decide +kernel
theorem d_M_layout_109 : decode prog_12_method_41_code 109 = .ok (.iconst 4, 1) := by decide +kernel
theorem d_M_layout_110 : decode prog_12_method_41_code 110 = .ok (.iadd, 1) := by decide +kernel
theorem d_M_layout_111 : decode prog_12_method_41_code 111 = .ok (.iaload, 1) := by decide +kernel
theorem d_M_layout_112 : decode prog_12_method_41_code 112 = .ok (.iload_n 2, 1) := by decide +kernel
theorem d_M_layout_113 : decode prog_12_method_41_code 113 = .ok (.if_icmp .ne 7, 3) := by decide +kernel
theorem d_M_layout_120 : decode prog_12_method_41_code 120 = .ok (.iconst 0, 1) := by decide +kernel
theorem d_M_layout_116 : decode prog_12_method_41_code 116 = .ok (.iconst 1, 1) := by decide +kernel
theorem d_M_layout_117 : decode prog_12_method_41_code 117 = .ok (.goto 4, 3) := by decide +kernel
theorem d_M_layout_93 : decode prog_12_method_41_code 93 = .ok (.ishr, 1) := by decide +kernel
theorem d_M_layout_95 : decode prog_12_method_41_code 95 = .ok (.iand, 1) := by decide +kernel
theorem d_M_layout_77 : decode prog_12_method_41_code 77 = .ok (.istore_n 3, 1) := by decide +kernel
theorem d_M_layout_78 : decode prog_12_method_41_code 78 = .ok (.iconst 0, 1) := by decide +kernel
theorem d_M_layout_79 : decode prog_12_method_41_code 79 = .ok (.istore 4, 2) := by decide +kernel
theorem d_M_layout_55 : decode prog_12_method_41_code 55 = .ok (.aload_n 0, 1) := by decide +kernel
theorem d_M_layout_56 : decode prog_12_method_41_code 56 = .ok (.iload_n 2, 1) := by decide +kernel
theorem d_M_layout_57 : decode prog_12_method_41_code 57 = .ok (.invokevirtual 71, 3) := by decide +kernel
theorem d_M_layout_60 : decode prog_12_method_41_code 60 = .ok (.ifCond .eq 12, 3) := by decide +kernel
theorem d_M_layout_63 : decode prog_12_method_41_code 63 = .ok (.aload_n 0, 1) := by decide +kernel
theorem d_M_layout_64 : decode prog_12_method_41_code 64 = .ok (.getfield 52, 3) := by decide +kernel
theorem d_M_layout_67 : decode prog_12_method_41_code 67 = .ok (.iload_n 2, 1) := by decide +kernel
theorem d_M_layout_68 : decode prog_12_method_41_code 68 = .ok (.iaload, 1) := by decide +kernel
theorem d_M_layout_69 : decode prog_12_method_41_code 69 = .ok (.goto 8, 3) := by decide +kernel
theorem d_M_layout_72 : decode prog_12_method_41_code 72 = .ok (.aload_n 0, 1) := by decide +kernel
theorem d_M_layout_73 : decode prog_12_method_41_code 73 = .ok (.iload_n 2, 1) := by decide +kernel
theorem d_M_layout_74 : decode prog_12_method_41_code 74 = .ok (.invokevirtual 103, 3) := by decide +kernel
theorem d_M_layout_38 : decode prog_12_method_41_code 38 = .ok (.iload_n 2, 1) := by decide +kernel
theorem d_M_layout_39 : decode prog_12_method_41_code 39 = .ok (.aload_n 0, 1) := by decide +kernel
theorem d_M_layout_40 : decode prog_12_method_41_code 40 = .ok (.getfield 96, 3) := by decide +kernel
theorem d_M_layout_43 : decode prog_12_method_41_code 43 = .ok (.if_icmp .eq 12, 3) := by decide +kernel
theorem d_M_layout_46 : decode prog_12_method_41_code 46 = .ok (.aload_n 0, 1) := by decide +kernel
theorem d_M_layout_47 : decode prog_12_method_41_code 47 = .ok (.getfield 25, 3) := by decide +kernel
theorem d_M_layout_50 : decode prog_12_method_41_code 50 = .ok (.iload_n 2, 1) := by decide +kernel
theorem d_M_layout_51 : decode prog_12_method_41_code 51 = .ok (.iaload, 1) := by decide +kernel
theorem d_M_layout_52 : decode prog_12_method_41_code 52 = .ok (.ifCond .le 179, 3) := by decide +kernel
theorem d_M_layout_2 : decode prog_12_method_41_code 2 = .ok (.iload_n 2, 1) := by decide +kernel
theorem d_M_layout_3 : decode prog_12_method_41_code 3 = .ok (.aload_n 0, 1) := by decide +kernel
theorem d_M_layout_4 : decode prog_12_method_41_code 4 = .ok (.getfield 64, 3) := by decide +kernel
theorem d_M_layout_7 : decode prog_12_method_41_code 7 = .ok (.if_icmp .ge 16, 3) := by decide +kernel
theorem d_M_layout_23 : decode prog_12_method_41_code 23 = .ok (.aload_n 0, 1) := by decide +kernel
theorem d_M_layout_24 : decode prog_12_method_41_code 24 = .ok (.getfield 64, 3) := by decide +kernel
theorem d_M_layout_27 : decode prog_12_method_41_code 27 = .ok (.iconst 1, 1) := by decide +kernel
theorem d_M_layout_28 : decode prog_12_method_41_code 28 = .ok (.isub, 1) := by decide +kernel
theorem d_M_layout_29 : decode prog_12_method_41_code 29 = .ok (.istore_n 2, 1) := by decide +kernel
theorem d_M_layout_10 : decode prog_12_method_41_code 10 = .ok (.aload_n 0, 1) := by decide +kernel
theorem d_M_layout_11 : decode prog_12_method_41_code 11 = .ok (.getfield 52, 3) := by decide +kernel
theorem d_M_layout_14 : decode prog_12_method_41_code 14 = .ok (.iload_n 2, 1) := by decide +kernel
theorem d_M_layout_15 : decode prog_12_method_41_code 15 = .ok (.iconst 0, 1) := by decide +kernel
theorem d_M_layout_16 : decode prog_12_method_41_code 16 = .ok (.iastore, 1) := by decide +kernel
theorem d_M_layout_17 : decode prog_12_method_41_code 17 = .ok (.iinc 2 1, 3) := by decide +kernel
theorem d_M_layout_20 : decode prog_12_method_41_code 20 = .ok (.goto (-18), 3) := by decide +kernel
theorem d_M_layout_0 : decode prog_12_method_41_code 0 = .ok (.iconst 0, 1) := by decide +kernel
theorem d_M_layout_1 : decode prog_12_method_41_code 1 = .ok (.istore_n 2, 1) := by decide +kernel
/-! ===== the model: layout ===== -/
abbrev wbit (w t : Int) : Prop := (t = 0 ∧ (w = 1 ∨ w = 3 ∨ w = -1)) ∨ (t = 1 ∧ (w = 2 ∨ w = 3 ∨ w = -1))
abbrev wOk (w : Int) : Prop := -1 ≤ w ∧ w ≤ 3
theorem wbit_z {w t : Int} (hw : wOk w) (ht : t = 0 ∨ t = 1) : (zI w >>> (zI t &&& 31)) &&& zI 1 = zI (if wbit w t then 1 else 0) := by
  rcases (show w = -1 ∨ w = 0 ∨ w = 1 ∨ w = 2 ∨ w = 3 by omega) with rfl | rfl | rfl | rfl | rfl <;> rcases ht with rfl | rfl <;> decide
def lyN (s : mS) (w k n0 : Int) : Nat → Int
  | 0 => n0
  | t + 1 => if wbit w t ∧ tb s t 4 = k then 1 + 2 * pv s k 0 else lyN s w k n0 t
abbrev nhO (s : mS) (k n : Int) : Int := if s 5 k = 4 ∨ 255 < n + 2 then 4 else 2
/-- a box's new length, when the narrow tables in the set w are widened -/
def nlF (s : mS) (w : Int) : Nat → Int → Int
  | 0, _ => 0
  | f + 1, k => nhO s k (lyN s w k (if isHold (s 6 k) (s 4 k) then sumI (fun i => if s 7 (s 0 1 - 1 - i) = k then nlF s w f (s 0 1 - 1 - i) else 0) (s 0 1 - 1 - k).toNat else s 3 k - s 5 k) (s 0 3).toNat) + lyN s w k (if isHold (s 6 k) (s 4 k) then sumI (fun i => if s 7 (s 0 1 - 1 - i) = k then nlF s w f (s 0 1 - 1 - i) else 0) (s 0 1 - 1 - k).toNat else s 3 k - s 5 k) (s 0 3).toNat
/-- its payload then -/
def pyF (s : mS) (w k : Int) : Int := lyN s w k (if isHold (s 6 k) (s 4 k) then sumI (fun i => if s 7 (s 0 1 - 1 - i) = k then nlF s w 3 (s 0 1 - 1 - i) else 0) (s 0 1 - 1 - k).toNat else s 3 k - s 5 k) (s 0 3).toNat
theorem sumI_cg {f g : Int → Int} : ∀ {n : Nat}, (∀ i : Nat, i < n → f i = g i) → sumI f n = sumI g n
  | 0, _ => rfl
  | n + 1, h => by
    show sumI f n + f n = sumI g n + g n
    rw [sumI_cg (fun i hi => h i (by omega)), h n (by omega)]
/-- a box's level says how deep it is -/
theorem nlF_lv {s : mS} (hr : rdOk s) (ho : hoOk s) (w : Int) : ∀ (f g : Nat) (k : Int), 0 ≤ k → k < s 0 1 → 3 ≤ (f : Int) + s 6 k → 3 ≤ (g : Int) + s 6 k → nlF s w f k = nlF s w g k
  | 0, _, k, h0, h1, hf, hg => by have := (hr.2 k h0 h1); omega
  | f + 1, 0, k, h0, h1, hf, hg => by have := (hr.2 k h0 h1); omega
  | f + 1, g + 1, k, h0, h1, hf, hg => by
    by_cases hh : isHold (s 6 k) (s 4 k)
    · have hcn := hr.1
      have e : sumI (fun i => if s 7 (s 0 1 - 1 - i) = k then nlF s w f (s 0 1 - 1 - i) else 0) (s 0 1 - 1 - k).toNat = sumI (fun i => if s 7 (s 0 1 - 1 - i) = k then nlF s w g (s 0 1 - 1 - i) else 0) (s 0 1 - 1 - k).toNat := by
        refine sumI_cg (fun i hi => ?_)
        by_cases hk : s 7 (s 0 1 - 1 - i) = k
        · rw [if_pos hk, if_pos hk]
          have hb := hr.2 (s 0 1 - 1 - i) (by omega) (by omega)
          obtain ⟨a1, a2, a3⟩ := ho (s 0 1 - 1 - i) (by omega) (by omega)
          have hlv : s 6 (s 0 1 - 1 - i) = s 6 k + 1 := by
            rcases (show s 6 (s 0 1 - 1 - i) = 0 ∨ s 6 (s 0 1 - 1 - i) = 1 ∨ s 6 (s 0 1 - 1 - i) = 2 by omega) with q | q | q
            · have := a1 q; omega
            · have := (a2 q).2.2.1; rw [hk] at this; omega
            · have := (a3 q).2.2.1; rw [hk] at this; omega
          exact nlF_lv hr ho w f g _ (by omega) (by omega) (by omega) (by omega)
        · rw [if_neg hk, if_neg hk]
      unfold nlF
      rw [if_pos hh, if_pos hh, e]
    · unfold nlF
      rw [if_neg hh, if_neg hh]
theorem nlF_3 {s : mS} (hr : rdOk s) (ho : hoOk s) (w k : Int) (h0 : 0 ≤ k) (h1 : k < s 0 1) : nlF s w 3 k = nhO s k (pyF s w k) + pyF s w k := by
  have := (hr.2 k h0 h1)
  rw [nlF_lv hr ho w 3 4 k h0 h1 (by omega) (by omega)]
  rfl
def lyB : Nat → Int
  | 0 => 0
  | m + 1 => 2 * lyB m + 1100
theorem lyB_le : ∀ m : Nat, m ≤ 20 → 0 ≤ lyB m ∧ lyB m ≤ 1200000000 := by decide
/-- what layout leaves -/
def lyP (s : mS) (w : Int) (u : mS) : Prop := (∀ c, c ≠ 13 → c ≠ 14 → c ≠ 15 → u c = s c) ∧ ∀ k, s 0 2 ≤ k → k < s 0 1 → (k = s 0 2 ∨ 0 < s 6 k) → u 13 k = nhO s k (pyF s w k) ∧ u 14 k = nlF s w 3 k ∧ 0 ≤ nlF s w 3 k ∧ nlF s w 3 k ≤ 1200000000
theorem lyN_b {s : mS} (hb : byOk s) (w k n0 : Int) {B : Int} (h : 0 ≤ n0 ∧ n0 ≤ B) (hB : 600 ≤ B) : ∀ t : Nat, 0 ≤ lyN s w k n0 t ∧ lyN s w k n0 t ≤ B
  | 0 => h
  | t + 1 => by
    unfold lyN
    have := pv_b hb k 0
    split
    · omega
    · exact lyN_b hb w k n0 h hB t
section MODEL17
variable (G : gG) (l : Launch) (ad : Nat → Nat)
theorem c_M_layout (s : mS) (w : Int) (hb : byOk s) (hr : rdOk s) (ho : hoOk s) (h3 : 1 ≤ s 0 3 ∧ s 0 3 ≤ 2) (hT : ∀ t, 0 ≤ t → t < s 0 3 → trOk s t) (hm : 0 ≤ s 0 2 ∧ s 0 2 < s 0 1) (hw : wOk w) : Ct G l q_M_layout 1 0 0 [.ref (ad 0), vI w] (mW G ad s) (fun r x => ∃ u, lyP s w u ∧ (0 ≤ nlF s w 3 (s 0 2) ∧ nlF s w 3 (s 0 2) ≤ 1200000000) ∧ r = some (vI (nlF s w 3 (s 0 2))) ∧ x = mW G ad u) := by
  refine Ct.intro [some (.ref (ad 0)), some (vI w), none, none, none, none] (by decide) (Nat.le_of_ble_eq_true rfl) rfl (fun sz => ?_)
  generalize hQ : (fun r x => ∃ u, lyP s w u ∧ (0 ≤ nlF s w 3 (s 0 2) ∧ nlF s w 3 (s 0 2) ≤ 1200000000) ∧ r = some (vI (nlF s w 3 (s 0 2))) ∧ x = mW G ad u) = Q
  have hcn := hr.1
  -- the second loop: m boxes done, k = count - 1 - m is next
  have l2 : ∀ (m : Nat) (u : mS) (x3 x4 x5 : Option Value), (m : Int) ≤ s 0 1 - s 0 2 → (∀ c, c ≠ 13 → c ≠ 14 → c ≠ 15 → u c = s c) → (∀ k, s 0 1 - 1 - m < k → k < s 0 1 → (k = s 0 2 ∨ 0 < s 6 k) → u 13 k = nhO s k (pyF s w k) ∧ u 14 k = nlF s w 3 k) → (∀ h, 0 ≤ h → h < s 0 1 → u 15 h = sumI (fun i => if s 7 (s 0 1 - 1 - i) = h ∧ (s 0 1 - 1 - i = s 0 2 ∨ 0 < s 6 (s 0 1 - 1 - i)) then nlF s w 3 (s 0 1 - 1 - i) else 0) m) → (∀ h, 0 ≤ h → h < s 0 1 → 0 ≤ u 15 h ∧ u 15 h ≤ lyB m) → (∀ k, s 0 1 - 1 - m < k → k < s 0 1 → (k = s 0 2 ∨ 0 < s 6 k) → 0 ≤ nlF s w 3 k ∧ nlF s w 3 k ≤ 1200000000) → WP (mth G l q_M_layout 1 0 0 (mW G ad s) sz Q) 0 0 (mW G ad u) 30 [some (.ref (ad 0)), some (vI w), some (vI (s 0 1 - 1 - m)), x3, x4, x5] [] := by
    intro m
    -- by how many are left
    generalize hd : (s 0 1 - s 0 2 - m).toNat = d
    induction d generalizing m with
    | zero =>
      intro u x3 x4 x5 hmk hu hn hin hib hnb
      have hm2 : (m : Int) = s 0 1 - s 0 2 := by omega
      have u0 : u 0 = s 0 := hu 0 (by omega) (by omega) (by omega)
      refine r_iload_n d_M_layout_30 rfl ?_
      refine r_aload_n d_M_layout_31 rfl rfl ?_
      refine r_get d_M_layout_32 fl_M_96_7 0 rfl rfl ?_
      rw [u0]
      refine r_icmp_lt 237 d_M_layout_35 (by decide) (by unfold i32; omega) (by unfold i32; omega) (fun g1 => ?_) (fun g1 => ?_)
      · refine r_aload_n d_M_layout_237 rfl rfl ?_
        refine r_get d_M_layout_238 fl_M_49_7 0 rfl rfl ?_
        refine r_aload_n d_M_layout_241 rfl rfl ?_
        refine r_get d_M_layout_242 fl_M_96_7 0 rfl rfl ?_
        rw [u0]
        refine r_iald d_M_layout_245 14 rfl (by omega) ?_
        refine r_iret d_M_layout_246 rfl (Nat.le_of_ble_eq_true rfl) (Nat.le_of_ble_eq_true rfl) ?_
        rw [(hn (s 0 2) (by omega) hm.2 (Or.inl rfl)).2]
        rw [← hQ]; exact ⟨u, ⟨hu, fun k h1 h2 h4 => ⟨(hn k (by omega) h2 h4).1, (hn k (by omega) h2 h4).2, hnb k (by omega) h2 h4⟩⟩, hnb (s 0 2) (by omega) hm.2 (Or.inl rfl), rfl, rfl⟩
      · exact absurd g1 (by omega)
    | succ d ih =>
      intro u x3 x4 x5 hmk hu hn hin hib hnb
      have u0 : u 0 = s 0 := hu 0 (by omega) (by omega) (by omega)
      have u1 : u 1 = s 1 := hu 1 (by omega) (by omega) (by omega)
      have u2 : u 2 = s 2 := hu 2 (by omega) (by omega) (by omega)
      have u3 : u 3 = s 3 := hu 3 (by omega) (by omega) (by omega)
      have u4 : u 4 = s 4 := hu 4 (by omega) (by omega) (by omega)
      have u5 : u 5 = s 5 := hu 5 (by omega) (by omega) (by omega)
      have u6 : u 6 = s 6 := hu 6 (by omega) (by omega) (by omega)
      have u7 : u 7 = s 7 := hu 7 (by omega) (by omega) (by omega)
      have u11 : u 11 = s 11 := hu 11 (by omega) (by omega) (by omega)
      have hBm := lyB_le m (by omega)
      have hBm1 := lyB_le (m + 1) (by omega)
      have eB : lyB (m + 1) = 2 * lyB m + 1100 := rfl
      obtain ⟨k, hk⟩ : ∃ k : Int, k = s 0 1 - 1 - m := ⟨_, rfl⟩
      have hk1 : s 0 1 - 1 - ((m + 1 : Nat) : Int) = k + -1 := by omega
      rw [← hk] at hn hnb ⊢
      have hbx := hr.2 k (by omega) (by omega)
      have hho := ho k (by omega) (by omega)
      refine r_iload_n d_M_layout_30 rfl ?_
      refine r_aload_n d_M_layout_31 rfl rfl ?_
      refine r_get d_M_layout_32 fl_M_96_7 0 rfl rfl ?_
      rw [u0]
      refine r_icmp_lt 237 d_M_layout_35 (by decide) (by unfold i32; omega) (by unfold i32; omega) (fun g1 => ?_) (fun g1 => ?_)
      · exact absurd g1 (by omega)
      by_cases hv : k = s 0 2 ∨ 0 < s 6 k
      · -- the payload's start
        have hin1 : isHold (s 6 k) (s 4 k) → u 15 k = sumI (fun i => if s 7 (s 0 1 - 1 - i) = k then nlF s w 3 (s 0 1 - 1 - i) else 0) (s 0 1 - 1 - k).toNat := by
          intro hh
          rw [hin k (by omega) (by omega), show (s 0 1 - 1 - k).toNat = m by omega]
          refine sumI_cg (fun i hi => ?_)
          by_cases h7 : s 7 (s 0 1 - 1 - i) = k
          · obtain ⟨a1, a2, a3⟩ := ho (s 0 1 - 1 - i) (by omega) (by omega)
            have hb2 := hr.2 (s 0 1 - 1 - i) (by omega) (by omega)
            have : 0 < s 6 (s 0 1 - 1 - i) := by
              rcases (show s 6 (s 0 1 - 1 - i) = 0 ∨ 0 < s 6 (s 0 1 - 1 - i) by omega) with q | q
              · have := a1 q; omega
              · exact q
            rw [if_pos ⟨h7, Or.inr this⟩, if_pos h7]
          · rw [if_neg (fun q => h7 q.1), if_neg h7]
        have hpy : pyF s w k = lyN s w k (if isHold (s 6 k) (s 4 k) then u 15 k else s 3 k - s 5 k) (s 0 3).toNat := by
          unfold pyF
          by_cases hh : isHold (s 6 k) (s 4 k)
          · rw [if_pos hh, if_pos hh, hin1 hh]
          · rw [if_neg hh, if_neg hh]
        have hn3 := nlF_3 hr ho w k (by omega) (by omega)
        have hib0 := hib k (by omega) (by omega)
        have hpyb : 0 ≤ pyF s w k ∧ pyF s w k ≤ lyB m + 1000 := by
          rw [hpy]
          refine lyN_b hb w k _ ?_ (by omega) _
          split <;> omega
        have hnhb : nhO s k (pyF s w k) = 2 ∨ nhO s k (pyF s w k) = 4 := by unfold nhO; split <;> omega
        -- behind: all is stored
        have j149 : ∀ n x4 x5, n = pyF s w k → WP (mth G l q_M_layout 1 0 0 (mW G ad s) sz Q) 0 0 (mW G ad u) 149 [some (.ref (ad 0)), some (vI w), some (vI k), some (vI n), x4, x5] [] := by
          intro n x4 x5 hnn
          have j178 : ∀ nh, nh = nhO s k n → WP (mth G l q_M_layout 1 0 0 (mW G ad s) sz Q) 0 0 (mW G ad u) 178 [some (.ref (ad 0)), some (vI w), some (vI k), some (vI n), x4, x5] [vI nh, vI k, .ref (ad 13)] := by
            intro nh hnh
            rw [hnn] at hnh
            have hnl : nh + n = nlF s w 3 k := by rw [hn3, hnh, hnn]
            -- to the loop's head
            have fin : ∀ v, (∀ c, c ≠ 13 → c ≠ 14 → c ≠ 15 → v c = s c) → (∀ j, j ≠ k → v 13 j = u 13 j ∧ v 14 j = u 14 j) → v 13 k = nh → v 14 k = nh + n → (∀ h, v 15 h = if 0 ≤ s 7 k ∧ h = s 7 k then u 15 h + (nh + n) else u 15 h) → WP (mth G l q_M_layout 1 0 0 (mW G ad s) sz Q) 0 0 (mW G ad v) 231 [some (.ref (ad 0)), some (vI w), some (vI k), some (vI n), x4, x5] [] := by
              intro v v1 v2 v3 v4 v5
              refine r_iinc d_M_layout_231 rfl (Nat.le_of_ble_eq_true rfl) rfl ?_
              show WP _ _ _ _ _ [_, _, _, _, _, _] _
              refine r_goto 30 d_M_layout_234 (by decide) ?_
              have J := ih (m + 1) (by omega) v (some (vI n)) x4 x5 (by omega) v1 ?_ ?_ ?_ ?_
              · rw [hk1] at J; exact J
              · intro j h1 h2 h4
                by_cases hj : j = k
                · subst hj
                  exact ⟨by rw [v3, hnh], by rw [v4, hnl]⟩
                · rw [(v2 j hj).1, (v2 j hj).2]
                  exact hn j (by omega) h2 h4
              · intro h q0 q1
                show _ = sumI _ m + (if s 7 (s 0 1 - 1 - m) = h ∧ (s 0 1 - 1 - m = s 0 2 ∨ 0 < s 6 (s 0 1 - 1 - m)) then nlF s w 3 (s 0 1 - 1 - m) else 0)
                rw [v5, ← hin h q0 q1, ← hk]
                by_cases h7 : 0 ≤ s 7 k ∧ h = s 7 k
                · rw [if_pos h7, if_pos ⟨h7.2.symm, hv⟩, hnl]
                · rw [if_neg h7, if_neg (fun q => h7 ⟨by omega, q.1.symm⟩)]; omega
              · intro h q0 q1
                have := hib h q0 q1
                rw [v5]
                split <;> omega
              · intro j h1 h2 h4
                by_cases hj : j = k
                · subst hj; rw [← hnl]; omega
                · exact hnb j (by omega) h2 h4
            refine r_iast _ d_M_layout_178 13 rfl (by omega) mw_13 ?_
            refine r_aload_n d_M_layout_179 rfl rfl ?_
            refine r_get d_M_layout_180 fl_M_49_7 0 rfl rfl ?_
            refine r_iload_n d_M_layout_183 rfl ?_
            refine r_aload_n d_M_layout_184 rfl rfl ?_
            refine r_get d_M_layout_185 fl_M_46_7 0 rfl rfl ?_
            refine r_iload_n d_M_layout_188 rfl ?_
            refine r_iald d_M_layout_189 13 rfl (by omega) ?_
            simp only [sset_at, updI_at, reduceIte]
            refine r_iload_n d_M_layout_190 rfl ?_
            refine r_iadd d_M_layout_191 ?_
            refine r_iast _ d_M_layout_192 14 rfl (by omega) mw_14 ?_
            refine r_aload_n d_M_layout_193 rfl rfl ?_
            refine r_get d_M_layout_194 fl_M_28_7 0 rfl rfl ?_
            refine r_iload_n d_M_layout_197 rfl ?_
            refine r_iald d_M_layout_198 7 rfl (by omega) ?_
            simp only [sset_at, reduceIte, Nat.reduceEqDiff]
            rw [u7]
            refine r_if_lt 231 d_M_layout_199 (by decide) (by unfold i32; omega) (fun g3 => ?_) (fun g3 => ?_)
            · refine fin _ ?_ ?_ ?_ ?_ ?_
              · intro c h1 h2 h4
                rw [← hu c h1 h2 h4]
                funext j
                rw [sset_at, if_neg h2, sset_at, if_neg h1]
              · intro j hj
                simp only [sset_at, updI_at, reduceIte, Nat.reduceEqDiff]
                rw [if_neg hj, if_neg hj]; exact ⟨rfl, rfl⟩
              · simp only [sset_at, updI_at, reduceIte, Nat.reduceEqDiff]
              · simp only [sset_at, updI_at, reduceIte, Nat.reduceEqDiff]
              · intro h
                simp only [sset_at, reduceIte, Nat.reduceEqDiff]
                rw [if_neg (by omega)]
            · refine r_aload_n d_M_layout_202 rfl rfl ?_
              refine r_get d_M_layout_203 fl_M_52_7 0 rfl rfl ?_
              refine r_aload_n d_M_layout_206 rfl rfl ?_
              refine r_get d_M_layout_207 fl_M_28_7 0 rfl rfl ?_
              refine r_iload_n d_M_layout_210 rfl ?_
              refine r_iald d_M_layout_211 7 rfl (by omega) ?_
              refine r_aload_n d_M_layout_212 rfl rfl ?_
              refine r_get d_M_layout_213 fl_M_52_7 0 rfl rfl ?_
              refine r_aload_n d_M_layout_216 rfl rfl ?_
              refine r_get d_M_layout_217 fl_M_28_7 0 rfl rfl ?_
              refine r_iload_n d_M_layout_220 rfl ?_
              simp only [sset_at, reduceIte, Nat.reduceEqDiff]
              rw [u7]
              refine r_iald d_M_layout_221 7 rfl (by omega) ?_
              simp only [sset_at, reduceIte, Nat.reduceEqDiff]
              rw [u7]
              refine r_iald d_M_layout_222 15 rfl (by omega) ?_
              simp only [sset_at, reduceIte, Nat.reduceEqDiff]
              refine r_aload_n d_M_layout_223 rfl rfl ?_
              refine r_get d_M_layout_224 fl_M_49_7 0 rfl rfl ?_
              refine r_iload_n d_M_layout_227 rfl ?_
              refine r_iald d_M_layout_228 14 rfl (by omega) ?_
              simp only [sset_at, updI_at, reduceIte]
              refine r_iadd d_M_layout_229 ?_
              refine r_iast _ d_M_layout_230 15 rfl (by omega) mw_15 ?_
              refine fin _ ?_ ?_ ?_ ?_ ?_
              · intro c h1 h2 h4
                rw [← hu c h1 h2 h4]
                funext j
                rw [sset_at, if_neg h4, sset_at, if_neg h2, sset_at, if_neg h1]
              · intro j hj
                simp only [sset_at, updI_at, reduceIte, Nat.reduceEqDiff]
                rw [if_neg hj, if_neg hj]; exact ⟨rfl, rfl⟩
              · simp only [sset_at, updI_at, reduceIte, Nat.reduceEqDiff]
              · simp only [sset_at, updI_at, reduceIte, Nat.reduceEqDiff]
              · intro h
                simp only [sset_at, updI_at, reduceIte, Nat.reduceEqDiff]
                by_cases hh : h = s 7 k
                · rw [if_pos hh, if_pos ⟨by omega, hh⟩, hh]
                · rw [if_neg hh, if_neg (fun q => hh q.2)]
          have e5 : u 5 k = s 5 k := by rw [u5]
          refine r_aload_n d_M_layout_149 rfl rfl ?_
          refine r_get d_M_layout_150 fl_M_46_7 0 rfl rfl ?_
          refine r_iload_n d_M_layout_153 rfl ?_
          refine r_aload_n d_M_layout_154 rfl rfl ?_
          refine r_get d_M_layout_155 fl_M_22_7 0 rfl rfl ?_
          refine r_iload_n d_M_layout_158 rfl ?_
          refine r_iald d_M_layout_159 5 rfl (by omega) ?_
          refine r_iconst d_M_layout_160 ?_
          rw [e5]
          refine r_icmp_eq 173 d_M_layout_161 (by decide) (by unfold i32; omega) (by unfold i32; omega) (fun g3 => ?_) (fun g3 => ?_)
          · refine r_iconst d_M_layout_173 ?_
            refine r_goto 178 d_M_layout_174 (by decide) ?_
            exact j178 4 (by unfold nhO; rw [if_pos (Or.inl g3)])
          refine r_iload_n d_M_layout_164 rfl ?_
          refine r_iconst d_M_layout_165 ?_
          refine r_iadd d_M_layout_166 ?_
          refine r_sipush d_M_layout_167 (by decide) ?_
          refine r_icmp_le 177 d_M_layout_170 (by decide) (by unfold i32; omega) (by unfold i32; omega) (fun g4 => ?_) (fun g4 => ?_)
          · refine r_iconst d_M_layout_177 ?_
            exact j178 2 (by unfold nhO; rw [if_neg (by omega)])
          · refine r_iconst d_M_layout_173 ?_
            refine r_goto 178 d_M_layout_174 (by decide) ?_
            exact j178 4 (by unfold nhO; rw [if_pos (by omega)])
        -- the tracks
        have lt : ∀ (q t : Nat) (n0 n : Int) (x5 : Option Value), n0 = (if isHold (s 6 k) (s 4 k) then u 15 k else s 3 k - s 5 k) → (t : Int) + q = s 0 3 → n = lyN s w k n0 t → WP (mth G l q_M_layout 1 0 0 (mW G ad s) sz Q) 0 0 (mW G ad u) 81 [some (.ref (ad 0)), some (vI w), some (vI k), some (vI n), some (vI t), x5] [] := by
          intro q
          induction q with
          | zero =>
            intro t n0 n x5 h0 ht hn2
            refine r_iload d_M_layout_81 rfl ?_
            refine r_aload_n d_M_layout_83 rfl rfl ?_
            refine r_get d_M_layout_84 fl_M_83_7 0 rfl rfl ?_
            rw [u0]
            refine r_icmp_ge 149 d_M_layout_87 (by decide) (by unfold i32; omega) (by unfold i32; omega) (fun q1 => ?_) (fun q1 => ?_)
            · exact j149 n _ _ (by rw [hn2, hpy, ← h0, show t = (s 0 3).toNat by omega])
            · exact absurd q1 (by omega)
          | succ q ihq =>
            intro t n0 n x5 h0 ht hn2
            have hTt := hT t (by omega) (by omega)
            have i4 := hTt.i (by omega) (kd := 4) (by omega)
            have etb : u 11 (8 * (t : Int) + 4) = tb s t 4 := by rw [u11]
            have ihq2 := fun n x5 => ihq (t + 1) n0 n x5 h0 (by omega)
            unfold lyN at ihq2
            refine r_iload d_M_layout_81 rfl ?_
            refine r_aload_n d_M_layout_83 rfl rfl ?_
            refine r_get d_M_layout_84 fl_M_83_7 0 rfl rfl ?_
            rw [u0]
            refine r_icmp_ge 149 d_M_layout_87 (by decide) (by unfold i32; omega) (by unfold i32; omega) (fun q1 => ?_) (fun q1 => ?_)
            · exact absurd q1 (by omega)
            have j142 : ∀ n2, n2 = (if wbit w t ∧ tb s t 4 = k then 1 + 2 * pv s k 0 else lyN s w k n0 t) → ∀ x5, WP (mth G l q_M_layout 1 0 0 (mW G ad s) sz Q) 0 0 (mW G ad u) 142 [some (.ref (ad 0)), some (vI w), some (vI k), some (vI n), some (vI t), x5] [vI n2] := by
              intro n2 hn3 x5
              refine r_istore_n d_M_layout_142 (Nat.le_of_ble_eq_true rfl) rfl ?_
              show WP _ _ _ _ _ [_, _, _, _, _, _] _
              refine r_iinc d_M_layout_143 rfl (Nat.le_of_ble_eq_true rfl) rfl ?_
              show WP _ _ _ _ _ [_, _, _, _, _, _] _
              refine r_goto 81 d_M_layout_146 (by decide) ?_
              exact ihq2 n2 _ hn3
            have j121 : ∀ b, b = (if wbit w t ∧ tb s t 4 = k then 1 else 0) → WP (mth G l q_M_layout 1 0 0 (mW G ad s) sz Q) 0 0 (mW G ad u) 121 [some (.ref (ad 0)), some (vI w), some (vI k), some (vI n), some (vI t), x5] [vI b] := by
              intro b hbb
              have hb01 : b = 0 ∨ b = 1 := by rw [hbb]; split <;> omega
              refine r_istore d_M_layout_121 (Nat.le_of_ble_eq_true rfl) rfl ?_
              show WP _ _ _ _ _ [_, _, _, _, _, _] _
              refine r_iload d_M_layout_123 rfl ?_
              refine r_if_eq 141 d_M_layout_125 (by decide) (by unfold i32; omega) (fun q2 => ?_) (fun q2 => ?_)
              · have hno : ¬ (wbit w t ∧ tb s t 4 = k) := fun h => by rw [if_pos h] at hbb; omega
                refine r_iload_n d_M_layout_141 rfl ?_
                exact j142 n (by rw [if_neg hno, hn2]) _
              · have hyes : wbit w t ∧ tb s t 4 = k := Classical.byContradiction fun h => by rw [if_neg h] at hbb; omega
                have hpb : pbx s t = k := by unfold pbx; rw [if_neg (by omega)]; exact hyes.2
                have k4 := hTt.2.2.2.2.1
                rw [hpb] at k4
                refine r_iconst d_M_layout_128 ?_
                refine r_iconst d_M_layout_129 ?_
                refine r_aload_n d_M_layout_130 rfl rfl ?_
                refine r_iload_n d_M_layout_131 rfl ?_
                refine r_iconst d_M_layout_132 ?_
                refine r_cV2 d_M_layout_133 lk_M_106 (c_M_payB G l ad u k 0 (by unfold bxok; rw [u2, u3, u5]; exact k4.1) (by rw [u3, u5]; omega)) 0 rfl rfl (Nat.le_of_ble_eq_true rfl) (rok rfl rfl) ⟨(Nat.le_of_ble_eq_true rfl), (Nat.le_of_ble_eq_true rfl)⟩ (fun r ws2 hq => ?_)
                obtain ⟨rfl, rfl⟩ := hq
                show WP _ _ _ _ _ _ (_ :: _)
                have epv : pv u k 0 = pv s k 0 := by unfold pv; rw [u1, u2, u5]
                rw [epv]
                refine r_imul d_M_layout_136 ?_
                refine r_iadd d_M_layout_137 ?_
                refine r_goto 142 d_M_layout_138 (by decide) ?_
                exact j142 _ (by rw [if_pos hyes]) _
            refine r_iload_n d_M_layout_90 rfl ?_
            refine r_iload d_M_layout_91 rfl ?_
            refine r_ishrR d_M_layout_93 ?_
            refine r_iconst d_M_layout_94 ?_
            refine r_iandR d_M_layout_95 ?_
            rw [wbit_z hw (by omega)]
            refine r_iconst d_M_layout_96 ?_
            by_cases hwb : wbit w t
            · rw [if_pos hwb]
              refine r_icmp_ne 120 d_M_layout_97 (by decide) (by unfold i32; omega) (by unfold i32; omega) (fun q2 => ?_) (fun q2 => ?_)
              · exact absurd q2 (by omega)
              refine r_aload_n d_M_layout_100 rfl rfl ?_
              refine r_get d_M_layout_101 fl_M_40_7 0 rfl rfl ?_
              refine r_bipush d_M_layout_104 (by decide) ?_
              refine r_iload d_M_layout_106 rfl ?_
              refine r_imul d_M_layout_108 ?_
              refine r_iconst d_M_layout_109 ?_
              refine r_iadd d_M_layout_110 ?_
              refine r_iald d_M_layout_111 11 rfl (by omega) ?_
              rw [etb]
              refine r_iload_n d_M_layout_112 rfl ?_
              refine r_icmp_ne 120 d_M_layout_113 (by decide) (by unfold i32; omega) (by unfold i32; omega) (fun q3 => ?_) (fun q3 => ?_)
              · refine r_iconst d_M_layout_120 ?_
                exact j121 0 (by rw [if_neg (fun h => q3 h.2)])
              · refine r_iconst d_M_layout_116 ?_
                refine r_goto 121 d_M_layout_117 (by decide) ?_
                exact j121 1 (by rw [if_pos ⟨hwb, by omega⟩])
            · rw [if_neg hwb]
              refine r_icmp_ne 120 d_M_layout_97 (by decide) (by unfold i32; omega) (by unfold i32; omega) (fun q2 => ?_) (fun q2 => ?_)
              · refine r_iconst d_M_layout_120 ?_
                exact j121 0 (by rw [if_neg (fun h => hwb h.1)])
              · exact absurd q2 (by omega)
        have j77 : ∀ n0, n0 = (if isHold (s 6 k) (s 4 k) then u 15 k else s 3 k - s 5 k) → WP (mth G l q_M_layout 1 0 0 (mW G ad s) sz Q) 0 0 (mW G ad u) 77 [some (.ref (ad 0)), some (vI w), some (vI k), x3, x4, x5] [vI n0] := by
          intro n0 h0
          refine r_istore_n d_M_layout_77 (Nat.le_of_ble_eq_true rfl) rfl ?_
          show WP _ _ _ _ _ [_, _, _, _, _, _] _
          refine r_iconst d_M_layout_78 ?_
          refine r_istore d_M_layout_79 (Nat.le_of_ble_eq_true rfl) rfl ?_
          show WP _ _ _ _ _ [_, _, _, _, _, _] _
          exact lt (s 0 3).toNat 0 n0 n0 _ h0 (by omega) rfl
        have j55 : WP (mth G l q_M_layout 1 0 0 (mW G ad s) sz Q) 0 0 (mW G ad u) 55 [some (.ref (ad 0)), some (vI w), some (vI k), x3, x4, x5] [] := by
          refine r_aload_n d_M_layout_55 rfl rfl ?_
          refine r_iload_n d_M_layout_56 rfl ?_
          refine r_cV1 d_M_layout_57 lk_M_71 (c_M_isHolder G l ad u k (by omega) (by rw [u6]; unfold i32; omega) (by rw [u4]; unfold i32; omega)) 0 rfl rfl (Nat.le_of_ble_eq_true rfl) (rok rfl rfl) ⟨(Nat.le_of_ble_eq_true rfl), (Nat.le_of_ble_eq_true rfl)⟩ (fun r ws2 hq => ?_)
          obtain ⟨rfl, rfl⟩ := hq
          show WP _ _ _ _ _ _ (_ :: _)
          rw [u6, u4]
          by_cases hh : isHold (s 6 k) (s 4 k)
          · rw [if_pos hh]
            refine r_if_eq 72 d_M_layout_60 (by decide) (by unfold i32; omega) (fun q1 => ?_) (fun q1 => ?_)
            · exact absurd q1 (by omega)
            refine r_aload_n d_M_layout_63 rfl rfl ?_
            refine r_get d_M_layout_64 fl_M_52_7 0 rfl rfl ?_
            refine r_iload_n d_M_layout_67 rfl ?_
            refine r_iald d_M_layout_68 15 rfl (by omega) ?_
            refine r_goto 77 d_M_layout_69 (by decide) ?_
            exact j77 _ (by rw [if_pos hh])
          · rw [if_neg hh]
            refine r_if_eq 72 d_M_layout_60 (by decide) (by unfold i32; omega) (fun q1 => ?_) (fun q1 => ?_)
            · refine r_aload_n d_M_layout_72 rfl rfl ?_
              refine r_iload_n d_M_layout_73 rfl ?_
              refine r_cV1 d_M_layout_74 lk_M_103 (c_M_payLength G l ad u k (by omega)) 0 rfl rfl (Nat.le_of_ble_eq_true rfl) (rok rfl rfl) ⟨(Nat.le_of_ble_eq_true rfl), (Nat.le_of_ble_eq_true rfl)⟩ (fun r ws2 hq => ?_)
              obtain ⟨rfl, rfl⟩ := hq
              show WP _ _ _ _ _ _ (_ :: _)
              rw [u3, u5]
              exact j77 _ (by rw [if_neg hh])
            · exact absurd q1 (by omega)
        refine r_iload_n d_M_layout_38 rfl ?_
        refine r_aload_n d_M_layout_39 rfl rfl ?_
        refine r_get d_M_layout_40 fl_M_96_7 0 rfl rfl ?_
        rw [u0]
        refine r_icmp_eq 55 d_M_layout_43 (by decide) (by unfold i32; omega) (by unfold i32; omega) (fun g2 => ?_) (fun g2 => ?_)
        · exact j55
        refine r_aload_n d_M_layout_46 rfl rfl ?_
        refine r_get d_M_layout_47 fl_M_25_7 0 rfl rfl ?_
        refine r_iload_n d_M_layout_50 rfl ?_
        refine r_iald d_M_layout_51 6 rfl (by omega) ?_
        rw [u6]
        refine r_if_le 231 d_M_layout_52 (by decide) (by unfold i32; omega) (fun g3 => ?_) (fun g3 => ?_)
        · exact absurd hv (by omega)
        · exact j55
      · refine r_iload_n d_M_layout_38 rfl ?_
        refine r_aload_n d_M_layout_39 rfl rfl ?_
        refine r_get d_M_layout_40 fl_M_96_7 0 rfl rfl ?_
        rw [u0]
        refine r_icmp_eq 55 d_M_layout_43 (by decide) (by unfold i32; omega) (by unfold i32; omega) (fun g2 => ?_) (fun g2 => ?_)
        · exact absurd (Or.inl g2) hv
        refine r_aload_n d_M_layout_46 rfl rfl ?_
        refine r_get d_M_layout_47 fl_M_25_7 0 rfl rfl ?_
        refine r_iload_n d_M_layout_50 rfl ?_
        refine r_iald d_M_layout_51 6 rfl (by omega) ?_
        rw [u6]
        refine r_if_le 231 d_M_layout_52 (by decide) (by unfold i32; omega) (fun g3 => ?_) (fun g3 => ?_)
        · refine r_iinc d_M_layout_231 rfl (Nat.le_of_ble_eq_true rfl) rfl ?_
          show WP _ _ _ _ _ [_, _, _, _, _, _] _
          refine r_goto 30 d_M_layout_234 (by decide) ?_
          have J := ih (m + 1) (by omega) u x3 x4 x5 (by omega) hu (fun j h1 h2 h4 => ?_) ?_ ?_ ?_
          · rw [hk1] at J; exact J
          · by_cases hj : j = k
            · subst hj; exact absurd h4 hv
            · exact hn j (by omega) h2 h4
          · intro h q0 q1
            show _ = sumI _ m + (if s 7 (s 0 1 - 1 - m) = h ∧ (s 0 1 - 1 - m = s 0 2 ∨ 0 < s 6 (s 0 1 - 1 - m)) then nlF s w 3 (s 0 1 - 1 - m) else 0)
            rw [← hin h q0 q1, ← hk, if_neg (fun q => hv q.2)]; omega
          · intro h q0 q1
            have := hib h q0 q1
            omega
          · intro j h1 h2 h4
            by_cases hj : j = k
            · subst hj; exact absurd h4 hv
            · exact hnb j (by omega) h2 h4
        · exact absurd (Or.inr (by omega)) hv
  have l1 : ∀ (m k : Nat) (u : mS), (k : Int) + m = s 0 1 → (∀ c, c ≠ 15 → u c = s c) → (∀ h : Int, 0 ≤ h → h < k → u 15 h = 0) → WP (mth G l q_M_layout 1 0 0 (mW G ad s) sz Q) 0 0 (mW G ad u) 2 [some (.ref (ad 0)), some (vI w), some (vI k), none, none, none] [] := by
    intro m
    induction m with
    | zero =>
      intro k u hk hu h0
      have u0 : u 0 = s 0 := hu 0 (by omega)
      refine r_iload_n d_M_layout_2 rfl ?_
      refine r_aload_n d_M_layout_3 rfl rfl ?_
      refine r_get d_M_layout_4 fl_M_64_7 0 rfl rfl ?_
      rw [u0]
      refine r_icmp_ge 23 d_M_layout_7 (by decide) (by unfold i32; omega) (by unfold i32; omega) (fun g1 => ?_) (fun g1 => ?_)
      · refine r_aload_n d_M_layout_23 rfl rfl ?_
        refine r_get d_M_layout_24 fl_M_64_7 0 rfl rfl ?_
        refine r_iconst d_M_layout_27 ?_
        refine r_isub d_M_layout_28 ?_
        rw [u0]
        refine r_istore_n d_M_layout_29 (Nat.le_of_ble_eq_true rfl) rfl ?_
        show WP _ _ _ _ _ [_, _, _, _, _, _] _
        have J := l2 0 u none none none (by omega) (fun c _ _ h => hu c h) (fun j h1 h2 => absurd h2 (by omega)) (fun h q0 q1 => h0 h q0 (by omega)) (fun h q0 q1 => by rw [h0 h q0 (by omega)]; exact ⟨Int.le_refl 0, Int.le_refl 0⟩) (fun j h1 h2 => absurd h2 (by omega))
        rw [show s 0 1 - 1 - ((0 : Nat) : Int) = s 0 1 - 1 by omega] at J
        exact J
      · exact absurd g1 (by omega)
    | succ m ih =>
      intro k u hk hu h0
      have u0 : u 0 = s 0 := hu 0 (by omega)
      refine r_iload_n d_M_layout_2 rfl ?_
      refine r_aload_n d_M_layout_3 rfl rfl ?_
      refine r_get d_M_layout_4 fl_M_64_7 0 rfl rfl ?_
      rw [u0]
      refine r_icmp_ge 23 d_M_layout_7 (by decide) (by unfold i32; omega) (by unfold i32; omega) (fun g1 => ?_) (fun g1 => ?_)
      · exact absurd g1 (by omega)
      refine r_aload_n d_M_layout_10 rfl rfl ?_
      refine r_get d_M_layout_11 fl_M_52_7 0 rfl rfl ?_
      refine r_iload_n d_M_layout_14 rfl ?_
      refine r_iconst d_M_layout_15 ?_
      refine r_iast _ d_M_layout_16 15 rfl (by omega) mw_15 ?_
      refine r_iinc d_M_layout_17 rfl (Nat.le_of_ble_eq_true rfl) rfl ?_
      show WP _ _ _ _ _ [_, _, _, _, _, _] _
      refine r_goto 2 d_M_layout_20 (by decide) ?_
      refine ih (k + 1) _ (by omega) (fun c hc => ?_) (fun h q0 q1 => ?_)
      · rw [← hu c hc]
        funext j
        rw [sset_at, if_neg hc]
      · simp only [sset_at, updI_at, reduceIte]
        split
        · rfl
        · exact h0 h q0 (by omega)
  refine r_iconst d_M_layout_0 ?_
  refine r_istore_n d_M_layout_1 (Nat.le_of_ble_eq_true rfl) rfl ?_
  show WP _ _ _ _ _ [_, _, _, _, _, _] _
  exact l1 (s 0 1).toNat 0 s (by omega) (fun _ _ => rfl) (fun h q0 q1 => absurd q1 (by omega))
end MODEL17
