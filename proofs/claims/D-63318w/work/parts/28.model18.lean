abbrev q_M_writeBox : Mi := (⟨"MovieBoxesModel", "writeBox", "(III)V"⟩, prog_12_method_48_code, 9, none)
theorem d_M_writeBox_265 : decode prog_12_method_48_code 265 = .ok (.return_, 1) := by decide +kernel
theorem d_M_writeBox_154 : decode prog_12_method_48_code 154 = .ok (.iload 4, 2) := by decide +kernel
theorem d_M_writeBox_156 : decode prog_12_method_48_code 156 = .ok (.ifCond .lt 71, 3) := by decide +kernel
theorem d_M_writeBox_227 : decode prog_12_method_48_code 227 = .ok (.aload_n 0, 1) := by decide +kernel
theorem d_M_writeBox_228 : decode prog_12_method_48_code 228 = .ok (.iload_n 1, 1) := by decide +kernel
theorem d_M_writeBox_229 : decode prog_12_method_48_code 229 = .ok (.invokevirtual 71, 3) := by decide +kernel
theorem d_M_writeBox_232 : decode prog_12_method_48_code 232 = .ok (.ifCond .ne 33, 3) := by decide +kernel
theorem d_M_writeBox_238 : decode prog_12_method_48_code 238 = .ok (.iload 6, 2) := by decide +kernel
theorem d_M_writeBox_240 : decode prog_12_method_48_code 240 = .ok (.aload_n 0, 1) := by decide +kernel
theorem d_M_writeBox_241 : decode prog_12_method_48_code 241 = .ok (.iload_n 1, 1) := by decide +kernel
theorem d_M_writeBox_242 : decode prog_12_method_48_code 242 = .ok (.invokevirtual 103, 3) := by decide +kernel
theorem d_M_writeBox_245 : decode prog_12_method_48_code 245 = .ok (.if_icmp .ge 20, 3) := by decide +kernel
theorem d_M_writeBox_248 : decode prog_12_method_48_code 248 = .ok (.aload_n 0, 1) := by decide +kernel
theorem d_M_writeBox_249 : decode prog_12_method_48_code 249 = .ok (.aload_n 0, 1) := by decide +kernel
theorem d_M_writeBox_250 : decode prog_12_method_48_code 250 = .ok (.iload_n 1, 1) := by decide +kernel
theorem d_M_writeBox_251 : decode prog_12_method_48_code 251 = .ok (.iload 6, 2) := by decide +kernel
theorem d_M_writeBox_253 : decode prog_12_method_48_code 253 = .ok (.invokevirtual 106, 3) := by decide +kernel
theorem d_M_writeBox_256 : decode prog_12_method_48_code 256 = .ok (.invokevirtual 184, 3) := by decide +kernel
set_option maxRecDepth 20000 in
theorem w_957 : Cond.methodLink "MovieBoxesModel" 184 ⟨"MovieBoxesModel", "put", "(I)V"⟩ ∈ gt := gt_of (in_t4 (List.mem_of_getElem? (i := 237) rfl)) rfl
set_option maxRecDepth 20000 in
theorem w_959 : Cond.instanceMethod ⟨"MovieBoxesModel", "put", "(I)V"⟩ ∈ gt := gt_of (in_t4 (List.mem_of_getElem? (i := 239) rfl)) rfl
set_option maxRecDepth 20000 in
theorem ws_M_put : Cond.selects "MovieBoxesModel" ⟨"MovieBoxesModel", "put", "(I)V"⟩ ⟨"MovieBoxesModel", "put", "(I)V"⟩ ∈ gt := gt_of (in_p3 (List.mem_of_getElem? (i := 12) rfl)) rfl
set_option maxRecDepth 20000 in
theorem w_960 : Cond.code ⟨"MovieBoxesModel", "put", "(I)V"⟩ prog_12_method_46_code 2 (none : Option Jvm.ClassFile.FieldType) ∈ gt := gt_of (in_t5 (List.mem_of_getElem? (i := 0) rfl)) rfl
theorem lk_M_184 : LkV "MovieBoxesModel" 184 q_M_put 1 := ⟨(List.forall_mem_cons.mpr ⟨w_957, (List.forall_mem_cons.mpr ⟨w_959, (List.forall_mem_cons.mpr ⟨ws_M_put, (List.forall_mem_cons.mpr ⟨w_8, (fun _ h => absurd h List.not_mem_nil)⟩)⟩)⟩)⟩), w_960, by decide +kernel⟩
theorem d_M_writeBox_259 : decode prog_12_method_48_code 259 = .ok (.iinc 6 1, 3) := by decide +kernel
theorem d_M_writeBox_262 : decode prog_12_method_48_code 262 = .ok (.goto (-24), 3) := by decide +kernel
theorem d_M_writeBox_235 : decode prog_12_method_48_code 235 = .ok (.iconst 0, 1) := by decide +kernel
theorem d_M_writeBox_236 : decode prog_12_method_48_code 236 = .ok (.istore 6, 2) := by decide +kernel
theorem d_M_writeBox_159 : decode prog_12_method_48_code 159 = .ok (.aload_n 0, 1) := by decide +kernel
theorem d_M_writeBox_160 : decode prog_12_method_48_code 160 = .ok (.iload 4, 2) := by decide +kernel
theorem d_M_writeBox_162 : decode prog_12_method_48_code 162 = .ok (.invokevirtual 116, 3) := by decide +kernel
theorem d_M_writeBox_165 : decode prog_12_method_48_code 165 = .ok (.istore 6, 2) := by decide +kernel
theorem d_M_writeBox_167 : decode prog_12_method_48_code 167 = .ok (.aload_n 0, 1) := by decide +kernel
theorem d_M_writeBox_168 : decode prog_12_method_48_code 168 = .ok (.iload 6, 2) := by decide +kernel
theorem d_M_writeBox_170 : decode prog_12_method_48_code 170 = .ok (.invokevirtual 184, 3) := by decide +kernel
theorem d_M_writeBox_176 : decode prog_12_method_48_code 176 = .ok (.iload 7, 2) := by decide +kernel
theorem d_M_writeBox_178 : decode prog_12_method_48_code 178 = .ok (.iload 6, 2) := by decide +kernel
theorem d_M_writeBox_180 : decode prog_12_method_48_code 180 = .ok (.if_icmp .gt 44, 3) := by decide +kernel
theorem d_M_writeBox_224 : decode prog_12_method_48_code 224 = .ok (.goto 41, 3) := by decide +kernel
theorem d_M_writeBox_183 : decode prog_12_method_48_code 183 = .ok (.aload_n 0, 1) := by decide +kernel
theorem d_M_writeBox_184 : decode prog_12_method_48_code 184 = .ok (.iload 4, 2) := by decide +kernel
theorem d_M_writeBox_186 : decode prog_12_method_48_code 186 = .ok (.iload 7, 2) := by decide +kernel
theorem d_M_writeBox_188 : decode prog_12_method_48_code 188 = .ok (.iload_n 3, 1) := by decide +kernel
theorem d_M_writeBox_189 : decode prog_12_method_48_code 189 = .ok (.invokevirtual 165, 3) := by decide +kernel
theorem d_M_writeBox_208 : decode prog_12_method_48_code 208 = .ok (.aload_n 0, 1) := by decide +kernel
theorem d_M_writeBox_209 : decode prog_12_method_48_code 209 = .ok (.iload 8, 2) := by decide +kernel
theorem d_M_writeBox_211 : decode prog_12_method_48_code 211 = .ok (.sipush 255, 3) := by decide +kernel
theorem d_M_writeBox_215 : decode prog_12_method_48_code 215 = .ok (.invokevirtual 184, 3) := by decide +kernel
theorem d_M_writeBox_218 : decode prog_12_method_48_code 218 = .ok (.iinc 7 1, 3) := by decide +kernel
theorem d_M_writeBox_221 : decode prog_12_method_48_code 221 = .ok (.goto (-45), 3) := by decide +kernel
theorem d_M_writeBox_214 : decode prog_12_method_48_code 214 = .ok (.iand, 1) := by decide +kernel
theorem d_M_writeBox_192 : decode prog_12_method_48_code 192 = .ok (.istore 8, 2) := by decide +kernel
theorem d_M_writeBox_194 : decode prog_12_method_48_code 194 = .ok (.iload 5, 2) := by decide +kernel
theorem d_M_writeBox_196 : decode prog_12_method_48_code 196 = .ok (.ifCond .eq 12, 3) := by decide +kernel
theorem d_M_writeBox_199 : decode prog_12_method_48_code 199 = .ok (.aload_n 0, 1) := by decide +kernel
theorem d_M_writeBox_200 : decode prog_12_method_48_code 200 = .ok (.iload 8, 2) := by decide +kernel
theorem d_M_writeBox_202 : decode prog_12_method_48_code 202 = .ok (.bipush 8, 2) := by decide +kernel
theorem d_M_writeBox_205 : decode prog_12_method_48_code 205 = .ok (.invokevirtual 184, 3) := by decide +kernel
theorem d_M_writeBox_204 : decode prog_12_method_48_code 204 = .ok (.ishr, 1) := by decide +kernel
theorem d_M_writeBox_173 : decode prog_12_method_48_code 173 = .ok (.iconst 1, 1) := by decide +kernel
theorem d_M_writeBox_174 : decode prog_12_method_48_code 174 = .ok (.istore 7, 2) := by decide +kernel
theorem d_M_writeBox_117 : decode prog_12_method_48_code 117 = .ok (.aload_n 0, 1) := by decide +kernel
theorem d_M_writeBox_118 : decode prog_12_method_48_code 118 = .ok (.getfield 46, 3) := by decide +kernel
theorem d_M_writeBox_121 : decode prog_12_method_48_code 121 = .ok (.iload_n 1, 1) := by decide +kernel
theorem d_M_writeBox_122 : decode prog_12_method_48_code 122 = .ok (.iaload, 1) := by decide +kernel
theorem d_M_writeBox_123 : decode prog_12_method_48_code 123 = .ok (.iconst 4, 1) := by decide +kernel
theorem d_M_writeBox_124 : decode prog_12_method_48_code 124 = .ok (.if_icmp .ne 30, 3) := by decide +kernel
theorem d_M_writeBox_127 : decode prog_12_method_48_code 127 = .ok (.aload_n 0, 1) := by decide +kernel
theorem d_M_writeBox_128 : decode prog_12_method_48_code 128 = .ok (.aload_n 0, 1) := by decide +kernel
theorem d_M_writeBox_129 : decode prog_12_method_48_code 129 = .ok (.getfield 49, 3) := by decide +kernel
theorem d_M_writeBox_132 : decode prog_12_method_48_code 132 = .ok (.iload_n 1, 1) := by decide +kernel
theorem d_M_writeBox_133 : decode prog_12_method_48_code 133 = .ok (.iaload, 1) := by decide +kernel
theorem d_M_writeBox_134 : decode prog_12_method_48_code 134 = .ok (.bipush 8, 2) := by decide +kernel
theorem d_M_writeBox_137 : decode prog_12_method_48_code 137 = .ok (.invokevirtual 184, 3) := by decide +kernel
theorem d_M_writeBox_140 : decode prog_12_method_48_code 140 = .ok (.aload_n 0, 1) := by decide +kernel
theorem d_M_writeBox_141 : decode prog_12_method_48_code 141 = .ok (.aload_n 0, 1) := by decide +kernel
theorem d_M_writeBox_142 : decode prog_12_method_48_code 142 = .ok (.getfield 49, 3) := by decide +kernel
theorem d_M_writeBox_145 : decode prog_12_method_48_code 145 = .ok (.iload_n 1, 1) := by decide +kernel
theorem d_M_writeBox_146 : decode prog_12_method_48_code 146 = .ok (.iaload, 1) := by decide +kernel
theorem d_M_writeBox_147 : decode prog_12_method_48_code 147 = .ok (.sipush 255, 3) := by decide +kernel
theorem d_M_writeBox_151 : decode prog_12_method_48_code 151 = .ok (.invokevirtual 184, 3) := by decide +kernel
theorem d_M_writeBox_136 : decode prog_12_method_48_code 136 = .ok (.ishr, 1) := by decide +kernel
theorem d_M_writeBox_150 : decode prog_12_method_48_code 150 = .ok (.iand, 1) := by decide +kernel
theorem d_M_writeBox_94 : decode prog_12_method_48_code 94 = .ok (.invokevirtual 184, 3) := by decide +kernel
theorem d_M_writeBox_114 : decode prog_12_method_48_code 114 = .ok (.invokevirtual 184, 3) := by decide +kernel
theorem d_M_writeBox_97 : decode prog_12_method_48_code 97 = .ok (.aload_n 0, 1) := by decide +kernel
theorem d_M_writeBox_98 : decode prog_12_method_48_code 98 = .ok (.iload 5, 2) := by decide +kernel
theorem d_M_writeBox_100 : decode prog_12_method_48_code 100 = .ok (.ifCond .eq 8, 3) := by decide +kernel
theorem d_M_writeBox_108 : decode prog_12_method_48_code 108 = .ok (.aload_n 0, 1) := by decide +kernel
theorem d_M_writeBox_109 : decode prog_12_method_48_code 109 = .ok (.getfield 19, 3) := by decide +kernel
theorem d_M_writeBox_112 : decode prog_12_method_48_code 112 = .ok (.iload_n 1, 1) := by decide +kernel
theorem d_M_writeBox_113 : decode prog_12_method_48_code 113 = .ok (.iaload, 1) := by decide +kernel
theorem d_M_writeBox_103 : decode prog_12_method_48_code 103 = .ok (.bipush 79, 2) := by decide +kernel
theorem d_M_writeBox_105 : decode prog_12_method_48_code 105 = .ok (.goto 9, 3) := by decide +kernel
theorem d_M_writeBox_71 : decode prog_12_method_48_code 71 = .ok (.istore 5, 2) := by decide +kernel
theorem d_M_writeBox_73 : decode prog_12_method_48_code 73 = .ok (.aload_n 0, 1) := by decide +kernel
theorem d_M_writeBox_74 : decode prog_12_method_48_code 74 = .ok (.aload_n 0, 1) := by decide +kernel
theorem d_M_writeBox_75 : decode prog_12_method_48_code 75 = .ok (.getfield 46, 3) := by decide +kernel
theorem d_M_writeBox_78 : decode prog_12_method_48_code 78 = .ok (.iload_n 1, 1) := by decide +kernel
theorem d_M_writeBox_79 : decode prog_12_method_48_code 79 = .ok (.iaload, 1) := by decide +kernel
theorem d_M_writeBox_80 : decode prog_12_method_48_code 80 = .ok (.iconst 4, 1) := by decide +kernel
theorem d_M_writeBox_81 : decode prog_12_method_48_code 81 = .ok (.if_icmp .ne 7, 3) := by decide +kernel
theorem d_M_writeBox_88 : decode prog_12_method_48_code 88 = .ok (.aload_n 0, 1) := by decide +kernel
theorem d_M_writeBox_89 : decode prog_12_method_48_code 89 = .ok (.getfield 49, 3) := by decide +kernel
theorem d_M_writeBox_92 : decode prog_12_method_48_code 92 = .ok (.iload_n 1, 1) := by decide +kernel
theorem d_M_writeBox_93 : decode prog_12_method_48_code 93 = .ok (.iaload, 1) := by decide +kernel
theorem d_M_writeBox_84 : decode prog_12_method_48_code 84 = .ok (.iconst 1, 1) := by decide +kernel
theorem d_M_writeBox_85 : decode prog_12_method_48_code 85 = .ok (.goto 9, 3) := by decide +kernel
theorem d_M_writeBox_6 : decode prog_12_method_48_code 6 = .ok (.iload 5, 2) := by decide +kernel
theorem d_M_writeBox_8 : decode prog_12_method_48_code 8 = .ok (.aload_n 0, 1) := by decide +kernel
theorem d_M_writeBox_9 : decode prog_12_method_48_code 9 = .ok (.getfield 83, 3) := by decide +kernel
theorem d_M_writeBox_12 : decode prog_12_method_48_code 12 = .ok (.if_icmp .ge 28, 3) := by decide +kernel
theorem d_M_writeBox_40 : decode prog_12_method_48_code 40 = .ok (.iload 4, 2) := by decide +kernel
theorem d_M_writeBox_42 : decode prog_12_method_48_code 42 = .ok (.ifCond .lt 28, 3) := by decide +kernel
theorem d_M_writeBox_70 : decode prog_12_method_48_code 70 = .ok (.iconst 0, 1) := by decide +kernel
theorem d_M_writeBox_45 : decode prog_12_method_48_code 45 = .ok (.aload_n 0, 1) := by decide +kernel
theorem d_M_writeBox_46 : decode prog_12_method_48_code 46 = .ok (.getfield 19, 3) := by decide +kernel
theorem d_M_writeBox_49 : decode prog_12_method_48_code 49 = .ok (.iload_n 1, 1) := by decide +kernel
theorem d_M_writeBox_50 : decode prog_12_method_48_code 50 = .ok (.iaload, 1) := by decide +kernel
theorem d_M_writeBox_51 : decode prog_12_method_48_code 51 = .ok (.bipush 79, 2) := by decide +kernel
theorem d_M_writeBox_53 : decode prog_12_method_48_code 53 = .ok (.if_icmp .eq 13, 3) := by decide +kernel
theorem d_M_writeBox_66 : decode prog_12_method_48_code 66 = .ok (.iconst 1, 1) := by decide +kernel
theorem d_M_writeBox_67 : decode prog_12_method_48_code 67 = .ok (.goto 4, 3) := by decide +kernel
theorem d_M_writeBox_56 : decode prog_12_method_48_code 56 = .ok (.iload_n 2, 1) := by decide +kernel
theorem d_M_writeBox_57 : decode prog_12_method_48_code 57 = .ok (.iload 4, 2) := by decide +kernel
theorem d_M_writeBox_60 : decode prog_12_method_48_code 60 = .ok (.iconst 1, 1) := by decide +kernel
theorem d_M_writeBox_62 : decode prog_12_method_48_code 62 = .ok (.iconst 1, 1) := by decide +kernel
theorem d_M_writeBox_63 : decode prog_12_method_48_code 63 = .ok (.if_icmp .ne 7, 3) := by decide +kernel
theorem d_M_writeBox_15 : decode prog_12_method_48_code 15 = .ok (.aload_n 0, 1) := by decide +kernel
theorem d_M_writeBox_16 : decode prog_12_method_48_code 16 = .ok (.iload 5, 2) := by decide +kernel
theorem d_M_writeBox_18 : decode prog_12_method_48_code 18 = .ok (.invokevirtual 122, 3) := by decide +kernel
theorem d_M_writeBox_21 : decode prog_12_method_48_code 21 = .ok (.iload_n 1, 1) := by decide +kernel
theorem d_M_writeBox_22 : decode prog_12_method_48_code 22 = .ok (.if_icmp .ne 8, 3) := by decide +kernel
theorem d_M_writeBox_30 : decode prog_12_method_48_code 30 = .ok (.iload 4, 2) := by decide +kernel
theorem d_M_writeBox_32 : decode prog_12_method_48_code 32 = .ok (.istore 4, 2) := by decide +kernel
theorem d_M_writeBox_34 : decode prog_12_method_48_code 34 = .ok (.iinc 5 1, 3) := by decide +kernel
theorem d_M_writeBox_37 : decode prog_12_method_48_code 37 = .ok (.goto (-31), 3) := by decide +kernel
theorem d_M_writeBox_25 : decode prog_12_method_48_code 25 = .ok (.iload 5, 2) := by decide +kernel
theorem d_M_writeBox_27 : decode prog_12_method_48_code 27 = .ok (.goto 5, 3) := by decide +kernel
theorem d_M_writeBox_59 : decode prog_12_method_48_code 59 = .ok (.ishr, 1) := by decide +kernel
theorem d_M_writeBox_61 : decode prog_12_method_48_code 61 = .ok (.iand, 1) := by decide +kernel
theorem d_M_writeBox_0 : decode prog_12_method_48_code 0 = .ok (.iconst (-1), 1) := by decide +kernel
theorem d_M_writeBox_1 : decode prog_12_method_48_code 1 = .ok (.istore 4, 2) := by decide +kernel
theorem d_M_writeBox_3 : decode prog_12_method_48_code 3 = .ok (.iconst 0, 1) := by decide +kernel
theorem d_M_writeBox_4 : decode prog_12_method_48_code 4 = .ok (.istore 5, 2) := by decide +kernel
/-! ===== the model: writeBox ===== -/
/-- the track whose places box k is; -1 if none -/
def tkF (s : mS) (k : Int) : Nat → Int
  | 0 => -1
  | t + 1 => if pbx s t = k then t else tkF s k t
theorem tkF_b (s : mS) (k : Int) : ∀ n : Nat, -1 ≤ tkF s k n ∧ tkF s k n < n ∧ (0 ≤ tkF s k n → pbx s (tkF s k n) = k)
  | 0 => ⟨by simp [tkF], by simp [tkF], fun h => absurd h (by simp [tkF])⟩
  | n + 1 => by
    have := tkF_b s k n
    unfold tkF
    split
    · exact ⟨by omega, by omega, fun _ => by assumption⟩
    · exact ⟨by omega, by omega, this.2.2⟩
abbrev tkO (s : mS) (k : Int) : Int := tkF s k (s 0 3).toNat
abbrev wider (s : mS) (w k : Int) : Prop := 0 ≤ tkO s k ∧ (s 4 k = 79 ∨ wbit w (tkO s k))
def cL (s : mS) (t : Int) (wd : Int) (gr : Int) : Nat → List Int
  | 0 => []
  | c + 1 => cL s t wd gr c ++ ((if wd = 0 then [] else [npO s t (1 + c) gr / 256]) ++ [npO s t (1 + c) gr % 256])
def bL (s : mS) (k : Int) : Nat → List Int
  | 0 => []
  | i + 1 => bL s k i ++ [pv s k i]
def hdL (s : mS) (w k : Int) : List Int := [if nhO s k (pyF s w k) = 4 then 1 else nlF s w 3 k, if wider s w k then 79 else s 4 k] ++ (if nhO s k (pyF s w k) = 4 then [nlF s w 3 k / 256, nlF s w 3 k % 256] else [])
/-- what writeBox writes of box k itself -/
def wbL (s : mS) (w gr k : Int) : List Int := hdL s w k ++ (if 0 ≤ tkO s k then pv s (pbx s (tkO s k)) 0 :: cL s (tkO s k) (if wider s w k then 1 else 0) gr (pv s (pbx s (tkO s k)) 0).toNat else if isHold (s 6 k) (s 4 k) then [] else bL s k (s 3 k - s 5 k).toNat)
def agrW (s u : mS) : Prop := (∀ c, 1 ≤ c → c ≤ 12 → u c = s c) ∧ ∀ j, j ≠ 4 → u 0 j = s 0 j
theorem pvW {s u : mS} (h : agrW s u) : pv u = pv s := by funext k i; unfold pv; rw [h.1 1 (by omega) (by omega), h.1 2 (by omega) (by omega), h.1 5 (by omega) (by omega)]
theorem tbW {s u : mS} (h : agrW s u) (t kd : Int) : tb u t kd = tb s t kd := by show u 11 _ = s 11 _; rw [h.1 11 (by omega) (by omega)]
theorem pbxW {s u : mS} (h : agrW s u) (t : Int) : pbx u t = pbx s t := by unfold pbx; rw [tbW h, tbW h]
theorem cplW {s u : mS} (h : agrW s u) (t i : Int) : cpl u t i = cpl s t i := by unfold cpl; rw [pbxW h, pvW h, h.1 4 (by omega) (by omega)]
theorem npOW {s u : mS} (h : agrW s u) (t c ML : Int) : npO u t c ML = npO s t c ML := by
  unfold npO
  rw [cplW h, h.1 2 (by omega) (by omega), h.1 3 (by omega) (by omega), h.1 12 (by omega) (by omega), h.2 2 (by omega)]
theorem byOkW {s u : mS} (h : agrW s u) (hs : byOk s) : byOk u := fun j => by rw [h.1 1 (by omega) (by omega)]; exact hs j
theorem rdOkW {s u : mS} (h : agrW s u) (hs : rdOk s) : rdOk u := by
  unfold rdOk
  rw [h.2 1 (by omega), h.1 2 (by omega) (by omega), h.1 3 (by omega) (by omega), h.1 4 (by omega) (by omega), h.1 5 (by omega) (by omega), h.1 6 (by omega) (by omega), h.1 7 (by omega) (by omega)]
  exact hs
theorem trOkW {s u : mS} (h : agrW s u) {t : Int} (hs : trOk s t) : trOk u t := by
  unfold trOk tbl bxok
  rw [tbW h, tbW h, tbW h, tbW h, tbW h, tbW h, pbxW h, pvW h, h.1 2 (by omega) (by omega), h.1 3 (by omega) (by omega), h.1 4 (by omega) (by omega), h.1 5 (by omega) (by omega), h.1 11 (by omega) (by omega)]
  exact hs
theorem hmOkW {s u : mS} (h : agrW s u) (hs : hmOk s) : hmOk u := by
  unfold hmOk dbC
  simp only [cplW h, pbxW h]
  rw [pvW h, h.2 1 (by omega), h.2 2 (by omega), h.2 3 (by omega), h.1 2 (by omega) (by omega), h.1 3 (by omega) (by omega), h.1 4 (by omega) (by omega), h.1 5 (by omega) (by omega), h.1 6 (by omega) (by omega), h.1 12 (by omega) (by omega)]
  exact hs
/-- while it is written: L so far -/
def wrI (s : mS) (w : Int) (u : mS) (L : List Int) : Prop := agrW s u ∧ (∀ k, s 0 2 ≤ k → k < s 0 1 → (k = s 0 2 ∨ 0 < s 6 k) → u 13 k = nhO s k (pyF s w k) ∧ u 14 k = nlF s w 3 k) ∧ outIs u L
theorem wrI_put {s : mS} {w : Int} {u : mS} {L : List Int} (h : wrI s w u L) (b : Int) : wrI s w (putS u b) (L ++ [b]) := by
  refine ⟨⟨fun c h1 h2 => ?_, fun j hj => ?_⟩, fun k h1 h2 h3 => ?_, putS_out h.2.2 b⟩
  · rw [putS_c u b c (by omega) (by omega)]; exact h.1.1 c h1 h2
  · rw [putS_0 u b j hj]; exact h.1.2 j hj
  · rw [putS_c u b 13 (by omega) (by omega), putS_c u b 14 (by omega) (by omega)]; exact h.2.1 k h1 h2 h3
theorem zI_shr8 {x : Int} (h : i32 x) : zI x >>> (zI 8 &&& 31) = zI (x / 256) := by
  have h1 := pk_shr (zI x) (zI 8 &&& 31) 8 (by decide)
  rw [zI_toInt h] at h1
  have h2 : x >>> (8 : Nat) = x / 256 := Int.shiftRight_eq_div_pow x 8
  rw [h2] at h1
  rw [← zI_of (zI x >>> (zI 8 &&& 31)), h1]
section SHR
variable {μ : Mx} {k n : Nat} {ws : va_W} {pc : Nat} {lv : List (Option Value)} {st : List Value}
theorem r_ishr8 {x : Int} (hd : decode (mB μ) pc = .ok (.ishr, 1)) (hx : i32 x) (kk : WP μ k n ws (pc + 1) lv (vI (x / 256) :: st)) : WP μ k n ws pc lv (vI 8 :: vI x :: st) := by
  refine r_ishrR hd ?_
  rw [zI_shr8 hx]; exact kk
theorem r_iand255 {x : Int} (hd : decode (mB μ) pc = .ok (.iand, 1)) (hx : i32 x) (kk : WP μ k n ws (pc + 1) lv (vI (x % 256) :: st)) : WP μ k n ws pc lv (vI 255 :: vI x :: st) := by
  refine r_iandR hd ?_
  rw [zI_and255 hx]; exact kk
end SHR
section MODEL18
variable (G : gG) (l : Launch) (ad : Nat → Nat)
theorem c_M_writeBox (s : mS) (w gr k : Int) (u : mS) (L : List Int) (hW : wrI s w u L) (hb : byOk s) (hr : rdOk s) (h3 : 1 ≤ s 0 3 ∧ s 0 3 ≤ 2) (hT : ∀ t, 0 ≤ t → t < s 0 3 → trOk s t) (hh : hmOk s) (hk : s 0 2 ≤ k ∧ k < s 0 1) (hk2 : k = s 0 2 ∨ 0 < s 6 k) (hw : wOk w) (hgr : 0 ≤ gr ∧ gr ≤ 100000) (hnl : 0 ≤ nlF s w 3 k ∧ nlF s w 3 k ≤ 1200000000) (hlen : L.length + (wbL s w gr k).length ≤ 1000) : Ct G l q_M_writeBox 3 0 0 [.ref (ad 0), vI k, vI w, vI gr] (mW G ad u) (fun r x => r = none ∧ ∃ u', wrI s w u' (L ++ wbL s w gr k) ∧ x = mW G ad u') := by
  refine Ct.intro [some (.ref (ad 0)), some (vI k), some (vI w), some (vI gr), none, none, none, none, none] (by decide) (Nat.le_of_ble_eq_true rfl) rfl (fun sz => ?_)
  generalize hQ : (fun r x => r = none ∧ ∃ u', wrI s w u' (L ++ wbL s w gr k) ∧ x = mW G ad u') = Q
  have hm0 := hh.1
  have hcn := hr.1
  have hbx := hr.2 k (by omega) (by omega)
  have hnh : nhO s k (pyF s w k) = 2 ∨ nhO s k (pyF s w k) = 4 := by unfold nhO; split <;> omega
  have npb : ∀ t c, 0 ≤ t → t < s 0 3 → 0 ≤ c → c < pv s (pbx s t) 0 → i32 (npO s t (1 + c) gr) := by
    intro t c h0 h1 h2 h4
    have hd := hh.2 t h0 h1 c h2 h4
    have b2 := hr.2 (s 0 2) hh.1.1 hh.1.2.1
    have hcp := cpl_b hb t (1 + c)
    unfold npO i32
    split <;> omega
  have hE : ∀ u', wrI s w u' (L ++ wbL s w gr k) → Q none (mW G ad u') := fun u' h => by rw [← hQ]; exact ⟨rfl, u', h, rfl⟩
  clear hQ
  have hdl : (hdL s w k).length = 2 ∨ (hdL s w k).length = 4 := by unfold hdL; split <;> simp
  -- the end
  have j265 : ∀ u' x4 x5 x6 x7 x8, wrI s w u' (L ++ wbL s w gr k) → WP (mth G l q_M_writeBox 3 0 0 (mW G ad u) sz Q) 0 0 (mW G ad u') 265 [some (.ref (ad 0)), some (vI k), some (vI w), some (vI gr), x4, x5, x6, x7, x8] [] := by
    intro u' x4 x5 x6 x7 x8 h
    refine r_vret d_M_writeBox_265 rfl (Nat.le_of_ble_eq_true rfl) (Nat.le_of_ble_eq_true rfl) ?_
    exact hE u' h
  -- the payload
  have j154 : ∀ u' wd x6 x7 x8, wd = (if wider s w k then (1 : Int) else 0) → wrI s w u' (L ++ hdL s w k) → WP (mth G l q_M_writeBox 3 0 0 (mW G ad u) sz Q) 0 0 (mW G ad u') 154 [some (.ref (ad 0)), some (vI k), some (vI w), some (vI gr), some (vI (tkO s k)), some (vI wd), x6, x7, x8] [] := by
    intro u' wd x6 x7 x8 hwd hW
    have hwd01 : wd = 0 ∨ wd = 1 := by rw [hwd]; split <;> omega
    have htk : -1 ≤ tkO s k ∧ tkO s k < ((s 0 3).toNat : Nat) ∧ (0 ≤ tkO s k → pbx s (tkO s k) = k) := tkF_b s k _
    have hA := hW.1
    refine r_iload d_M_writeBox_154 rfl ?_
    refine r_if_lt 227 d_M_writeBox_156 (by decide) (by unfold i32; omega) (fun g1 => ?_) (fun g1 => ?_)
    · -- not a places box
      have e1 : wbL s w gr k = hdL s w k ++ (if isHold (s 6 k) (s 4 k) then [] else bL s k (s 3 k - s 5 k).toNat) := by unfold wbL; rw [if_neg (show ¬ 0 ≤ tkO s k by omega)]
      refine r_aload_n d_M_writeBox_227 rfl rfl ?_
      refine r_iload_n d_M_writeBox_228 rfl ?_
      refine r_cV1 d_M_writeBox_229 lk_M_71 (c_M_isHolder G l ad u' k (by omega) (by rw [hA.1 6 (by omega) (by omega)]; unfold i32; omega) (by rw [hA.1 4 (by omega) (by omega)]; unfold i32; omega)) 0 rfl rfl (Nat.le_of_ble_eq_true rfl) (rok rfl rfl) ⟨(Nat.le_of_ble_eq_true rfl), (Nat.le_of_ble_eq_true rfl)⟩ (fun r ws2 hq => ?_)
      obtain ⟨rfl, rfl⟩ := hq
      show WP _ _ _ _ _ _ (_ :: _)
      rw [hA.1 6 (by omega) (by omega), hA.1 4 (by omega) (by omega)]
      by_cases hho : isHold (s 6 k) (s 4 k)
      · rw [if_pos hho] at e1 ⊢
        refine r_if_ne 265 d_M_writeBox_232 (by decide) (by unfold i32; omega) (fun g2 => ?_) (fun g2 => ?_)
        · exact j265 u' _ _ _ _ _ (by rw [e1, List.append_nil]; exact hW)
        · exact absurd g2 (by omega)
      · rw [if_neg hho] at e1 ⊢
        have blen : ∀ n : Nat, (bL s k n).length = n := by
          intro n
          induction n with
          | zero => rfl
          | succ n ih => unfold bL; rw [List.length_append, ih]; rfl
        have hl2 : L.length + (hdL s w k).length + (s 3 k - s 5 k).toNat ≤ 1000 := by
          rw [e1, List.length_append, blen] at hlen; omega
        have loop : ∀ (m i : Nat) (v : mS), (i : Int) + m = s 3 k - s 5 k → wrI s w v (L ++ hdL s w k ++ bL s k i) → WP (mth G l q_M_writeBox 3 0 0 (mW G ad u) sz Q) 0 0 (mW G ad v) 238 [some (.ref (ad 0)), some (vI k), some (vI w), some (vI gr), some (vI (tkO s k)), some (vI wd), some (vI i), x7, x8] [] := by
          intro m
          induction m with
          | zero =>
            intro i v hi hv
            have hA := hv.1
            refine r_iload d_M_writeBox_238 rfl ?_
            refine r_aload_n d_M_writeBox_240 rfl rfl ?_
            refine r_iload_n d_M_writeBox_241 rfl ?_
            refine r_cV1 d_M_writeBox_242 lk_M_103 (c_M_payLength G l ad v k (by omega)) 0 rfl rfl (Nat.le_of_ble_eq_true rfl) (rok rfl rfl) ⟨(Nat.le_of_ble_eq_true rfl), (Nat.le_of_ble_eq_true rfl)⟩ (fun r ws2 hq => ?_)
            obtain ⟨rfl, rfl⟩ := hq
            show WP _ _ _ _ _ _ (_ :: _)
            rw [hA.1 3 (by omega) (by omega), hA.1 5 (by omega) (by omega)]
            refine r_icmp_ge 265 d_M_writeBox_245 (by decide) (by unfold i32; omega) (by unfold i32; omega) (fun g3 => ?_) (fun g3 => ?_)
            · exact j265 v _ _ _ _ _ (by rw [e1, show (s 3 k - s 5 k).toNat = i by omega, ← List.append_assoc]; exact hv)
            · exact absurd g3 (by omega)
          | succ m ih =>
            intro i v hi hv
            have hA := hv.1
            refine r_iload d_M_writeBox_238 rfl ?_
            refine r_aload_n d_M_writeBox_240 rfl rfl ?_
            refine r_iload_n d_M_writeBox_241 rfl ?_
            refine r_cV1 d_M_writeBox_242 lk_M_103 (c_M_payLength G l ad v k (by omega)) 0 rfl rfl (Nat.le_of_ble_eq_true rfl) (rok rfl rfl) ⟨(Nat.le_of_ble_eq_true rfl), (Nat.le_of_ble_eq_true rfl)⟩ (fun r ws2 hq => ?_)
            obtain ⟨rfl, rfl⟩ := hq
            show WP _ _ _ _ _ _ (_ :: _)
            rw [hA.1 3 (by omega) (by omega), hA.1 5 (by omega) (by omega)]
            refine r_icmp_ge 265 d_M_writeBox_245 (by decide) (by unfold i32; omega) (by unfold i32; omega) (fun g3 => ?_) (fun g3 => ?_)
            · exact absurd g3 (by omega)
            refine r_aload_n d_M_writeBox_248 rfl rfl ?_
            refine r_aload_n d_M_writeBox_249 rfl rfl ?_
            refine r_iload_n d_M_writeBox_250 rfl ?_
            refine r_iload d_M_writeBox_251 rfl ?_
            refine r_cV2 d_M_writeBox_253 lk_M_106 (c_M_payB G l ad v k i (by unfold bxok; rw [hA.1 2 (by omega) (by omega), hA.1 3 (by omega) (by omega), hA.1 5 (by omega) (by omega)]; omega) (by rw [hA.1 3 (by omega) (by omega), hA.1 5 (by omega) (by omega)]; omega)) 0 rfl rfl (Nat.le_of_ble_eq_true rfl) (rok rfl rfl) ⟨(Nat.le_of_ble_eq_true rfl), (Nat.le_of_ble_eq_true rfl)⟩ (fun r ws2 hq => ?_)
            obtain ⟨rfl, rfl⟩ := hq
            show WP _ _ _ _ _ _ (_ :: _)
            rw [pvW hA]
            have hos := hv.2.2.1
            rw [List.length_append, List.length_append, blen] at hos
            refine r_cV1 d_M_writeBox_256 lk_M_184 (c_M_put G l ad v (pv s k i) (by omega)) 0 rfl rfl (Nat.le_of_ble_eq_true rfl) (rok rfl rfl) ⟨(Nat.le_of_ble_eq_true rfl), (Nat.le_of_ble_eq_true rfl)⟩ (fun r ws2 hq => ?_)
            obtain ⟨rfl, rfl⟩ := hq
            show WP _ _ _ _ _ _ _
            refine r_iinc d_M_writeBox_259 rfl (Nat.le_of_ble_eq_true rfl) rfl ?_
            show WP _ _ _ _ _ [_, _, _, _, _, _, _, _, _] _
            refine r_goto 238 d_M_writeBox_262 (by decide) ?_
            refine ih (i + 1) _ (by omega) ?_
            have := wrI_put hv (pv s k i)
            rw [List.append_assoc] at this
            exact this
        refine r_if_ne 265 d_M_writeBox_232 (by decide) (by unfold i32; omega) (fun g2 => ?_) (fun g2 => ?_)
        · exact absurd g2 (by omega)
        refine r_iconst d_M_writeBox_235 ?_
        refine r_istore d_M_writeBox_236 (Nat.le_of_ble_eq_true rfl) rfl ?_
        show WP _ _ _ _ _ [_, _, _, _, _, _, _, _, _] _
        exact loop (s 3 k - s 5 k).toNat 0 u' (by omega) (by rw [show bL s k 0 = [] from rfl, List.append_nil]; exact hW)
    · -- a places box
      have ht0 : 0 ≤ tkO s k := by omega
      have e1 : wbL s w gr k = hdL s w k ++ pv s (pbx s (tkO s k)) 0 :: cL s (tkO s k) wd gr (pv s (pbx s (tkO s k)) 0).toNat := by unfold wbL; rw [if_pos ht0, ← hwd]
      generalize tkO s k = t at ht0 e1 htk ⊢
      have hTt := hT t (by omega) (by omega)
      have ht01 : 0 ≤ t ∧ t ≤ 1 := by omega
      have i4 := hTt.i ht01 (kd := 4) (by omega)
      have k4 := hTt.2.2.2.2.1
      have hch := pv_b hb (pbx s t) 0
      refine r_aload_n d_M_writeBox_159 rfl rfl ?_
      refine r_iload d_M_writeBox_160 rfl ?_
      refine r_cV1 d_M_writeBox_162 lk_M_116 (c_M_chunkCount G l ad u' t ht01 (by rw [tbW hA]; unfold i32; omega) (by rw [pbxW hA]; unfold bxok; rw [hA.1 2 (by omega) (by omega), hA.1 3 (by omega) (by omega), hA.1 5 (by omega) (by omega)]; exact k4.1) (by rw [pbxW hA, hA.1 3 (by omega) (by omega), hA.1 5 (by omega) (by omega)]; exact k4.2.1)) 0 rfl rfl (Nat.le_of_ble_eq_true rfl) (rok rfl rfl) ⟨(Nat.le_of_ble_eq_true rfl), (Nat.le_of_ble_eq_true rfl)⟩ (fun r ws2 hq => ?_)
      obtain ⟨rfl, rfl⟩ := hq
      show WP _ _ _ _ _ _ (_ :: _)
      rw [pbxW hA, pvW hA]
      have hl1 : L.length + ((hdL s w k).length + (1 + (cL s t wd gr (pv s (pbx s t) 0).toNat).length)) ≤ 1000 := by
        rw [e1, List.length_append, List.length_cons] at hlen; omega
      have hos := hW.2.2.1
      rw [List.length_append] at hos
      refine r_istore d_M_writeBox_165 (Nat.le_of_ble_eq_true rfl) rfl ?_
      show WP _ _ _ _ _ [_, _, _, _, _, _, _, _, _] _
      refine r_aload_n d_M_writeBox_167 rfl rfl ?_
      refine r_iload d_M_writeBox_168 rfl ?_
      refine r_cV1 d_M_writeBox_170 lk_M_184 (c_M_put G l ad u' (pv s (pbx s t) 0) (by omega)) 0 rfl rfl (Nat.le_of_ble_eq_true rfl) (rok rfl rfl) ⟨(Nat.le_of_ble_eq_true rfl), (Nat.le_of_ble_eq_true rfl)⟩ (fun r ws2 hq => ?_)
      obtain ⟨rfl, rfl⟩ := hq
      show WP _ _ _ _ _ _ _
      have hW2 := wrI_put hW (pv s (pbx s t) 0)
      have clen0 : wd = 0 → ∀ n : Nat, (cL s t wd gr n).length = n := by
        intro hz n
        induction n with
        | zero => rfl
        | succ n ih =>
          unfold cL
          rw [List.length_append, ih, List.length_append, if_pos hz]
          rfl
      have clen1 : wd = 1 → ∀ n : Nat, (cL s t wd gr n).length = 2 * n := by
        intro hz n
        induction n with
        | zero => rfl
        | succ n ih =>
          unfold cL
          rw [List.length_append, ih, List.length_append, if_neg (by omega)]
          simp only [List.length_singleton]
          omega
      have loop : ∀ (m c : Nat) (v : mS) (x8 : Option Value), (c : Int) + m = pv s (pbx s t) 0 → wrI s w v (L ++ hdL s w k ++ [pv s (pbx s t) 0] ++ cL s t wd gr c) → WP (mth G l q_M_writeBox 3 0 0 (mW G ad u) sz Q) 0 0 (mW G ad v) 176 [some (.ref (ad 0)), some (vI k), some (vI w), some (vI gr), some (vI t), some (vI wd), some (vI (pv s (pbx s t) 0)), some (vI (1 + c)), x8] [] := by
        intro m
        induction m with
        | zero =>
          intro c v x8 hc hv
          refine r_iload d_M_writeBox_176 rfl ?_
          refine r_iload d_M_writeBox_178 rfl ?_
          refine r_icmp_gt 224 d_M_writeBox_180 (by decide) (by unfold i32; omega) (by unfold i32; omega) (fun g3 => ?_) (fun g3 => ?_)
          · refine r_goto 265 d_M_writeBox_224 (by decide) ?_
            refine j265 v _ _ _ _ _ ?_
            rw [e1, show (pv s (pbx s t) 0).toNat = c by omega]
            have e2 : L ++ (hdL s w k ++ pv s (pbx s t) 0 :: cL s t wd gr c) = L ++ hdL s w k ++ [pv s (pbx s t) 0] ++ cL s t wd gr c := by simp
            rw [e2]; exact hv
          · exact absurd g3 (by omega)
        | succ m ih =>
          intro c v x8 hc hv
          have hA := hv.1
          have hnb := npb t c (by omega) (by omega) (by omega) (by omega)
          have hos := hv.2.2.1
          rw [List.length_append, List.length_append, List.length_append, List.length_singleton] at hos
          have ih2 := fun v x8 => ih (c + 1) v x8 (by omega)
          rw [show (1 : Int) + ((c + 1 : Nat) : Int) = 1 + c + 1 by omega] at ih2
          refine r_iload d_M_writeBox_176 rfl ?_
          refine r_iload d_M_writeBox_178 rfl ?_
          refine r_icmp_gt 224 d_M_writeBox_180 (by decide) (by unfold i32; omega) (by unfold i32; omega) (fun g3 => ?_) (fun g3 => ?_)
          · exact absurd g3 (by omega)
          refine r_aload_n d_M_writeBox_183 rfl rfl ?_
          refine r_iload d_M_writeBox_184 rfl ?_
          refine r_iload d_M_writeBox_186 rfl ?_
          refine r_iload_n d_M_writeBox_188 rfl ?_
          refine r_cV3 d_M_writeBox_189 lk_M_165 (c_M_newPlace G l ad v t c gr (byOkW hA hb) (rdOkW hA hr) ht01 (by rw [hA.2 3 (by omega)]; omega) (trOkW hA hTt) (hmOkW hA hh) (by rw [pvW hA, pbxW hA]; omega)) 0 rfl rfl (Nat.le_of_ble_eq_true rfl) (rok rfl rfl) ⟨(Nat.le_of_ble_eq_true rfl), (Nat.le_of_ble_eq_true rfl)⟩ (fun r ws2 hq => ?_)
          obtain ⟨rfl, rfl⟩ := hq
          show WP _ _ _ _ _ _ (_ :: _)
          rw [npOW hA]
          have j208 : ∀ v' , wrI s w v' (L ++ hdL s w k ++ [pv s (pbx s t) 0] ++ cL s t wd gr c ++ (if wd = 0 then [] else [npO s t (1 + c) gr / 256])) → WP (mth G l q_M_writeBox 3 0 0 (mW G ad u) sz Q) 0 0 (mW G ad v') 208 [some (.ref (ad 0)), some (vI k), some (vI w), some (vI gr), some (vI t), some (vI wd), some (vI (pv s (pbx s t) 0)), some (vI (1 + c)), some (vI (npO s t (1 + c) gr))] [] := by
            intro v' hv'
            have hos2 := hv'.2.2.1
            rw [List.length_append, List.length_append, List.length_append, List.length_append, List.length_singleton] at hos2
            have hlt : 0 ≤ v' 0 4 ∧ v' 0 4 < 1000 := by
              rcases hwd01 with hz | hz
              · have q1 := clen0 hz c
                have q2 := clen0 hz (pv s (pbx s t) 0).toNat
                rw [if_pos hz, List.length_nil] at hos2
                omega
              · have q1 := clen1 hz c
                have q2 := clen1 hz (pv s (pbx s t) 0).toNat
                rw [if_neg (by omega), List.length_singleton] at hos2
                omega
            refine r_aload_n d_M_writeBox_208 rfl rfl ?_
            refine r_iload d_M_writeBox_209 rfl ?_
            refine r_sipush d_M_writeBox_211 (by decide) ?_
            refine r_iand255 d_M_writeBox_214 hnb ?_
            refine r_cV1 d_M_writeBox_215 lk_M_184 (c_M_put G l ad v' (npO s t (1 + c) gr % 256) hlt) 0 rfl rfl (Nat.le_of_ble_eq_true rfl) (rok rfl rfl) ⟨(Nat.le_of_ble_eq_true rfl), (Nat.le_of_ble_eq_true rfl)⟩ (fun r ws2 hq => ?_)
            obtain ⟨rfl, rfl⟩ := hq
            show WP _ _ _ _ _ _ _
            refine r_iinc d_M_writeBox_218 rfl (Nat.le_of_ble_eq_true rfl) rfl ?_
            show WP _ _ _ _ _ [_, _, _, _, _, _, _, _, _] _
            refine r_goto 176 d_M_writeBox_221 (by decide) ?_
            refine ih2 _ _ ?_
            have := wrI_put hv' (npO s t (1 + c) gr % 256)
            rw [List.append_assoc, List.append_assoc] at this
            exact this
          refine r_istore d_M_writeBox_192 (Nat.le_of_ble_eq_true rfl) rfl ?_
          show WP _ _ _ _ _ [_, _, _, _, _, _, _, _, _] _
          refine r_iload d_M_writeBox_194 rfl ?_
          refine r_if_eq 208 d_M_writeBox_196 (by decide) (by unfold i32; omega) (fun g4 => ?_) (fun g4 => ?_)
          · exact j208 v (by rw [if_pos g4, List.append_nil]; exact hv)
          · rw [if_neg g4] at j208
            refine r_aload_n d_M_writeBox_199 rfl rfl ?_
            refine r_iload d_M_writeBox_200 rfl ?_
            refine r_bipush d_M_writeBox_202 (by decide) ?_
            refine r_ishr8 d_M_writeBox_204 hnb ?_
            refine r_cV1 d_M_writeBox_205 lk_M_184 (c_M_put G l ad v (npO s t (1 + c) gr / 256) (by have q1 := clen1 (by omega) c; have q2 := clen1 (by omega) (pv s (pbx s t) 0).toNat; omega)) 0 rfl rfl (Nat.le_of_ble_eq_true rfl) (rok rfl rfl) ⟨(Nat.le_of_ble_eq_true rfl), (Nat.le_of_ble_eq_true rfl)⟩ (fun r ws2 hq => ?_)
            obtain ⟨rfl, rfl⟩ := hq
            show WP _ _ _ _ _ _ _
            exact j208 _ (wrI_put hv _)
      refine r_iconst d_M_writeBox_173 ?_
      refine r_istore d_M_writeBox_174 (Nat.le_of_ble_eq_true rfl) rfl ?_
      show WP _ _ _ _ _ [_, _, _, _, _, _, _, _, _] _
      exact loop (pv s (pbx s t) 0).toNat 0 _ _ (by omega) (by rw [show cL s t wd gr 0 = [] from rfl, List.append_nil]; exact hW2)
  -- the header
  have hhd : hdL s w k = [if nhO s k (pyF s w k) = 4 then 1 else nlF s w 3 k, if wider s w k then 79 else s 4 k] ++ (if nhO s k (pyF s w k) = 4 then [nlF s w 3 k / 256, nlF s w 3 k % 256] else []) := rfl
  have hl0 : L.length + 2 ≤ 1000 ∧ (nhO s k (pyF s w k) = 4 → L.length + 4 ≤ 1000) := by
    unfold wbL at hlen
    rw [List.length_append] at hlen
    refine ⟨by omega, fun h => ?_⟩
    rw [hhd, if_pos h, if_pos h] at hlen
    simp only [List.length_append, List.length_cons, List.length_nil] at hlen
    omega
  have j117 : ∀ u' wd x6 x7 x8, wd = (if wider s w k then (1 : Int) else 0) → wrI s w u' (L ++ [if nhO s k (pyF s w k) = 4 then 1 else nlF s w 3 k] ++ [if wider s w k then 79 else s 4 k]) → WP (mth G l q_M_writeBox 3 0 0 (mW G ad u) sz Q) 0 0 (mW G ad u') 117 [some (.ref (ad 0)), some (vI k), some (vI w), some (vI gr), some (vI (tkO s k)), some (vI wd), x6, x7, x8] [] := by
    intro u' wd x6 x7 x8 hwd hW
    have h13 := hW.2.1 k hk.1 hk.2 hk2
    have hos := hW.2.2.1
    simp only [List.length_append, List.length_singleton] at hos
    refine r_aload_n d_M_writeBox_117 rfl rfl ?_
    refine r_get d_M_writeBox_118 fl_M_46_7 0 rfl rfl ?_
    refine r_iload_n d_M_writeBox_121 rfl ?_
    refine r_iald d_M_writeBox_122 13 rfl (by omega) ?_
    refine r_iconst d_M_writeBox_123 ?_
    rw [h13.1]
    refine r_icmp_ne 154 d_M_writeBox_124 (by decide) (by unfold i32; omega) (by unfold i32; omega) (fun g1 => ?_) (fun g1 => ?_)
    · refine j154 u' wd _ _ _ hwd ?_
      rw [hhd, if_neg g1, if_neg g1]
      rw [if_neg g1] at hW
      simpa using hW
    · have h4 : nhO s k (pyF s w k) = 4 := by omega
      have := hl0.2 h4
      refine r_aload_n d_M_writeBox_127 rfl rfl ?_
      refine r_aload_n d_M_writeBox_128 rfl rfl ?_
      refine r_get d_M_writeBox_129 fl_M_49_7 0 rfl rfl ?_
      refine r_iload_n d_M_writeBox_132 rfl ?_
      refine r_iald d_M_writeBox_133 14 rfl (by omega) ?_
      rw [h13.2]
      refine r_bipush d_M_writeBox_134 (by decide) ?_
      refine r_ishr8 d_M_writeBox_136 (by unfold i32; omega) ?_
      refine r_cV1 d_M_writeBox_137 lk_M_184 (c_M_put G l ad u' (nlF s w 3 k / 256) (by omega)) 0 rfl rfl (Nat.le_of_ble_eq_true rfl) (rok rfl rfl) ⟨(Nat.le_of_ble_eq_true rfl), (Nat.le_of_ble_eq_true rfl)⟩ (fun r ws2 hq => ?_)
      obtain ⟨rfl, rfl⟩ := hq
      show WP _ _ _ _ _ _ _
      have hW2 := wrI_put hW (nlF s w 3 k / 256)
      have h13b := hW2.2.1 k hk.1 hk.2 hk2
      have hos2 := hW2.2.2.1
      simp only [List.length_append, List.length_singleton] at hos2
      refine r_aload_n d_M_writeBox_140 rfl rfl ?_
      refine r_aload_n d_M_writeBox_141 rfl rfl ?_
      refine r_get d_M_writeBox_142 fl_M_49_7 0 rfl rfl ?_
      refine r_iload_n d_M_writeBox_145 rfl ?_
      refine r_iald d_M_writeBox_146 14 rfl (by omega) ?_
      rw [h13b.2]
      refine r_sipush d_M_writeBox_147 (by decide) ?_
      refine r_iand255 d_M_writeBox_150 (by unfold i32; omega) ?_
      refine r_cV1 d_M_writeBox_151 lk_M_184 (c_M_put G l ad (putS u' (nlF s w 3 k / 256)) (nlF s w 3 k % 256) (by omega)) 0 rfl rfl (Nat.le_of_ble_eq_true rfl) (rok rfl rfl) ⟨(Nat.le_of_ble_eq_true rfl), (Nat.le_of_ble_eq_true rfl)⟩ (fun r ws2 hq => ?_)
      obtain ⟨rfl, rfl⟩ := hq
      show WP _ _ _ _ _ _ _
      have hW3 := wrI_put hW2 (nlF s w 3 k % 256)
      refine j154 _ wd _ _ _ hwd ?_
      rw [hhd, if_pos h4, if_pos h4]
      rw [if_pos h4] at hW3
      simpa using hW3
  have j71 : ∀ wd, wd = (if wider s w k then (1 : Int) else 0) → ∀ x5 x6 x7 x8, WP (mth G l q_M_writeBox 3 0 0 (mW G ad u) sz Q) 0 0 (mW G ad u) 71 [some (.ref (ad 0)), some (vI k), some (vI w), some (vI gr), some (vI (tkO s k)), x5, x6, x7, x8] [vI wd] := by
    intro wd hwd x5 x6 x7 x8
    have hwd01 : wd = 0 ∨ wd = 1 := by rw [hwd]; split <;> omega
    have h13 := hW.2.1 k hk.1 hk.2 hk2
    have hA := hW.1
    have hos := hW.2.2.1
    have j94 : ∀ b, b = (if nhO s k (pyF s w k) = 4 then 1 else nlF s w 3 k) → WP (mth G l q_M_writeBox 3 0 0 (mW G ad u) sz Q) 0 0 (mW G ad u) 94 [some (.ref (ad 0)), some (vI k), some (vI w), some (vI gr), some (vI (tkO s k)), some (vI wd), x6, x7, x8] [vI b, .ref (ad 0)] := by
      intro b hbb
      refine r_cV1 d_M_writeBox_94 lk_M_184 (c_M_put G l ad u b (by omega)) 0 rfl rfl (Nat.le_of_ble_eq_true rfl) (rok rfl rfl) ⟨(Nat.le_of_ble_eq_true rfl), (Nat.le_of_ble_eq_true rfl)⟩ (fun r ws2 hq => ?_)
      obtain ⟨rfl, rfl⟩ := hq
      show WP _ _ _ _ _ _ _
      have hW2 := wrI_put hW b
      rw [hbb] at hW2 ⊢
      have hA2 := hW2.1
      have hos2 := hW2.2.2.1
      simp only [List.length_append, List.length_singleton] at hos2
      have j114 : ∀ c, c = (if wider s w k then 79 else s 4 k) → WP (mth G l q_M_writeBox 3 0 0 (mW G ad u) sz Q) 0 0 (mW G ad (putS u (if nhO s k (pyF s w k) = 4 then 1 else nlF s w 3 k))) 114 [some (.ref (ad 0)), some (vI k), some (vI w), some (vI gr), some (vI (tkO s k)), some (vI wd), x6, x7, x8] [vI c, .ref (ad 0)] := by
        intro c hcc
        refine r_cV1 d_M_writeBox_114 lk_M_184 (c_M_put G l ad (putS u (if nhO s k (pyF s w k) = 4 then 1 else nlF s w 3 k)) c (by omega)) 0 rfl rfl (Nat.le_of_ble_eq_true rfl) (rok rfl rfl) ⟨(Nat.le_of_ble_eq_true rfl), (Nat.le_of_ble_eq_true rfl)⟩ (fun r ws2 hq => ?_)
        obtain ⟨rfl, rfl⟩ := hq
        show WP _ _ _ _ _ _ _
        have hW3 := wrI_put hW2 c
        rw [hcc] at hW3 ⊢
        exact j117 _ wd _ _ _ hwd hW3
      refine r_aload_n d_M_writeBox_97 rfl rfl ?_
      refine r_iload d_M_writeBox_98 rfl ?_
      refine r_if_eq 108 d_M_writeBox_100 (by decide) (by unfold i32; omega) (fun g1 => ?_) (fun g1 => ?_)
      · have hno : ¬ wider s w k := fun h => by rw [if_pos h] at hwd; omega
        refine r_aload_n d_M_writeBox_108 rfl rfl ?_
        refine r_get d_M_writeBox_109 fl_M_19_7 0 rfl rfl ?_
        refine r_iload_n d_M_writeBox_112 rfl ?_
        refine r_iald d_M_writeBox_113 4 rfl (by omega) ?_
        rw [hA2.1 4 (by omega) (by omega)]
        exact j114 _ (by rw [if_neg hno])
      · have hyes : wider s w k := Classical.byContradiction fun h => by rw [if_neg h] at hwd; omega
        refine r_bipush d_M_writeBox_103 (by decide) ?_
        refine r_goto 114 d_M_writeBox_105 (by decide) ?_
        exact j114 _ (by rw [if_pos hyes])
    refine r_istore d_M_writeBox_71 (Nat.le_of_ble_eq_true rfl) rfl ?_
    show WP _ _ _ _ _ [_, _, _, _, _, _, _, _, _] _
    refine r_aload_n d_M_writeBox_73 rfl rfl ?_
    refine r_aload_n d_M_writeBox_74 rfl rfl ?_
    refine r_get d_M_writeBox_75 fl_M_46_7 0 rfl rfl ?_
    refine r_iload_n d_M_writeBox_78 rfl ?_
    refine r_iald d_M_writeBox_79 13 rfl (by omega) ?_
    refine r_iconst d_M_writeBox_80 ?_
    rw [h13.1]
    refine r_icmp_ne 88 d_M_writeBox_81 (by decide) (by unfold i32; omega) (by unfold i32; omega) (fun g1 => ?_) (fun g1 => ?_)
    · refine r_aload_n d_M_writeBox_88 rfl rfl ?_
      refine r_get d_M_writeBox_89 fl_M_49_7 0 rfl rfl ?_
      refine r_iload_n d_M_writeBox_92 rfl ?_
      refine r_iald d_M_writeBox_93 14 rfl (by omega) ?_
      rw [h13.2]
      exact j94 _ (by rw [if_neg g1])
    · refine r_iconst d_M_writeBox_84 ?_
      refine r_goto 94 d_M_writeBox_85 (by decide) ?_
      exact j94 _ (by rw [if_pos (by omega)])
  -- the track
  have lt : ∀ (q t : Nat), (t : Int) + q = s 0 3 → WP (mth G l q_M_writeBox 3 0 0 (mW G ad u) sz Q) 0 0 (mW G ad u) 6 [some (.ref (ad 0)), some (vI k), some (vI w), some (vI gr), some (vI (tkF s k t)), some (vI t), none, none, none] [] := by
    intro q
    induction q with
    | zero =>
      intro t ht
      have hA := hW.1
      have htk := tkF_b s k t
      obtain rfl : t = (s 0 3).toNat := by omega
      refine r_iload d_M_writeBox_6 rfl ?_
      refine r_aload_n d_M_writeBox_8 rfl rfl ?_
      refine r_get d_M_writeBox_9 fl_M_83_7 0 rfl rfl ?_
      rw [hA.2 3 (by omega)]
      refine r_icmp_ge 40 d_M_writeBox_12 (by decide) (by unfold i32; omega) (by unfold i32; omega) (fun g1 => ?_) (fun g1 => ?_)
      · refine r_iload d_M_writeBox_40 rfl ?_
        refine r_if_lt 70 d_M_writeBox_42 (by decide) (by unfold i32; omega) (fun g2 => ?_) (fun g2 => ?_)
        · refine r_iconst d_M_writeBox_70 ?_
          exact j71 0 (by rw [if_neg (by unfold wider tkO; omega)]) _ _ _ _
        refine r_aload_n d_M_writeBox_45 rfl rfl ?_
        refine r_get d_M_writeBox_46 fl_M_19_7 0 rfl rfl ?_
        refine r_iload_n d_M_writeBox_49 rfl ?_
        refine r_iald d_M_writeBox_50 4 rfl (by omega) ?_
        refine r_bipush d_M_writeBox_51 (by decide) ?_
        rw [hA.1 4 (by omega) (by omega)]
        refine r_icmp_eq 66 d_M_writeBox_53 (by decide) (by unfold i32; omega) (by unfold i32; omega) (fun g3 => ?_) (fun g3 => ?_)
        · refine r_iconst d_M_writeBox_66 ?_
          refine r_goto 71 d_M_writeBox_67 (by decide) ?_
          exact j71 1 (by rw [if_pos (by unfold wider tkO; omega)]) _ _ _ _
        refine r_iload_n d_M_writeBox_56 rfl ?_
        refine r_iload d_M_writeBox_57 rfl ?_
        refine r_ishrR d_M_writeBox_59 ?_
        refine r_iconst d_M_writeBox_60 ?_
        refine r_iandR d_M_writeBox_61 ?_
        rw [wbit_z hw (by omega)]
        refine r_iconst d_M_writeBox_62 ?_
        by_cases hwb : wbit w (tkF s k (s 0 3).toNat)
        · rw [if_pos hwb]
          refine r_icmp_ne 70 d_M_writeBox_63 (by decide) (by unfold i32; omega) (by unfold i32; omega) (fun g4 => ?_) (fun g4 => ?_)
          · exact absurd g4 (by omega)
          refine r_iconst d_M_writeBox_66 ?_
          refine r_goto 71 d_M_writeBox_67 (by decide) ?_
          exact j71 1 (by rw [if_pos (by unfold wider tkO; exact ⟨by omega, Or.inr hwb⟩)]) _ _ _ _
        · rw [if_neg hwb]
          refine r_icmp_ne 70 d_M_writeBox_63 (by decide) (by unfold i32; omega) (by unfold i32; omega) (fun g4 => ?_) (fun g4 => ?_)
          · refine r_iconst d_M_writeBox_70 ?_
            exact j71 0 (by rw [if_neg (by unfold wider tkO; exact fun h => h.2.elim (fun z => g3 z) hwb)]) _ _ _ _
          · exact absurd g4 (by omega)
      · exact absurd g1 (by omega)
    | succ q ih =>
      intro t ht
      have hA := hW.1
      have hTt := hT t (by omega) (by omega)
      have i4 := hTt.i (by omega) (kd := 4) (by omega)
      have hpb : i32 (pbx s t) := by have := hTt.2.2.2.2.1.1; unfold i32; omega
      have ih2 := ih (t + 1) (by omega)
      unfold tkF at ih2
      refine r_iload d_M_writeBox_6 rfl ?_
      refine r_aload_n d_M_writeBox_8 rfl rfl ?_
      refine r_get d_M_writeBox_9 fl_M_83_7 0 rfl rfl ?_
      rw [hA.2 3 (by omega)]
      refine r_icmp_ge 40 d_M_writeBox_12 (by decide) (by unfold i32; omega) (by unfold i32; omega) (fun g1 => ?_) (fun g1 => ?_)
      · exact absurd g1 (by omega)
      refine r_aload_n d_M_writeBox_15 rfl rfl ?_
      refine r_iload d_M_writeBox_16 rfl ?_
      refine r_cV1 d_M_writeBox_18 lk_M_122 (c_M_placesBox G l ad u t (by omega) (by rw [tbW hA]; unfold i32; omega)) 0 rfl rfl (Nat.le_of_ble_eq_true rfl) (rok rfl rfl) ⟨(Nat.le_of_ble_eq_true rfl), (Nat.le_of_ble_eq_true rfl)⟩ (fun r ws2 hq => ?_)
      obtain ⟨rfl, rfl⟩ := hq
      show WP _ _ _ _ _ _ (_ :: _)
      rw [pbxW hA]
      refine r_iload_n d_M_writeBox_21 rfl ?_
      refine r_icmp_ne 30 d_M_writeBox_22 (by decide) hpb (by unfold i32; omega) (fun g2 => ?_) (fun g2 => ?_)
      · rw [if_neg g2] at ih2
        refine r_iload d_M_writeBox_30 rfl ?_
        refine r_istore d_M_writeBox_32 (Nat.le_of_ble_eq_true rfl) rfl ?_
        show WP _ _ _ _ _ [_, _, _, _, _, _, _, _, _] _
        refine r_iinc d_M_writeBox_34 rfl (Nat.le_of_ble_eq_true rfl) rfl ?_
        show WP _ _ _ _ _ [_, _, _, _, _, _, _, _, _] _
        refine r_goto 6 d_M_writeBox_37 (by decide) ?_
        exact ih2
      · rw [if_pos (by omega)] at ih2
        refine r_iload d_M_writeBox_25 rfl ?_
        refine r_goto 32 d_M_writeBox_27 (by decide) ?_
        refine r_istore d_M_writeBox_32 (Nat.le_of_ble_eq_true rfl) rfl ?_
        show WP _ _ _ _ _ [_, _, _, _, _, _, _, _, _] _
        refine r_iinc d_M_writeBox_34 rfl (Nat.le_of_ble_eq_true rfl) rfl ?_
        show WP _ _ _ _ _ [_, _, _, _, _, _, _, _, _] _
        refine r_goto 6 d_M_writeBox_37 (by decide) ?_
        exact ih2
  refine r_iconst d_M_writeBox_0 ?_
  refine r_istore d_M_writeBox_1 (Nat.le_of_ble_eq_true rfl) rfl ?_
  show WP _ _ _ _ _ [_, _, _, _, _, _, _, _, _] _
  refine r_iconst d_M_writeBox_3 ?_
  refine r_istore d_M_writeBox_4 (Nat.le_of_ble_eq_true rfl) rfl ?_
  show WP _ _ _ _ _ [_, _, _, _, _, _, _, _, _] _
  exact lt (s 0 3).toNat 0 (by omega)
end MODEL18
