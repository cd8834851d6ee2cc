abbrev q_X_fastStart : Mi := (⟨"MovieBoxes", "fastStart", "()I"⟩, prog_1_method_30_code, 6, (some .int))
theorem d_X_fastStart_117 : decode prog_1_method_30_code 117 = .ok (.aload_n 0, 1) := by decide +kernel
theorem d_X_fastStart_118 : decode prog_1_method_30_code 118 = .ok (.getfield 192, 3) := by decide +kernel
theorem d_X_fastStart_121 : decode prog_1_method_30_code 121 = .ok (.getfield 321, 3) := by decide +kernel
theorem d_X_fastStart_124 : decode prog_1_method_30_code 124 = .ok (.istore 4, 2) := by decide +kernel
theorem d_X_fastStart_126 : decode prog_1_method_30_code 126 = .ok (.aload_n 0, 1) := by decide +kernel
theorem d_X_fastStart_127 : decode prog_1_method_30_code 127 = .ok (.iconst 0, 1) := by decide +kernel
theorem d_X_fastStart_128 : decode prog_1_method_30_code 128 = .ok (.putfield 54, 3) := by decide +kernel
theorem d_X_fastStart_131 : decode prog_1_method_30_code 131 = .ok (.aload_n 0, 1) := by decide +kernel
theorem d_X_fastStart_132 : decode prog_1_method_30_code 132 = .ok (.getfield 50, 3) := by decide +kernel
theorem d_X_fastStart_135 : decode prog_1_method_30_code 135 = .ok (.iload 4, 2) := by decide +kernel
theorem d_X_fastStart_137 : decode prog_1_method_30_code 137 = .ok (.iadd, 1) := by decide +kernel
theorem d_X_fastStart_138 : decode prog_1_method_30_code 138 = .ok (.aload_n 0, 1) := by decide +kernel
theorem d_X_fastStart_139 : decode prog_1_method_30_code 139 = .ok (.getfield 192, 3) := by decide +kernel
theorem d_X_fastStart_142 : decode prog_1_method_30_code 142 = .ok (.getfield 196, 3) := by decide +kernel
theorem d_X_fastStart_145 : decode prog_1_method_30_code 145 = .ok (.isub, 1) := by decide +kernel
theorem d_X_fastStart_146 : decode prog_1_method_30_code 146 = .ok (.sipush 1000, 3) := by decide +kernel
theorem d_X_fastStart_149 : decode prog_1_method_30_code 149 = .ok (.if_icmp .le 6, 3) := by decide +kernel
theorem d_X_fastStart_155 : decode prog_1_method_30_code 155 = .ok (.aload_n 0, 1) := by decide +kernel
theorem d_X_fastStart_156 : decode prog_1_method_30_code 156 = .ok (.getfield 7, 3) := by decide +kernel
theorem d_X_fastStart_159 : decode prog_1_method_30_code 159 = .ok (.iconst 0, 1) := by decide +kernel
theorem d_X_fastStart_160 : decode prog_1_method_30_code 160 = .ok (.aload_n 0, 1) := by decide +kernel
theorem d_X_fastStart_161 : decode prog_1_method_30_code 161 = .ok (.getfield 13, 3) := by decide +kernel
theorem d_X_fastStart_164 : decode prog_1_method_30_code 164 = .ok (.iconst 0, 1) := by decide +kernel
theorem d_X_fastStart_165 : decode prog_1_method_30_code 165 = .ok (.aload_n 1, 1) := by decide +kernel
theorem d_X_fastStart_166 : decode prog_1_method_30_code 166 = .ok (.getfield 139, 3) := by decide +kernel
theorem d_X_fastStart_169 : decode prog_1_method_30_code 169 = .ok (.invokestatic 332, 3) := by decide +kernel
set_option maxRecDepth 20000 in
theorem w_665 : Cond.methodLink "MovieBoxes" 332 ⟨"java/lang/System", "arraycopy", "(Ljava/lang/Object;ILjava/lang/Object;II)V"⟩ ∈ gt := gt_of (in_t3 (List.mem_of_getElem? (i := 185) rfl)) rfl
theorem d_X_fastStart_172 : decode prog_1_method_30_code 172 = .ok (.aload_n 0, 1) := by decide +kernel
theorem d_X_fastStart_173 : decode prog_1_method_30_code 173 = .ok (.aload_n 0, 1) := by decide +kernel
theorem d_X_fastStart_174 : decode prog_1_method_30_code 174 = .ok (.getfield 192, 3) := by decide +kernel
theorem d_X_fastStart_177 : decode prog_1_method_30_code 177 = .ok (.aload_n 1, 1) := by decide +kernel
theorem d_X_fastStart_178 : decode prog_1_method_30_code 178 = .ok (.getfield 139, 3) := by decide +kernel
theorem d_X_fastStart_181 : decode prog_1_method_30_code 181 = .ok (.iconst 0, 1) := by decide +kernel
theorem d_X_fastStart_182 : decode prog_1_method_30_code 182 = .ok (.invokestatic 303, 3) := by decide +kernel
theorem d_X_fastStart_185 : decode prog_1_method_30_code 185 = .ok (.istore 5, 2) := by decide +kernel
theorem d_X_fastStart_187 : decode prog_1_method_30_code 187 = .ok (.aload_n 0, 1) := by decide +kernel
theorem d_X_fastStart_188 : decode prog_1_method_30_code 188 = .ok (.getfield 7, 3) := by decide +kernel
theorem d_X_fastStart_191 : decode prog_1_method_30_code 191 = .ok (.aload_n 1, 1) := by decide +kernel
theorem d_X_fastStart_192 : decode prog_1_method_30_code 192 = .ok (.getfield 139, 3) := by decide +kernel
theorem d_X_fastStart_195 : decode prog_1_method_30_code 195 = .ok (.aload_n 0, 1) := by decide +kernel
theorem d_X_fastStart_196 : decode prog_1_method_30_code 196 = .ok (.getfield 13, 3) := by decide +kernel
theorem d_X_fastStart_199 : decode prog_1_method_30_code 199 = .ok (.iload 5, 2) := by decide +kernel
theorem d_X_fastStart_201 : decode prog_1_method_30_code 201 = .ok (.aload_n 0, 1) := by decide +kernel
theorem d_X_fastStart_202 : decode prog_1_method_30_code 202 = .ok (.getfield 192, 3) := by decide +kernel
theorem d_X_fastStart_205 : decode prog_1_method_30_code 205 = .ok (.getfield 320, 3) := by decide +kernel
theorem d_X_fastStart_208 : decode prog_1_method_30_code 208 = .ok (.aload_n 1, 1) := by decide +kernel
theorem d_X_fastStart_209 : decode prog_1_method_30_code 209 = .ok (.getfield 139, 3) := by decide +kernel
theorem d_X_fastStart_212 : decode prog_1_method_30_code 212 = .ok (.isub, 1) := by decide +kernel
theorem d_X_fastStart_213 : decode prog_1_method_30_code 213 = .ok (.invokestatic 332, 3) := by decide +kernel
theorem d_X_fastStart_216 : decode prog_1_method_30_code 216 = .ok (.iload 5, 2) := by decide +kernel
theorem d_X_fastStart_218 : decode prog_1_method_30_code 218 = .ok (.aload_n 0, 1) := by decide +kernel
theorem d_X_fastStart_219 : decode prog_1_method_30_code 219 = .ok (.getfield 192, 3) := by decide +kernel
theorem d_X_fastStart_222 : decode prog_1_method_30_code 222 = .ok (.getfield 320, 3) := by decide +kernel
theorem d_X_fastStart_225 : decode prog_1_method_30_code 225 = .ok (.aload_n 1, 1) := by decide +kernel
theorem d_X_fastStart_226 : decode prog_1_method_30_code 226 = .ok (.getfield 139, 3) := by decide +kernel
theorem d_X_fastStart_229 : decode prog_1_method_30_code 229 = .ok (.isub, 1) := by decide +kernel
theorem d_X_fastStart_230 : decode prog_1_method_30_code 230 = .ok (.iadd, 1) := by decide +kernel
theorem d_X_fastStart_231 : decode prog_1_method_30_code 231 = .ok (.istore 5, 2) := by decide +kernel
theorem d_X_fastStart_233 : decode prog_1_method_30_code 233 = .ok (.aload_n 0, 1) := by decide +kernel
theorem d_X_fastStart_234 : decode prog_1_method_30_code 234 = .ok (.getfield 7, 3) := by decide +kernel
theorem d_X_fastStart_237 : decode prog_1_method_30_code 237 = .ok (.aload_n 0, 1) := by decide +kernel
theorem d_X_fastStart_238 : decode prog_1_method_30_code 238 = .ok (.getfield 192, 3) := by decide +kernel
theorem d_X_fastStart_241 : decode prog_1_method_30_code 241 = .ok (.invokevirtual 154, 3) := by decide +kernel
theorem d_X_fastStart_244 : decode prog_1_method_30_code 244 = .ok (.aload_n 0, 1) := by decide +kernel
theorem d_X_fastStart_245 : decode prog_1_method_30_code 245 = .ok (.getfield 13, 3) := by decide +kernel
theorem d_X_fastStart_248 : decode prog_1_method_30_code 248 = .ok (.iload 5, 2) := by decide +kernel
theorem d_X_fastStart_250 : decode prog_1_method_30_code 250 = .ok (.aload_n 0, 1) := by decide +kernel
theorem d_X_fastStart_251 : decode prog_1_method_30_code 251 = .ok (.getfield 50, 3) := by decide +kernel
theorem d_X_fastStart_254 : decode prog_1_method_30_code 254 = .ok (.aload_n 0, 1) := by decide +kernel
theorem d_X_fastStart_255 : decode prog_1_method_30_code 255 = .ok (.getfield 192, 3) := by decide +kernel
theorem d_X_fastStart_258 : decode prog_1_method_30_code 258 = .ok (.invokevirtual 154, 3) := by decide +kernel
theorem d_X_fastStart_261 : decode prog_1_method_30_code 261 = .ok (.isub, 1) := by decide +kernel
theorem d_X_fastStart_262 : decode prog_1_method_30_code 262 = .ok (.invokestatic 332, 3) := by decide +kernel
theorem d_X_fastStart_265 : decode prog_1_method_30_code 265 = .ok (.aload_n 0, 1) := by decide +kernel
theorem d_X_fastStart_266 : decode prog_1_method_30_code 266 = .ok (.dup, 1) := by decide +kernel
theorem d_X_fastStart_267 : decode prog_1_method_30_code 267 = .ok (.getfield 50, 3) := by decide +kernel
theorem d_X_fastStart_270 : decode prog_1_method_30_code 270 = .ok (.iload 4, 2) := by decide +kernel
theorem d_X_fastStart_272 : decode prog_1_method_30_code 272 = .ok (.aload_n 0, 1) := by decide +kernel
theorem d_X_fastStart_273 : decode prog_1_method_30_code 273 = .ok (.getfield 192, 3) := by decide +kernel
theorem d_X_fastStart_276 : decode prog_1_method_30_code 276 = .ok (.getfield 196, 3) := by decide +kernel
theorem d_X_fastStart_279 : decode prog_1_method_30_code 279 = .ok (.isub, 1) := by decide +kernel
theorem d_X_fastStart_280 : decode prog_1_method_30_code 280 = .ok (.iadd, 1) := by decide +kernel
theorem d_X_fastStart_281 : decode prog_1_method_30_code 281 = .ok (.putfield 50, 3) := by decide +kernel
theorem d_X_fastStart_284 : decode prog_1_method_30_code 284 = .ok (.aload_n 0, 1) := by decide +kernel
theorem d_X_fastStart_285 : decode prog_1_method_30_code 285 = .ok (.getfield 13, 3) := by decide +kernel
theorem d_X_fastStart_288 : decode prog_1_method_30_code 288 = .ok (.iconst 0, 1) := by decide +kernel
theorem d_X_fastStart_289 : decode prog_1_method_30_code 289 = .ok (.aload_n 0, 1) := by decide +kernel
theorem d_X_fastStart_290 : decode prog_1_method_30_code 290 = .ok (.getfield 7, 3) := by decide +kernel
theorem d_X_fastStart_293 : decode prog_1_method_30_code 293 = .ok (.iconst 0, 1) := by decide +kernel
theorem d_X_fastStart_294 : decode prog_1_method_30_code 294 = .ok (.aload_n 0, 1) := by decide +kernel
theorem d_X_fastStart_295 : decode prog_1_method_30_code 295 = .ok (.getfield 50, 3) := by decide +kernel
theorem d_X_fastStart_298 : decode prog_1_method_30_code 298 = .ok (.invokestatic 332, 3) := by decide +kernel
theorem d_X_fastStart_301 : decode prog_1_method_30_code 301 = .ok (.iload 4, 2) := by decide +kernel
theorem d_X_fastStart_303 : decode prog_1_method_30_code 303 = .ok (.ireturn, 1) := by decide +kernel
theorem d_X_fastStart_152 : decode prog_1_method_30_code 152 = .ok (.bipush (-2), 2) := by decide +kernel
theorem d_X_fastStart_154 : decode prog_1_method_30_code 154 = .ok (.ireturn, 1) := by decide +kernel
theorem d_X_fastStart_67 : decode prog_1_method_30_code 67 = .ok (.aload_n 0, 1) := by decide +kernel
theorem d_X_fastStart_68 : decode prog_1_method_30_code 68 = .ok (.getfield 192, 3) := by decide +kernel
theorem d_X_fastStart_71 : decode prog_1_method_30_code 71 = .ok (.iconst 0, 1) := by decide +kernel
theorem d_X_fastStart_72 : decode prog_1_method_30_code 72 = .ok (.invokestatic 285, 3) := by decide +kernel
theorem d_X_fastStart_75 : decode prog_1_method_30_code 75 = .ok (.pop, 1) := by decide +kernel
theorem d_X_fastStart_81 : decode prog_1_method_30_code 81 = .ok (.iload 4, 2) := by decide +kernel
theorem d_X_fastStart_83 : decode prog_1_method_30_code 83 = .ok (.aload_n 0, 1) := by decide +kernel
theorem d_X_fastStart_84 : decode prog_1_method_30_code 84 = .ok (.getfield 189, 3) := by decide +kernel
theorem d_X_fastStart_87 : decode prog_1_method_30_code 87 = .ok (.if_icmp .ge 18, 3) := by decide +kernel
theorem d_X_fastStart_105 : decode prog_1_method_30_code 105 = .ok (.iinc 3 1, 3) := by decide +kernel
theorem d_X_fastStart_108 : decode prog_1_method_30_code 108 = .ok (.iload_n 2, 1) := by decide +kernel
theorem d_X_fastStart_109 : decode prog_1_method_30_code 109 = .ok (.ifCond .eq 8, 3) := by decide +kernel
theorem d_X_fastStart_112 : decode prog_1_method_30_code 112 = .ok (.iload_n 3, 1) := by decide +kernel
theorem d_X_fastStart_113 : decode prog_1_method_30_code 113 = .ok (.iconst 4, 1) := by decide +kernel
theorem d_X_fastStart_114 : decode prog_1_method_30_code 114 = .ok (.if_icmp .lt (-47), 3) := by decide +kernel
theorem d_X_fastStart_90 : decode prog_1_method_30_code 90 = .ok (.iload_n 2, 1) := by decide +kernel
theorem d_X_fastStart_91 : decode prog_1_method_30_code 91 = .ok (.aload_n 0, 1) := by decide +kernel
theorem d_X_fastStart_92 : decode prog_1_method_30_code 92 = .ok (.iload 4, 2) := by decide +kernel
theorem d_X_fastStart_94 : decode prog_1_method_30_code 94 = .ok (.invokevirtual 328, 3) := by decide +kernel
set_option maxRecDepth 20000 in
theorem w_655 : Cond.methodLink "MovieBoxes" 328 ⟨"MovieBoxes", "move", "(I)Z"⟩ ∈ gt := gt_of (in_t3 (List.mem_of_getElem? (i := 175) rfl)) rfl
set_option maxRecDepth 20000 in
theorem w_657 : Cond.instanceMethod ⟨"MovieBoxes", "move", "(I)Z"⟩ ∈ gt := gt_of (in_t3 (List.mem_of_getElem? (i := 177) rfl)) rfl
set_option maxRecDepth 20000 in
theorem ws_X_move : Cond.selects "MovieBoxes" ⟨"MovieBoxes", "move", "(I)Z"⟩ ⟨"MovieBoxes", "move", "(I)Z"⟩ ∈ gt := gt_of (in_p1 (List.mem_of_getElem? (i := 11) rfl)) rfl
set_option maxRecDepth 20000 in
theorem w_658 : Cond.code ⟨"MovieBoxes", "move", "(I)Z"⟩ prog_1_method_29_code 7 (some .boolean) ∈ gt := gt_of (in_t3 (List.mem_of_getElem? (i := 178) rfl)) rfl
theorem lk_X_328 : LkV "MovieBoxes" 328 q_X_move 1 := ⟨(List.forall_mem_cons.mpr ⟨w_655, (List.forall_mem_cons.mpr ⟨w_657, (List.forall_mem_cons.mpr ⟨ws_X_move, (List.forall_mem_cons.mpr ⟨w_1, (fun _ h => absurd h List.not_mem_nil)⟩)⟩)⟩)⟩), w_658, by decide +kernel⟩
theorem d_X_fastStart_97 : decode prog_1_method_30_code 97 = .ok (.ior, 1) := by decide +kernel
theorem d_X_fastStart_98 : decode prog_1_method_30_code 98 = .ok (.istore_n 2, 1) := by decide +kernel
theorem d_X_fastStart_99 : decode prog_1_method_30_code 99 = .ok (.iinc 4 1, 3) := by decide +kernel
theorem d_X_fastStart_102 : decode prog_1_method_30_code 102 = .ok (.goto (-21), 3) := by decide +kernel
theorem d_X_fastStart_76 : decode prog_1_method_30_code 76 = .ok (.iconst 0, 1) := by decide +kernel
theorem d_X_fastStart_77 : decode prog_1_method_30_code 77 = .ok (.istore_n 2, 1) := by decide +kernel
theorem d_X_fastStart_78 : decode prog_1_method_30_code 78 = .ok (.iconst 0, 1) := by decide +kernel
theorem d_X_fastStart_79 : decode prog_1_method_30_code 79 = .ok (.istore 4, 2) := by decide +kernel
/-! ===== the component: fastStart ===== -/
theorem ck_00 {s0 : mS} (hm : mI s0) {f : Int} {v : mS} (h : ckR s0 f v) : v 0 0 = s0 0 0 ∧ v 1 = s0 1 := by
  obtain ⟨m1, m2, m3, m4, m5⟩ := rd_ok s0 hm
  have a1 := m4 1 (Or.inl rfl)
  have a0 := m5 0 (by omega)
  have hu := kc_u m2 m3 (u := (kdF (rdL 100 (rd0 s0) 0 0).2 ((rdL 100 (rd0 s0) 0 0).2 0 1).toNat).1) rfl
  have hI := (kdF_I (rdL 100 (rd0 s0) 0 0).2 m2 m3 ((rdL 100 (rd0 s0) 0 0).2 0 1).toNat (by have := m2.1.1; omega)).1.2.1
  have hst := agr_stT (kdF (rdL 100 (rd0 s0) 0 0).2 ((rdL 100 (rd0 s0) 0 0).2 0 1).toNat).1 ((kdF (rdL 100 (rd0 s0) 0 0).2 ((rdL 100 (rd0 s0) 0 0).2 0 1).toNat).1 0 3).toNat
  have b1 := hu 1 (by omega) (by omega) (by omega)
  unfold ckR at h
  rcases h with ⟨-, -, c⟩ | ⟨-, ⟨-, -, c⟩ | ⟨-, ⟨-, -, c⟩ | ⟨-, ⟨-, -, c⟩ | ⟨-, c, -⟩⟩⟩⟩
  · rw [c]; exact ⟨a0, a1⟩
  · rw [c]; exact ⟨hI.trans a0, b1.trans a1⟩
  · rw [c]; exact ⟨hI.trans a0, b1.trans a1⟩
  · rw [c]; exact ⟨hI.trans a0, b1.trans a1⟩
  · rw [c]; exact ⟨by rw [hst 0 (by omega)]; exact hI.trans a0, by rw [hst 1 (by omega)]; exact b1.trans a1⟩
theorem fW_mv {G : gG} {y : xP} {z z' v : mS} {w ML : Int} (hW : fW G y z v w) {t : Nat} (ht : (t : Int) < v 0 3) (hc : ∀ c, c ≠ 18 → c ≠ 19 → c ≠ 22 → z' c = z c) (h18 : ∀ k, k ≠ pbx v t → z' 18 k = z 18 k) (hP : z' 18 (pbx v t) = 1 ↔ wbit w t ∨ tnB v t ML) (hP01 : z' 18 (pbx v t) = 0 ∨ z' 18 (pbx v t) = 1) : fW G y z' v (setb w t (wbit w t ∨ tnB v t ML)) := by
  obtain ⟨a, b, ⟨c1, c2⟩, d, e, f, g, i⟩ := id hW
  have h3 := b.1.1.2.2.2.1
  have t01 : (t : Int) = 0 ∨ (t : Int) = 1 := by omega
  obtain ⟨s1, s2, s3⟩ := setb_at (w := w) (t := t) (P := wbit w t ∨ tnB v t ML) ⟨e.1, e.2.1⟩ t01
  have hcc : ∀ (c : Nat) (L : List Nat), c ∈ L → 18 ∉ L → 19 ∉ L → 22 ∉ L → z' c = z c := fun c L hm h1 h2 h3 => hc c (by rintro rfl; exact h1 hm) (by rintro rfl; exact h2 hm) (by rintro rfl; exact h3 hm)
  refine ⟨qI_cg ⟨rfl, rfl, rfl, rfl, rfl, rfl⟩ (by rw [hc 0 (by omega) (by omega) (by omega)]) (fun c hh => hcc c _ hh (by decide) (by decide) (by decide)) a, b, ⟨by rw [hc 0 (by omega) (by omega) (by omega)]; exact c1, by rw [hc 0 (by omega) (by omega) (by omega)]; exact c2⟩, fun t' ht' => tK_cz (fun c hh => hcc c _ hh (by decide) (by decide) (by decide)) (d t' ht'), ⟨s3.1, s3.2, fun h1 => ?_⟩, fun k k0 k1 k2 => ?_, fun t' ht' => ?_, fun t' ht' hb => ?_⟩
  · have et : (t : Int) = 0 := by omega
    have hw1 := e.2.2 h1
    unfold setb
    rw [if_pos et]
    have := b2_b (wbit w t ∨ tnB v t ML)
    omega
  · rw [hc 27 (by omega) (by omega) (by omega)] at k2
    obtain ⟨q1, q2⟩ := f k k0 k1 k2
    refine ⟨?_, q2⟩
    by_cases ek : k = pbx v t
    · rw [ek]; exact hP01
    · rw [h18 k ek]; exact q1
  · by_cases et : t' = t
    · subst et; rw [hP, s1]
    · have hne : pbx v t' ≠ pbx v t := fun q => by
        have x1 := tk_Pb b.1 ht'
        have x2 := tk_Pb b.1 ht
        rw [q, x2] at x1
        omega
      rw [h18 _ hne, s2 t' (by omega) (by omega)]
      exact g t' ht'
  · by_cases et : t' = t
    · subst et
      rcases s1.mp hb with q | q
      · exact i t' ht' q
      · exact q.1
    · exact i t' ht' ((s2 t' (by omega) (by omega)).mp hb)
theorem fdx_skip {v : mS} : ∀ (d m e : Nat), (∀ j : Int, m ≤ j → j < m + d → ¬ fdC v j) → fdx v (d + e) m = fdx v e ((m + d : Nat) : Int)
  | 0, m, e, _ => by rw [Nat.zero_add, Nat.add_zero]
  | d + 1, m, e, h => by
    rw [show d + 1 + e = (d + e) + 1 by omega]
    conv => lhs; unfold fdx
    rw [if_neg (h m (by omega) (by omega))]
    have := fdx_skip d (m + 1) e (fun j a c => h j (by omega) (by omega))
    rw [show m + 1 + d = m + (d + 1) by omega] at this
    exact this
theorem wrAll_at {v : mS} (hf : fsOk v) (hor : orOk v (v 0 0)) {w to : Int} (hto : 0 ≤ to ∧ to ≤ v 2 (v 0 2)) (hML : nlF v w 3 (v 0 2) ≤ 2000) (j : Nat) (hj : j < (wrAll v w (nlF v w 3 (v 0 2)) to).length) : (wrAll v w (nlF v w 3 (v 0 2)) to).getD j 0 = (if (j : Int) < to then v 1 j else if (j : Int) < to + nlF v w 3 (v 0 2) then (bxL v w (nlF v w 3 (v 0 2)) (v 0 1).toNat).getD (j - to.toNat) 0 % 256 else if (j : Int) - nlF v w 3 (v 0 2) < v 2 (v 0 2) then v 1 (j - nlF v w 3 (v 0 2)) else v 1 (j - nlF v w 3 (v 0 2) + v 3 (v 0 2))) := by
  have hbl := bxL_len hf w (nlF v w 3 (v 0 2))
  have hr : rdOk v := hf.1.2.1
  have hrM := hr.2 (v 0 2) hf.2.1.1.1 hf.2.1.1.2.1
  have hby := bx_by hf hor hML (v 0 1).toNat (by have := hr.1.1; omega)
  unfold wrAll at hj ⊢
  generalize hB : bxL v w (nlF v w 3 (v 0 2)) (v 0 1).toNat = B at hbl hby hj ⊢
  have hfl : (filL v to.toNat ++ B).length = to.toNat + B.length := by rw [List.length_append, filL_len]
  rw [List.getD_eq_getElem?_getD]
  by_cases c1 : (j : Int) < to
  · rw [if_pos c1, List.getElem?_append_left (by omega), List.getElem?_append_left (by rw [filL_len]; omega), ← List.getD_eq_getElem?_getD]
    exact filL_at v to.toNat j (by omega)
  · rw [if_neg c1]
    by_cases c2 : (j : Int) < to + nlF v w 3 (v 0 2)
    · rw [if_pos c2, List.getElem?_append_left (by omega), List.getElem?_append_right (by rw [filL_len]; omega), filL_len, ← List.getD_eq_getElem?_getD]
      have hlt : j - to.toNat < B.length := by omega
      have hmem : B.getD (j - to.toNat) 0 ∈ B := by
        rw [List.getD_eq_getElem?_getD, List.getElem?_eq_getElem hlt]
        exact List.getElem_mem hlt
      have := hby _ hmem
      omega
    · rw [if_neg c2]
      rw [List.length_append, hfl] at hj
      rw [List.getElem?_append_right (by omega), hfl, ← List.getD_eq_getElem?_getD, rsL_at hto.2 (by omega) _ _ (by omega)]
      have e : to + ((j - (to.toNat + B.length) : Nat) : Int) = (j : Int) - nlF v w 3 (v 0 2) := by omega
      rw [e]
theorem xI_cz {G : gG} {y : xP} {z z' : mS} (h : xI G y z) (hc : ∀ c, c = 2 ∨ c = 5 ∨ c = 21 ∨ c = 27 → z' c = z c) (h01 : z' 0 1 = z 0 1) (h00 : 0 ≤ z' 0 0 ∧ z' 0 0 ≤ 1000) (hb : byOk z') (h5 : z' 0 5 = 0 ∨ z' 0 5 = 1) : xI G y z' := by
  obtain ⟨a1, a2, ⟨a3, a3'⟩, a4, a5, a6, a7, a8⟩ := h
  refine ⟨h00, hb, ⟨a3, by rw [h01]; exact a3'⟩, kI_cg (hc 21 (by omega)) (fun j _ => by rw [hc 27 (by omega)]) a4, a5, ?_, ?_, h5⟩
  · rw [hc 27 (by omega)]; exact a6
  · rw [hc 27 (by omega), hc 2 (by omega), hc 5 (by omega)]; exact a7
def fsC (G : gG) (y : xP) (z v s0 : mS) (d : Int) : Prop := ckR s0 0 v ∧ (fsOk v ∧ orOk v (v 0 0) ∧ o2Ok v) ∧ qI G y z v ∧ xI G y z ∧ (v 0 0 = z 0 0 ∧ v 1 = z 1) ∧ z 0 2 = v 0 2 ∧ (fdx v (v 0 1).toNat 0 = d ∧ 0 ≤ d ∧ d < v 0 2 ∧ v 6 d = 0)
section XFAST0
variable (G : gG) (l : Launch)
set_option maxRecDepth 8000 in
set_option maxHeartbeats 16000000 in
theorem fs_117 {W0 : va_W} {sz : Nat} {Q : Option Value → va_W → Prop} {y : xP} {z v s0 : mS} {d : Int} (hC : fsC G y z v s0 d) (hend : ∀ (n : Int) (x zz : mS), fsR s0 n x → x 0 0 = zz 0 0 → x 1 = zz 1 → xI G y zz → zz 0 5 = 0 → Q (some (vI n)) (xW G y zz)) : ∀ (w : Int) (zt : mS) (x2 x3 x4 : Option Value), okst [some (.ref (yc y 0)), some (.ref (yo y d)), x2, x3, x4, none] 4 = true → okst [some (.ref (yc y 0)), some (.ref (yo y d)), x2, x3, some (vI 0), none] 5 = true → fW G y zt v w → stq v 4 = w → (∀ c, c ≠ 13 → c ≠ 14 → c ≠ 18 → c ≠ 19 → c ≠ 22 → zt c = z c) → (∀ k : Int, 0 ≤ k → k < yn y → (k = v 0 2 ∨ 0 < v 6 k) → gd13 v w zt k) → (∀ t : Nat, (t : Int) < v 0 3 → zt 19 (pbx v t) = 256 * t ∧ ∀ c : Nat, (c : Int) < pv v (pbx v t) 0 → zt 22 (256 * t + c) = npO v t (1 + c) (nlF v w 3 (v 0 2))) → WP (mth G l q_X_fastStart 14 61 1134 W0 sz Q) (0 + 61) (0 + 1134) (xW G y zt) 117 [some (.ref (yc y 0)), some (.ref (yo y d)), x2, x3, x4, none] [] := by
  obtain ⟨hck, ⟨hf, hor, hO2⟩, hq', hxI, ⟨v00, v1⟩, j02, hfd, d0, d1, d6⟩ := hC
  have hr : rdOk v := hf.1.2.1
  have ho : hoOk v := hf.1.2.2.1
  have hby : byOk v := hf.1.1
  have h01 : v 0 1 = yn y := hq'.1.2.2.1
  have h3 := hf.1.2.2.2.1
  have hB := qI_bI hq'
  obtain ⟨m0, m1, m2, m3⟩ := hf.2.1.1
  have hrM := hr.2 (v 0 2) m0 m1
  have hmk : -1 ≤ v 0 2 ∧ v 0 2 < yn y := by omega
  have hn1 : (v 0 1).toNat = yn y := by omega
  have h27M : z 27 (v 0 2) = 1 := by
    obtain ⟨⟨-, -, g4, -, g6, -⟩, g26, g27, -⟩ := hq'.2.2.2.2.2 (v 0 2) m0 hmk.2
    rw [g27, g26, g4, g6, m2, m3]
    rfl
  have hMc : 1 ≤ z 27 (v 0 2) ∧ z 27 (v 0 2) ≤ 5 := by omega
  have zM2 : z 2 (v 0 2) = v 2 (v 0 2) := (hq'.2.2.2.2.2 (v 0 2) m0 hmk.2).1.1
  have zM3 : z 3 (v 0 2) = v 3 (v 0 2) := (hq'.2.2.2.2.2 (v 0 2) m0 hmk.2).1.2.1
  have hdk : -1 ≤ d ∧ d < yn y := by omega
  have hrd := hr.2 d d0 (by omega)
  have hdc := bI_cl hB hdk.1 hdk.2
  have zd2 : z 2 d = v 2 d := (hq'.2.2.2.2.2 d d0 hdk.2).1.1
  have hdm := hor.2 d (v 0 2) d0 d1 m1 d6 m2
  have hme := hor.1 (v 0 2) m0 m1
  intro w zt x2 x3 x4 hok hok2 hW hst hz hgd hmv
  have e02 : zt 0 2 = v 0 2 := hW.2.2.1.1
  have hMc1 : 1 ≤ zt 27 (v 0 2) ∧ zt 27 (v 0 2) ≤ 5 := by rw [hz 27 (by omega) (by omega) (by omega) (by omega) (by omega)]; exact hMc
  have e14 : zt 14 (v 0 2) = nlF v w 3 (v 0 2) := (hgd (v 0 2) m0 hmk.2 (Or.inl rfl)).2
  have hnb := nlF_b hr hby w 3 (v 0 2) m0 m1
  rw [nB_3] at hnb
  generalize hML : nlF v w 3 (v 0 2) = ML at *
  refine r_aload_n d_X_fastStart_117 rfl rfl ?_
  refine r_get d_X_fastStart_118 fl_X_192_0 0 rfl rfl ?_
  rw [e02, rN_nn m0]
  refine r_getB d_X_fastStart_121 fb_X_321 (v 0 2) hmk hMc1 rfl ?_
  rw [e14]
  refine r_istore d_X_fastStart_124 (Nat.le_of_ble_eq_true rfl) hok ?_
  show WP _ _ _ _ _ [_, _, _, _, _, _] _
  refine r_aload_n d_X_fastStart_126 rfl rfl ?_
  refine r_iconst d_X_fastStart_127 ?_
  refine r_put _ d_X_fastStart_128 fl_X_54_0 0 rfl rfl rfl (Nat.le_of_ble_eq_true rfl) xwp_fresh ?_
  show WP _ _ _ (xW G y (sset zt 0 5 0)) _ _ _
  have u0 : ∀ j, j ≠ 5 → sset zt 0 5 0 0 j = z 0 j := fun j hj => by rw [sset_nj hj, hz 0 (by omega) (by omega) (by omega) (by omega) (by omega)]
  have u5 : sset zt 0 5 0 0 5 = 0 := sset_eq
  have uo : ∀ c, c ≠ 0 → sset zt 0 5 0 c = zt c := fun c hc => sset_ne hc
  have hWu : fW G y (sset zt 0 5 0) v w := fW_cz (fun j hj => sset_nj (by omega)) (fun c hc => sset_ne (by rintro rfl; revert hc; decide)) hW
  generalize sset zt 0 5 0 = zu at u0 u5 uo hWu ⊢
  have uz : ∀ c, c ≠ 0 → c ≠ 13 → c ≠ 14 → c ≠ 18 → c ≠ 19 → c ≠ 22 → zu c = z c := fun c a0 a1 a2 a3 a4 a5 => by rw [uo c a0, hz c a1 a2 a3 a4 a5]
  have u02 : zu 0 2 = v 0 2 := hWu.2.2.1.1
  have hMcu : 1 ≤ zu 27 (v 0 2) ∧ zu 27 (v 0 2) ≤ 5 := by rw [uz 27 (by omega) (by omega) (by omega) (by omega) (by omega) (by omega)]; exact hMc
  have h27u : zu 27 (v 0 2) = 1 := by rw [uz 27 (by omega) (by omega) (by omega) (by omega) (by omega) (by omega)]; exact h27M
  have uM3 : zu 3 (v 0 2) = v 3 (v 0 2) := by rw [uz 3 (by omega) (by omega) (by omega) (by omega) (by omega) (by omega)]; exact zM3
  have uM2 : zu 2 (v 0 2) = v 2 (v 0 2) := by rw [uz 2 (by omega) (by omega) (by omega) (by omega) (by omega) (by omega)]; exact zM2
  have ud2 : zu 2 d = v 2 d := by rw [uz 2 (by omega) (by omega) (by omega) (by omega) (by omega) (by omega)]; exact zd2
  have hdcu : 1 ≤ zu 27 d ∧ zu 27 d ≤ 5 := by rw [uz 27 (by omega) (by omega) (by omega) (by omega) (by omega) (by omega)]; exact hdc
  have u00 : zu 0 0 = v 0 0 := by rw [u0 0 (by omega)]; exact v00.symm
  have u1 : zu 1 = v 1 := by rw [uz 1 (by omega) (by omega) (by omega) (by omega) (by omega) (by omega)]; exact v1.symm
  have hx00 := hxI.1
  have hxu : ∀ z' : mS, (∀ c, c = 2 ∨ c = 5 ∨ c = 21 ∨ c = 27 → z' c = zu c) → z' 0 1 = zu 0 1 → (0 ≤ z' 0 0 ∧ z' 0 0 ≤ 1000) → byOk z' → z' 0 5 = 0 → xI G y z' := by
    intro z' a1 a2 a3 a4 a5
    refine xI_cz hxI (fun c hc => by rw [a1 c hc, uz c (by omega) (by omega) (by omega) (by omega) (by omega) (by omega)]) (by rw [a2, u0 1 (by omega)]) a3 a4 (Or.inl a5)
  refine r_aload_n d_X_fastStart_131 rfl rfl ?_
  refine r_get d_X_fastStart_132 fl_X_50_0 0 rfl rfl ?_
  refine r_iload d_X_fastStart_135 rfl ?_
  refine r_iadd d_X_fastStart_137 ?_
  refine r_aload_n d_X_fastStart_138 rfl rfl ?_
  refine r_get d_X_fastStart_139 fl_X_192_0 0 rfl rfl ?_
  rw [u02, rN_nn m0]
  refine r_getB d_X_fastStart_142 fb_X_196 (v 0 2) hmk hMcu rfl ?_
  refine r_isub d_X_fastStart_145 ?_
  refine r_sipush d_X_fastStart_146 (by decide) ?_
  rw [uM3, u00]
  refine r_icmp_le 155 d_X_fastStart_149 (by decide) (by unfold i32; omega) (by unfold i32; omega) (fun h2 => ?_) (fun h2 => ?_)
  · -- it fits
    obtain ⟨b, hb⟩ : ∃ b : Nat, v 0 2 = b := ⟨(v 0 2).toNat, by omega⟩
    have hbx0 : bxL v w ML b = [] := bxL_skip' (a := 0) (by omega) (fun j j0 j1 q => by
      rcases q with q | q
      · omega
      · have := hf.2.1.2.2 j j0 (by omega) q; omega)
    have hbn := bxL_len hf w ML
    rw [hn1, hML] at hbn
    have hto0 : 0 ≤ v 2 d := hrd.1
    have hML2 : nlF v w 3 (v 0 2) ≤ 2000 := by omega
    have hwl := wrAll_len hf hor w ⟨d0, d1⟩ d6
    rw [hML] at hwl
    have hwa := fun (j : Nat) hj => wrAll_at hf hor (w := w) (to := v 2 d) ⟨hto0, by omega⟩ hML2 j hj
    rw [hML, hn1] at hwa
    have hby2 := bx_by hf hor hML2 (v 0 1).toNat (by omega)
    generalize htod : v 2 d = to at *
    refine r_aload_n d_X_fastStart_155 rfl rfl ?_
    refine r_get d_X_fastStart_156 fl_X_7_0 0 rfl rfl ?_
    refine r_iconst d_X_fastStart_159 ?_
    refine r_aload_n d_X_fastStart_160 rfl rfl ?_
    refine r_get d_X_fastStart_161 fl_X_13_0 0 rfl rfl ?_
    refine r_iconst d_X_fastStart_164 ?_
    refine r_aload_n d_X_fastStart_165 rfl rfl ?_
    refine r_getB d_X_fastStart_166 fb_X_139 (d) hdk hdcu rfl ?_
    rw [ud2]
    refine r_copyB _ d_X_fastStart_169 w_665 1 2 rfl rfl ⟨by omega, by omega, by omega, by omega, by omega⟩ ⟨by omega, by omega⟩ xw_2f rfl rfl ?_
    have k20 : ∀ j : Int, 0 ≤ j → j < to → sfn zu 20 (cpyI (zu 1) (zu 20) 0 0 to) 20 j = v 1 j := by
      intro j j0 j1
      show cpyI (zu 1) (zu 20) 0 0 to j = _
      unfold cpyI
      rw [if_pos (by omega), u1, show 0 + (j - 0) = j by omega]
    have ko : ∀ c, c ≠ 20 → sfn zu 20 (cpyI (zu 1) (zu 20) 0 0 to) c = zu c := fun c hc => if_neg hc
    generalize sfn zu 20 (cpyI (zu 1) (zu 20) 0 0 to) = za at k20 ko ⊢
    have hWa : fW G y za v w := fW_cz (fun j hj => by rw [ko 0 (by omega)]) (fun c hc => ko c (by rintro rfl; revert hc; decide)) hWu
    have hEa : eI G y za v w to := by
      refine ⟨hWa, hO2, fun k k0 k1 k2 => ?_, fun t ht => ?_, hto0, by rw [hML]; omega⟩
      · have := hgd k k0 k1 k2
        exact ⟨by rw [ko 13 (by omega), uo 13 (by omega)]; exact this.1, by rw [ko 14 (by omega), uo 14 (by omega)]; exact this.2⟩
      · obtain ⟨q1, q2⟩ := hmv t ht
        refine ⟨by rw [ko 19 (by omega), uo 19 (by omega)]; exact q1, fun c hc => ⟨by rw [ko 22 (by omega), uo 22 (by omega), hML]; exact q2 c hc, ?_⟩⟩
        have := np_b hf hor (t := t) (by omega) ht (c := c) (by omega) hc (ML := nlF v w 3 (v 0 2)) ⟨by omega, hML2⟩
        unfold i32
        omega
    have hct := c_X_emit0 G l v w to y za b hEa (by omega) (by rw [← hb, m2]; rfl) (Or.inl hb.symm) (by rw [hML, hbx0]; intro j hj; cases hj)
    rw [hML, hbx0, ← hb, hML] at hct
    rw [show to + (([] : List Int).length : Int) = to by show to + 0 = to; omega] at hct
    refine r_aload_n d_X_fastStart_172 rfl rfl ?_
    refine r_aload_n d_X_fastStart_173 rfl rfl ?_
    refine r_get d_X_fastStart_174 fl_X_192_0 0 rfl rfl ?_
    rw [show za 0 2 = v 0 2 from hWa.2.2.1.1, rN_nn m0]
    have hdca : 1 ≤ za 27 d ∧ za 27 d ≤ 5 := by rw [ko 27 (by omega)]; exact hdcu
    refine r_aload_n d_X_fastStart_177 rfl rfl ?_
    refine r_getB d_X_fastStart_178 fb_X_139 (d) hdk hdca rfl ?_
    rw [show za 2 d = to by rw [ko 2 (by omega)]; exact ud2]
    refine r_iconst d_X_fastStart_181 ?_
    refine r_cS4 d_X_fastStart_182 lk_X_303 (hct) (Nat.le_of_ble_eq_true rfl) (rok rfl rfl) ⟨(Nat.le_of_ble_eq_true rfl), (Nat.le_of_ble_eq_true rfl)⟩ (fun r ws2 hq => ?_)
    obtain ⟨rfl, zb, e, rfl, w1, w2, w3, w4, w5, w6, -⟩ := hq
    show WP _ _ _ _ _ _ (_ :: _)
    have w6 := w6 rfl
    subst w6
    have ob : ∀ c, c ≠ 20 → zb c = zu c := fun c hc => (w1 c hc).trans (ko c hc)
    have b0 : ∀ j : Int, 0 ≤ j → j < to → zb 20 j = v 1 j := fun j j0 j1 => (w2 j j1).trans (k20 j j0 j1)
    have bM2 : zb 2 (v 0 2) = v 2 (v 0 2) := by rw [ob 2 (by omega)]; exact uM2
    have bd2 : zb 2 d = to := by rw [ob 2 (by omega)]; exact ud2
    have b02 : zb 0 2 = v 0 2 := by rw [ob 0 (by omega)]; exact u02
    have hMcb : 1 ≤ zb 27 (v 0 2) ∧ zb 27 (v 0 2) ≤ 5 := by rw [ob 27 (by omega)]; exact hMcu
    have hdcb : 1 ≤ zb 27 d ∧ zb 27 d ≤ 5 := by rw [ob 27 (by omega)]; exact hdcu
    have hok3 : okst [some (.ref (yc y 0)), some (.ref (yo y d)), x2, x3, some (vI ML), none] 5 = true := rfl
    refine r_istore d_X_fastStart_185 (Nat.le_of_ble_eq_true rfl) hok3 ?_
    show WP _ _ _ _ _ [_, _, _, _, _, _] _
    refine r_aload_n d_X_fastStart_187 rfl rfl ?_
    refine r_get d_X_fastStart_188 fl_X_7_0 0 rfl rfl ?_
    refine r_aload_n d_X_fastStart_191 rfl rfl ?_
    refine r_getB d_X_fastStart_192 fb_X_139 (d) hdk hdcb rfl ?_
    refine r_aload_n d_X_fastStart_195 rfl rfl ?_
    refine r_get d_X_fastStart_196 fl_X_13_0 0 rfl rfl ?_
    refine r_iload d_X_fastStart_199 rfl ?_
    refine r_aload_n d_X_fastStart_201 rfl rfl ?_
    refine r_get d_X_fastStart_202 fl_X_192_0 0 rfl rfl ?_
    rw [b02, rN_nn m0]
    refine r_getB d_X_fastStart_205 fb_X_320 (v 0 2) hmk hMcb rfl ?_
    refine r_aload_n d_X_fastStart_208 rfl rfl ?_
    refine r_getB d_X_fastStart_209 fb_X_139 (d) hdk hdcb rfl ?_
    refine r_isub d_X_fastStart_212 ?_
    rw [bM2, bd2]
    refine r_copyB _ d_X_fastStart_213 w_665 1 2 rfl rfl ⟨by omega, by omega, by omega, by omega, by omega⟩ ⟨by omega, by omega⟩ xw_2f rfl rfl ?_
    have n20 : ∀ j : Int, sfn zb 20 (cpyI (zb 1) (zb 20) to (to + ML) (v 2 (v 0 2) - to)) 20 j = if to + ML ≤ j ∧ j < to + ML + (v 2 (v 0 2) - to) then v 1 (to + (j - (to + ML))) else zb 20 j := by
      intro j
      show cpyI (zb 1) (zb 20) to (to + ML) (v 2 (v 0 2) - to) j = _
      unfold cpyI
      rw [ob 1 (by omega), u1]
    have no : ∀ c, c ≠ 20 → sfn zb 20 (cpyI (zb 1) (zb 20) to (to + ML) (v 2 (v 0 2) - to)) c = zu c := fun c hc => by
      show (if c = 20 then _ else zb c) = _
      rw [if_neg hc]
      exact ob c hc
    generalize sfn zb 20 (cpyI (zb 1) (zb 20) to (to + ML) (v 2 (v 0 2) - to)) = zc at n20 no ⊢
    have cM2 : zc 2 (v 0 2) = v 2 (v 0 2) := by rw [no 2 (by omega)]; exact uM2
    have cM3 : zc 3 (v 0 2) = v 3 (v 0 2) := by rw [no 3 (by omega)]; exact uM3
    have cd2 : zc 2 d = to := by rw [no 2 (by omega)]; exact ud2
    have c02 : zc 0 2 = v 0 2 := by rw [no 0 (by omega)]; exact u02
    have c00 : zc 0 0 = v 0 0 := by rw [no 0 (by omega)]; exact u00
    have hMcc : 1 ≤ zc 27 (v 0 2) ∧ zc 27 (v 0 2) ≤ 5 := by rw [no 27 (by omega)]; exact hMcu
    have hMc1' : zc 27 (v 0 2) = 1 := by rw [no 27 (by omega)]; exact h27u
    have hdcc : 1 ≤ zc 27 d ∧ zc 27 d ≤ 5 := by rw [no 27 (by omega)]; exact hdcu
    refine r_iload d_X_fastStart_216 rfl ?_
    refine r_aload_n d_X_fastStart_218 rfl rfl ?_
    refine r_get d_X_fastStart_219 fl_X_192_0 0 rfl rfl ?_
    rw [c02, rN_nn m0]
    refine r_getB d_X_fastStart_222 fb_X_320 (v 0 2) hmk hMcc rfl ?_
    refine r_aload_n d_X_fastStart_225 rfl rfl ?_
    refine r_getB d_X_fastStart_226 fb_X_139 (d) hdk hdcc rfl ?_
    refine r_isub d_X_fastStart_229 ?_
    rw [cM2, cd2]
    refine r_iadd d_X_fastStart_230 ?_
    refine r_istore d_X_fastStart_231 (Nat.le_of_ble_eq_true rfl) rfl ?_
    show WP _ _ _ _ _ [_, _, _, _, _, _] _
    refine r_aload_n d_X_fastStart_233 rfl rfl ?_
    refine r_get d_X_fastStart_234 fl_X_7_0 0 rfl rfl ?_
    refine r_aload_n d_X_fastStart_237 rfl rfl ?_
    refine r_get d_X_fastStart_238 fl_X_192_0 0 rfl rfl ?_
    rw [c02, rN_nn m0]
    refine r_kU0 d_X_fastStart_241 lu_X_154_H (c_B_end G l y zc (v 0 2) hmk hMcc) (13 + v 0 2).toNat rfl (xw_bc hmk hMc1') (Nat.le_of_ble_eq_true rfl) (rok rfl rfl) ⟨(Nat.le_of_ble_eq_true rfl), (Nat.le_of_ble_eq_true rfl)⟩ (fun r ws2 hq => ?_)
    obtain ⟨rfl, hw⟩ := hq; rw [hw]; clear hw
    show WP _ _ _ _ _ _ (_ :: _)
    rw [cM2, cM3]
    refine r_aload_n d_X_fastStart_244 rfl rfl ?_
    refine r_get d_X_fastStart_245 fl_X_13_0 0 rfl rfl ?_
    refine r_iload d_X_fastStart_248 rfl ?_
    refine r_aload_n d_X_fastStart_250 rfl rfl ?_
    refine r_get d_X_fastStart_251 fl_X_50_0 0 rfl rfl ?_
    refine r_aload_n d_X_fastStart_254 rfl rfl ?_
    refine r_get d_X_fastStart_255 fl_X_192_0 0 rfl rfl ?_
    rw [c02, rN_nn m0, c00]
    refine r_kU0 d_X_fastStart_258 lu_X_154_H (c_B_end G l y zc (v 0 2) hmk hMcc) (13 + v 0 2).toNat rfl (xw_bc hmk hMc1') (Nat.le_of_ble_eq_true rfl) (rok rfl rfl) ⟨(Nat.le_of_ble_eq_true rfl), (Nat.le_of_ble_eq_true rfl)⟩ (fun r ws2 hq => ?_)
    obtain ⟨rfl, hw⟩ := hq; rw [hw]; clear hw
    show WP _ _ _ _ _ _ (_ :: _)
    rw [cM2, cM3]
    refine r_isub d_X_fastStart_261 ?_
    refine r_copyB _ d_X_fastStart_262 w_665 1 2 rfl rfl ⟨by omega, by omega, by omega, by omega, by omega⟩ ⟨by omega, by omega⟩ xw_2f rfl rfl ?_
    have q20 : ∀ j : Int, sfn zc 20 (cpyI (zc 1) (zc 20) (v 2 (v 0 2) + v 3 (v 0 2)) (to + ML + (v 2 (v 0 2) - to)) (v 0 0 - (v 2 (v 0 2) + v 3 (v 0 2)))) 20 j = if to + ML + (v 2 (v 0 2) - to) ≤ j ∧ j < to + ML + (v 2 (v 0 2) - to) + (v 0 0 - (v 2 (v 0 2) + v 3 (v 0 2))) then v 1 (v 2 (v 0 2) + v 3 (v 0 2) + (j - (to + ML + (v 2 (v 0 2) - to)))) else zc 20 j := by
      intro j
      show cpyI (zc 1) (zc 20) _ _ _ j = _
      unfold cpyI
      rw [no 1 (by omega), u1]
    have qo : ∀ c, c ≠ 20 → sfn zc 20 (cpyI (zc 1) (zc 20) (v 2 (v 0 2) + v 3 (v 0 2)) (to + ML + (v 2 (v 0 2) - to)) (v 0 0 - (v 2 (v 0 2) + v 3 (v 0 2)))) c = zu c := fun c hc => by
      show (if c = 20 then _ else zc c) = _
      rw [if_neg hc]
      exact no c hc
    generalize sfn zc 20 (cpyI (zc 1) (zc 20) (v 2 (v 0 2) + v 3 (v 0 2)) (to + ML + (v 2 (v 0 2) - to)) (v 0 0 - (v 2 (v 0 2) + v 3 (v 0 2)))) = ze at q20 qo ⊢
    have e02' : ze 0 2 = v 0 2 := by rw [qo 0 (by omega)]; exact u02
    have e00' : ze 0 0 = v 0 0 := by rw [qo 0 (by omega)]; exact u00
    have eM3' : ze 3 (v 0 2) = v 3 (v 0 2) := by rw [qo 3 (by omega)]; exact uM3
    have hMce : 1 ≤ ze 27 (v 0 2) ∧ ze 27 (v 0 2) ≤ 5 := by rw [qo 27 (by omega)]; exact hMcu
    refine r_aload_n d_X_fastStart_265 rfl rfl ?_
    refine r_dup d_X_fastStart_266 rfl ?_
    refine r_get d_X_fastStart_267 fl_X_50_0 0 rfl rfl ?_
    refine r_iload d_X_fastStart_270 rfl ?_
    refine r_aload_n d_X_fastStart_272 rfl rfl ?_
    refine r_get d_X_fastStart_273 fl_X_192_0 0 rfl rfl ?_
    rw [e02', rN_nn m0, e00']
    refine r_getB d_X_fastStart_276 fb_X_196 (v 0 2) hmk hMce rfl ?_
    refine r_isub d_X_fastStart_279 ?_
    refine r_iadd d_X_fastStart_280 ?_
    rw [eM3']
    refine r_put _ d_X_fastStart_281 fl_X_50_0 0 rfl rfl rfl (Nat.le_of_ble_eq_true rfl) xwp_length ?_
    show WP _ _ _ (xW G y (sset ze 0 0 (v 0 0 + (ML - v 3 (v 0 2))))) _ _ _
    have g00 : sset ze 0 0 (v 0 0 + (ML - v 3 (v 0 2))) 0 0 = v 0 0 + (ML - v 3 (v 0 2)) := sset_eq
    have g0 : ∀ j, j ≠ 0 → sset ze 0 0 (v 0 0 + (ML - v 3 (v 0 2))) 0 j = zu 0 j := fun j hj => by rw [sset_nj hj, qo 0 (by omega)]
    have go : ∀ c, c ≠ 0 → sset ze 0 0 (v 0 0 + (ML - v 3 (v 0 2))) c = ze c := fun c hc => sset_ne hc
    generalize sset ze 0 0 (v 0 0 + (ML - v 3 (v 0 2))) = zg at g00 g0 go ⊢
    refine r_aload_n d_X_fastStart_284 rfl rfl ?_
    refine r_get d_X_fastStart_285 fl_X_13_0 0 rfl rfl ?_
    refine r_iconst d_X_fastStart_288 ?_
    refine r_aload_n d_X_fastStart_289 rfl rfl ?_
    refine r_get d_X_fastStart_290 fl_X_7_0 0 rfl rfl ?_
    refine r_iconst d_X_fastStart_293 ?_
    refine r_aload_n d_X_fastStart_294 rfl rfl ?_
    refine r_get d_X_fastStart_295 fl_X_50_0 0 rfl rfl ?_
    rw [g00]
    refine r_copyB _ d_X_fastStart_298 w_665 2 1 rfl rfl ⟨by omega, by omega, by omega, by omega, by omega⟩ ⟨by omega, by omega⟩ xw_1f rfl rfl ?_
    refine r_iload d_X_fastStart_301 rfl ?_
    refine r_iret d_X_fastStart_303 rfl (Nat.le_of_ble_eq_true rfl) (Nat.le_of_ble_eq_true rfl) ?_
    -- the new file
    have hnew : ∀ j : Int, 0 ≤ j → j < v 0 0 + (ML - v 3 (v 0 2)) → zg 20 j = (wrAll v w ML to).getD j.toNat 0 := by
      intro j j0 j1
      have hj := hwa j.toNat (by omega)
      rw [show ((j.toNat : Nat) : Int) = j by omega] at hj
      rw [hj, go 20 (by omega), q20, n20]
      by_cases c1 : j < to
      · rw [if_pos c1, if_neg (by omega), if_neg (by omega)]
        exact b0 j j0 c1
      · rw [if_neg c1]
        by_cases c2 : j < to + ML
        · rw [if_pos c2, if_neg (by omega), if_neg (by omega)]
          have := w4 (j - to).toNat (by omega)
          rw [show to + (((j - to).toNat : Nat) : Int) = j by omega] at this
          rw [this, show j.toNat - to.toNat = (j - to).toNat by omega]
        · rw [if_neg c2]
          by_cases c3 : j - ML < v 2 (v 0 2)
          · rw [if_pos c3, if_neg (by omega), if_pos (by omega)]
            congr 1
            omega
          · rw [if_neg c3, if_pos (by omega)]
            congr 1
            omega
    have hb20 : ∀ j : Int, 0 ≤ j → j < v 0 0 + (ML - v 3 (v 0 2)) → 0 ≤ zg 20 j ∧ zg 20 j < 256 := by
      intro j j0 j1
      have hj := hwa j.toNat (by omega)
      rw [hnew j j0 j1, hj]
      split
      · exact hby _
      · split
        · omega
        · split <;> exact hby _
    refine hend ML (sfn (sfn v 1 (cpyI (zg 20) (v 1) 0 0 (v 0 0 + (ML - v 3 (v 0 2))))) 0 (fun _ => v 0 0 + (ML - v 3 (v 0 2)))) (sfn zg 1 (cpyI (zg 20) (zg 1) 0 0 (v 0 0 + (ML - v 3 (v 0 2))))) ⟨0, v, hck, Or.inr (Or.inr ⟨rfl, by rw [hfd]; exact ⟨d0, d1⟩, Or.inr ?_⟩)⟩ ?_ ?_ ?_ ?_
    · rw [hst, hfd, hML, htod]
      refine ⟨by omega, rfl, ?_, fun j => ?_, fun j hj => ?_⟩
      · show v 0 0 + (ML - v 3 (v 0 2)) = _
        omega
      · show cpyI (zg 20) (v 1) 0 0 (v 0 0 + (ML - v 3 (v 0 2))) j = _
        unfold cpyI
        by_cases c : j < (wrAll v w ML to).length
        · rw [if_pos c, if_pos (by omega), show 0 + ((j : Int) - 0) = j by omega, hnew j (by omega) (by omega)]
          rfl
        · rw [if_neg c, if_neg (by omega)]
      · show cpyI (zg 20) (v 1) 0 0 (v 0 0 + (ML - v 3 (v 0 2))) j = _
        unfold cpyI
        rw [if_neg (by omega)]
    · show v 0 0 + (ML - v 3 (v 0 2)) = zg 0 0
      exact g00.symm
    · show cpyI (zg 20) (v 1) 0 0 (v 0 0 + (ML - v 3 (v 0 2))) = cpyI (zg 20) (zg 1) 0 0 (v 0 0 + (ML - v 3 (v 0 2)))
      rw [go 1 (by omega), qo 1 (by omega), u1]
    · refine hxu _ (fun c hc => ?_) ?_ ?_ ?_ ?_
      · show (if c = 1 then _ else zg c) = _
        rw [if_neg (by omega), go c (by omega), qo c (by omega)]
      · show zg 0 1 = _
        exact g0 1 (by omega)
      · show 0 ≤ zg 0 0 ∧ zg 0 0 ≤ 1000
        omega
      · intro j
        show 0 ≤ cpyI (zg 20) (zg 1) 0 0 (v 0 0 + (ML - v 3 (v 0 2))) j ∧ cpyI (zg 20) (zg 1) 0 0 (v 0 0 + (ML - v 3 (v 0 2))) j < 256
        unfold cpyI
        split
        · rename_i c
          rw [show 0 + (j - 0) = j by omega]
          exact hb20 j (by omega) (by omega)
        · rw [go 1 (by omega), qo 1 (by omega), u1]; exact hby j
      · show zg 0 5 = 0
        rw [g0 5 (by omega)]; exact u5
    · show zg 0 5 = 0
      rw [g0 5 (by omega)]; exact u5
  · refine r_bipush d_X_fastStart_152 (by decide) ?_
    refine r_iret d_X_fastStart_154 rfl (Nat.le_of_ble_eq_true rfl) (Nat.le_of_ble_eq_true rfl) ?_
    refine hend (-2) v zu ⟨0, v, hck, Or.inr (Or.inr ⟨rfl, by rw [hfd]; exact ⟨d0, d1⟩, Or.inl ⟨?_, rfl, agr_rf v⟩⟩)⟩ u00.symm u1.symm ?_ u5
    · rw [hst, hML]; omega
    · exact hxu zu (fun _ _ => rfl) rfl (by rw [u00, v00]; exact hx00) (by unfold byOk; rw [u1]; exact hby) u5
/-- a bit of a set, closed to arithmetic -/
def wB (w t : Int) : Prop := wbit w t
set_option maxRecDepth 8000 in
set_option maxHeartbeats 16000000 in
theorem fs_rnd {W0 : va_W} {sz : Nat} {Q : Option Value → va_W → Prop} {y : xP} {z v s0 : mS} {d : Int} (hC : fsC G y z v s0 d) (hend : ∀ (n : Int) (x zz : mS), fsR s0 n x → x 0 0 = zz 0 0 → x 1 = zz 1 → xI G y zz → zz 0 5 = 0 → Q (some (vI n)) (xW G y zz)) : ∀ (w r : Int) (zc : mS) (x2 x4 : Option Value), (x2 = none ∨ ∃ a, x2 = some (vI a)) → (x4 = none ∨ ∃ a, x4 = some (vI a)) → fW G y zc v w → wyI v w → 0 ≤ r → r ≤ w → (∀ c, c ≠ 13 → c ≠ 14 → c ≠ 18 → c ≠ 19 → c ≠ 22 → zc c = z c) → (∀ (w' r' : Int) (zc' : mS) (x2' x4' : Option Value), w < w' → (x2' = none ∨ ∃ a, x2' = some (vI a)) → (x4' = none ∨ ∃ a, x4' = some (vI a)) → fW G y zc' v w' → wyI v w' → 0 ≤ r' → r' ≤ w' → (∀ c, c ≠ 13 → c ≠ 14 → c ≠ 18 → c ≠ 19 → c ≠ 22 → zc' c = z c) → WP (mth G l q_X_fastStart 14 61 1134 W0 sz Q) (0 + 61) (0 + 1134) (xW G y zc') 67 [some (.ref (yc y 0)), some (.ref (yo y d)), x2', some (vI r'), x4', none] []) → WP (mth G l q_X_fastStart 14 61 1134 W0 sz Q) (0 + 61) (0 + 1134) (xW G y zc) 67 [some (.ref (yc y 0)), some (.ref (yo y d)), x2, some (vI r), x4, none] [] := by
  have c117 := fs_117 G l (W0 := W0) (sz := sz) hC hend
  obtain ⟨hck, ⟨hf, hor, hO2⟩, hq', hxI, ⟨v00, v1⟩, j02, hfd, d0, d1, d6⟩ := hC
  have hr : rdOk v := hf.1.2.1
  have ho : hoOk v := hf.1.2.2.1
  have hby : byOk v := hf.1.1
  have h01 : v 0 1 = yn y := hq'.1.2.2.1
  have h3 := hf.1.2.2.2.1
  obtain ⟨m0, m1, m2, m3⟩ := hf.2.1.1
  have hrM := hr.2 (v 0 2) m0 m1
  have hmk : -1 ≤ v 0 2 ∧ v 0 2 < yn y := by omega
  have hn1 : (v 0 1).toNat = yn y := by omega
  intro w r zc x2 x4 hx2 hx4 hW hy r0 r1 hz IH
  have hw3 := hW.2.2.2.2.1
  have e02 : zc 0 2 = v 0 2 := hW.2.2.1.1
  have hnb := nlF_b hr hby w 3 (v 0 2) m0 m1
  rw [nB_3] at hnb
  refine r_aload_n d_X_fastStart_67 rfl rfl ?_
  refine r_get d_X_fastStart_68 fl_X_192_0 0 rfl rfl ?_
  rw [e02, rN_nn m0]
  refine r_iconst d_X_fastStart_71 ?_
  refine r_cS2 d_X_fastStart_72 lk_X_285 (c_X_measure0 G l v w y zc (v 0 2) hW m0 hmk.2 (by rw [m2]; rfl)) (Nat.le_of_ble_eq_true rfl) (rok rfl rfl) ⟨(Nat.le_of_ble_eq_true rfl), (Nat.le_of_ble_eq_true rfl)⟩ (fun r ws2 hq => ?_)
  obtain ⟨rfl, z1, rfl, w1, w2, w3, w4⟩ := hq
  show WP _ _ _ _ _ _ (_ :: _)
  refine r_pop d_X_fastStart_75 rfl ?_
  have hgd : ∀ k : Int, 0 ≤ k → k < yn y → (k = v 0 2 ∨ 0 < v 6 k) → gd13 v w z1 k := by
    intro k k0 k1 hk
    have lev1 : ∀ j : Int, 0 ≤ j → j < yn y → v 6 j = 1 → v 7 j = v 0 2 := by
      intro j j0 j1 j6
      obtain ⟨a1, a2, a3, a4⟩ := (ho j j0 (by omega)).2.1 j6
      exact hf.2.1.2.1 (v 7 j) a1 (by omega) a3 a4
    have hrk := hr.2 k k0 (by omega)
    rcases hk with hk | hk
    · rw [hk]; exact w3
    · rcases (by omega : v 6 k = 1 ∨ v 6 k = 2) with q | q
      · exact (w4 k k0 k1 (lev1 k k0 k1 q)).1
      · obtain ⟨a1, a2, a3, a4⟩ := (ho k k0 (by omega)).2.2 q
        exact (w4 (v 7 k) a1 (by omega) (lev1 (v 7 k) a1 (by omega) a3)).2 k k0 k1 rfl
  have hz1 : ∀ c, c ≠ 13 → c ≠ 14 → c ≠ 18 → c ≠ 19 → c ≠ 22 → z1 c = z c := fun c a1 a2 a3 a4 a5 => (w1 c a1 a2).trans (hz c a1 a2 a3 a4 a5)
  have hW1 : fW G y z1 v w := fW_cz (fun j _ => by rw [w1 0 (by omega) (by omega)]) (fun c hc => w1 c (by rintro rfl; revert hc; decide) (by rintro rfl; revert hc; decide)) hW
  clear w1 w2 w3 w4
  have lpT : ∀ (g t : Nat) (wt mo : Int) (zt : mS), (t : Int) + g = v 0 3 → fW G y zt v wt → (∀ c, c ≠ 18 → c ≠ 19 → c ≠ 22 → zt c = z1 c) → (mo = 0 ∨ mo = 1) → (mo = 1 ↔ ∃ i : Nat, i < t ∧ tnB v i (nlF v w 3 (v 0 2)) ∧ ¬ wB w i) → (∀ i : Nat, (i : Int) < v 0 3 → (wB wt i ↔ wB w i ∨ (i < t ∧ tnB v i (nlF v w 3 (v 0 2))))) → (mo = 0 → wt = w) → (mo = 1 → w < wt) → (∀ i : Nat, i < t → zt 19 (pbx v i) = 256 * i ∧ ∀ c : Nat, (c : Int) < pv v (pbx v i) 0 → zt 22 (256 * i + c) = npO v i (1 + c) (nlF v w 3 (v 0 2))) → WP (mth G l q_X_fastStart 14 61 1134 W0 sz Q) (0 + 61) (0 + 1134) (xW G y zt) 81 [some (.ref (yc y 0)), some (.ref (yo y d)), some (vI mo), some (vI r), some (vI t), none] [] := by
    intro g
    induction g with
    | zero =>
      intro t wt mo zt ht hWt hzt hmo hmo1 hbits hm0 hm1 hmv
      have e03 : zt 0 3 = v 0 3 := hWt.2.2.1.2
      have hwt := hWt.2.2.2.2.1
      have hzz : ∀ c, c ≠ 13 → c ≠ 14 → c ≠ 18 → c ≠ 19 → c ≠ 22 → zt c = z c := fun c a1 a2 a3 a4 a5 => (hzt c a3 a4 a5).trans (hz1 c a1 a2 a3 a4 a5)
      refine r_iload d_X_fastStart_81 rfl ?_
      refine r_aload_n d_X_fastStart_83 rfl rfl ?_
      refine r_get d_X_fastStart_84 fl_X_189_0 0 rfl rfl ?_
      rw [e03]
      refine r_icmp_ge 105 d_X_fastStart_87 (by decide) (by unfold i32; omega) (by unfold i32; omega) (fun h1 => ?_) (fun h1 => ?_)
      · refine r_iinc d_X_fastStart_105 rfl (Nat.le_of_ble_eq_true rfl) rfl ?_
        show WP _ _ _ _ _ [_, _, _, _, _, _] _
        refine r_iload_n d_X_fastStart_108 rfl ?_
        refine r_if_eq 117 d_X_fastStart_109 (by decide) (by unfold i32; omega) (fun h2 => ?_) (fun h2 => ?_)
        · have ewt := hm0 h2
          rw [ewt] at hWt
          have hall : ∀ i : Nat, (i : Int) < v 0 3 → tnB v i (nlF v w 3 (v 0 2)) → wB w i := fun i hi hb => Classical.byContradiction fun q => by
            have := hmo1.mpr ⟨i, by omega, hb, q⟩
            omega
          have hst := wyI_end hf hw3 hy hall
          refine c117 w zt _ _ _ rfl rfl hWt hst hzz (fun k k0 k1 k2 => ?_) (fun i hi => hmv i (by omega))
          have := hgd k k0 k1 k2
          exact ⟨by rw [hzt 13 (by omega) (by omega) (by omega)]; exact this.1, by rw [hzt 14 (by omega) (by omega) (by omega)]; exact this.2⟩
        · have hlt := hm1 (by omega)
          refine r_iload_n d_X_fastStart_112 rfl ?_
          refine r_iconst d_X_fastStart_113 ?_
          refine r_icmp_lt 67 d_X_fastStart_114 (by decide) (by unfold i32; omega) (by unfold i32; omega) (fun h3 => ?_) (fun h3 => ?_)
          · refine IH wt (r + 1) zt _ _ hlt (Or.inr ⟨_, rfl⟩) (Or.inr ⟨_, rfl⟩) hWt (wyI_s hf ⟨hw3.1, hw3.2.1⟩ ⟨hwt.1, hwt.2.1⟩ (fun e q => ?_) hy (fun i hi => ?_) (fun e q => ?_)) (by omega) (by omega) hzz
            · have := hwt.2.2 e
              unfold wbit at q
              omega
            · refine (hbits i hi).trans ?_
              exact ⟨fun q => q.imp id And.right, fun q => q.imp id (fun x => ⟨by omega, x⟩)⟩
            · have := hw3.2.2 e
              unfold wbit at q
              omega
          · omega
      · omega
    | succ g ihT =>
      intro t wt mo zt ht hWt hzt hmo hmo1 hbits hm0 hm1 hmv
      have htT : (t : Int) < v 0 3 := by omega
      have e03 : zt 0 3 = v 0 3 := hWt.2.2.1.2
      have hwt := hWt.2.2.2.2.1
      have e14 : zt 14 (v 0 2) = nlF v w 3 (v 0 2) := by rw [hzt 14 (by omega) (by omega) (by omega)]; exact (hgd (v 0 2) m0 hmk.2 (Or.inl rfl)).2
      have t01 : (t : Int) = 0 ∨ (t : Int) = 1 := by omega
      have hbt : wB wt t ↔ wB w t := by
        rw [hbits t htT]
        exact ⟨fun q => q.elim id (fun x => absurd x.1 (by omega)), Or.inl⟩
      refine r_iload d_X_fastStart_81 rfl ?_
      refine r_aload_n d_X_fastStart_83 rfl rfl ?_
      refine r_get d_X_fastStart_84 fl_X_189_0 0 rfl rfl ?_
      rw [e03]
      refine r_icmp_ge 105 d_X_fastStart_87 (by decide) (by unfold i32; omega) (by unfold i32; omega) (fun h1 => ?_) (fun h1 => ?_)
      · omega
      · refine r_iload_n d_X_fastStart_90 rfl ?_
        refine r_aload_n d_X_fastStart_91 rfl rfl ?_
        refine r_iload d_X_fastStart_92 rfl ?_
        refine r_cV1 d_X_fastStart_94 lk_X_328 (c_X_move G l y v wt zt t (nlF v w 3 (v 0 2)) hWt htT e14 (by omega)) 0 rfl rfl (Nat.le_of_ble_eq_true rfl) (rok rfl rfl) ⟨(Nat.le_of_ble_eq_true rfl), (Nat.le_of_ble_eq_true rfl)⟩ (fun r ws2 hq => ?_)
        obtain ⟨rfl, z2, rfl, p1, p2, p3, p4, p5, p6, p7⟩ := hq
        show WP _ _ _ _ _ _ (_ :: _)
        have hi01 : ∀ i : Nat, (i : Int) < v 0 3 → (i : Int) = 0 ∨ (i : Int) = 1 := fun i hi => by clear p4 p5; omega
        have hine : ∀ i : Nat, i ≠ t → (i : Int) ≠ t := fun i hi q => hi (by clear p4 p5; omega)
        have hW2 := fW_mv hWt htT p1 (fun k hk => (p2 k hk).1) p4 p5
        obtain ⟨s1, s2, s3⟩ := setb_at (w := wt) (t := t) (P := wbit wt t ∨ tnB v t (nlF v w 3 (v 0 2))) ⟨hwt.1, hwt.2.1⟩ t01
        obtain ⟨o1, o2⟩ := setb_or (w := wt) (t := t) (P := tnB v t (nlF v w 3 (v 0 2))) ⟨hwt.1, hwt.2.1⟩ t01
        have hbb := b2_b (tnB v t (nlF v w 3 (v 0 2)) ∧ ¬ wbit wt t)
        have hb1 : b2 (tnB v t (nlF v w 3 (v 0 2)) ∧ ¬ wbit wt t) = 1 ↔ tnB v t (nlF v w 3 (v 0 2)) ∧ ¬ wB wt t := b2_1
        have S1 : wB (setb wt t (wbit wt t ∨ tnB v t (nlF v w 3 (v 0 2)))) t ↔ wB wt t ∨ tnB v t (nlF v w 3 (v 0 2)) := s1
        have S2 : ∀ i : Nat, (i : Int) < v 0 3 → i ≠ t → (wB (setb wt t (wbit wt t ∨ tnB v t (nlF v w 3 (v 0 2)))) i ↔ wB wt i) := fun i a b => s2 i (hi01 i a) (hine i b)
        have O2 : setb wt t (wbit wt t ∨ tnB v t (nlF v w 3 (v 0 2))) = wt ↔ (tnB v t (nlF v w 3 (v 0 2)) → wB wt t) := o2
        clear s1 s2 o2 p4 p5
        generalize b2 (tnB v t (nlF v w 3 (v 0 2)) ∧ ¬ wbit wt t) = bb at hbb hb1 ⊢
        generalize setb wt t (wbit wt t ∨ tnB v t (nlF v w 3 (v 0 2))) = ws at hW2 S1 S2 s3 o1 O2
        refine r_iorR d_X_fastStart_97 ?_
        rw [or_b hmo hbb]
        refine r_istore_n d_X_fastStart_98 (Nat.le_of_ble_eq_true rfl) rfl ?_
        show WP _ _ _ _ _ [_, _, _, _, _, _] _
        refine r_iinc d_X_fastStart_99 rfl (Nat.le_of_ble_eq_true rfl) rfl ?_
        show WP _ _ _ _ _ [_, _, _, _, _, _] _
        refine r_goto 81 d_X_fastStart_102 (by decide) ?_
        have hneq : ∀ i : Nat, i < t → pbx v i ≠ pbx v t := fun i hi q => by
          have x1 := tk_Pb hf (t := i) (by omega)
          have x2 := tk_Pb hf htT
          rw [q, x2] at x1
          omega
        refine ihT (t + 1) ws _ z2 (by omega) hW2 (fun c a1 a2 a3 => (p1 c a1 a2 a3).trans (hzt c a1 a2 a3)) (by split <;> omega) ?_ (fun i hi => ?_) (fun q => ?_) (fun q => ?_) (fun i hi => ?_)
        · constructor
          · intro q
            split at q
            · rename_i q2
              rcases q2 with q2 | q2
              · obtain ⟨i, i1, i2⟩ := hmo1.mp q2
                exact ⟨i, by omega, i2⟩
              · have := hb1.mp q2
                exact ⟨t, by omega, this.1, fun x => this.2 (hbt.mpr x)⟩
            · omega
          · rintro ⟨i, i1, i2, i3⟩
            rw [if_pos]
            by_cases e : i = t
            · subst e
              exact Or.inr (hb1.mpr ⟨i2, fun x => i3 (hbt.mp x)⟩)
            · exact Or.inl (hmo1.mpr ⟨i, by omega, i2, i3⟩)
        · by_cases e : i = t
          · subst e
            rw [S1, hbt]
            exact ⟨fun q => q.imp id (fun x => ⟨by omega, x⟩), fun q => q.imp id And.right⟩
          · rw [S2 i hi e, hbits i hi]
            exact ⟨fun q => q.imp id (fun x => ⟨by omega, x.2⟩), fun q => q.imp id (fun x => ⟨by omega, x.2⟩)⟩
        · split at q
          · omega
          · rename_i q2
            have e1 := hm0 (by omega)
            have e2 : ws = wt := O2.mpr (fun x => Classical.byContradiction fun x2 => q2 (Or.inr (hb1.mpr ⟨x, x2⟩)))
            rw [e2, e1]
        · split at q
          · rename_i q2
            rcases q2 with q2 | q2
            · have := hm1 q2; omega
            · have hx := hb1.mp q2
              have hne : ws ≠ wt := fun e => hx.2 (O2.mp e hx.1)
              rcases hmo with e | e
              · have := hm0 e; omega
              · have := hm1 e; omega
          · omega
        · by_cases e : i = t
          · subst e
            exact ⟨p3, p6⟩
          · obtain ⟨x1, x2⟩ := hmv i (by omega)
            refine ⟨by rw [(p2 _ (hneq i (by omega))).2]; exact x1, fun c hc => ?_⟩
            have hb256 := pv_b hby (pbx v i) 0
            rw [p7 _ (Or.inl (by omega))]
            exact x2 c hc
  have hok2 : okst [some (.ref (yc y 0)), some (.ref (yo y d)), x2, some (vI r), x4, none] 2 = true := rfl
  have hok4 : okst [some (.ref (yc y 0)), some (.ref (yo y d)), some (vI 0), some (vI r), x4, none] 4 = true := rfl
  refine r_iconst d_X_fastStart_76 ?_
  refine r_istore_n d_X_fastStart_77 (Nat.le_of_ble_eq_true rfl) rfl ?_
  show WP _ _ _ _ _ [_, _, _, _, _, _] _
  refine r_iconst d_X_fastStart_78 ?_
  refine r_istore d_X_fastStart_79 (Nat.le_of_ble_eq_true rfl) rfl ?_
  show WP _ _ _ _ _ [_, _, _, _, _, _] _
  exact lpT (v 0 3).toNat 0 w 0 z1 (by omega) hW1 (fun _ _ _ _ => rfl) (Or.inl rfl) ⟨fun q => by omega, fun ⟨i, i1, _⟩ => by omega⟩ (fun i hi => ⟨Or.inl, fun q => q.elim id (fun x => absurd x.1 (by omega))⟩) (fun _ => rfl) (fun q => by omega) (fun i hi => by omega)
theorem fs_lpO {W0 : va_W} {sz : Nat} {Q : Option Value → va_W → Prop} {y : xP} {z v s0 : mS} {d : Int} (hC : fsC G y z v s0 d) (hend : ∀ (n : Int) (x zz : mS), fsR s0 n x → x 0 0 = zz 0 0 → x 1 = zz 1 → xI G y zz → zz 0 5 = 0 → Q (some (vI n)) (xW G y zz)) : ∀ (F : Nat) (w r : Int) (zc : mS) (x2 x4 : Option Value), (x2 = none ∨ ∃ a, x2 = some (vI a)) → (x4 = none ∨ ∃ a, x4 = some (vI a)) → 3 - w ≤ F → fW G y zc v w → wyI v w → 0 ≤ r → r ≤ w → (∀ c, c ≠ 13 → c ≠ 14 → c ≠ 18 → c ≠ 19 → c ≠ 22 → zc c = z c) → WP (mth G l q_X_fastStart 14 61 1134 W0 sz Q) (0 + 61) (0 + 1134) (xW G y zc) 67 [some (.ref (yc y 0)), some (.ref (yo y d)), x2, some (vI r), x4, none] [] := by
  intro F
  induction F with
  | zero =>
    intro w r zc x2 x4 hx2 hx4 hF hW hy r0 r1 hz
    have hw3 := hW.2.2.2.2.1
    have ew : w = 3 := by omega
    exact fs_rnd G l (W0 := W0) (sz := sz) hC hend w r zc x2 x4 hx2 hx4 hW hy r0 r1 hz (fun w' r' zc' x2' x4' h1 h2 h3 h4 h5 h6 h7 h8 => by
      have := h4.2.2.2.2.1
      omega)
  | succ F ih =>
    intro w r zc x2 x4 hx2 hx4 hF hW hy r0 r1 hz
    exact fs_rnd G l (W0 := W0) (sz := sz) hC hend w r zc x2 x4 hx2 hx4 hW hy r0 r1 hz (fun w' r' zc' x2' x4' h1 h2 h3 h4 h5 h6 h7 h8 => ih w' r' zc' x2' x4' h2 h3 (by omega) h4 h5 h6 h7 h8)
end XFAST0
