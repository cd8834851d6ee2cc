abbrev q_X_readBox : Mi := (⟨"MovieBoxes", "readBox", "(III)LMovieBoxes$Box;"⟩, prog_1_method_11_code, 10, (some (.object "MovieBoxes$Box")))
theorem d_X_readBox_123 : decode prog_1_method_11_code 123 = .ok (.aload_n 0, 1) := by decide +kernel
theorem d_X_readBox_124 : decode prog_1_method_11_code 124 = .ok (.getfield 7, 3) := by decide +kernel
theorem d_X_readBox_127 : decode prog_1_method_11_code 127 = .ok (.iload_n 1, 1) := by decide +kernel
theorem d_X_readBox_128 : decode prog_1_method_11_code 128 = .ok (.iconst 1, 1) := by decide +kernel
theorem d_X_readBox_129 : decode prog_1_method_11_code 129 = .ok (.iadd, 1) := by decide +kernel
theorem d_X_readBox_130 : decode prog_1_method_11_code 130 = .ok (.baload, 1) := by decide +kernel
theorem d_X_readBox_131 : decode prog_1_method_11_code 131 = .ok (.sipush 255, 3) := by decide +kernel
theorem d_X_readBox_134 : decode prog_1_method_11_code 134 = .ok (.iand, 1) := by decide +kernel
theorem d_X_readBox_135 : decode prog_1_method_11_code 135 = .ok (.istore 8, 2) := by decide +kernel
theorem d_X_readBox_137 : decode prog_1_method_11_code 137 = .ok (.aload_n 0, 1) := by decide +kernel
theorem d_X_readBox_138 : decode prog_1_method_11_code 138 = .ok (.iload 8, 2) := by decide +kernel
theorem d_X_readBox_140 : decode prog_1_method_11_code 140 = .ok (.iload_n 3, 1) := by decide +kernel
theorem d_X_readBox_141 : decode prog_1_method_11_code 141 = .ok (.invokestatic 128, 3) := by decide +kernel
set_option maxRecDepth 20000 in
theorem w_266 : Cond.methodLink "MovieBoxes" 128 ⟨"MovieBoxes", "kindOf", "(II)LMovieBoxes$Kind;"⟩ ∈ gt := gt_of (in_t2 (List.mem_of_getElem? (i := 26) rfl)) rfl
set_option maxRecDepth 20000 in
theorem w_267 : Cond.static ⟨"MovieBoxes", "kindOf", "(II)LMovieBoxes$Kind;"⟩ ∈ gt := gt_of (in_t2 (List.mem_of_getElem? (i := 27) rfl)) rfl
set_option maxRecDepth 20000 in
theorem w_268 : Cond.code ⟨"MovieBoxes", "kindOf", "(II)LMovieBoxes$Kind;"⟩ prog_1_method_7_code 2 (some (.object "MovieBoxes$Kind")) ∈ gt := gt_of (in_t2 (List.mem_of_getElem? (i := 28) rfl)) rfl
theorem lk_X_128 : LkS "MovieBoxes" 128 q_X_kindOf 2 := ⟨(List.forall_mem_cons.mpr ⟨w_266, (List.forall_mem_cons.mpr ⟨w_267, (List.forall_mem_cons.mpr ⟨w_1, (fun _ h => absurd h List.not_mem_nil)⟩)⟩)⟩), w_268, by decide +kernel⟩
theorem d_X_readBox_144 : decode prog_1_method_11_code 144 = .ok (.invokevirtual 132, 3) := by decide +kernel
set_option maxRecDepth 20000 in
theorem w_291 : Cond.methodLink "MovieBoxes" 132 ⟨"MovieBoxes", "boxOf", "(LMovieBoxes$Kind;)LMovieBoxes$Box;"⟩ ∈ gt := gt_of (in_t2 (List.mem_of_getElem? (i := 51) rfl)) rfl
set_option maxRecDepth 20000 in
theorem w_293 : Cond.instanceMethod ⟨"MovieBoxes", "boxOf", "(LMovieBoxes$Kind;)LMovieBoxes$Box;"⟩ ∈ gt := gt_of (in_t2 (List.mem_of_getElem? (i := 53) rfl)) rfl
set_option maxRecDepth 20000 in
theorem ws_X_boxOf : Cond.selects "MovieBoxes" ⟨"MovieBoxes", "boxOf", "(LMovieBoxes$Kind;)LMovieBoxes$Box;"⟩ ⟨"MovieBoxes", "boxOf", "(LMovieBoxes$Kind;)LMovieBoxes$Box;"⟩ ∈ gt := gt_of (in_p1 (List.mem_of_getElem? (i := 2) rfl)) rfl
set_option maxRecDepth 20000 in
theorem w_294 : Cond.code ⟨"MovieBoxes", "boxOf", "(LMovieBoxes$Kind;)LMovieBoxes$Box;"⟩ prog_1_method_10_code 4 (some (.object "MovieBoxes$Box")) ∈ gt := gt_of (in_t2 (List.mem_of_getElem? (i := 54) rfl)) rfl
theorem lk_X_132 : LkV "MovieBoxes" 132 q_X_boxOf 1 := ⟨(List.forall_mem_cons.mpr ⟨w_291, (List.forall_mem_cons.mpr ⟨w_293, (List.forall_mem_cons.mpr ⟨ws_X_boxOf, (List.forall_mem_cons.mpr ⟨w_1, (fun _ h => absurd h List.not_mem_nil)⟩)⟩)⟩)⟩), w_294, by decide +kernel⟩
theorem d_X_readBox_147 : decode prog_1_method_11_code 147 = .ok (.astore 9, 2) := by decide +kernel
theorem d_X_readBox_149 : decode prog_1_method_11_code 149 = .ok (.aload 9, 2) := by decide +kernel
theorem d_X_readBox_151 : decode prog_1_method_11_code 151 = .ok (.iload 8, 2) := by decide +kernel
theorem d_X_readBox_153 : decode prog_1_method_11_code 153 = .ok (.putfield 136, 3) := by decide +kernel
set_option maxRecDepth 20000 in
theorem w_53 : Cond.fieldLink "MovieBoxes" 136 "MovieBoxes$Box" "type" "I" ∈ gt := gt_of (in_t1 (List.mem_of_getElem? (i := 53) rfl)) rfl
theorem fl_X_136_1 : FL "MovieBoxes" 136 1 1 false := ⟨_, _, _, "MovieBoxes$Box", rfl, by decide, rfl, Or.inl w_53, Or.inl rfl⟩
theorem fl_X_136_2 : FL "MovieBoxes" 136 2 1 false := ⟨_, _, _, "MovieBoxes$Box", rfl, by decide, rfl, Or.inl w_53, Or.inl rfl⟩
theorem fl_X_136_3 : FL "MovieBoxes" 136 3 1 false := ⟨_, _, _, "MovieBoxes$Box", rfl, by decide, rfl, Or.inl w_53, Or.inl rfl⟩
theorem fl_X_136_4 : FL "MovieBoxes" 136 4 1 false := ⟨_, _, _, "MovieBoxes$Box", rfl, by decide, rfl, Or.inl w_53, Or.inl rfl⟩
theorem fl_X_136_5 : FL "MovieBoxes" 136 5 1 false := ⟨_, _, _, "MovieBoxes$Box", rfl, by decide, rfl, Or.inl w_53, Or.inl rfl⟩
theorem fb_X_136 : FB "MovieBoxes" 136 1 .int := fb5 fl_X_136_1 fl_X_136_2 fl_X_136_3 fl_X_136_4 fl_X_136_5 rfl rfl rfl rfl rfl
theorem d_X_readBox_156 : decode prog_1_method_11_code 156 = .ok (.aload 9, 2) := by decide +kernel
theorem d_X_readBox_158 : decode prog_1_method_11_code 158 = .ok (.iload_n 1, 1) := by decide +kernel
theorem d_X_readBox_159 : decode prog_1_method_11_code 159 = .ok (.putfield 139, 3) := by decide +kernel
set_option maxRecDepth 20000 in
theorem w_57 : Cond.fieldLink "MovieBoxes" 139 "MovieBoxes$Box" "from" "I" ∈ gt := gt_of (in_t1 (List.mem_of_getElem? (i := 57) rfl)) rfl
theorem fl_X_139_1 : FL "MovieBoxes" 139 1 2 false := ⟨_, _, _, "MovieBoxes$Box", rfl, by decide, rfl, Or.inl w_57, Or.inl rfl⟩
theorem fl_X_139_2 : FL "MovieBoxes" 139 2 2 false := ⟨_, _, _, "MovieBoxes$Box", rfl, by decide, rfl, Or.inl w_57, Or.inl rfl⟩
theorem fl_X_139_3 : FL "MovieBoxes" 139 3 2 false := ⟨_, _, _, "MovieBoxes$Box", rfl, by decide, rfl, Or.inl w_57, Or.inl rfl⟩
theorem fl_X_139_4 : FL "MovieBoxes" 139 4 2 false := ⟨_, _, _, "MovieBoxes$Box", rfl, by decide, rfl, Or.inl w_57, Or.inl rfl⟩
theorem fl_X_139_5 : FL "MovieBoxes" 139 5 2 false := ⟨_, _, _, "MovieBoxes$Box", rfl, by decide, rfl, Or.inl w_57, Or.inl rfl⟩
theorem fb_X_139 : FB "MovieBoxes" 139 2 .int := fb5 fl_X_139_1 fl_X_139_2 fl_X_139_3 fl_X_139_4 fl_X_139_5 rfl rfl rfl rfl rfl
theorem d_X_readBox_162 : decode prog_1_method_11_code 162 = .ok (.aload 9, 2) := by decide +kernel
theorem d_X_readBox_164 : decode prog_1_method_11_code 164 = .ok (.iload 6, 2) := by decide +kernel
theorem d_X_readBox_166 : decode prog_1_method_11_code 166 = .ok (.putfield 142, 3) := by decide +kernel
set_option maxRecDepth 20000 in
theorem w_67 : Cond.fieldLink "MovieBoxes" 142 "MovieBoxes$Box" "header" "I" ∈ gt := gt_of (in_t1 (List.mem_of_getElem? (i := 67) rfl)) rfl
theorem fl_X_142_1 : FL "MovieBoxes" 142 1 3 false := ⟨_, _, _, "MovieBoxes$Box", rfl, by decide, rfl, Or.inl w_67, Or.inl rfl⟩
theorem fl_X_142_2 : FL "MovieBoxes" 142 2 3 false := ⟨_, _, _, "MovieBoxes$Box", rfl, by decide, rfl, Or.inl w_67, Or.inl rfl⟩
theorem fl_X_142_3 : FL "MovieBoxes" 142 3 3 false := ⟨_, _, _, "MovieBoxes$Box", rfl, by decide, rfl, Or.inl w_67, Or.inl rfl⟩
theorem fl_X_142_4 : FL "MovieBoxes" 142 4 3 false := ⟨_, _, _, "MovieBoxes$Box", rfl, by decide, rfl, Or.inl w_67, Or.inl rfl⟩
theorem fl_X_142_5 : FL "MovieBoxes" 142 5 3 false := ⟨_, _, _, "MovieBoxes$Box", rfl, by decide, rfl, Or.inl w_67, Or.inl rfl⟩
theorem fb_X_142 : FB "MovieBoxes" 142 3 .int := fb5 fl_X_142_1 fl_X_142_2 fl_X_142_3 fl_X_142_4 fl_X_142_5 rfl rfl rfl rfl rfl
theorem d_X_readBox_169 : decode prog_1_method_11_code 169 = .ok (.aload 9, 2) := by decide +kernel
theorem d_X_readBox_171 : decode prog_1_method_11_code 171 = .ok (.iload 7, 2) := by decide +kernel
theorem d_X_readBox_173 : decode prog_1_method_11_code 173 = .ok (.putfield 145, 3) := by decide +kernel
set_option maxRecDepth 20000 in
theorem w_75 : Cond.fieldLink "MovieBoxes" 145 "MovieBoxes$Box" "size" "I" ∈ gt := gt_of (in_t1 (List.mem_of_getElem? (i := 75) rfl)) rfl
theorem fl_X_145_1 : FL "MovieBoxes" 145 1 4 false := ⟨_, _, _, "MovieBoxes$Box", rfl, by decide, rfl, Or.inl w_75, Or.inl rfl⟩
theorem fl_X_145_2 : FL "MovieBoxes" 145 2 4 false := ⟨_, _, _, "MovieBoxes$Box", rfl, by decide, rfl, Or.inl w_75, Or.inl rfl⟩
theorem fl_X_145_3 : FL "MovieBoxes" 145 3 4 false := ⟨_, _, _, "MovieBoxes$Box", rfl, by decide, rfl, Or.inl w_75, Or.inl rfl⟩
theorem fl_X_145_4 : FL "MovieBoxes" 145 4 4 false := ⟨_, _, _, "MovieBoxes$Box", rfl, by decide, rfl, Or.inl w_75, Or.inl rfl⟩
theorem fl_X_145_5 : FL "MovieBoxes" 145 5 4 false := ⟨_, _, _, "MovieBoxes$Box", rfl, by decide, rfl, Or.inl w_75, Or.inl rfl⟩
theorem fb_X_145 : FB "MovieBoxes" 145 4 .int := fb5 fl_X_145_1 fl_X_145_2 fl_X_145_3 fl_X_145_4 fl_X_145_5 rfl rfl rfl rfl rfl
theorem d_X_readBox_176 : decode prog_1_method_11_code 176 = .ok (.aload 9, 2) := by decide +kernel
theorem d_X_readBox_178 : decode prog_1_method_11_code 178 = .ok (.iload_n 3, 1) := by decide +kernel
theorem d_X_readBox_179 : decode prog_1_method_11_code 179 = .ok (.putfield 148, 3) := by decide +kernel
set_option maxRecDepth 20000 in
theorem w_78 : Cond.fieldLink "MovieBoxes" 148 "MovieBoxes$Box" "level" "I" ∈ gt := gt_of (in_t1 (List.mem_of_getElem? (i := 78) rfl)) rfl
theorem fl_X_148_1 : FL "MovieBoxes" 148 1 5 false := ⟨_, _, _, "MovieBoxes$Box", rfl, by decide, rfl, Or.inl w_78, Or.inl rfl⟩
theorem fl_X_148_2 : FL "MovieBoxes" 148 2 5 false := ⟨_, _, _, "MovieBoxes$Box", rfl, by decide, rfl, Or.inl w_78, Or.inl rfl⟩
theorem fl_X_148_3 : FL "MovieBoxes" 148 3 5 false := ⟨_, _, _, "MovieBoxes$Box", rfl, by decide, rfl, Or.inl w_78, Or.inl rfl⟩
theorem fl_X_148_4 : FL "MovieBoxes" 148 4 5 false := ⟨_, _, _, "MovieBoxes$Box", rfl, by decide, rfl, Or.inl w_78, Or.inl rfl⟩
theorem fl_X_148_5 : FL "MovieBoxes" 148 5 5 false := ⟨_, _, _, "MovieBoxes$Box", rfl, by decide, rfl, Or.inl w_78, Or.inl rfl⟩
theorem fb_X_148 : FB "MovieBoxes" 148 5 .int := fb5 fl_X_148_1 fl_X_148_2 fl_X_148_3 fl_X_148_4 fl_X_148_5 rfl rfl rfl rfl rfl
theorem d_X_readBox_182 : decode prog_1_method_11_code 182 = .ok (.aload 9, 2) := by decide +kernel
theorem d_X_readBox_184 : decode prog_1_method_11_code 184 = .ok (.areturn, 1) := by decide +kernel
theorem d_X_readBox_105 : decode prog_1_method_11_code 105 = .ok (.istore 7, 2) := by decide +kernel
theorem d_X_readBox_107 : decode prog_1_method_11_code 107 = .ok (.iload 7, 2) := by decide +kernel
theorem d_X_readBox_109 : decode prog_1_method_11_code 109 = .ok (.iload 6, 2) := by decide +kernel
theorem d_X_readBox_111 : decode prog_1_method_11_code 111 = .ok (.if_icmp .lt 10, 3) := by decide +kernel
theorem d_X_readBox_121 : decode prog_1_method_11_code 121 = .ok (.aconst_null, 1) := by decide +kernel
theorem d_X_readBox_122 : decode prog_1_method_11_code 122 = .ok (.areturn, 1) := by decide +kernel
theorem d_X_readBox_114 : decode prog_1_method_11_code 114 = .ok (.iload 7, 2) := by decide +kernel
theorem d_X_readBox_116 : decode prog_1_method_11_code 116 = .ok (.iload 4, 2) := by decide +kernel
theorem d_X_readBox_118 : decode prog_1_method_11_code 118 = .ok (.if_icmp .le 5, 3) := by decide +kernel
theorem d_X_readBox_56 : decode prog_1_method_11_code 56 = .ok (.iload 5, 2) := by decide +kernel
theorem d_X_readBox_58 : decode prog_1_method_11_code 58 = .ok (.iconst 1, 1) := by decide +kernel
theorem d_X_readBox_59 : decode prog_1_method_11_code 59 = .ok (.if_icmp .ne 34, 3) := by decide +kernel
theorem d_X_readBox_93 : decode prog_1_method_11_code 93 = .ok (.iload 5, 2) := by decide +kernel
theorem d_X_readBox_95 : decode prog_1_method_11_code 95 = .ok (.ifCond .ne 8, 3) := by decide +kernel
theorem d_X_readBox_103 : decode prog_1_method_11_code 103 = .ok (.iload 5, 2) := by decide +kernel
theorem d_X_readBox_98 : decode prog_1_method_11_code 98 = .ok (.iload 4, 2) := by decide +kernel
theorem d_X_readBox_100 : decode prog_1_method_11_code 100 = .ok (.goto 5, 3) := by decide +kernel
theorem d_X_readBox_62 : decode prog_1_method_11_code 62 = .ok (.aload_n 0, 1) := by decide +kernel
theorem d_X_readBox_63 : decode prog_1_method_11_code 63 = .ok (.getfield 7, 3) := by decide +kernel
theorem d_X_readBox_66 : decode prog_1_method_11_code 66 = .ok (.iload_n 1, 1) := by decide +kernel
theorem d_X_readBox_67 : decode prog_1_method_11_code 67 = .ok (.iconst 2, 1) := by decide +kernel
theorem d_X_readBox_68 : decode prog_1_method_11_code 68 = .ok (.iadd, 1) := by decide +kernel
theorem d_X_readBox_69 : decode prog_1_method_11_code 69 = .ok (.baload, 1) := by decide +kernel
theorem d_X_readBox_70 : decode prog_1_method_11_code 70 = .ok (.sipush 255, 3) := by decide +kernel
theorem d_X_readBox_73 : decode prog_1_method_11_code 73 = .ok (.iand, 1) := by decide +kernel
theorem d_X_readBox_74 : decode prog_1_method_11_code 74 = .ok (.bipush 8, 2) := by decide +kernel
theorem d_X_readBox_76 : decode prog_1_method_11_code 76 = .ok (.ishl, 1) := by decide +kernel
theorem d_X_readBox_77 : decode prog_1_method_11_code 77 = .ok (.aload_n 0, 1) := by decide +kernel
theorem d_X_readBox_78 : decode prog_1_method_11_code 78 = .ok (.getfield 7, 3) := by decide +kernel
theorem d_X_readBox_81 : decode prog_1_method_11_code 81 = .ok (.iload_n 1, 1) := by decide +kernel
theorem d_X_readBox_82 : decode prog_1_method_11_code 82 = .ok (.iconst 3, 1) := by decide +kernel
theorem d_X_readBox_83 : decode prog_1_method_11_code 83 = .ok (.iadd, 1) := by decide +kernel
theorem d_X_readBox_84 : decode prog_1_method_11_code 84 = .ok (.baload, 1) := by decide +kernel
theorem d_X_readBox_85 : decode prog_1_method_11_code 85 = .ok (.sipush 255, 3) := by decide +kernel
theorem d_X_readBox_88 : decode prog_1_method_11_code 88 = .ok (.iand, 1) := by decide +kernel
theorem d_X_readBox_89 : decode prog_1_method_11_code 89 = .ok (.ior, 1) := by decide +kernel
theorem d_X_readBox_90 : decode prog_1_method_11_code 90 = .ok (.goto 15, 3) := by decide +kernel
theorem d_X_readBox_36 : decode prog_1_method_11_code 36 = .ok (.istore 6, 2) := by decide +kernel
theorem d_X_readBox_38 : decode prog_1_method_11_code 38 = .ok (.iload 4, 2) := by decide +kernel
theorem d_X_readBox_40 : decode prog_1_method_11_code 40 = .ok (.iload 6, 2) := by decide +kernel
theorem d_X_readBox_42 : decode prog_1_method_11_code 42 = .ok (.if_icmp .lt 12, 3) := by decide +kernel
theorem d_X_readBox_54 : decode prog_1_method_11_code 54 = .ok (.aconst_null, 1) := by decide +kernel
theorem d_X_readBox_55 : decode prog_1_method_11_code 55 = .ok (.areturn, 1) := by decide +kernel
theorem d_X_readBox_45 : decode prog_1_method_11_code 45 = .ok (.iload 5, 2) := by decide +kernel
theorem d_X_readBox_47 : decode prog_1_method_11_code 47 = .ok (.ifCond .ne 9, 3) := by decide +kernel
theorem d_X_readBox_50 : decode prog_1_method_11_code 50 = .ok (.iload_n 3, 1) := by decide +kernel
theorem d_X_readBox_51 : decode prog_1_method_11_code 51 = .ok (.ifCond .le 5, 3) := by decide +kernel
theorem d_X_readBox_0 : decode prog_1_method_11_code 0 = .ok (.iload_n 2, 1) := by decide +kernel
theorem d_X_readBox_1 : decode prog_1_method_11_code 1 = .ok (.iload_n 1, 1) := by decide +kernel
theorem d_X_readBox_2 : decode prog_1_method_11_code 2 = .ok (.isub, 1) := by decide +kernel
theorem d_X_readBox_3 : decode prog_1_method_11_code 3 = .ok (.istore 4, 2) := by decide +kernel
theorem d_X_readBox_5 : decode prog_1_method_11_code 5 = .ok (.iload 4, 2) := by decide +kernel
theorem d_X_readBox_7 : decode prog_1_method_11_code 7 = .ok (.iconst 2, 1) := by decide +kernel
theorem d_X_readBox_8 : decode prog_1_method_11_code 8 = .ok (.if_icmp .ge 5, 3) := by decide +kernel
theorem d_X_readBox_13 : decode prog_1_method_11_code 13 = .ok (.aload_n 0, 1) := by decide +kernel
theorem d_X_readBox_14 : decode prog_1_method_11_code 14 = .ok (.getfield 7, 3) := by decide +kernel
theorem d_X_readBox_17 : decode prog_1_method_11_code 17 = .ok (.iload_n 1, 1) := by decide +kernel
theorem d_X_readBox_18 : decode prog_1_method_11_code 18 = .ok (.baload, 1) := by decide +kernel
theorem d_X_readBox_19 : decode prog_1_method_11_code 19 = .ok (.sipush 255, 3) := by decide +kernel
theorem d_X_readBox_22 : decode prog_1_method_11_code 22 = .ok (.iand, 1) := by decide +kernel
theorem d_X_readBox_23 : decode prog_1_method_11_code 23 = .ok (.istore 5, 2) := by decide +kernel
theorem d_X_readBox_25 : decode prog_1_method_11_code 25 = .ok (.iload 5, 2) := by decide +kernel
theorem d_X_readBox_27 : decode prog_1_method_11_code 27 = .ok (.iconst 1, 1) := by decide +kernel
theorem d_X_readBox_28 : decode prog_1_method_11_code 28 = .ok (.if_icmp .ne 7, 3) := by decide +kernel
theorem d_X_readBox_35 : decode prog_1_method_11_code 35 = .ok (.iconst 2, 1) := by decide +kernel
theorem d_X_readBox_31 : decode prog_1_method_11_code 31 = .ok (.iconst 4, 1) := by decide +kernel
theorem d_X_readBox_32 : decode prog_1_method_11_code 32 = .ok (.goto 4, 3) := by decide +kernel
theorem d_X_readBox_11 : decode prog_1_method_11_code 11 = .ok (.aconst_null, 1) := by decide +kernel
theorem d_X_readBox_12 : decode prog_1_method_11_code 12 = .ok (.areturn, 1) := by decide +kernel
/-! ===== the component: readBox ===== -/
theorem zI_shl8 {x : Int} (h : 0 ≤ x ∧ x < 256) : zI x <<< (zI 8 &&& 31) = zI (256 * x) := by
  obtain ⟨j, rfl⟩ := Int.eq_ofNat_of_zero_le h.1
  rw [zI_nat, pk_shlN (zI 8 &&& 31) 8 (by decide) (by omega), ← zI_nat]
  congr 1
  omega
theorem zI_or8 {x w : Int} (h : 0 ≤ x ∧ x < 256) (hw : 0 ≤ w ∧ w < 256) : zI (256 * x) ||| zI w = zI (256 * x + w) := by
  obtain ⟨j, rfl⟩ := Int.eq_ofNat_of_zero_le h.1
  obtain ⟨m, rfl⟩ := Int.eq_ofNat_of_zero_le hw.1
  rw [show (256 : Int) * (j : Int) = ((2 ^ 8 * j : Nat) : Int) by omega, show ((2 ^ 8 * j : Nat) : Int) + (m : Int) = ((2 ^ 8 * j + m : Nat) : Int) by omega, zI_nat, zI_nat, zI_nat]
  apply Int32.toBitVec_inj.mp
  apply BitVec.eq_of_toNat_eq
  rw [Int32.toBitVec_or, BitVec.toNat_or, pk_tn (by omega), pk_tn (by omega), pk_tn (by omega)]
  exact (Nat.two_pow_add_eq_or_of_lt (by omega) j).symm
/-- a box as readBox leaves it, number n; the rest as it was -/
def nbx (z z' : mS) (n p w ty h lev : Int) : Prop := (∀ c j, (j ≠ n ∨ bcl c = false) → c ≠ 21 → z' c j = z c j) ∧ z' 2 n = p ∧ z' 3 n = w ∧ z' 4 n = ty ∧ z' 5 n = h ∧ z' 6 n = lev ∧ z' 26 n = knO ty lev ∧ z' 27 n = clN (clO (knO ty lev)) ∧ z' 23 n = -1 ∧ z' 24 n = -1 ∧ z' 25 n = -1 ∧ z' 18 n = 0
theorem kI_cg {G : gG} {y : xP} {z z' : mS} (h21 : z' 21 = z 21) (h27 : ∀ j : Int, j < yn y → z' 27 j = z 27 j) (hK : kI G y z) : kI G y z' := by
  refine ⟨fun k h0 h1 => by rw [h21]; exact hK.1 k h0 h1, fun u a h0 h1 h => ?_, hK.2.2⟩
  rcases hK.2.1 u a h0 h1 h with h2 | ⟨⟨j, j0, j1, j2, j3⟩, j4⟩
  · exact Or.inl h2
  · exact Or.inr ⟨⟨j, j0, j1, j2, by rw [h27 j j1]; exact j3⟩, by rw [h21]; exact j4⟩
section XREADBOX
variable (G : gG) (l : Launch) (y : xP)
set_option maxRecDepth 8000 in
theorem c_X_readBox (z : mS) (p e lev : Int) (hb : byOk z) (hp : 0 ≤ p ∧ p < e ∧ e ≤ 1000) (hv : 0 ≤ lev ∧ lev ≤ 2) (hK : kI G y z) (hn : yn y ≤ 19) (ht : trB z (yn y)) : Ct G l q_X_readBox 7 1 14 [.ref (yc y 0), vI p, vI e, vI lev] (xW G y z) (fun r w => (¬ hdOk (z 1) p (e - p) lev ∧ r = some Value.null ∧ w = xW G y z) ∨ (hdOk (z 1) p (e - p) lev ∧ ∃ (b : Nat) (kp : Int → Option Nat) (R : va_W) (z' : mS), r = some (Value.ref b) ∧ w = xW G (yA y b kp R) z' ∧ kI G (yA y b kp R) z' ∧ nbx z z' (yn y) p (hdS (z 1) p (e - p)) (z 1 (p + 1)) (hdH (z 1) p) lev)) := by
  refine Ct.intro [some (.ref (yc y 0)), some (vI p), some (vI e), some (vI lev), none, none, none, none, none, none] (by decide) (Nat.le_of_ble_eq_true rfl) rfl (fun sz => ?_)
  generalize hQ : (fun r w => (¬ hdOk (z 1) p (e - p) lev ∧ r = some Value.null ∧ w = xW G y z) ∨ (hdOk (z 1) p (e - p) lev ∧ ∃ (b : Nat) (kp : Int → Option Nat) (R : va_W) (z' : mS), r = some (Value.ref b) ∧ w = xW G (yA y b kp R) z' ∧ kI G (yA y b kp R) z' ∧ nbx z z' (yn y) p (hdS (z 1) p (e - p)) (z 1 (p + 1)) (hdH (z 1) p) lev)) = Q
  have hb0 := hb p
  have hb1 := hb (p + 1)
  have hb2 := hb (p + 2)
  have hb3 := hb (p + 3)
  have hH : hdH (z 1) p = 2 ∨ hdH (z 1) p = 4 := by unfold hdH; split <;> omega
  have j123 : ∀ w h0, w = hdS (z 1) p (e - p) → h0 = hdH (z 1) p → hdOk (z 1) p (e - p) lev → WP (mth G l q_X_readBox 7 1 14 (xW G y z) sz Q) 0 0 (xW G y z) 123 [some (.ref (yc y 0)), some (vI p), some (vI e), some (vI lev), some (vI (e - p)), some (vI (z 1 p)), some (vI h0), some (vI w), none, none] [] := by
    intro w h0 hw hh h
    have h2 := h.1
    refine r_aload_n d_X_readBox_123 rfl rfl ?_
    refine r_get d_X_readBox_124 fl_X_7_0 0 rfl rfl ?_
    refine r_iload_n d_X_readBox_127 rfl ?_
    refine r_iconst d_X_readBox_128 ?_
    refine r_iadd d_X_readBox_129 ?_
    refine r_bald d_X_readBox_130 1 rfl (by omega) ?_
    refine r_sipush d_X_readBox_131 (by decide) ?_
    refine r_iand255B d_X_readBox_134 hb1 ?_
    refine r_istore d_X_readBox_135 (Nat.le_of_ble_eq_true rfl) rfl ?_
    show WP _ _ _ _ _ [_, _, _, _, _, _, _, _, _, _] _
    refine r_aload_n d_X_readBox_137 rfl rfl ?_
    refine r_iload d_X_readBox_138 rfl ?_
    refine r_iload_n d_X_readBox_140 rfl ?_
    refine r_cS2 d_X_readBox_141 lk_X_128 (c_X_kindOf G l _ (z 1 (p + 1)) lev (by unfold i32; omega) (by unfold i32; omega)) (Nat.le_of_ble_eq_true rfl) (rok rfl rfl) ⟨(Nat.le_of_ble_eq_true rfl), (Nat.le_of_ble_eq_true rfl)⟩ (fun r ws2 hq => ?_)
    obtain ⟨rfl, hw⟩ := hq; rw [hw]; clear hw
    show WP _ _ _ _ _ _ (_ :: _)
    have hkn := knO_b (z 1 (p + 1)) lev
    refine r_kV1 d_X_readBox_144 lk_X_132 (c_X_boxOf G l y z (knO (z 1 (p + 1)) lev).toNat (by omega) hK hn ht) 0 rfl rfl (Nat.le_of_ble_eq_true rfl) (rok rfl rfl) ⟨(Nat.le_of_ble_eq_true rfl), (Nat.le_of_ble_eq_true rfl)⟩ (fun r ws2 hq => ?_)
    obtain ⟨b, kp, R, zz, kk, rfl, hw2, hK2⟩ := hq; rw [hw2]; clear hw2
    show WP _ _ _ _ _ _ (_ :: _)
    rw [show (((knO (z 1 (p + 1)) lev).toNat : Nat) : Int) = knO (z 1 (p + 1)) lev by omega] at hK2 ⊢
    generalize hz1 : zA (sset z 21 (clO (knO (z 1 (p + 1)) lev)) (z 21 (clO (knO (z 1 (p + 1)) lev)) + 1)) (yn y) (clN (clO (knO (z 1 (p + 1)) lev))) (zR zz kk (knO (z 1 (p + 1)) lev)) = z1 at hK2 ⊢
    generalize hy1 : yA y b kp R = y1 at hK2 ⊢
    have hbo : b = yo y1 (yn y) := by rw [← hy1]; show b = updI (yo y) (yn y) b (yn y); rw [updI_at, if_pos rfl]
    have hk1 : -1 ≤ ((yn y : Nat) : Int) ∧ ((yn y : Nat) : Int) < yn y1 := by rw [← hy1]; show -1 ≤ ((yn y : Nat) : Int) ∧ ((yn y : Nat) : Int) < ((yn y + 1 : Nat) : Int); omega
    have e27 : z1 27 (yn y) = clN (clO (knO (z 1 (p + 1)) lev)) := by rw [← hz1]; unfold zA; rw [if_pos ⟨rfl, rfl⟩, if_pos rfl]
    have hc1 := clN_b (clO (knO (z 1 (p + 1)) lev))
    rw [← e27] at hc1
    have ew : ∀ c, c ≠ 27 → bcl c = true → z1 c (yn y) = zR zz kk (knO (z 1 (p + 1)) lev) c (yn y) := fun c h1 h2 => by rw [← hz1]; unfold zA; rw [if_pos ⟨rfl, h2⟩, if_neg h1]
    have eo : ∀ c j, (j ≠ (yn y : Int) ∨ bcl c = false) → c ≠ 21 → z1 c j = z c j := fun c j h1 h2 => by rw [← hz1, zA_no h1, sset_ne h2]
    refine r_astore d_X_readBox_147 (Nat.le_of_ble_eq_true rfl) rfl rfl ?_
    show WP _ _ _ _ _ [_, _, _, _, _, _, _, _, _, _] _
    rw [hbo]
    show WP _ _ _ (xW G y1 z1) _ _ _
    refine r_aload d_X_readBox_149 rfl rfl ?_
    refine r_iload d_X_readBox_151 rfl ?_
    refine r_putB (c := 4) d_X_readBox_153 fb_X_136 (((yn y : Nat) : Int)) hk1 hc1 rfl rfl rfl (bs_of (by decide) rfl) ?_
    refine r_aload d_X_readBox_156 rfl rfl ?_
    refine r_iload_n d_X_readBox_158 rfl ?_
    refine r_putB (c := 2) d_X_readBox_159 fb_X_139 (((yn y : Nat) : Int)) hk1 hc1 rfl rfl rfl (bs_of (by decide) rfl) ?_
    refine r_aload d_X_readBox_162 rfl rfl ?_
    refine r_iload d_X_readBox_164 rfl ?_
    refine r_putB (c := 5) d_X_readBox_166 fb_X_142 (((yn y : Nat) : Int)) hk1 hc1 rfl rfl rfl (bs_of (by decide) rfl) ?_
    refine r_aload d_X_readBox_169 rfl rfl ?_
    refine r_iload d_X_readBox_171 rfl ?_
    refine r_putB (c := 3) d_X_readBox_173 fb_X_145 (((yn y : Nat) : Int)) hk1 hc1 rfl rfl rfl (bs_of (by decide) rfl) ?_
    refine r_aload d_X_readBox_176 rfl rfl ?_
    refine r_iload_n d_X_readBox_178 rfl ?_
    refine r_putB (c := 6) d_X_readBox_179 fb_X_148 (((yn y : Nat) : Int)) hk1 hc1 rfl rfl rfl (bs_of (by decide) rfl) ?_
    refine r_aload d_X_readBox_182 rfl rfl ?_
    refine r_aret d_X_readBox_184 rfl (by first | exact Or.inl ⟨_, rfl⟩ | exact Or.inr ⟨_, rfl⟩) rfl (Nat.le_of_ble_eq_true rfl) (Nat.le_of_ble_eq_true rfl) ?_
    refine hQ ▸ Or.inr ⟨h, b, kp, R, _, by rw [← hbo], by rw [hy1]; exact rfl, ?_, ?_⟩
    · rw [hy1]; exact kI_cg (by rfl) (fun j hj => by rfl) hK2
    · refine ⟨fun c j hj hc => ?_, ?_, ?_, ?_, ?_, ?_, ?_, ?_, ?_, ?_, ?_, ?_⟩
      · rw [← eo c j hj hc]
        rcases hj with hj | hj
        · rw [sset_nj hj, sset_nj hj, sset_nj hj, sset_nj hj, sset_nj hj]
        · have h5 : ∀ c', bcl c' = true → c ≠ c' := fun c' h6 h7 => by subst h7; rw [hj] at h6; cases h6
          rw [sset_ne (h5 _ rfl), sset_ne (h5 _ rfl), sset_ne (h5 _ rfl), sset_ne (h5 _ rfl), sset_ne (h5 _ rfl)]
      · simp only [sset_at, updI_at, reduceIte, Nat.reduceEqDiff]
      · simp only [sset_at, updI_at, reduceIte, Nat.reduceEqDiff]; exact hw
      · simp only [sset_at, updI_at, reduceIte, Nat.reduceEqDiff]
      · simp only [sset_at, updI_at, reduceIte, Nat.reduceEqDiff]; exact hh
      · simp only [sset_at, updI_at, reduceIte, Nat.reduceEqDiff]
      · simp only [sset_at, updI_at, reduceIte, Nat.reduceEqDiff]; rw [ew 26 (by omega) rfl]; rfl
      · simp only [sset_at, updI_at, reduceIte, Nat.reduceEqDiff]; exact e27
      · simp only [sset_at, updI_at, reduceIte, Nat.reduceEqDiff]; rw [ew 23 (by omega) rfl]; rfl
      · simp only [sset_at, updI_at, reduceIte, Nat.reduceEqDiff]; rw [ew 24 (by omega) rfl]; rfl
      · simp only [sset_at, updI_at, reduceIte, Nat.reduceEqDiff]; rw [ew 25 (by omega) rfl]; rfl
      · simp only [sset_at, updI_at, reduceIte, Nat.reduceEqDiff]; rw [ew 18 (by omega) rfl]; rfl
  have j105 : ∀ w h0, w = hdS (z 1) p (e - p) → h0 = hdH (z 1) p → h0 ≤ e - p → ¬ (z 1 p = 0 ∧ 0 < lev) → 2 ≤ e - p → WP (mth G l q_X_readBox 7 1 14 (xW G y z) sz Q) 0 0 (xW G y z) 105 [some (.ref (yc y 0)), some (vI p), some (vI e), some (vI lev), some (vI (e - p)), some (vI (z 1 p)), some (vI h0), none, none, none] [vI w] := by
    intro w h0 hw hh h1 h2 h3
    have hS : 0 ≤ w ∧ w ≤ 70000 := by rw [hw]; unfold hdS; (repeat' split) <;> omega
    rw [← hh] at hH
    have hno : ¬ (h0 ≤ w ∧ w ≤ e - p) → ¬ hdOk (z 1) p (e - p) lev := by unfold hdOk; rw [← hw, ← hh]; omega
    refine r_istore d_X_readBox_105 (Nat.le_of_ble_eq_true rfl) rfl ?_
    show WP _ _ _ _ _ [_, _, _, _, _, _, _, _, _, _] _
    refine r_iload d_X_readBox_107 rfl ?_
    refine r_iload d_X_readBox_109 rfl ?_
    refine r_icmp_lt 121 d_X_readBox_111 (by decide) (by unfold i32; omega) (by unfold i32; omega) (fun h4 => ?_) (fun h4 => ?_)
    · refine r_null d_X_readBox_121 ?_
      refine r_aret d_X_readBox_122 rfl (by first | exact Or.inl ⟨_, rfl⟩ | exact Or.inr ⟨_, rfl⟩) rfl (Nat.le_of_ble_eq_true rfl) (Nat.le_of_ble_eq_true rfl) ?_
      exact hQ ▸ Or.inl ⟨hno (by omega), rfl, rfl⟩
    · refine r_iload d_X_readBox_114 rfl ?_
      refine r_iload d_X_readBox_116 rfl ?_
      refine r_icmp_le 123 d_X_readBox_118 (by decide) (by unfold i32; omega) (by unfold i32; omega) (fun h5 => ?_) (fun h5 => ?_)
      · exact j123 w h0 hw hh (by unfold hdOk; rw [← hw, ← hh]; omega)
      · refine r_null d_X_readBox_121 ?_
        refine r_aret d_X_readBox_122 rfl (by first | exact Or.inl ⟨_, rfl⟩ | exact Or.inr ⟨_, rfl⟩) rfl (Nat.le_of_ble_eq_true rfl) (Nat.le_of_ble_eq_true rfl) ?_
        exact hQ ▸ Or.inl ⟨hno (by omega), rfl, rfl⟩
  have j56 : ∀ h0, h0 = hdH (z 1) p → h0 ≤ e - p → ¬ (z 1 p = 0 ∧ 0 < lev) → 2 ≤ e - p → WP (mth G l q_X_readBox 7 1 14 (xW G y z) sz Q) 0 0 (xW G y z) 56 [some (.ref (yc y 0)), some (vI p), some (vI e), some (vI lev), some (vI (e - p)), some (vI (z 1 p)), some (vI h0), none, none, none] [] := by
    intro h0 hh h1 h2 h3
    refine r_iload d_X_readBox_56 rfl ?_
    refine r_iconst d_X_readBox_58 ?_
    refine r_icmp_ne 93 d_X_readBox_59 (by decide) (by unfold i32; omega) (by unfold i32; omega) (fun h4 => ?_) (fun h4 => ?_)
    · refine r_iload d_X_readBox_93 rfl ?_
      refine r_if_ne 103 d_X_readBox_95 (by decide) (by unfold i32; omega) (fun h5 => ?_) (fun h5 => ?_)
      · refine r_iload d_X_readBox_103 rfl ?_
        exact j105 _ h0 (by unfold hdS; rw [if_neg h5, if_neg h4]) hh h1 h2 h3
      · refine r_iload d_X_readBox_98 rfl ?_
        refine r_goto 105 d_X_readBox_100 (by decide) ?_
        exact j105 _ h0 (by unfold hdS; rw [if_pos (by omega)]) hh h1 h2 h3
    · have h40 : h0 = 4 := by rw [hh]; unfold hdH; rw [if_pos (by omega)]
      refine r_aload_n d_X_readBox_62 rfl rfl ?_
      refine r_get d_X_readBox_63 fl_X_7_0 0 rfl rfl ?_
      refine r_iload_n d_X_readBox_66 rfl ?_
      refine r_iconst d_X_readBox_67 ?_
      refine r_iadd d_X_readBox_68 ?_
      refine r_bald d_X_readBox_69 1 rfl (by omega) ?_
      refine r_sipush d_X_readBox_70 (by decide) ?_
      refine r_iand255B d_X_readBox_73 hb2 ?_
      refine r_bipush d_X_readBox_74 (by decide) ?_
      refine r_ishlR d_X_readBox_76 ?_
      rw [zI_shl8 hb2]
      refine r_aload_n d_X_readBox_77 rfl rfl ?_
      refine r_get d_X_readBox_78 fl_X_7_0 0 rfl rfl ?_
      refine r_iload_n d_X_readBox_81 rfl ?_
      refine r_iconst d_X_readBox_82 ?_
      refine r_iadd d_X_readBox_83 ?_
      refine r_bald d_X_readBox_84 1 rfl (by omega) ?_
      refine r_sipush d_X_readBox_85 (by decide) ?_
      refine r_iand255B d_X_readBox_88 hb3 ?_
      refine r_iorR d_X_readBox_89 ?_
      rw [zI_or8 hb2 hb3]
      refine r_goto 105 d_X_readBox_90 (by decide) ?_
      exact j105 _ h0 (by unfold hdS; rw [if_neg (by omega), if_pos (by omega)]) hh h1 h2 h3
  have j36 : ∀ h0, h0 = hdH (z 1) p → 2 ≤ e - p → WP (mth G l q_X_readBox 7 1 14 (xW G y z) sz Q) 0 0 (xW G y z) 36 [some (.ref (yc y 0)), some (vI p), some (vI e), some (vI lev), some (vI (e - p)), some (vI (z 1 p)), none, none, none, none] [vI h0] := by
    intro h0 hh h3
    rw [← hh] at hH
    refine r_istore d_X_readBox_36 (Nat.le_of_ble_eq_true rfl) rfl ?_
    show WP _ _ _ _ _ [_, _, _, _, _, _, _, _, _, _] _
    refine r_iload d_X_readBox_38 rfl ?_
    refine r_iload d_X_readBox_40 rfl ?_
    refine r_icmp_lt 54 d_X_readBox_42 (by decide) (by unfold i32; omega) (by unfold i32; omega) (fun h4 => ?_) (fun h4 => ?_)
    · refine r_null d_X_readBox_54 ?_
      refine r_aret d_X_readBox_55 rfl (by first | exact Or.inl ⟨_, rfl⟩ | exact Or.inr ⟨_, rfl⟩) rfl (Nat.le_of_ble_eq_true rfl) (Nat.le_of_ble_eq_true rfl) ?_
      exact hQ ▸ Or.inl ⟨by unfold hdOk; rw [← hh]; omega, rfl, rfl⟩
    · refine r_iload d_X_readBox_45 rfl ?_
      refine r_if_ne 56 d_X_readBox_47 (by decide) (by unfold i32; omega) (fun h5 => ?_) (fun h5 => ?_)
      · exact j56 h0 hh (by omega) (by omega) h3
      · refine r_iload_n d_X_readBox_50 rfl ?_
        refine r_if_le 56 d_X_readBox_51 (by decide) (by unfold i32; omega) (fun h6 => ?_) (fun h6 => ?_)
        · exact j56 h0 hh (by omega) (by omega) h3
        · refine r_null d_X_readBox_54 ?_
          refine r_aret d_X_readBox_55 rfl (by first | exact Or.inl ⟨_, rfl⟩ | exact Or.inr ⟨_, rfl⟩) rfl (Nat.le_of_ble_eq_true rfl) (Nat.le_of_ble_eq_true rfl) ?_
          exact hQ ▸ Or.inl ⟨by unfold hdOk; omega, rfl, rfl⟩
  refine r_iload_n d_X_readBox_0 rfl ?_
  refine r_iload_n d_X_readBox_1 rfl ?_
  refine r_isub d_X_readBox_2 ?_
  refine r_istore d_X_readBox_3 (Nat.le_of_ble_eq_true rfl) rfl ?_
  show WP _ _ _ _ _ [_, _, _, _, _, _, _, _, _, _] _
  refine r_iload d_X_readBox_5 rfl ?_
  refine r_iconst d_X_readBox_7 ?_
  refine r_icmp_ge 13 d_X_readBox_8 (by decide) (by unfold i32; omega) (by unfold i32; omega) (fun h1 => ?_) (fun h1 => ?_)
  · refine r_aload_n d_X_readBox_13 rfl rfl ?_
    refine r_get d_X_readBox_14 fl_X_7_0 0 rfl rfl ?_
    refine r_iload_n d_X_readBox_17 rfl ?_
    refine r_bald d_X_readBox_18 1 rfl (by omega) ?_
    refine r_sipush d_X_readBox_19 (by decide) ?_
    refine r_iand255B d_X_readBox_22 hb0 ?_
    refine r_istore d_X_readBox_23 (Nat.le_of_ble_eq_true rfl) rfl ?_
    show WP _ _ _ _ _ [_, _, _, _, _, _, _, _, _, _] _
    refine r_iload d_X_readBox_25 rfl ?_
    refine r_iconst d_X_readBox_27 ?_
    refine r_icmp_ne 35 d_X_readBox_28 (by decide) (by unfold i32; omega) (by unfold i32; omega) (fun h2 => ?_) (fun h2 => ?_)
    · refine r_iconst d_X_readBox_35 ?_
      exact j36 2 (by unfold hdH; rw [if_neg h2]) h1
    · refine r_iconst d_X_readBox_31 ?_
      refine r_goto 36 d_X_readBox_32 (by decide) ?_
      exact j36 4 (by unfold hdH; rw [if_pos (by omega)]) h1
  · refine r_null d_X_readBox_11 ?_
    refine r_aret d_X_readBox_12 rfl (by first | exact Or.inl ⟨_, rfl⟩ | exact Or.inr ⟨_, rfl⟩) rfl (Nat.le_of_ble_eq_true rfl) (Nat.le_of_ble_eq_true rfl) ?_
    exact hQ ▸ Or.inl ⟨by unfold hdOk; omega, rfl, rfl⟩
end XREADBOX
