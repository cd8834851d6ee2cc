abbrev q_M_check : Mi := (⟨"MovieBoxesModel", "check", "()I"⟩, prog_12_method_13_code, 7, (some .int))
theorem d_M_check_0 : decode prog_12_method_13_code 0 = .ok (.aload_n 0, 1) := by decide +kernel
theorem d_M_check_1 : decode prog_12_method_13_code 1 = .ok (.invokevirtual 75, 3) := by decide +kernel
set_option maxRecDepth 20000 in
theorem w_801 : Cond.methodLink "MovieBoxesModel" 75 ⟨"MovieBoxesModel", "read", "()I"⟩ ∈ gt := gt_of (in_t4 (List.mem_of_getElem? (i := 81) rfl)) rfl
set_option maxRecDepth 20000 in
theorem w_803 : Cond.instanceMethod ⟨"MovieBoxesModel", "read", "()I"⟩ ∈ gt := gt_of (in_t4 (List.mem_of_getElem? (i := 83) rfl)) rfl
set_option maxRecDepth 20000 in
theorem ws_M_read : Cond.selects "MovieBoxesModel" ⟨"MovieBoxesModel", "read", "()I"⟩ ⟨"MovieBoxesModel", "read", "()I"⟩ ∈ gt := gt_of (in_p1 (List.mem_of_getElem? (i := 13) rfl)) rfl
set_option maxRecDepth 20000 in
theorem w_804 : Cond.code ⟨"MovieBoxesModel", "read", "()I"⟩ prog_12_method_7_code 5 (some .int) ∈ gt := gt_of (in_t4 (List.mem_of_getElem? (i := 84) rfl)) rfl
theorem lk_M_75 : LkV "MovieBoxesModel" 75 q_M_read 0 := ⟨(List.forall_mem_cons.mpr ⟨w_801, (List.forall_mem_cons.mpr ⟨w_803, (List.forall_mem_cons.mpr ⟨ws_M_read, (List.forall_mem_cons.mpr ⟨w_8, (fun _ h => absurd h List.not_mem_nil)⟩)⟩)⟩)⟩), w_804, by decide +kernel⟩
theorem d_M_check_4 : decode prog_12_method_13_code 4 = .ok (.istore_n 1, 1) := by decide +kernel
theorem d_M_check_5 : decode prog_12_method_13_code 5 = .ok (.iload_n 1, 1) := by decide +kernel
theorem d_M_check_6 : decode prog_12_method_13_code 6 = .ok (.ifCond .le 5, 3) := by decide +kernel
theorem d_M_check_11 : decode prog_12_method_13_code 11 = .ok (.aload_n 0, 1) := by decide +kernel
theorem d_M_check_12 : decode prog_12_method_13_code 12 = .ok (.invokevirtual 79, 3) := by decide +kernel
set_option maxRecDepth 20000 in
theorem w_813 : Cond.methodLink "MovieBoxesModel" 79 ⟨"MovieBoxesModel", "kindsWrong", "()Z"⟩ ∈ gt := gt_of (in_t4 (List.mem_of_getElem? (i := 93) rfl)) rfl
set_option maxRecDepth 20000 in
theorem w_815 : Cond.instanceMethod ⟨"MovieBoxesModel", "kindsWrong", "()Z"⟩ ∈ gt := gt_of (in_t4 (List.mem_of_getElem? (i := 95) rfl)) rfl
set_option maxRecDepth 20000 in
theorem ws_M_kindsWrong : Cond.selects "MovieBoxesModel" ⟨"MovieBoxesModel", "kindsWrong", "()Z"⟩ ⟨"MovieBoxesModel", "kindsWrong", "()Z"⟩ ∈ gt := gt_of (in_p2 (List.mem_of_getElem? (i := 0) rfl)) rfl
set_option maxRecDepth 20000 in
theorem w_816 : Cond.code ⟨"MovieBoxesModel", "kindsWrong", "()Z"⟩ prog_12_method_14_code 6 (some .boolean) ∈ gt := gt_of (in_t4 (List.mem_of_getElem? (i := 96) rfl)) rfl
theorem lk_M_79 : LkV "MovieBoxesModel" 79 q_M_kindsWrong 0 := ⟨(List.forall_mem_cons.mpr ⟨w_813, (List.forall_mem_cons.mpr ⟨w_815, (List.forall_mem_cons.mpr ⟨ws_M_kindsWrong, (List.forall_mem_cons.mpr ⟨w_8, (fun _ h => absurd h List.not_mem_nil)⟩)⟩)⟩)⟩), w_816, by decide +kernel⟩
theorem d_M_check_15 : decode prog_12_method_13_code 15 = .ok (.ifCond .eq 5, 3) := by decide +kernel
theorem d_M_check_140 : decode prog_12_method_13_code 140 = .ok (.iload 5, 2) := by decide +kernel
theorem d_M_check_142 : decode prog_12_method_13_code 142 = .ok (.aload_n 0, 1) := by decide +kernel
theorem d_M_check_143 : decode prog_12_method_13_code 143 = .ok (.getfield 83, 3) := by decide +kernel
theorem d_M_check_146 : decode prog_12_method_13_code 146 = .ok (.if_icmp .ge 42, 3) := by decide +kernel
theorem d_M_check_188 : decode prog_12_method_13_code 188 = .ok (.iload 4, 2) := by decide +kernel
theorem d_M_check_190 : decode prog_12_method_13_code 190 = .ok (.ifCond .eq 8, 3) := by decide +kernel
theorem d_M_check_198 : decode prog_12_method_13_code 198 = .ok (.iconst 0, 1) := by decide +kernel
theorem d_M_check_199 : decode prog_12_method_13_code 199 = .ok (.ireturn, 1) := by decide +kernel
theorem d_M_check_193 : decode prog_12_method_13_code 193 = .ok (.bipush 6, 2) := by decide +kernel
theorem d_M_check_195 : decode prog_12_method_13_code 195 = .ok (.goto 4, 3) := by decide +kernel
theorem d_M_check_149 : decode prog_12_method_13_code 149 = .ok (.aload_n 0, 1) := by decide +kernel
theorem d_M_check_150 : decode prog_12_method_13_code 150 = .ok (.iload 5, 2) := by decide +kernel
theorem d_M_check_152 : decode prog_12_method_13_code 152 = .ok (.invokevirtual 93, 3) := by decide +kernel
set_option maxRecDepth 20000 in
theorem w_860 : Cond.methodLink "MovieBoxesModel" 93 ⟨"MovieBoxesModel", "settle", "(I)Z"⟩ ∈ gt := gt_of (in_t4 (List.mem_of_getElem? (i := 140) rfl)) rfl
set_option maxRecDepth 20000 in
theorem w_862 : Cond.instanceMethod ⟨"MovieBoxesModel", "settle", "(I)Z"⟩ ∈ gt := gt_of (in_t4 (List.mem_of_getElem? (i := 142) rfl)) rfl
set_option maxRecDepth 20000 in
theorem ws_M_settle : Cond.selects "MovieBoxesModel" ⟨"MovieBoxesModel", "settle", "(I)Z"⟩ ⟨"MovieBoxesModel", "settle", "(I)Z"⟩ ∈ gt := gt_of (in_p2 (List.mem_of_getElem? (i := 11) rfl)) rfl
set_option maxRecDepth 20000 in
theorem w_863 : Cond.code ⟨"MovieBoxesModel", "settle", "(I)Z"⟩ prog_12_method_26_code 8 (some .boolean) ∈ gt := gt_of (in_t4 (List.mem_of_getElem? (i := 143) rfl)) rfl
theorem lk_M_93 : LkV "MovieBoxesModel" 93 q_M_settle 1 := ⟨(List.forall_mem_cons.mpr ⟨w_860, (List.forall_mem_cons.mpr ⟨w_862, (List.forall_mem_cons.mpr ⟨ws_M_settle, (List.forall_mem_cons.mpr ⟨w_8, (fun _ h => absurd h List.not_mem_nil)⟩)⟩)⟩)⟩), w_863, by decide +kernel⟩
theorem d_M_check_180 : decode prog_12_method_13_code 180 = .ok (.istore 4, 2) := by decide +kernel
theorem d_M_check_182 : decode prog_12_method_13_code 182 = .ok (.iinc 5 1, 3) := by decide +kernel
theorem d_M_check_185 : decode prog_12_method_13_code 185 = .ok (.goto (-45), 3) := by decide +kernel
theorem d_M_check_163 : decode prog_12_method_13_code 163 = .ok (.istore 6, 2) := by decide +kernel
theorem d_M_check_165 : decode prog_12_method_13_code 165 = .ok (.iload 4, 2) := by decide +kernel
theorem d_M_check_167 : decode prog_12_method_13_code 167 = .ok (.ifCond .ne 8, 3) := by decide +kernel
theorem d_M_check_175 : decode prog_12_method_13_code 175 = .ok (.iconst 1, 1) := by decide +kernel
theorem d_M_check_176 : decode prog_12_method_13_code 176 = .ok (.goto 4, 3) := by decide +kernel
theorem d_M_check_170 : decode prog_12_method_13_code 170 = .ok (.iload 6, 2) := by decide +kernel
theorem d_M_check_172 : decode prog_12_method_13_code 172 = .ok (.ifCond .eq 7, 3) := by decide +kernel
theorem d_M_check_179 : decode prog_12_method_13_code 179 = .ok (.iconst 0, 1) := by decide +kernel
theorem d_M_check_155 : decode prog_12_method_13_code 155 = .ok (.ifCond .ne 7, 3) := by decide +kernel
theorem d_M_check_162 : decode prog_12_method_13_code 162 = .ok (.iconst 0, 1) := by decide +kernel
theorem d_M_check_158 : decode prog_12_method_13_code 158 = .ok (.iconst 1, 1) := by decide +kernel
theorem d_M_check_159 : decode prog_12_method_13_code 159 = .ok (.goto 4, 3) := by decide +kernel
theorem d_M_check_94 : decode prog_12_method_13_code 94 = .ok (.iload 4, 2) := by decide +kernel
theorem d_M_check_96 : decode prog_12_method_13_code 96 = .ok (.aload_n 0, 1) := by decide +kernel
theorem d_M_check_97 : decode prog_12_method_13_code 97 = .ok (.getfield 83, 3) := by decide +kernel
theorem d_M_check_100 : decode prog_12_method_13_code 100 = .ok (.if_icmp .ge 28, 3) := by decide +kernel
theorem d_M_check_128 : decode prog_12_method_13_code 128 = .ok (.iload_n 3, 1) := by decide +kernel
theorem d_M_check_129 : decode prog_12_method_13_code 129 = .ok (.ifCond .eq 5, 3) := by decide +kernel
theorem d_M_check_134 : decode prog_12_method_13_code 134 = .ok (.iconst 0, 1) := by decide +kernel
theorem d_M_check_135 : decode prog_12_method_13_code 135 = .ok (.istore 4, 2) := by decide +kernel
theorem d_M_check_137 : decode prog_12_method_13_code 137 = .ok (.iconst 0, 1) := by decide +kernel
theorem d_M_check_138 : decode prog_12_method_13_code 138 = .ok (.istore 5, 2) := by decide +kernel
theorem d_M_check_132 : decode prog_12_method_13_code 132 = .ok (.iconst 5, 1) := by decide +kernel
theorem d_M_check_133 : decode prog_12_method_13_code 133 = .ok (.ireturn, 1) := by decide +kernel
theorem d_M_check_121 : decode prog_12_method_13_code 121 = .ok (.istore_n 3, 1) := by decide +kernel
theorem d_M_check_122 : decode prog_12_method_13_code 122 = .ok (.iinc 4 1, 3) := by decide +kernel
theorem d_M_check_125 : decode prog_12_method_13_code 125 = .ok (.goto (-31), 3) := by decide +kernel
theorem d_M_check_103 : decode prog_12_method_13_code 103 = .ok (.iload_n 3, 1) := by decide +kernel
theorem d_M_check_104 : decode prog_12_method_13_code 104 = .ok (.ifCond .ne 12, 3) := by decide +kernel
theorem d_M_check_116 : decode prog_12_method_13_code 116 = .ok (.iconst 1, 1) := by decide +kernel
theorem d_M_check_117 : decode prog_12_method_13_code 117 = .ok (.goto 4, 3) := by decide +kernel
theorem d_M_check_107 : decode prog_12_method_13_code 107 = .ok (.aload_n 0, 1) := by decide +kernel
theorem d_M_check_108 : decode prog_12_method_13_code 108 = .ok (.iload 4, 2) := by decide +kernel
theorem d_M_check_110 : decode prog_12_method_13_code 110 = .ok (.invokevirtual 90, 3) := by decide +kernel
set_option maxRecDepth 20000 in
theorem w_832 : Cond.methodLink "MovieBoxesModel" 90 ⟨"MovieBoxesModel", "countsWrong", "(I)Z"⟩ ∈ gt := gt_of (in_t4 (List.mem_of_getElem? (i := 112) rfl)) rfl
set_option maxRecDepth 20000 in
theorem w_834 : Cond.instanceMethod ⟨"MovieBoxesModel", "countsWrong", "(I)Z"⟩ ∈ gt := gt_of (in_t4 (List.mem_of_getElem? (i := 114) rfl)) rfl
set_option maxRecDepth 20000 in
theorem ws_M_countsWrong : Cond.selects "MovieBoxesModel" ⟨"MovieBoxesModel", "countsWrong", "(I)Z"⟩ ⟨"MovieBoxesModel", "countsWrong", "(I)Z"⟩ ∈ gt := gt_of (in_p2 (List.mem_of_getElem? (i := 4) rfl)) rfl
set_option maxRecDepth 20000 in
theorem w_835 : Cond.code ⟨"MovieBoxesModel", "countsWrong", "(I)Z"⟩ prog_12_method_17_code 12 (some .boolean) ∈ gt := gt_of (in_t4 (List.mem_of_getElem? (i := 115) rfl)) rfl
theorem lk_M_90 : LkV "MovieBoxesModel" 90 q_M_countsWrong 1 := ⟨(List.forall_mem_cons.mpr ⟨w_832, (List.forall_mem_cons.mpr ⟨w_834, (List.forall_mem_cons.mpr ⟨ws_M_countsWrong, (List.forall_mem_cons.mpr ⟨w_8, (fun _ h => absurd h List.not_mem_nil)⟩)⟩)⟩)⟩), w_835, by decide +kernel⟩
theorem d_M_check_113 : decode prog_12_method_13_code 113 = .ok (.ifCond .eq 7, 3) := by decide +kernel
theorem d_M_check_120 : decode prog_12_method_13_code 120 = .ok (.iconst 0, 1) := by decide +kernel
theorem d_M_check_24 : decode prog_12_method_13_code 24 = .ok (.iload_n 3, 1) := by decide +kernel
theorem d_M_check_25 : decode prog_12_method_13_code 25 = .ok (.bipush 16, 2) := by decide +kernel
theorem d_M_check_27 : decode prog_12_method_13_code 27 = .ok (.if_icmp .ge 56, 3) := by decide +kernel
theorem d_M_check_83 : decode prog_12_method_13_code 83 = .ok (.iload_n 2, 1) := by decide +kernel
theorem d_M_check_84 : decode prog_12_method_13_code 84 = .ok (.ifCond .eq 5, 3) := by decide +kernel
theorem d_M_check_89 : decode prog_12_method_13_code 89 = .ok (.iconst 0, 1) := by decide +kernel
theorem d_M_check_90 : decode prog_12_method_13_code 90 = .ok (.istore_n 3, 1) := by decide +kernel
theorem d_M_check_91 : decode prog_12_method_13_code 91 = .ok (.iconst 0, 1) := by decide +kernel
theorem d_M_check_92 : decode prog_12_method_13_code 92 = .ok (.istore 4, 2) := by decide +kernel
theorem d_M_check_87 : decode prog_12_method_13_code 87 = .ok (.iconst 4, 1) := by decide +kernel
theorem d_M_check_88 : decode prog_12_method_13_code 88 = .ok (.ireturn, 1) := by decide +kernel
theorem d_M_check_76 : decode prog_12_method_13_code 76 = .ok (.istore_n 2, 1) := by decide +kernel
theorem d_M_check_77 : decode prog_12_method_13_code 77 = .ok (.iinc 3 1, 3) := by decide +kernel
theorem d_M_check_80 : decode prog_12_method_13_code 80 = .ok (.goto (-56), 3) := by decide +kernel
theorem d_M_check_30 : decode prog_12_method_13_code 30 = .ok (.iload_n 2, 1) := by decide +kernel
theorem d_M_check_31 : decode prog_12_method_13_code 31 = .ok (.ifCond .ne 40, 3) := by decide +kernel
theorem d_M_check_71 : decode prog_12_method_13_code 71 = .ok (.iconst 1, 1) := by decide +kernel
theorem d_M_check_72 : decode prog_12_method_13_code 72 = .ok (.goto 4, 3) := by decide +kernel
theorem d_M_check_34 : decode prog_12_method_13_code 34 = .ok (.iload_n 3, 1) := by decide +kernel
theorem d_M_check_35 : decode prog_12_method_13_code 35 = .ok (.bipush 8, 2) := by decide +kernel
theorem d_M_check_37 : decode prog_12_method_13_code 37 = .ok (.aload_n 0, 1) := by decide +kernel
theorem d_M_check_38 : decode prog_12_method_13_code 38 = .ok (.getfield 83, 3) := by decide +kernel
theorem d_M_check_41 : decode prog_12_method_13_code 41 = .ok (.imul, 1) := by decide +kernel
theorem d_M_check_42 : decode prog_12_method_13_code 42 = .ok (.if_icmp .ge 33, 3) := by decide +kernel
theorem d_M_check_75 : decode prog_12_method_13_code 75 = .ok (.iconst 0, 1) := by decide +kernel
theorem d_M_check_45 : decode prog_12_method_13_code 45 = .ok (.aload_n 0, 1) := by decide +kernel
theorem d_M_check_46 : decode prog_12_method_13_code 46 = .ok (.getfield 40, 3) := by decide +kernel
theorem d_M_check_49 : decode prog_12_method_13_code 49 = .ok (.iload_n 3, 1) := by decide +kernel
theorem d_M_check_50 : decode prog_12_method_13_code 50 = .ok (.iaload, 1) := by decide +kernel
theorem d_M_check_51 : decode prog_12_method_13_code 51 = .ok (.ifCond .lt 24, 3) := by decide +kernel
theorem d_M_check_54 : decode prog_12_method_13_code 54 = .ok (.aload_n 0, 1) := by decide +kernel
theorem d_M_check_55 : decode prog_12_method_13_code 55 = .ok (.aload_n 0, 1) := by decide +kernel
theorem d_M_check_56 : decode prog_12_method_13_code 56 = .ok (.getfield 40, 3) := by decide +kernel
theorem d_M_check_59 : decode prog_12_method_13_code 59 = .ok (.iload_n 3, 1) := by decide +kernel
theorem d_M_check_60 : decode prog_12_method_13_code 60 = .ok (.iaload, 1) := by decide +kernel
theorem d_M_check_61 : decode prog_12_method_13_code 61 = .ok (.iload_n 3, 1) := by decide +kernel
theorem d_M_check_62 : decode prog_12_method_13_code 62 = .ok (.bipush 8, 2) := by decide +kernel
theorem d_M_check_65 : decode prog_12_method_13_code 65 = .ok (.invokevirtual 86, 3) := by decide +kernel
set_option maxRecDepth 20000 in
theorem w_820 : Cond.methodLink "MovieBoxesModel" 86 ⟨"MovieBoxesModel", "rowsWrong", "(II)Z"⟩ ∈ gt := gt_of (in_t4 (List.mem_of_getElem? (i := 100) rfl)) rfl
set_option maxRecDepth 20000 in
theorem w_822 : Cond.instanceMethod ⟨"MovieBoxesModel", "rowsWrong", "(II)Z"⟩ ∈ gt := gt_of (in_t4 (List.mem_of_getElem? (i := 102) rfl)) rfl
set_option maxRecDepth 20000 in
theorem ws_M_rowsWrong : Cond.selects "MovieBoxesModel" ⟨"MovieBoxesModel", "rowsWrong", "(II)Z"⟩ ⟨"MovieBoxesModel", "rowsWrong", "(II)Z"⟩ ∈ gt := gt_of (in_p2 (List.mem_of_getElem? (i := 1) rfl)) rfl
set_option maxRecDepth 20000 in
theorem w_823 : Cond.code ⟨"MovieBoxesModel", "rowsWrong", "(II)Z"⟩ prog_12_method_15_code 10 (some .boolean) ∈ gt := gt_of (in_t4 (List.mem_of_getElem? (i := 103) rfl)) rfl
theorem lk_M_86 : LkV "MovieBoxesModel" 86 q_M_rowsWrong 2 := ⟨(List.forall_mem_cons.mpr ⟨w_820, (List.forall_mem_cons.mpr ⟨w_822, (List.forall_mem_cons.mpr ⟨ws_M_rowsWrong, (List.forall_mem_cons.mpr ⟨w_8, (fun _ h => absurd h List.not_mem_nil)⟩)⟩)⟩)⟩), w_823, by decide +kernel⟩
theorem d_M_check_68 : decode prog_12_method_13_code 68 = .ok (.ifCond .eq 7, 3) := by decide +kernel
theorem d_M_check_64 : decode prog_12_method_13_code 64 = .ok (.irem, 1) := by decide +kernel
theorem d_M_check_20 : decode prog_12_method_13_code 20 = .ok (.iconst 0, 1) := by decide +kernel
theorem d_M_check_21 : decode prog_12_method_13_code 21 = .ok (.istore_n 2, 1) := by decide +kernel
theorem d_M_check_22 : decode prog_12_method_13_code 22 = .ok (.iconst 0, 1) := by decide +kernel
theorem d_M_check_23 : decode prog_12_method_13_code 23 = .ok (.istore_n 3, 1) := by decide +kernel
theorem d_M_check_18 : decode prog_12_method_13_code 18 = .ok (.iconst 3, 1) := by decide +kernel
theorem d_M_check_19 : decode prog_12_method_13_code 19 = .ok (.ireturn, 1) := by decide +kernel
theorem d_M_check_9 : decode prog_12_method_13_code 9 = .ok (.iload_n 1, 1) := by decide +kernel
theorem d_M_check_10 : decode prog_12_method_13_code 10 = .ok (.ireturn, 1) := by decide +kernel
/-! ===== the model: check ===== -/
/-- what check answers and leaves: f the answer, v the state -/
def ckR (s0 : mS) (f : Int) (v : mS) : Prop :=
  let s := (rdL 100 (rd0 s0) 0 0).2
  let u := (kdF s (s 0 1).toNat).1
  (0 < (rdL 100 (rd0 s0) 0 0).1 ∧ f = (rdL 100 (rd0 s0) 0 0).1 ∧ v = s) ∨ ((rdL 100 (rd0 s0) 0 0).1 = 0 ∧ ((kdR s = 1 ∧ f = 3 ∧ v = u) ∨ (kdR s = 0 ∧ ((rowsAny u ∧ f = 4 ∧ v = u) ∨ (¬ rowsAny u ∧ ((cntAny u ∧ f = 5 ∧ v = u) ∨ (¬ cntAny u ∧ v = stT u (u 0 3).toNat ∧ ((datAny u ∧ f = 6) ∨ (¬ datAny u ∧ f = 0)))))))))
section MODEL12
variable (G : gG) (l : Launch) (ad : Nat → Nat)
theorem c_M_check (s0 : mS) (hm : mI s0) : Ct G l q_M_check 4 0 0 [.ref (ad 0)] (mW G ad s0) (fun r w => ∃ f v, ckR s0 f v ∧ r = some (vI f) ∧ w = mW G ad v) := by
  refine Ct.intro [some (.ref (ad 0)), none, none, none, none, none, none] (by decide) (Nat.le_of_ble_eq_true rfl) rfl (fun sz => ?_)
  generalize hQ : (fun r w => ∃ f v, ckR s0 f v ∧ r = some (vI f) ∧ w = mW G ad v) = Q
  obtain ⟨f1, hr, ho, hk1, hk0⟩ := rd_ok s0 hm
  refine r_aload_n d_M_check_0 rfl rfl ?_
  refine r_cV0 d_M_check_1 lk_M_75 (c_M_read G l ad s0 hm) 0 rfl rfl (Nat.le_of_ble_eq_true rfl) (rok rfl rfl) ⟨(Nat.le_of_ble_eq_true rfl), (Nat.le_of_ble_eq_true rfl)⟩ (fun r ws2 hq => ?_)
  obtain ⟨rfl, rfl⟩ := hq
  show WP _ _ _ _ _ _ (_ :: _)
  have hdef : ∀ f v, ckR s0 f v → Q (some (vI f)) (mW G ad v) := fun f v h => by rw [← hQ]; exact ⟨f, v, h, rfl, rfl⟩
  clear hQ
  unfold ckR at hdef
  generalize hs : (rdL 100 (rd0 s0) 0 0).2 = s at hr ho hk1 hk0 hdef ⊢
  generalize hf1 : (rdL 100 (rd0 s0) 0 0).1 = f0 at f1 hdef ⊢
  dsimp only at hdef
  have hb : byOk s := fun j => by rw [hk1 1 (Or.inl rfl)]; exact hm.2 j
  refine r_istore_n d_M_check_4 (Nat.le_of_ble_eq_true rfl) rfl ?_
  show WP _ _ _ _ _ [_, _, _, _, _, _, _] _
  refine r_iload_n d_M_check_5 rfl ?_
  refine r_if_le 11 d_M_check_6 (by decide) (by unfold i32; omega) (fun g1 => ?_) (fun g1 => ?_)
  · have f00 : f0 = 0 := by omega
    subst f00
    refine r_aload_n d_M_check_11 rfl rfl ?_
    refine r_cV0 d_M_check_12 lk_M_79 (c_M_kindsWrong G l ad s hr ho) 0 rfl rfl (Nat.le_of_ble_eq_true rfl) (rok rfl rfl) ⟨(Nat.le_of_ble_eq_true rfl), (Nat.le_of_ble_eq_true rfl)⟩ (fun r ws2 hq => ?_)
    obtain ⟨rfl, rfl⟩ := hq
    show WP _ _ _ _ _ _ (_ :: _)
    have hkb := kdR_b hr ho
    refine r_if_eq 20 d_M_check_15 (by decide) (by unfold i32; omega) (fun g2 => ?_) (fun g2 => ?_)
    · obtain ⟨hI, hT⟩ := kdF_I s hr ho (s 0 1).toNat (by have := hr.1; omega)
      obtain ⟨-, k1, k2, -, k4⟩ := kdR_0 hr ho g2
      have hbu : byOk (kdF s (s 0 1).toNat).1 := fun j => by rw [hI.1 1 (by omega) (by omega) (by omega)]; exact hb j
      have hto := trOk_of hr ho g2 rfl hbu
      generalize hu : (kdF s (s 0 1).toNat).1 = u at hI k1 k2 hbu hto hdef ⊢
      have i8 := hI.2.2.2.2.2.2.2.1
      have hrx : rdOk u := by
        unfold rdOk
        rw [hI.2.2.1, hI.1 2 (by omega) (by omega) (by omega), hI.1 3 (by omega) (by omega) (by omega), hI.1 4 (by omega) (by omega) (by omega), hI.1 5 (by omega) (by omega) (by omega), hI.1 6 (by omega) (by omega) (by omega), hI.1 7 (by omega) (by omega) (by omega)]
        exact hr
      have hcn := hr.1
      have hcu : u 0 1 = s 0 1 := hI.2.2.1
      -- data
      have l3 : ∀ (m t : Nat) (x6 : Option Value), (t : Int) + m = u 0 3 → (¬ rowsAny u) → (¬ cntAny u) → WP (mth G l q_M_check 4 0 0 (mW G ad s0) sz Q) 0 0 (mW G ad (stT u t)) 140 [some (.ref (ad 0)), some (vI 0), some (vI 0), some (vI 0), some (vI (b2 (exB (fun t => datBad u t) t))), some (vI t), x6] [] := by
        intro m
        induction m with
        | zero =>
          intro t x6 ht hw hc
          have e0 : stT u t 0 = u 0 := agr_stT u t 0 (by omega)
          have htt : (u 0 3).toNat = t := by omega
          have hbb := b2_b (exB (fun t => datBad u t) t)
          refine r_iload d_M_check_140 rfl ?_
          refine r_aload_n d_M_check_142 rfl rfl ?_
          refine r_get d_M_check_143 fl_M_83_7 0 rfl rfl ?_
          rw [e0]
          refine r_icmp_ge 188 d_M_check_146 (by decide) (by unfold i32; omega) (by unfold i32; omega) (fun q1 => ?_) (fun q1 => ?_)
          · refine r_iload d_M_check_188 rfl ?_
            refine r_if_eq 198 d_M_check_190 (by decide) (by unfold i32; omega) (fun q2 => ?_) (fun q2 => ?_)
            · refine r_iconst d_M_check_198 ?_
              refine r_iret d_M_check_199 rfl (Nat.le_of_ble_eq_true rfl) (Nat.le_of_ble_eq_true rfl) ?_
              refine hdef _ _ (Or.inr ⟨rfl, Or.inr ⟨g2, Or.inr ⟨hw, Or.inr ⟨hc, by rw [htt], Or.inr ⟨?_, rfl⟩⟩⟩⟩⟩)
              unfold datAny; rw [htt]; exact b2_0.mp q2
            · refine r_bipush d_M_check_193 (by decide) ?_
              refine r_goto 199 d_M_check_195 (by decide) ?_
              refine r_iret d_M_check_199 rfl (Nat.le_of_ble_eq_true rfl) (Nat.le_of_ble_eq_true rfl) ?_
              refine hdef _ _ (Or.inr ⟨rfl, Or.inr ⟨g2, Or.inr ⟨hw, Or.inr ⟨hc, by rw [htt], Or.inl ⟨?_, rfl⟩⟩⟩⟩⟩)
              unfold datAny; rw [htt]; exact b2_1.mp (by omega)
          · exact absurd q1 (by omega)
        | succ m ih =>
          intro t x6 ht hw hc
          have ha := agr_stT u t
          have e0 : stT u t 0 = u 0 := ha 0 (by omega)
          have hstep : stT u (t + 1) = stS (stT u t) t (pv u (pbx u t) 0).toNat := rfl
          have ih2 := fun x6 => ih (t + 1) x6 (by omega) hw hc
          rw [hstep, b2_c (exB_s (fun t => datBad u t) t)] at ih2
          have hbb := b2_b (exB (fun t => datBad u t) t)
          generalize exB (fun t => datBad u t) t = E at ih2 hbb ⊢
          generalize stT u t = v at ha e0 ih2 ⊢
          have hct : ¬ cntBad u t := fun h => hc ⟨t, by omega, h⟩
          refine r_iload d_M_check_140 rfl ?_
          refine r_aload_n d_M_check_142 rfl rfl ?_
          refine r_get d_M_check_143 fl_M_83_7 0 rfl rfl ?_
          rw [e0]
          refine r_icmp_ge 188 d_M_check_146 (by decide) (by unfold i32; omega) (by unfold i32; omega) (fun q1 => ?_) (fun q1 => ?_)
          · exact absurd q1 (by omega)
          refine r_aload_n d_M_check_149 rfl rfl ?_
          refine r_iload d_M_check_150 rfl ?_
          refine r_cV1 d_M_check_152 lk_M_93 (c_M_settle G l ad v t (byOk_cg ha hbu) (by omega) (trOk_cg ha ((hto hw).2.2 t (by omega) (by omega))) (rdOk_cg ha hrx) (fun h => hct ((cntBad_cg ha t).mp h))) 0 rfl rfl (Nat.le_of_ble_eq_true rfl) (rok rfl rfl) ⟨(Nat.le_of_ble_eq_true rfl), (Nat.le_of_ble_eq_true rfl)⟩ (fun r ws2 hq => ?_)
          obtain ⟨rfl, rfl⟩ := hq
          show WP _ _ _ _ _ _ (_ :: _)
          rw [pbx_cg ha, pv_cg ha, show (fun c : Int => hmO v t c.toNat < 0) = (fun c : Int => hmO u t c.toNat < 0) from by funext c; rw [hmO_cg ha]]
          show WP _ 0 0 _ _ _ (vI (b2 (¬ datBad u t)) :: _)
          have hdb := b2_b (¬ datBad u t)
          have j180 : ∀ x, x = b2 (E ∨ datBad u t) → ∀ (x6 : Option Value), WP (mth G l q_M_check 4 0 0 (mW G ad s0) sz Q) 0 0 (mW G ad (stS v t (pv u (pbx u t) 0).toNat)) 180 [some (.ref (ad 0)), some (vI 0), some (vI 0), some (vI 0), some (vI (b2 E)), some (vI t), x6] [vI x] := by
            intro x hx x6
            rw [hx]
            refine r_istore d_M_check_180 (Nat.le_of_ble_eq_true rfl) rfl ?_
            show WP _ _ _ _ _ [_, _, _, _, _, _, _] _
            refine r_iinc d_M_check_182 rfl (Nat.le_of_ble_eq_true rfl) rfl ?_
            show WP _ _ _ _ _ [_, _, _, _, _, _, _] _
            refine r_goto 140 d_M_check_185 (by decide) ?_
            exact ih2 _
          have j163 : ∀ y, y = b2 (datBad u t) → WP (mth G l q_M_check 4 0 0 (mW G ad s0) sz Q) 0 0 (mW G ad (stS v t (pv u (pbx u t) 0).toNat)) 163 [some (.ref (ad 0)), some (vI 0), some (vI 0), some (vI 0), some (vI (b2 E)), some (vI t), x6] [vI y] := by
            intro y hy
            have hyb := b2_b (datBad u t)
            rw [← hy] at hyb
            refine r_istore d_M_check_163 (Nat.le_of_ble_eq_true rfl) rfl ?_
            show WP _ _ _ _ _ [_, _, _, _, _, _, _] _
            refine r_iload d_M_check_165 rfl ?_
            refine r_if_ne 175 d_M_check_167 (by decide) (by unfold i32; omega) (fun q2 => ?_) (fun q2 => ?_)
            · refine r_iconst d_M_check_175 ?_
              refine r_goto 180 d_M_check_176 (by decide) ?_
              exact j180 1 (by rw [b2_t]; exact Or.inl (b2_1.mp (by omega))) _
            refine r_iload d_M_check_170 rfl ?_
            refine r_if_eq 179 d_M_check_172 (by decide) (by unfold i32; omega) (fun q3 => ?_) (fun q3 => ?_)
            · refine r_iconst d_M_check_179 ?_
              refine j180 0 ?_ _
              rw [b2_f]
              rintro (h | h)
              · exact b2_0.mp (show b2 E = 0 by omega) h
              · exact b2_0.mp (show b2 (datBad u t) = 0 by omega) h
            · refine r_iconst d_M_check_175 ?_
              refine r_goto 180 d_M_check_176 (by decide) ?_
              exact j180 1 (by rw [b2_t]; exact Or.inr (b2_1.mp (by omega))) _
          refine r_if_ne 162 d_M_check_155 (by decide) (by unfold i32; omega) (fun q2 => ?_) (fun q2 => ?_)
          · refine r_iconst d_M_check_162 ?_
            exact j163 0 (by rw [b2_f]; exact b2_1.mp (by omega))
          · refine r_iconst d_M_check_158 ?_
            refine r_goto 163 d_M_check_159 (by decide) ?_
            exact j163 1 (by rw [b2_t]; exact Classical.byContradiction (b2_0.mp (by omega)))
      -- counts
      have l2 : ∀ (m t : Nat) (x5 x6 : Option Value), (t : Int) + m = u 0 3 → (¬ rowsAny u) → WP (mth G l q_M_check 4 0 0 (mW G ad s0) sz Q) 0 0 (mW G ad u) 94 [some (.ref (ad 0)), some (vI 0), some (vI 0), some (vI (b2 (exB (fun t => cntBad u t) t))), some (vI t), x5, x6] [] := by
        intro m
        induction m with
        | zero =>
          intro t x5 x6 ht hw
          have htt : (u 0 3).toNat = t := by omega
          have hbb := b2_b (exB (fun t => cntBad u t) t)
          refine r_iload d_M_check_94 rfl ?_
          refine r_aload_n d_M_check_96 rfl rfl ?_
          refine r_get d_M_check_97 fl_M_83_7 0 rfl rfl ?_
          refine r_icmp_ge 128 d_M_check_100 (by decide) (by unfold i32; omega) (by unfold i32; omega) (fun q1 => ?_) (fun q1 => ?_)
          · refine r_iload_n d_M_check_128 rfl ?_
            refine r_if_eq 134 d_M_check_129 (by decide) (by unfold i32; omega) (fun q2 => ?_) (fun q2 => ?_)
            · have hc : ¬ cntAny u := by unfold cntAny; rw [htt]; exact b2_0.mp q2
              rw [q2]
              refine r_iconst d_M_check_134 ?_
              refine r_istore d_M_check_135 (Nat.le_of_ble_eq_true rfl) rfl ?_
              show WP _ _ _ _ _ [_, _, _, _, _, _, _] _
              refine r_iconst d_M_check_137 ?_
              refine r_istore d_M_check_138 (Nat.le_of_ble_eq_true rfl) rfl ?_
              show WP _ _ _ _ _ [_, _, _, _, _, _, _] _
              have J := l3 (u 0 3).toNat 0 x6 (by omega) hw hc
              rw [b2_f (exB_0 _)] at J
              exact J
            · refine r_iconst d_M_check_132 ?_
              refine r_iret d_M_check_133 rfl (Nat.le_of_ble_eq_true rfl) (Nat.le_of_ble_eq_true rfl) ?_
              refine hdef _ _ (Or.inr ⟨rfl, Or.inr ⟨g2, Or.inr ⟨hw, Or.inl ⟨?_, rfl, rfl⟩⟩⟩⟩)
              unfold cntAny; rw [htt]; exact b2_1.mp (by omega)
          · exact absurd q1 (by omega)
        | succ m ih =>
          intro t x5 x6 ht hw
          have ih2 := ih (t + 1) x5 x6 (by omega) hw
          rw [b2_c (exB_s (fun t => cntBad u t) t)] at ih2
          have hbb := b2_b (exB (fun t => cntBad u t) t)
          generalize exB (fun t => cntBad u t) t = E at ih2 hbb ⊢
          have J : ∀ x, x = b2 (E ∨ cntBad u t) → WP (mth G l q_M_check 4 0 0 (mW G ad s0) sz Q) 0 0 (mW G ad u) 121 [some (.ref (ad 0)), some (vI 0), some (vI 0), some (vI (b2 E)), some (vI t), x5, x6] [vI x] := by
            intro x hx
            rw [hx]
            refine r_istore_n d_M_check_121 (Nat.le_of_ble_eq_true rfl) rfl ?_
            show WP _ _ _ _ _ [_, _, _, _, _, _, _] _
            refine r_iinc d_M_check_122 rfl (Nat.le_of_ble_eq_true rfl) rfl ?_
            show WP _ _ _ _ _ [_, _, _, _, _, _, _] _
            refine r_goto 94 d_M_check_125 (by decide) ?_
            exact ih2
          refine r_iload d_M_check_94 rfl ?_
          refine r_aload_n d_M_check_96 rfl rfl ?_
          refine r_get d_M_check_97 fl_M_83_7 0 rfl rfl ?_
          refine r_icmp_ge 128 d_M_check_100 (by decide) (by unfold i32; omega) (by unfold i32; omega) (fun q1 => ?_) (fun q1 => ?_)
          · exact absurd q1 (by omega)
          refine r_iload_n d_M_check_103 rfl ?_
          refine r_if_ne 116 d_M_check_104 (by decide) (by unfold i32; omega) (fun q2 => ?_) (fun q2 => ?_)
          · refine r_iconst d_M_check_116 ?_
            refine r_goto 121 d_M_check_117 (by decide) ?_
            exact J 1 (by rw [b2_t]; exact Or.inl (b2_1.mp (by omega)))
          have hnE : ¬ E := b2_0.mp (by omega)
          refine r_aload_n d_M_check_107 rfl rfl ?_
          refine r_iload d_M_check_108 rfl ?_
          refine r_cV1 d_M_check_110 lk_M_90 (c_M_countsWrong G l ad u t hbu (by omega) ((hto hw).2.2 t (by omega) (by omega))) 0 rfl rfl (Nat.le_of_ble_eq_true rfl) (rok rfl rfl) ⟨(Nat.le_of_ble_eq_true rfl), (Nat.le_of_ble_eq_true rfl)⟩ (fun r ws2 hq => ?_)
          obtain ⟨rfl, rfl⟩ := hq
          show WP _ _ _ _ _ _ (_ :: _)
          have hcb := b2_b (cntBad u t)
          refine r_if_eq 120 d_M_check_113 (by decide) (by unfold i32; omega) (fun q3 => ?_) (fun q3 => ?_)
          · refine r_iconst d_M_check_120 ?_
            exact J 0 (by rw [b2_f]; rintro (h | h); exact hnE h; exact b2_0.mp q3 h)
          · refine r_iconst d_M_check_116 ?_
            refine r_goto 121 d_M_check_117 (by decide) ?_
            exact J 1 (by rw [b2_t]; exact Or.inr (b2_1.mp (by omega)))
      -- rows
      have l1 : ∀ (m k : Nat) (x4 x5 x6 : Option Value), k + m = 16 → WP (mth G l q_M_check 4 0 0 (mW G ad s0) sz Q) 0 0 (mW G ad u) 24 [some (.ref (ad 0)), some (vI 0), some (vI (b2 (exB (fun k => k < 8 * u 0 3 ∧ 0 ≤ u 11 k ∧ rowsBad u (u 11 k) (k % 8)) k))), some (vI k), x4, x5, x6] [] := by
        intro m
        induction m with
        | zero =>
          intro k x4 x5 x6 hk
          have hkk : k = 16 := by omega
          subst hkk
          have hbb := b2_b (exB (fun k => k < 8 * u 0 3 ∧ 0 ≤ u 11 k ∧ rowsBad u (u 11 k) (k % 8)) 16)
          refine r_iload_n d_M_check_24 rfl ?_
          refine r_bipush d_M_check_25 (by decide) ?_
          refine r_icmp_ge 83 d_M_check_27 (by decide) (by unfold i32; omega) (by unfold i32; omega) (fun q1 => ?_) (fun q1 => ?_)
          · refine r_iload_n d_M_check_83 rfl ?_
            refine r_if_eq 89 d_M_check_84 (by decide) (by unfold i32; omega) (fun q2 => ?_) (fun q2 => ?_)
            · rw [q2]
              refine r_iconst d_M_check_89 ?_
              refine r_istore_n d_M_check_90 (Nat.le_of_ble_eq_true rfl) rfl ?_
              show WP _ _ _ _ _ [_, _, _, _, _, _, _] _
              refine r_iconst d_M_check_91 ?_
              refine r_istore d_M_check_92 (Nat.le_of_ble_eq_true rfl) rfl ?_
              show WP _ _ _ _ _ [_, _, _, _, _, _, _] _
              have J := l2 (u 0 3).toNat 0 x5 x6 (by omega) (b2_0.mp q2)
              rw [b2_f (exB_0 _)] at J
              exact J
            · refine r_iconst d_M_check_87 ?_
              refine r_iret d_M_check_88 rfl (Nat.le_of_ble_eq_true rfl) (Nat.le_of_ble_eq_true rfl) ?_
              exact hdef _ _ (Or.inr ⟨rfl, Or.inr ⟨g2, Or.inl ⟨b2_1.mp (hbb.resolve_left q2), rfl, rfl⟩⟩⟩)
          · exact absurd q1 (by omega)
        | succ m ih =>
          intro k x4 x5 x6 hk
          have ih2 := ih (k + 1) x4 x5 x6 (by omega)
          rw [b2_c (exB_s (fun k => k < 8 * u 0 3 ∧ 0 ≤ u 11 k ∧ rowsBad u (u 11 k) (k % 8)) k)] at ih2
          have hbb := b2_b (exB (fun k => k < 8 * u 0 3 ∧ 0 ≤ u 11 k ∧ rowsBad u (u 11 k) (k % 8)) k)
          generalize exB (fun k => k < 8 * u 0 3 ∧ 0 ≤ u 11 k ∧ rowsBad u (u 11 k) (k % 8)) k = E at ih2 hbb ⊢
          have J : ∀ x, x = b2 (E ∨ ((k : Int) < 8 * u 0 3 ∧ 0 ≤ u 11 k ∧ rowsBad u (u 11 k) (k % 8))) → WP (mth G l q_M_check 4 0 0 (mW G ad s0) sz Q) 0 0 (mW G ad u) 76 [some (.ref (ad 0)), some (vI 0), some (vI (b2 E)), some (vI k), x4, x5, x6] [vI x] := by
            intro x hx
            rw [hx]
            refine r_istore_n d_M_check_76 (Nat.le_of_ble_eq_true rfl) rfl ?_
            show WP _ _ _ _ _ [_, _, _, _, _, _, _] _
            refine r_iinc d_M_check_77 rfl (Nat.le_of_ble_eq_true rfl) rfl ?_
            show WP _ _ _ _ _ [_, _, _, _, _, _, _] _
            refine r_goto 24 d_M_check_80 (by decide) ?_
            exact ih2
          have h11 := i8 k (by omega) (by omega)
          refine r_iload_n d_M_check_24 rfl ?_
          refine r_bipush d_M_check_25 (by decide) ?_
          refine r_icmp_ge 83 d_M_check_27 (by decide) (by unfold i32; omega) (by unfold i32; omega) (fun q1 => ?_) (fun q1 => ?_)
          · exact absurd q1 (by omega)
          refine r_iload_n d_M_check_30 rfl ?_
          refine r_if_ne 71 d_M_check_31 (by decide) (by unfold i32; omega) (fun q2 => ?_) (fun q2 => ?_)
          · refine r_iconst d_M_check_71 ?_
            refine r_goto 76 d_M_check_72 (by decide) ?_
            exact J 1 (by rw [b2_t]; exact Or.inl (b2_1.mp (by omega)))
          have hnE : ¬ E := b2_0.mp (by omega)
          refine r_iload_n d_M_check_34 rfl ?_
          refine r_bipush d_M_check_35 (by decide) ?_
          refine r_aload_n d_M_check_37 rfl rfl ?_
          refine r_get d_M_check_38 fl_M_83_7 0 rfl rfl ?_
          refine r_imul d_M_check_41 ?_
          refine r_icmp_ge 75 d_M_check_42 (by decide) (by unfold i32; omega) (by unfold i32; omega) (fun q3 => ?_) (fun q3 => ?_)
          · refine r_iconst d_M_check_75 ?_
            exact J 0 (by rw [b2_f]; rintro (h | h); exact hnE h; omega)
          refine r_aload_n d_M_check_45 rfl rfl ?_
          refine r_get d_M_check_46 fl_M_40_7 0 rfl rfl ?_
          refine r_iload_n d_M_check_49 rfl ?_
          refine r_iald d_M_check_50 11 rfl (by omega) ?_
          refine r_if_lt 75 d_M_check_51 (by decide) (by unfold i32; omega) (fun q4 => ?_) (fun q4 => ?_)
          · refine r_iconst d_M_check_75 ?_
            exact J 0 (by rw [b2_f]; rintro (h | h); exact hnE h; omega)
          have hx := hrx.2 (u 11 k) (by omega) (by omega)
          refine r_aload_n d_M_check_54 rfl rfl ?_
          refine r_aload_n d_M_check_55 rfl rfl ?_
          refine r_get d_M_check_56 fl_M_40_7 0 rfl rfl ?_
          refine r_iload_n d_M_check_59 rfl ?_
          refine r_iald d_M_check_60 11 rfl (by omega) ?_
          refine r_iload_n d_M_check_61 rfl ?_
          refine r_bipush d_M_check_62 (by decide) ?_
          refine r_irem d_M_check_64 (by omega) (by omega) ?_
          refine r_cV2 d_M_check_65 lk_M_86 (c_M_rowsWrong G l ad u (u 11 k) ((k : Int) % 8) hbu (by omega) (by omega) (by omega)) 0 rfl rfl (Nat.le_of_ble_eq_true rfl) (rok rfl rfl) ⟨(Nat.le_of_ble_eq_true rfl), (Nat.le_of_ble_eq_true rfl)⟩ (fun r ws2 hq => ?_)
          obtain ⟨rfl, rfl⟩ := hq
          show WP _ _ _ _ _ _ (_ :: _)
          have hcb := b2_b (rowsBad u (u 11 k) ((k : Int) % 8))
          refine r_if_eq 75 d_M_check_68 (by decide) (by unfold i32; omega) (fun q5 => ?_) (fun q5 => ?_)
          · refine r_iconst d_M_check_75 ?_
            exact J 0 (by rw [b2_f]; rintro (h | h); exact hnE h; exact b2_0.mp q5 h.2.2)
          · refine r_iconst d_M_check_71 ?_
            refine r_goto 76 d_M_check_72 (by decide) ?_
            exact J 1 (by rw [b2_t]; exact Or.inr ⟨by omega, by omega, b2_1.mp (by omega)⟩)
      refine r_iconst d_M_check_20 ?_
      refine r_istore_n d_M_check_21 (Nat.le_of_ble_eq_true rfl) rfl ?_
      show WP _ _ _ _ _ [_, _, _, _, _, _, _] _
      refine r_iconst d_M_check_22 ?_
      refine r_istore_n d_M_check_23 (Nat.le_of_ble_eq_true rfl) rfl ?_
      show WP _ _ _ _ _ [_, _, _, _, _, _, _] _
      have J := l1 16 0 none none none (by omega)
      rw [b2_f (exB_0 _)] at J
      exact J
    · refine r_iconst d_M_check_18 ?_
      refine r_iret d_M_check_19 rfl (Nat.le_of_ble_eq_true rfl) (Nat.le_of_ble_eq_true rfl) ?_
      exact hdef _ _ (Or.inr ⟨rfl, Or.inl ⟨by omega, rfl, rfl⟩⟩)
  · refine r_iload_n d_M_check_9 rfl ?_
    refine r_iret d_M_check_10 rfl (Nat.le_of_ble_eq_true rfl) (Nat.le_of_ble_eq_true rfl) ?_
    exact hdef _ _ (Or.inl ⟨by omega, rfl, rfl⟩)
end MODEL12
