abbrev q_X_sample : Mi := (⟨"MovieBoxes", "sample", "(III)I"⟩, prog_1_method_24_code, 5, (some .int))
theorem d_X_sample_0 : decode prog_1_method_24_code 0 = .ok (.aload_n 0, 1) := by decide +kernel
theorem d_X_sample_1 : decode prog_1_method_24_code 1 = .ok (.iload_n 1, 1) := by decide +kernel
theorem d_X_sample_2 : decode prog_1_method_24_code 2 = .ok (.invokevirtual 259, 3) := by decide +kernel
theorem d_X_sample_25 : decode prog_1_method_24_code 25 = .ok (.sipush (-1000), 3) := by decide +kernel
theorem d_X_sample_28 : decode prog_1_method_24_code 28 = .ok (.ireturn, 1) := by decide +kernel
theorem d_X_sample_5 : decode prog_1_method_24_code 5 = .ok (.astore 4, 2) := by decide +kernel
theorem d_X_sample_7 : decode prog_1_method_24_code 7 = .ok (.aload 4, 2) := by decide +kernel
theorem d_X_sample_9 : decode prog_1_method_24_code 9 = .ok (.ifnull 16, 3) := by decide +kernel
theorem d_X_sample_12 : decode prog_1_method_24_code 12 = .ok (.iload_n 2, 1) := by decide +kernel
theorem d_X_sample_13 : decode prog_1_method_24_code 13 = .ok (.ifCond .lt 12, 3) := by decide +kernel
theorem d_X_sample_16 : decode prog_1_method_24_code 16 = .ok (.iload_n 2, 1) := by decide +kernel
theorem d_X_sample_17 : decode prog_1_method_24_code 17 = .ok (.aload 4, 2) := by decide +kernel
theorem d_X_sample_19 : decode prog_1_method_24_code 19 = .ok (.invokevirtual 263, 3) := by decide +kernel
theorem d_X_sample_22 : decode prog_1_method_24_code 22 = .ok (.if_icmp .lt 7, 3) := by decide +kernel
theorem d_X_sample_85 : decode prog_1_method_24_code 85 = .ok (.invokevirtual 266, 3) := by decide +kernel
set_option maxRecDepth 20000 in
theorem w_588 : Cond.methodLink "MovieBoxes" 266 ⟨"MovieBoxes$Track", "placeOf", "([BIZ)I"⟩ ∈ gt := gt_of (in_t3 (List.mem_of_getElem? (i := 108) rfl)) rfl
set_option maxRecDepth 20000 in
theorem w_589 : Cond.instanceMethod ⟨"MovieBoxes$Track", "placeOf", "([BIZ)I"⟩ ∈ gt := gt_of (in_t3 (List.mem_of_getElem? (i := 109) rfl)) rfl
set_option maxRecDepth 20000 in
theorem w_590 : Cond.selects "MovieBoxes$Track" ⟨"MovieBoxes$Track", "placeOf", "([BIZ)I"⟩ ⟨"MovieBoxes$Track", "placeOf", "([BIZ)I"⟩ ∈ gt := gt_of (in_t3 (List.mem_of_getElem? (i := 110) rfl)) rfl
set_option maxRecDepth 20000 in
theorem w_591 : Cond.code ⟨"MovieBoxes$Track", "placeOf", "([BIZ)I"⟩ prog_9_method_10_code 11 (some .int) ∈ gt := gt_of (in_t3 (List.mem_of_getElem? (i := 111) rfl)) rfl
theorem lk_X_266 : LkV "MovieBoxes" 266 q_K_placeOf 3 := ⟨(List.forall_mem_cons.mpr ⟨w_588, (List.forall_mem_cons.mpr ⟨w_589, (List.forall_mem_cons.mpr ⟨w_590, (List.forall_mem_cons.mpr ⟨w_7, (fun _ h => absurd h List.not_mem_nil)⟩)⟩)⟩)⟩), w_591, by decide +kernel⟩
theorem d_X_sample_88 : decode prog_1_method_24_code 88 = .ok (.ireturn, 1) := by decide +kernel
theorem d_X_sample_29 : decode prog_1_method_24_code 29 = .ok (.iload_n 3, 1) := by decide +kernel
theorem d_X_sample_30 : decode prog_1_method_24_code 30 = .ok (.tableswitch 120 0 5 #[38, 59, 76, 87, 109, 38], 38) := by decide +kernel
theorem d_X_sample_68 : decode prog_1_method_24_code 68 = .ok (.aload 4, 2) := by decide +kernel
theorem d_X_sample_70 : decode prog_1_method_24_code 70 = .ok (.aload_n 0, 1) := by decide +kernel
theorem d_X_sample_71 : decode prog_1_method_24_code 71 = .ok (.getfield 7, 3) := by decide +kernel
theorem d_X_sample_74 : decode prog_1_method_24_code 74 = .ok (.iload_n 2, 1) := by decide +kernel
theorem d_X_sample_75 : decode prog_1_method_24_code 75 = .ok (.iload_n 3, 1) := by decide +kernel
theorem d_X_sample_76 : decode prog_1_method_24_code 76 = .ok (.iconst 5, 1) := by decide +kernel
theorem d_X_sample_77 : decode prog_1_method_24_code 77 = .ok (.if_icmp .ne 7, 3) := by decide +kernel
theorem d_X_sample_84 : decode prog_1_method_24_code 84 = .ok (.iconst 0, 1) := by decide +kernel
theorem d_X_sample_89 : decode prog_1_method_24_code 89 = .ok (.aload 4, 2) := by decide +kernel
theorem d_X_sample_91 : decode prog_1_method_24_code 91 = .ok (.getfield 234, 3) := by decide +kernel
theorem d_X_sample_94 : decode prog_1_method_24_code 94 = .ok (.iconst 3, 1) := by decide +kernel
theorem d_X_sample_95 : decode prog_1_method_24_code 95 = .ok (.aaload, 1) := by decide +kernel
theorem d_X_sample_96 : decode prog_1_method_24_code 96 = .ok (.aload_n 0, 1) := by decide +kernel
theorem d_X_sample_97 : decode prog_1_method_24_code 97 = .ok (.getfield 7, 3) := by decide +kernel
theorem d_X_sample_100 : decode prog_1_method_24_code 100 = .ok (.iload_n 2, 1) := by decide +kernel
theorem d_X_sample_101 : decode prog_1_method_24_code 101 = .ok (.iconst 0, 1) := by decide +kernel
theorem d_X_sample_102 : decode prog_1_method_24_code 102 = .ok (.invokevirtual 241, 3) := by decide +kernel
theorem d_X_sample_105 : decode prog_1_method_24_code 105 = .ok (.ireturn, 1) := by decide +kernel
theorem d_X_sample_106 : decode prog_1_method_24_code 106 = .ok (.aload 4, 2) := by decide +kernel
theorem d_X_sample_108 : decode prog_1_method_24_code 108 = .ok (.aload_n 0, 1) := by decide +kernel
theorem d_X_sample_109 : decode prog_1_method_24_code 109 = .ok (.getfield 7, 3) := by decide +kernel
theorem d_X_sample_112 : decode prog_1_method_24_code 112 = .ok (.iload_n 2, 1) := by decide +kernel
theorem d_X_sample_113 : decode prog_1_method_24_code 113 = .ok (.invokevirtual 270, 3) := by decide +kernel
set_option maxRecDepth 20000 in
theorem w_592 : Cond.methodLink "MovieBoxes" 270 ⟨"MovieBoxes$Track", "decodeTime", "([BI)I"⟩ ∈ gt := gt_of (in_t3 (List.mem_of_getElem? (i := 112) rfl)) rfl
set_option maxRecDepth 20000 in
theorem w_593 : Cond.instanceMethod ⟨"MovieBoxes$Track", "decodeTime", "([BI)I"⟩ ∈ gt := gt_of (in_t3 (List.mem_of_getElem? (i := 113) rfl)) rfl
set_option maxRecDepth 20000 in
theorem w_594 : Cond.selects "MovieBoxes$Track" ⟨"MovieBoxes$Track", "decodeTime", "([BI)I"⟩ ⟨"MovieBoxes$Track", "decodeTime", "([BI)I"⟩ ∈ gt := gt_of (in_t3 (List.mem_of_getElem? (i := 114) rfl)) rfl
set_option maxRecDepth 20000 in
theorem w_595 : Cond.code ⟨"MovieBoxes$Track", "decodeTime", "([BI)I"⟩ prog_9_method_7_code 7 (some .int) ∈ gt := gt_of (in_t3 (List.mem_of_getElem? (i := 115) rfl)) rfl
theorem lk_X_270 : LkV "MovieBoxes" 270 q_K_decodeTime 2 := ⟨(List.forall_mem_cons.mpr ⟨w_592, (List.forall_mem_cons.mpr ⟨w_593, (List.forall_mem_cons.mpr ⟨w_594, (List.forall_mem_cons.mpr ⟨w_7, (fun _ h => absurd h List.not_mem_nil)⟩)⟩)⟩)⟩), w_595, by decide +kernel⟩
theorem d_X_sample_116 : decode prog_1_method_24_code 116 = .ok (.ireturn, 1) := by decide +kernel
theorem d_X_sample_117 : decode prog_1_method_24_code 117 = .ok (.aload 4, 2) := by decide +kernel
theorem d_X_sample_119 : decode prog_1_method_24_code 119 = .ok (.aload_n 0, 1) := by decide +kernel
theorem d_X_sample_120 : decode prog_1_method_24_code 120 = .ok (.getfield 7, 3) := by decide +kernel
theorem d_X_sample_123 : decode prog_1_method_24_code 123 = .ok (.iload_n 2, 1) := by decide +kernel
theorem d_X_sample_124 : decode prog_1_method_24_code 124 = .ok (.invokevirtual 270, 3) := by decide +kernel
theorem d_X_sample_127 : decode prog_1_method_24_code 127 = .ok (.aload 4, 2) := by decide +kernel
theorem d_X_sample_129 : decode prog_1_method_24_code 129 = .ok (.aload_n 0, 1) := by decide +kernel
theorem d_X_sample_130 : decode prog_1_method_24_code 130 = .ok (.getfield 7, 3) := by decide +kernel
theorem d_X_sample_133 : decode prog_1_method_24_code 133 = .ok (.iload_n 2, 1) := by decide +kernel
theorem d_X_sample_134 : decode prog_1_method_24_code 134 = .ok (.invokevirtual 273, 3) := by decide +kernel
set_option maxRecDepth 20000 in
theorem w_597 : Cond.methodLink "MovieBoxes" 273 ⟨"MovieBoxes$Track", "shift", "([BI)I"⟩ ∈ gt := gt_of (in_t3 (List.mem_of_getElem? (i := 117) rfl)) rfl
set_option maxRecDepth 20000 in
theorem w_598 : Cond.instanceMethod ⟨"MovieBoxes$Track", "shift", "([BI)I"⟩ ∈ gt := gt_of (in_t3 (List.mem_of_getElem? (i := 118) rfl)) rfl
set_option maxRecDepth 20000 in
theorem w_599 : Cond.selects "MovieBoxes$Track" ⟨"MovieBoxes$Track", "shift", "([BI)I"⟩ ⟨"MovieBoxes$Track", "shift", "([BI)I"⟩ ∈ gt := gt_of (in_t3 (List.mem_of_getElem? (i := 119) rfl)) rfl
set_option maxRecDepth 20000 in
theorem w_600 : Cond.code ⟨"MovieBoxes$Track", "shift", "([BI)I"⟩ prog_9_method_8_code 3 (some .int) ∈ gt := gt_of (in_t3 (List.mem_of_getElem? (i := 120) rfl)) rfl
theorem lk_X_273 : LkV "MovieBoxes" 273 q_K_shift 2 := ⟨(List.forall_mem_cons.mpr ⟨w_597, (List.forall_mem_cons.mpr ⟨w_598, (List.forall_mem_cons.mpr ⟨w_599, (List.forall_mem_cons.mpr ⟨w_7, (fun _ h => absurd h List.not_mem_nil)⟩)⟩)⟩)⟩), w_600, by decide +kernel⟩
theorem d_X_sample_137 : decode prog_1_method_24_code 137 = .ok (.iadd, 1) := by decide +kernel
theorem d_X_sample_138 : decode prog_1_method_24_code 138 = .ok (.ireturn, 1) := by decide +kernel
theorem d_X_sample_139 : decode prog_1_method_24_code 139 = .ok (.aload 4, 2) := by decide +kernel
theorem d_X_sample_141 : decode prog_1_method_24_code 141 = .ok (.aload_n 0, 1) := by decide +kernel
theorem d_X_sample_142 : decode prog_1_method_24_code 142 = .ok (.getfield 7, 3) := by decide +kernel
theorem d_X_sample_145 : decode prog_1_method_24_code 145 = .ok (.iload_n 2, 1) := by decide +kernel
theorem d_X_sample_146 : decode prog_1_method_24_code 146 = .ok (.invokevirtual 276, 3) := by decide +kernel
set_option maxRecDepth 20000 in
theorem w_608 : Cond.methodLink "MovieBoxes" 276 ⟨"MovieBoxes$Track", "sync", "([BI)I"⟩ ∈ gt := gt_of (in_t3 (List.mem_of_getElem? (i := 128) rfl)) rfl
set_option maxRecDepth 20000 in
theorem w_609 : Cond.instanceMethod ⟨"MovieBoxes$Track", "sync", "([BI)I"⟩ ∈ gt := gt_of (in_t3 (List.mem_of_getElem? (i := 129) rfl)) rfl
set_option maxRecDepth 20000 in
theorem w_610 : Cond.selects "MovieBoxes$Track" ⟨"MovieBoxes$Track", "sync", "([BI)I"⟩ ⟨"MovieBoxes$Track", "sync", "([BI)I"⟩ ∈ gt := gt_of (in_t3 (List.mem_of_getElem? (i := 130) rfl)) rfl
set_option maxRecDepth 20000 in
theorem w_611 : Cond.code ⟨"MovieBoxes$Track", "sync", "([BI)I"⟩ prog_9_method_9_code 6 (some .int) ∈ gt := gt_of (in_t3 (List.mem_of_getElem? (i := 131) rfl)) rfl
theorem lk_X_276 : LkV "MovieBoxes" 276 q_K_sync 2 := ⟨(List.forall_mem_cons.mpr ⟨w_608, (List.forall_mem_cons.mpr ⟨w_609, (List.forall_mem_cons.mpr ⟨w_610, (List.forall_mem_cons.mpr ⟨w_7, (fun _ h => absurd h List.not_mem_nil)⟩)⟩)⟩)⟩), w_611, by decide +kernel⟩
theorem d_X_sample_149 : decode prog_1_method_24_code 149 = .ok (.ireturn, 1) := by decide +kernel
theorem d_X_sample_80 : decode prog_1_method_24_code 80 = .ok (.iconst 1, 1) := by decide +kernel
theorem d_X_sample_81 : decode prog_1_method_24_code 81 = .ok (.goto 4, 3) := by decide +kernel
theorem d_X_sample_150 : decode prog_1_method_24_code 150 = .ok (.sipush (-1000), 3) := by decide +kernel
theorem d_X_sample_153 : decode prog_1_method_24_code 153 = .ok (.ireturn, 1) := by decide +kernel
abbrev q_X_shown : Mi := (⟨"MovieBoxes", "shown", "(II)I"⟩, prog_1_method_25_code, 11, (some .int))
theorem d_X_shown_0 : decode prog_1_method_25_code 0 = .ok (.aload_n 0, 1) := by decide +kernel
theorem d_X_shown_1 : decode prog_1_method_25_code 1 = .ok (.iload_n 1, 1) := by decide +kernel
theorem d_X_shown_2 : decode prog_1_method_25_code 2 = .ok (.invokevirtual 259, 3) := by decide +kernel
theorem d_X_shown_27 : decode prog_1_method_25_code 27 = .ok (.istore 4, 2) := by decide +kernel
theorem d_X_shown_29 : decode prog_1_method_25_code 29 = .ok (.iload 4, 2) := by decide +kernel
theorem d_X_shown_31 : decode prog_1_method_25_code 31 = .ok (.ifCond .ge 7, 3) := by decide +kernel
theorem d_X_shown_34 : decode prog_1_method_25_code 34 = .ok (.sipush (-1000), 3) := by decide +kernel
theorem d_X_shown_37 : decode prog_1_method_25_code 37 = .ok (.ireturn, 1) := by decide +kernel
theorem d_X_shown_5 : decode prog_1_method_25_code 5 = .ok (.astore_n 3, 1) := by decide +kernel
theorem d_X_shown_6 : decode prog_1_method_25_code 6 = .ok (.aload_n 3, 1) := by decide +kernel
theorem d_X_shown_7 : decode prog_1_method_25_code 7 = .ok (.ifnull 7, 3) := by decide +kernel
theorem d_X_shown_10 : decode prog_1_method_25_code 10 = .ok (.iload_n 2, 1) := by decide +kernel
theorem d_X_shown_11 : decode prog_1_method_25_code 11 = .ok (.ifCond .ge 7, 3) := by decide +kernel
theorem d_X_shown_18 : decode prog_1_method_25_code 18 = .ok (.aload_n 3, 1) := by decide +kernel
theorem d_X_shown_19 : decode prog_1_method_25_code 19 = .ok (.aload_n 0, 1) := by decide +kernel
theorem d_X_shown_20 : decode prog_1_method_25_code 20 = .ok (.getfield 7, 3) := by decide +kernel
theorem d_X_shown_23 : decode prog_1_method_25_code 23 = .ok (.iload_n 2, 1) := by decide +kernel
theorem d_X_shown_24 : decode prog_1_method_25_code 24 = .ok (.invokevirtual 279, 3) := by decide +kernel
set_option maxRecDepth 20000 in
theorem w_616 : Cond.methodLink "MovieBoxes" 279 ⟨"MovieBoxes$Track", "mediaTime", "([BI)I"⟩ ∈ gt := gt_of (in_t3 (List.mem_of_getElem? (i := 136) rfl)) rfl
set_option maxRecDepth 20000 in
theorem w_617 : Cond.instanceMethod ⟨"MovieBoxes$Track", "mediaTime", "([BI)I"⟩ ∈ gt := gt_of (in_t3 (List.mem_of_getElem? (i := 137) rfl)) rfl
set_option maxRecDepth 20000 in
theorem w_618 : Cond.selects "MovieBoxes$Track" ⟨"MovieBoxes$Track", "mediaTime", "([BI)I"⟩ ⟨"MovieBoxes$Track", "mediaTime", "([BI)I"⟩ ∈ gt := gt_of (in_t3 (List.mem_of_getElem? (i := 138) rfl)) rfl
set_option maxRecDepth 20000 in
theorem w_619 : Cond.code ⟨"MovieBoxes$Track", "mediaTime", "([BI)I"⟩ prog_9_method_11_code 7 (some .int) ∈ gt := gt_of (in_t3 (List.mem_of_getElem? (i := 139) rfl)) rfl
theorem lk_X_279 : LkV "MovieBoxes" 279 q_K_mediaTime 2 := ⟨(List.forall_mem_cons.mpr ⟨w_616, (List.forall_mem_cons.mpr ⟨w_617, (List.forall_mem_cons.mpr ⟨w_618, (List.forall_mem_cons.mpr ⟨w_7, (fun _ h => absurd h List.not_mem_nil)⟩)⟩)⟩)⟩), w_619, by decide +kernel⟩
theorem d_X_shown_46 : decode prog_1_method_25_code 46 = .ok (.iload 7, 2) := by decide +kernel
theorem d_X_shown_48 : decode prog_1_method_25_code 48 = .ok (.aload_n 3, 1) := by decide +kernel
theorem d_X_shown_49 : decode prog_1_method_25_code 49 = .ok (.invokevirtual 263, 3) := by decide +kernel
theorem d_X_shown_52 : decode prog_1_method_25_code 52 = .ok (.if_icmp .ge 69, 3) := by decide +kernel
theorem d_X_shown_121 : decode prog_1_method_25_code 121 = .ok (.sipush (-1000), 3) := by decide +kernel
theorem d_X_shown_124 : decode prog_1_method_25_code 124 = .ok (.ireturn, 1) := by decide +kernel
theorem d_X_shown_107 : decode prog_1_method_25_code 107 = .ok (.lload 5, 2) := by decide +kernel
theorem d_X_shown_109 : decode prog_1_method_25_code 109 = .ok (.iload 8, 2) := by decide +kernel
theorem d_X_shown_111 : decode prog_1_method_25_code 111 = .ok (.i2l, 1) := by decide +kernel
theorem d_X_shown_112 : decode prog_1_method_25_code 112 = .ok (.lsub, 1) := by decide +kernel
theorem d_X_shown_113 : decode prog_1_method_25_code 113 = .ok (.lstore 5, 2) := by decide +kernel
theorem d_X_shown_115 : decode prog_1_method_25_code 115 = .ok (.iinc 7 1, 3) := by decide +kernel
theorem d_X_shown_118 : decode prog_1_method_25_code 118 = .ok (.goto (-72), 3) := by decide +kernel
theorem d_X_shown_55 : decode prog_1_method_25_code 55 = .ok (.aload_n 3, 1) := by decide +kernel
theorem d_X_shown_56 : decode prog_1_method_25_code 56 = .ok (.getfield 234, 3) := by decide +kernel
theorem d_X_shown_59 : decode prog_1_method_25_code 59 = .ok (.iconst 0, 1) := by decide +kernel
theorem d_X_shown_60 : decode prog_1_method_25_code 60 = .ok (.aaload, 1) := by decide +kernel
theorem d_X_shown_61 : decode prog_1_method_25_code 61 = .ok (.aload_n 0, 1) := by decide +kernel
theorem d_X_shown_62 : decode prog_1_method_25_code 62 = .ok (.getfield 7, 3) := by decide +kernel
theorem d_X_shown_65 : decode prog_1_method_25_code 65 = .ok (.iload 7, 2) := by decide +kernel
theorem d_X_shown_67 : decode prog_1_method_25_code 67 = .ok (.invokevirtual 282, 3) := by decide +kernel
set_option maxRecDepth 20000 in
theorem w_620 : Cond.methodLink "MovieBoxes" 282 ⟨"MovieBoxes$Table", "valueAt", "([BI)I"⟩ ∈ gt := gt_of (in_t3 (List.mem_of_getElem? (i := 140) rfl)) rfl
theorem lk_X_282 : LkV "MovieBoxes" 282 q_T_valueAt 2 := ⟨(List.forall_mem_cons.mpr ⟨w_620, (List.forall_mem_cons.mpr ⟨w_602, (List.forall_mem_cons.mpr ⟨w_603, (List.forall_mem_cons.mpr ⟨w_12, (fun _ h => absurd h List.not_mem_nil)⟩)⟩)⟩)⟩), w_607, by decide +kernel⟩
theorem d_X_shown_70 : decode prog_1_method_25_code 70 = .ok (.istore 8, 2) := by decide +kernel
theorem d_X_shown_72 : decode prog_1_method_25_code 72 = .ok (.lload 5, 2) := by decide +kernel
theorem d_X_shown_74 : decode prog_1_method_25_code 74 = .ok (.aload_n 3, 1) := by decide +kernel
theorem d_X_shown_75 : decode prog_1_method_25_code 75 = .ok (.aload_n 0, 1) := by decide +kernel
theorem d_X_shown_76 : decode prog_1_method_25_code 76 = .ok (.getfield 7, 3) := by decide +kernel
theorem d_X_shown_79 : decode prog_1_method_25_code 79 = .ok (.iload 7, 2) := by decide +kernel
theorem d_X_shown_81 : decode prog_1_method_25_code 81 = .ok (.invokevirtual 273, 3) := by decide +kernel
theorem d_X_shown_84 : decode prog_1_method_25_code 84 = .ok (.i2l, 1) := by decide +kernel
theorem d_X_shown_85 : decode prog_1_method_25_code 85 = .ok (.lsub, 1) := by decide +kernel
theorem d_X_shown_86 : decode prog_1_method_25_code 86 = .ok (.lstore 9, 2) := by decide +kernel
theorem d_X_shown_88 : decode prog_1_method_25_code 88 = .ok (.lload 9, 2) := by decide +kernel
theorem d_X_shown_90 : decode prog_1_method_25_code 90 = .ok (.lconst 0, 1) := by decide +kernel
theorem d_X_shown_91 : decode prog_1_method_25_code 91 = .ok (.lcmp, 1) := by decide +kernel
theorem d_X_shown_92 : decode prog_1_method_25_code 92 = .ok (.ifCond .lt 15, 3) := by decide +kernel
theorem d_X_shown_95 : decode prog_1_method_25_code 95 = .ok (.lload 9, 2) := by decide +kernel
theorem d_X_shown_97 : decode prog_1_method_25_code 97 = .ok (.iload 8, 2) := by decide +kernel
theorem d_X_shown_99 : decode prog_1_method_25_code 99 = .ok (.i2l, 1) := by decide +kernel
theorem d_X_shown_100 : decode prog_1_method_25_code 100 = .ok (.lcmp, 1) := by decide +kernel
theorem d_X_shown_101 : decode prog_1_method_25_code 101 = .ok (.ifCond .ge 6, 3) := by decide +kernel
theorem d_X_shown_104 : decode prog_1_method_25_code 104 = .ok (.iload 7, 2) := by decide +kernel
theorem d_X_shown_106 : decode prog_1_method_25_code 106 = .ok (.ireturn, 1) := by decide +kernel
theorem d_X_shown_38 : decode prog_1_method_25_code 38 = .ok (.iload 4, 2) := by decide +kernel
theorem d_X_shown_40 : decode prog_1_method_25_code 40 = .ok (.i2l, 1) := by decide +kernel
theorem d_X_shown_41 : decode prog_1_method_25_code 41 = .ok (.lstore 5, 2) := by decide +kernel
theorem d_X_shown_43 : decode prog_1_method_25_code 43 = .ok (.iconst 0, 1) := by decide +kernel
theorem d_X_shown_44 : decode prog_1_method_25_code 44 = .ok (.istore 7, 2) := by decide +kernel
theorem d_X_shown_14 : decode prog_1_method_25_code 14 = .ok (.iconst (-1), 1) := by decide +kernel
theorem d_X_shown_15 : decode prog_1_method_25_code 15 = .ok (.goto 12, 3) := by decide +kernel
/-! ===== the component: sample, shown ===== -/
theorem zI_l {x : Int} (h : i32 x) : (zI x).toInt64 = Int64.ofInt x := by
  unfold i32 at h
  exact Int32.toInt64_ofInt (by have : Int32.minValue.toInt = -2147483648 := by decide
                                omega) (by have : Int32.maxValue.toInt = 2147483647 := by decide
                                           omega)
theorem cmp_L {a b : Int} (ha : -4000000000 ≤ a ∧ a ≤ 4000000000) (hb : -4000000000 ≤ b ∧ b ≤ 4000000000) : lg_cmp (Int64.ofInt a) (Int64.ofInt b) = zI (if b < a then 1 else if a = b then 0 else -1) := by
  have e1 : Int64.minValue.toInt = -9223372036854775808 := by decide
  have e2 : Int64.maxValue.toInt = 9223372036854775807 := by decide
  unfold lg_cmp
  by_cases h : b < a
  · rw [if_pos h, if_pos ((Int64.ofInt_lt_iff_lt (by omega) (by omega) (by omega) (by omega)).mpr h)]; rfl
  · rw [if_neg h, if_neg (fun q => h ((Int64.ofInt_lt_iff_lt (by omega) (by omega) (by omega) (by omega)).mp q))]
    by_cases g : a = b
    · rw [if_pos g, if_pos (by rw [g])]; rfl
    · rw [if_neg g, if_neg]
      · rfl
      · intro q
        have hlt : Int64.ofInt a < Int64.ofInt b := (Int64.ofInt_lt_iff_lt (by omega) (by omega) (by omega) (by omega)).mpr (by omega)
        rw [q] at hlt
        exact absurd (Int64.lt_iff_toInt_lt.mp hlt) (by omega)
section XSM
variable (G : gG) (l : Launch) (y0 : xP)
set_option maxRecDepth 8000 in
theorem c_X_sample (z0 s0 : mS) (h : xPre G y0 z0 s0) (τ k what : Int) (ht : i32 τ) (hk : i32 k) (hw' : i32 what) : Ct G l q_X_sample 13 61 1134 [.ref (yc y0 0), vI τ, vI k, vI what] (xW G y0 z0) (fun r w => ∃ (f : Int) (v : mS) (y : xP) (z : mS), r = some (vI (if (f = 0 ∧ 0 ≤ τ ∧ τ < v 0 3) ∧ 0 ≤ k ∧ k < pv v (tb v τ 3) 1 then smO v τ k what else -1000)) ∧ w = xW G y z ∧ xPo G y0 z0 s0 y z f v) := by
  refine Ct.intro [some (.ref (yc y0 0)), some (vI τ), some (vI k), some (vI what), none] (by decide) (Nat.le_of_ble_eq_true rfl) rfl (fun sz => ?_)
  generalize hQ : (fun r w => ∃ (f : Int) (v : mS) (y : xP) (z : mS), r = some (vI (if (f = 0 ∧ 0 ≤ τ ∧ τ < v 0 3) ∧ 0 ≤ k ∧ k < pv v (tb v τ 3) 1 then smO v τ k what else -1000)) ∧ w = xW G y z ∧ xPo G y0 z0 s0 y z f v) = Q
  refine r_aload_n d_X_sample_0 rfl rfl ?_
  refine r_iload_n d_X_sample_1 rfl ?_
  refine r_kV1 d_X_sample_2 lk_X_259 (c_X_find G l y0 z0 s0 h τ ht) 0 rfl rfl (Nat.le_of_ble_eq_true rfl) (rok rfl rfl) ⟨(Nat.le_of_ble_eq_true rfl), (Nat.le_of_ble_eq_true rfl)⟩ (fun r ws2 hq => ?_)
  obtain ⟨f, v, y, z, rfl, rfl, hp⟩ := hq
  show WP _ _ _ _ _ _ (_ :: _)
  rw [show yc y0 = yc y from hp.2.2.2.2.2.2.symm]
  have f25 : ∀ lv, ¬ ((f = 0 ∧ 0 ≤ τ ∧ τ < v 0 3) ∧ 0 ≤ k ∧ k < pv v (tb v τ 3) 1) → WP (mth G l q_X_sample 13 61 1134 (xW G y0 z0) sz Q) (0 + 61) (0 + 1134) (xW G y z) 25 lv [] := by
    intro lv hc
    refine r_sipush d_X_sample_25 (by decide) ?_
    refine r_iret d_X_sample_28 rfl (Nat.le_of_ble_eq_true rfl) (Nat.le_of_ble_eq_true rfl) ?_
    rw [← hQ]; exact ⟨f, v, y, z, by rw [if_neg hc], rfl, hp⟩
  by_cases hc : f = 0 ∧ 0 ≤ τ ∧ τ < v 0 3
  · rw [if_pos hc]
    obtain ⟨t, rfl⟩ : ∃ t : Nat, τ = t := ⟨τ.toNat, by omega⟩
    have hck := ckR_h h.2.1 (show ckR s0 0 v by rw [← hc.1]; exact hp.1)
    have hC : ¬ cntBad v t := (hck.1.2.2.2.2 t (by omega) hc.2.2).2
    obtain ⟨hK, hA, hS⟩ := (hp.2.1.2.2 hc.1).2.2.2 t hc.2.2
    have ht1 := hK.1.1
    have hb := hK.1.2.2
    have bn := pv_b hb (tb v t 3) 1
    obtain ⟨tt0, tt1⟩ := cnt_tot hC
    show WP _ _ _ _ _ _ (.ref (yc y (7 + t)) :: _)
    refine r_astore d_X_sample_5 (Nat.le_of_ble_eq_true rfl) rfl rfl ?_
    show WP _ _ _ _ _ [_, _, _, _, _] _
    refine r_aload d_X_sample_7 rfl rfl ?_
    refine r_ifnull (r := some (yc y (7 + t))) 25 d_X_sample_9 (by decide) (fun q => by cases q) (fun _ _ => ?_)
    refine r_iload_n d_X_sample_12 rfl ?_
    refine r_if_lt 25 d_X_sample_13 (by decide) hk (fun h1 => ?_) (fun h1 => ?_)
    · exact f25 _ (fun q => by omega)
    · refine r_iload_n d_X_sample_16 rfl ?_
      refine r_aload d_X_sample_17 rfl rfl ?_
      refine r_cV0 d_X_sample_19 lk_X_263 (c_K_sampleCount G l y z v t hK) (7+t) rfl (xw_k hK.1.1) (Nat.le_of_ble_eq_true rfl) (rok rfl rfl) ⟨(Nat.le_of_ble_eq_true rfl), (Nat.le_of_ble_eq_true rfl)⟩ (fun r ws2 hq => ?_)
      obtain ⟨rfl, hw⟩ := hq; rw [hw]; clear hw
      show WP _ _ _ _ _ _ (_ :: _)
      refine r_icmp_lt 29 d_X_sample_22 (by decide) hk (by unfold i32; omega) (fun h2 => ?_) (fun h2 => ?_)
      · have hcc : (f = 0 ∧ 0 ≤ ((t : Nat) : Int) ∧ ((t : Nat) : Int) < v 0 3) ∧ 0 ≤ k ∧ k < pv v (tb v t 3) 1 := ⟨hc, by omega, h2⟩
        have fin : ∀ x : Int, x = smO v t k what → Q (some (vI x)) (xW G y z) := by
          intro x hx
          rw [← hQ]
          exact ⟨f, v, y, z, by rw [if_pos hcc, hx], rfl, hp⟩
        have c85 : ∀ d : Int, (d = 0 ∨ d = 1) → smO v t k what = icO v t k (if d = 0 then 0 else 5) → WP (mth G l q_X_sample 13 61 1134 (xW G y0 z0) sz Q) (0 + 61) (0 + 1134) (xW G y z) 85 [some (.ref (yc y 0)), some (vI t), some (vI k), some (vI what), some (.ref (yc y (7 + t)))] [vI d, vI k, .ref (yc y 1), .ref (yc y (7 + t))] := by
          intro d hd he
          refine r_cV3 d_X_sample_85 lk_X_266 (c_K_placeOf G l y z v t hK hA hC k d hcc.2 hd) (7+t) rfl (xw_k hK.1.1) (Nat.le_of_ble_eq_true rfl) (rok rfl rfl) ⟨(Nat.le_of_ble_eq_true rfl), (Nat.le_of_ble_eq_true rfl)⟩ (fun r ws2 hq => ?_)
          obtain ⟨rfl, hw⟩ := hq; rw [hw]; clear hw
          show WP _ _ _ _ _ _ (_ :: _)
          refine r_iret d_X_sample_88 rfl (Nat.le_of_ble_eq_true rfl) (Nat.le_of_ble_eq_true rfl) ?_
          exact fin _ he.symm
        refine r_iload_n d_X_sample_29 rfl ?_
        by_cases hwd : 0 ≤ what ∧ what ≤ 5
        · rcases (by omega : what = 0 ∨ what = 1 ∨ what = 2 ∨ what = 3 ∨ what = 4 ∨ what = 5) with rfl | rfl | rfl | rfl | rfl | rfl
          · refine r_tableIn 68 d_X_sample_30 hw' (by omega) (by omega) rfl (by decide) ?_
            refine r_aload d_X_sample_68 rfl rfl ?_
            refine r_aload_n d_X_sample_70 rfl rfl ?_
            refine r_get d_X_sample_71 fl_X_7_0 0 rfl rfl ?_
            refine r_iload_n d_X_sample_74 rfl ?_
            refine r_iload_n d_X_sample_75 rfl ?_
            refine r_iconst d_X_sample_76 ?_
            refine r_icmp_ne 84 d_X_sample_77 (by decide) (by unfold i32; omega) (by unfold i32; omega) (fun h3 => ?_) (fun h3 => ?_)
            · refine r_iconst d_X_sample_84 ?_
              exact c85 0 (Or.inl rfl) rfl
            · omega
          · refine r_tableIn 89 d_X_sample_30 hw' (by omega) (by omega) rfl (by decide) ?_
            refine r_aload d_X_sample_89 rfl rfl ?_
            refine r_get d_X_sample_91 fl_X_234_6 (7+t) (xw_k hK.1.1) rfl ?_
            refine r_iconst d_X_sample_94 ?_
            refine r_tab (sl := 3) d_X_sample_95 hK hK.2.2.2.2.2.1 ⟨by omega, by omega⟩ ?_
            show WP _ _ _ _ _ _ (.ref (yo y (tb v t 3)) :: _)
            refine r_aload_n d_X_sample_96 rfl rfl ?_
            refine r_get d_X_sample_97 fl_X_7_0 0 rfl rfl ?_
            refine r_iload_n d_X_sample_100 rfl ?_
            refine r_iconst d_X_sample_101 ?_
            refine r_kU3 d_X_sample_102 lu_X_241_S (c_c3 G l y z v t hK (k) (0) hcc.2) (13 + tb v t 3).toNat rfl (xw_bc (tK_k hK hK.2.2.2.2.2.1 ⟨by omega, by omega⟩) (tK_c3 hK)) (Nat.le_of_ble_eq_true rfl) (rok rfl rfl) ⟨(Nat.le_of_ble_eq_true rfl), (Nat.le_of_ble_eq_true rfl)⟩ (fun r ws2 hq => ?_)
            obtain ⟨rfl, rfl⟩ := hq
            show WP _ _ _ _ _ _ (_ :: _)
            refine r_iret d_X_sample_105 rfl (Nat.le_of_ble_eq_true rfl) (Nat.le_of_ble_eq_true rfl) ?_
            exact fin _ rfl
          · refine r_tableIn 106 d_X_sample_30 hw' (by omega) (by omega) rfl (by decide) ?_
            refine r_aload d_X_sample_106 rfl rfl ?_
            refine r_aload_n d_X_sample_108 rfl rfl ?_
            refine r_get d_X_sample_109 fl_X_7_0 0 rfl rfl ?_
            refine r_iload_n d_X_sample_112 rfl ?_
            refine r_cV2 d_X_sample_113 lk_X_270 (c_K_decodeTime G l y z v t hK k (by omega)) (7+t) rfl (xw_k hK.1.1) (Nat.le_of_ble_eq_true rfl) (rok rfl rfl) ⟨(Nat.le_of_ble_eq_true rfl), (Nat.le_of_ble_eq_true rfl)⟩ (fun r ws2 hq => ?_)
            obtain ⟨rfl, hw⟩ := hq; rw [hw]; clear hw
            show WP _ _ _ _ _ _ (_ :: _)
            refine r_iret d_X_sample_116 rfl (Nat.le_of_ble_eq_true rfl) (Nat.le_of_ble_eq_true rfl) ?_
            exact fin _ rfl
          · refine r_tableIn 117 d_X_sample_30 hw' (by omega) (by omega) rfl (by decide) ?_
            refine r_aload d_X_sample_117 rfl rfl ?_
            refine r_aload_n d_X_sample_119 rfl rfl ?_
            refine r_get d_X_sample_120 fl_X_7_0 0 rfl rfl ?_
            refine r_iload_n d_X_sample_123 rfl ?_
            refine r_cV2 d_X_sample_124 lk_X_270 (c_K_decodeTime G l y z v t hK k (by omega)) (7+t) rfl (xw_k hK.1.1) (Nat.le_of_ble_eq_true rfl) (rok rfl rfl) ⟨(Nat.le_of_ble_eq_true rfl), (Nat.le_of_ble_eq_true rfl)⟩ (fun r ws2 hq => ?_)
            obtain ⟨rfl, hw⟩ := hq; rw [hw]; clear hw
            show WP _ _ _ _ _ _ (_ :: _)
            refine r_aload d_X_sample_127 rfl rfl ?_
            refine r_aload_n d_X_sample_129 rfl rfl ?_
            refine r_get d_X_sample_130 fl_X_7_0 0 rfl rfl ?_
            refine r_iload_n d_X_sample_133 rfl ?_
            refine r_cV2 d_X_sample_134 lk_X_273 (c_K_shift G l y z v t hK k ⟨by omega, fun q => by rw [tt1 q]; exact h2⟩) (7+t) rfl (xw_k hK.1.1) (Nat.le_of_ble_eq_true rfl) (rok rfl rfl) ⟨(Nat.le_of_ble_eq_true rfl), (Nat.le_of_ble_eq_true rfl)⟩ (fun r ws2 hq => ?_)
            obtain ⟨rfl, hw⟩ := hq; rw [hw]; clear hw
            show WP _ _ _ _ _ _ (_ :: _)
            refine r_iadd d_X_sample_137 ?_
            refine r_iret d_X_sample_138 rfl (Nat.le_of_ble_eq_true rfl) (Nat.le_of_ble_eq_true rfl) ?_
            exact fin _ rfl
          · refine r_tableIn 139 d_X_sample_30 hw' (by omega) (by omega) rfl (by decide) ?_
            refine r_aload d_X_sample_139 rfl rfl ?_
            refine r_aload_n d_X_sample_141 rfl rfl ?_
            refine r_get d_X_sample_142 fl_X_7_0 0 rfl rfl ?_
            refine r_iload_n d_X_sample_145 rfl ?_
            refine r_cV2 d_X_sample_146 lk_X_276 (c_K_sync G l y z v t hK hS k (by omega)) (7+t) rfl (xw_k hK.1.1) (Nat.le_of_ble_eq_true rfl) (rok rfl rfl) ⟨(Nat.le_of_ble_eq_true rfl), (Nat.le_of_ble_eq_true rfl)⟩ (fun r ws2 hq => ?_)
            obtain ⟨rfl, hw⟩ := hq; rw [hw]; clear hw
            show WP _ _ _ _ _ _ (_ :: _)
            refine r_iret d_X_sample_149 rfl (Nat.le_of_ble_eq_true rfl) (Nat.le_of_ble_eq_true rfl) ?_
            exact fin _ rfl
          · refine r_tableIn 68 d_X_sample_30 hw' (by omega) (by omega) rfl (by decide) ?_
            refine r_aload d_X_sample_68 rfl rfl ?_
            refine r_aload_n d_X_sample_70 rfl rfl ?_
            refine r_get d_X_sample_71 fl_X_7_0 0 rfl rfl ?_
            refine r_iload_n d_X_sample_74 rfl ?_
            refine r_iload_n d_X_sample_75 rfl ?_
            refine r_iconst d_X_sample_76 ?_
            refine r_icmp_ne 84 d_X_sample_77 (by decide) (by unfold i32; omega) (by unfold i32; omega) (fun h3 => ?_) (fun h3 => ?_)
            · exact absurd rfl h3
            · refine r_iconst d_X_sample_80 ?_
              refine r_goto 85 d_X_sample_81 (by decide) ?_
              exact c85 1 (Or.inr rfl) rfl
        · refine r_tableOut 150 d_X_sample_30 hw' (by omega) (by decide) ?_
          refine r_sipush d_X_sample_150 (by decide) ?_
          refine r_iret d_X_sample_153 rfl (Nat.le_of_ble_eq_true rfl) (Nat.le_of_ble_eq_true rfl) ?_
          refine fin _ ?_
          unfold smO
          rw [if_neg (by omega), if_neg (by omega), if_neg (by omega), if_neg (by omega), if_neg (by omega)]
      · exact f25 _ (fun q => by omega)
  · rw [if_neg hc]
    refine r_astore d_X_sample_5 (Nat.le_of_ble_eq_true rfl) rfl rfl ?_
    show WP _ _ _ _ _ [_, _, _, _, _] _
    refine r_aload d_X_sample_7 rfl rfl ?_
    refine r_ifnull (r := none) 25 d_X_sample_9 (by decide) (fun _ => ?_) (fun _ q => by cases q)
    exact f25 _ (fun q => hc q.1)
set_option maxRecDepth 8000 in
set_option maxHeartbeats 4000000 in
theorem c_X_shown (z0 s0 : mS) (h : xPre G y0 z0 s0) (τ time : Int) (ht : i32 τ) (hk : i32 time) : Ct G l q_X_shown 13 61 1134 [.ref (yc y0 0), vI τ, vI time] (xW G y0 z0) (fun r w => ∃ (f : Int) (v : mS) (y : xP) (z : mS), r = some (vI (if time < 0 then -1000 else if (f = 0 ∧ 0 ≤ τ ∧ τ < v 0 3) ∧ ¬ mtO v τ time = -1000 then shL v τ (mtO v τ time) (pv v (tb v τ 3) 1).toNat 0 else -1000)) ∧ w = xW G y z ∧ xPo G y0 z0 s0 y z f v) := by
  have hk' := hk
  unfold i32 at hk'
  refine Ct.intro [some (.ref (yc y0 0)), some (vI τ), some (vI time), none, none, none, none, none, none, none, none] (by decide) (Nat.le_of_ble_eq_true rfl) rfl (fun sz => ?_)
  generalize hQ : (fun r w => ∃ (f : Int) (v : mS) (y : xP) (z : mS), r = some (vI (if time < 0 then -1000 else if (f = 0 ∧ 0 ≤ τ ∧ τ < v 0 3) ∧ ¬ mtO v τ time = -1000 then shL v τ (mtO v τ time) (pv v (tb v τ 3) 1).toNat 0 else -1000)) ∧ w = xW G y z ∧ xPo G y0 z0 s0 y z f v) = Q
  refine r_aload_n d_X_shown_0 rfl rfl ?_
  refine r_iload_n d_X_shown_1 rfl ?_
  refine r_kV1 d_X_shown_2 lk_X_259 (c_X_find G l y0 z0 s0 h τ ht) 0 rfl rfl (Nat.le_of_ble_eq_true rfl) (rok rfl rfl) ⟨(Nat.le_of_ble_eq_true rfl), (Nat.le_of_ble_eq_true rfl)⟩ (fun r ws2 hq => ?_)
  obtain ⟨f, v, y, z, rfl, rfl, hp⟩ := hq
  show WP _ _ _ _ _ _ (_ :: _)
  rw [show yc y0 = yc y from hp.2.2.2.2.2.2.symm]
  have f27 : ∀ lv3 : Option Value, (lv3 = some .null ∨ ∃ a, lv3 = some (Value.ref a)) → (time < 0 ∨ ¬ ((f = 0 ∧ 0 ≤ τ ∧ τ < v 0 3) ∧ ¬ mtO v τ time = -1000)) → WP (mth G l q_X_shown 13 61 1134 (xW G y0 z0) sz Q) (0 + 61) (0 + 1134) (xW G y z) 27 [some (.ref (yc y 0)), some (vI τ), some (vI time), lv3, none, none, none, none, none, none, none] [vI (-1)] := by
    intro lv3 hl hc
    have hok : okst [some (.ref (yc y 0)), some (vI τ), some (vI time), lv3, none, none, none, none, none, none, none] 4 = true := by rcases hl with rfl | ⟨a, rfl⟩ <;> rfl
    refine r_istore d_X_shown_27 (Nat.le_of_ble_eq_true rfl) hok ?_
    show WP _ _ _ _ _ [_, _, _, _, _, _, _, _, _, _, _] _
    refine r_iload d_X_shown_29 rfl ?_
    refine r_if_ge 38 d_X_shown_31 (by decide) (by unfold i32; omega) (fun h1 => ?_) (fun h1 => ?_)
    · omega
    · refine r_sipush d_X_shown_34 (by decide) ?_
      refine r_iret d_X_shown_37 rfl (Nat.le_of_ble_eq_true rfl) (Nat.le_of_ble_eq_true rfl) ?_
      rw [← hQ]
      refine ⟨f, v, y, z, ?_, rfl, hp⟩
      by_cases q : time < 0
      · rw [if_pos q]
      · rw [if_neg q, if_neg (hc.resolve_left q)]
  by_cases hc : f = 0 ∧ 0 ≤ τ ∧ τ < v 0 3
  · rw [if_pos hc]
    obtain ⟨t, rfl⟩ : ∃ t : Nat, τ = t := ⟨τ.toNat, by omega⟩
    have hck := ckR_h h.2.1 (show ckR s0 0 v by rw [← hc.1]; exact hp.1)
    have hC : ¬ cntBad v t := (hck.1.2.2.2.2 t (by omega) hc.2.2).2
    obtain ⟨hK, hA, hS⟩ := (hp.2.1.2.2 hc.1).2.2.2 t hc.2.2
    have ht1 := hK.1.1
    have hb := hK.1.2.2
    have bn := pv_b hb (tb v t 3) 1
    obtain ⟨tt0, tt1⟩ := cnt_tot hC
    show WP _ _ _ _ _ _ (.ref (yc y (7 + t)) :: _)
    refine r_astore_n d_X_shown_5 (Nat.le_of_ble_eq_true rfl) rfl rfl ?_
    show WP _ _ _ _ _ [_, _, _, _, _, _, _, _, _, _, _] _
    refine r_aload_n d_X_shown_6 rfl rfl ?_
    refine r_ifnull (r := some (yc y (7 + t))) 14 d_X_shown_7 (by decide) (fun q => by cases q) (fun _ _ => ?_)
    refine r_iload_n d_X_shown_10 rfl ?_
    refine r_if_ge 18 d_X_shown_11 (by decide) hk (fun h1 => ?_) (fun h1 => ?_)
    · refine r_aload_n d_X_shown_18 rfl rfl ?_
      refine r_aload_n d_X_shown_19 rfl rfl ?_
      refine r_get d_X_shown_20 fl_X_7_0 0 rfl rfl ?_
      refine r_iload_n d_X_shown_23 rfl ?_
      refine r_cV2 d_X_shown_24 lk_X_279 (c_K_mediaTime G l y z v t hK time ⟨h1, hk⟩) (7+t) rfl (xw_k hK.1.1) (Nat.le_of_ble_eq_true rfl) (rok rfl rfl) ⟨(Nat.le_of_ble_eq_true rfl), (Nat.le_of_ble_eq_true rfl)⟩ (fun r ws2 hq => ?_)
      obtain ⟨rfl, hw⟩ := hq; rw [hw]; clear hw
      show WP _ _ _ _ _ _ (_ :: _)
      by_cases hm : mtO v t time = -1000
      · rw [if_pos hm]
        exact f27 _ (Or.inr ⟨_, rfl⟩) (Or.inr (fun q => q.2 hm))
      · rw [if_neg hm]
        have hu : 0 ≤ mtO v t time ∧ mtO v t time < 2147483648 := by
          by_cases q : tb v t 7 < 0
          · have : mtO v t time = time := by unfold mtO; rw [if_pos q]
            omega
          · have key : ∀ (n : Nat) (r bf : Int), 0 ≤ bf → bf ≤ time → (mtL (fun r => pv v (tb v t 7) (1 + 2 * r)) (fun r => pv v (tb v t 7) (2 + 2 * r)) time n r bf = -1000 ∨ (0 ≤ mtL (fun r => pv v (tb v t 7) (1 + 2 * r)) (fun r => pv v (tb v t 7) (2 + 2 * r)) time n r bf ∧ mtL (fun r => pv v (tb v t 7) (1 + 2 * r)) (fun r => pv v (tb v t 7) (2 + 2 * r)) time n r bf < 1000)) := by
              intro n
              induction n with
              | zero => intro r bf _ _; exact Or.inl rfl
              | succ n ih =>
                intro r bf b0 b1
                have b2 := pv_b hb (tb v t 7) (1 + 2 * r)
                have b3 := pv_b hb (tb v t 7) (2 + 2 * r)
                unfold mtL
                split
                · split
                  · exact Or.inl rfl
                  · exact Or.inr (by omega)
                · exact ih _ _ (by omega) (by omega)
            have := key (pv v (tb v t 7) 0).toNat 0 0 (by omega) h1
            have e : mtO v t time = mtL (fun r => pv v (tb v t 7) (1 + 2 * r)) (fun r => pv v (tb v t 7) (2 + 2 * r)) time (pv v (tb v t 7) 0).toNat 0 0 := by unfold mtO; rw [if_neg q]
            omega
        generalize hU : mtO v t time = U at *
        have fin : ∀ x : Int, x = shL v t U (pv v (tb v t 3) 1).toNat 0 → Q (some (vI x)) (xW G y z) := by
          intro x hx
          rw [← hQ]
          exact ⟨f, v, y, z, by rw [if_neg (by omega), hU, if_pos ⟨hc, hm⟩, hx], rfl, hp⟩
        have lp : ∀ (g k : Nat) (x8 x9 : Option Value), (k : Int) + g = pv v (tb v t 3) 1 → shL v t U g k = shL v t U (pv v (tb v t 3) 1).toNat 0 → WP (mth G l q_X_shown 13 61 1134 (xW G y0 z0) sz Q) (0 + 61) (0 + 1134) (xW G y z) 46 [some (.ref (yc y 0)), some (vI t), some (vI time), some (.ref (yc y (7 + t))), some (vI U), some (.long (Int64.ofInt (U - sumI (duO v t) k))), none, some (vI k), x8, x9, none] [] := by
          intro g
          induction g with
          | zero =>
            intro k x8 x9 hk0 he
            have he : -1000 = _ := he
            refine r_iload d_X_shown_46 rfl ?_
            refine r_aload_n d_X_shown_48 rfl rfl ?_
            refine r_cV0 d_X_shown_49 lk_X_263 (c_K_sampleCount G l y z v t hK) (7+t) rfl (xw_k hK.1.1) (Nat.le_of_ble_eq_true rfl) (rok rfl rfl) ⟨(Nat.le_of_ble_eq_true rfl), (Nat.le_of_ble_eq_true rfl)⟩ (fun r ws2 hq => ?_)
            obtain ⟨rfl, hw⟩ := hq; rw [hw]; clear hw
            show WP _ _ _ _ _ _ (_ :: _)
            refine r_icmp_ge 121 d_X_shown_52 (by decide) (by unfold i32; omega) (by unfold i32; omega) (fun h3 => ?_) (fun h3 => ?_)
            · refine r_sipush d_X_shown_121 (by decide) ?_
              refine r_iret d_X_shown_124 rfl (Nat.le_of_ble_eq_true rfl) (Nat.le_of_ble_eq_true rfl) ?_
              exact fin _ he
            · omega
          | succ g ih =>
            intro k x8 x9 hk0 he
            have bs := sumI_b (f := duO v t) (fun i => duO_b hb _ _) k
            have bd := duO_b hb t k
            have bsh := shO_b hb t k
            have hkn : (k : Int) < pv v (tb v t 3) 1 := by omega
            have he : (if sumI (duO v t) k + shO v t k ≤ U ∧ U < sumI (duO v t) k + shO v t k + duO v t k then (k : Int) else shL v t U g (k + 1)) = shL v t U (pv v (tb v t 3) 1).toNat 0 := he
            have nx : ∀ x9' : Option Value, ¬ (sumI (duO v t) k + shO v t k ≤ U ∧ U < sumI (duO v t) k + shO v t k + duO v t k) → WP (mth G l q_X_shown 13 61 1134 (xW G y0 z0) sz Q) (0 + 61) (0 + 1134) (xW G y z) 107 [some (.ref (yc y 0)), some (vI t), some (vI time), some (.ref (yc y (7 + t))), some (vI U), some (.long (Int64.ofInt (U - sumI (duO v t) k))), none, some (vI k), some (vI (duO v t k)), x9', none] [] := by
              intro x9' hno
              rw [if_neg hno] at he
              refine r_lload d_X_shown_107 rfl ?_
              refine r_iload d_X_shown_109 rfl ?_
              refine r_i2l d_X_shown_111 ?_
              rw [zI_l (by unfold i32; omega)]
              refine r_lsub d_X_shown_112 ?_
              rw [← Int64.ofInt_sub]
              refine r_lstore d_X_shown_113 (Nat.le_of_ble_eq_true rfl) rfl ?_
              show WP _ _ _ _ _ [_, _, _, _, _, _, _, _, _, _, _] _
              refine r_iinc d_X_shown_115 rfl (Nat.le_of_ble_eq_true rfl) rfl ?_
              show WP _ _ _ _ _ [_, _, _, _, _, _, _, _, _, _, _] _
              refine r_goto 46 d_X_shown_118 (by decide) ?_
              have e : U - sumI (duO v t) k - duO v t k = U - sumI (duO v t) (k + 1) := by
                show _ = U - (sumI (duO v t) k + duO v t k)
                omega
              rw [e]
              exact ih (k + 1) _ _ (by omega) he
            refine r_iload d_X_shown_46 rfl ?_
            refine r_aload_n d_X_shown_48 rfl rfl ?_
            refine r_cV0 d_X_shown_49 lk_X_263 (c_K_sampleCount G l y z v t hK) (7+t) rfl (xw_k hK.1.1) (Nat.le_of_ble_eq_true rfl) (rok rfl rfl) ⟨(Nat.le_of_ble_eq_true rfl), (Nat.le_of_ble_eq_true rfl)⟩ (fun r ws2 hq => ?_)
            obtain ⟨rfl, hw⟩ := hq; rw [hw]; clear hw
            show WP _ _ _ _ _ _ (_ :: _)
            refine r_icmp_ge 121 d_X_shown_52 (by decide) (by unfold i32; omega) (by unfold i32; omega) (fun h3 => ?_) (fun h3 => ?_)
            · omega
            · refine r_aload_n d_X_shown_55 rfl rfl ?_
              refine r_get d_X_shown_56 fl_X_234_6 (7+t) (xw_k hK.1.1) rfl ?_
              refine r_iconst d_X_shown_59 ?_
              refine r_tab (sl := 0) d_X_shown_60 hK hK.2.2.2.1 ⟨by omega, by omega⟩ ?_
              show WP _ _ _ _ _ _ (.ref (yo y (tb v t 0)) :: _)
              refine r_aload_n d_X_shown_61 rfl rfl ?_
              refine r_get d_X_shown_62 fl_X_7_0 0 rfl rfl ?_
              refine r_iload d_X_shown_65 rfl ?_
              refine r_cV2 d_X_shown_67 lk_X_282 (c_kva G l y z v t hK (sl := 0) (by omega) hK.2.2.2.1 k ⟨by omega, by rw [show ts v t 0 = tb v t 0 from rfl, tt0]; exact hkn⟩) (13 + tb v t 0).toNat rfl (xw_bc (tK_k hK hK.2.2.2.1 ⟨by omega, by omega⟩) (tK_cT hK hK.2.2.2.1 (by omega))) (Nat.le_of_ble_eq_true rfl) (rok rfl rfl) ⟨(Nat.le_of_ble_eq_true rfl), (Nat.le_of_ble_eq_true rfl)⟩ (fun r ws2 hq => ?_)
              obtain ⟨rfl, hw⟩ := hq; rw [hw]; clear hw
              show WP _ _ _ _ _ _ (_ :: _)
              show WP _ _ _ _ _ _ (vI (duO v t k) :: _)
              refine r_istore d_X_shown_70 (Nat.le_of_ble_eq_true rfl) rfl ?_
              show WP _ _ _ _ _ [_, _, _, _, _, _, _, _, _, _, _] _
              refine r_lload d_X_shown_72 rfl ?_
              refine r_aload_n d_X_shown_74 rfl rfl ?_
              refine r_aload_n d_X_shown_75 rfl rfl ?_
              refine r_get d_X_shown_76 fl_X_7_0 0 rfl rfl ?_
              refine r_iload d_X_shown_79 rfl ?_
              refine r_cV2 d_X_shown_81 lk_X_273 (c_K_shift G l y z v t hK k ⟨by omega, fun q => by rw [tt1 q]; exact hkn⟩) (7+t) rfl (xw_k hK.1.1) (Nat.le_of_ble_eq_true rfl) (rok rfl rfl) ⟨(Nat.le_of_ble_eq_true rfl), (Nat.le_of_ble_eq_true rfl)⟩ (fun r ws2 hq => ?_)
              obtain ⟨rfl, hw⟩ := hq; rw [hw]; clear hw
              show WP _ _ _ _ _ _ (_ :: _)
              refine r_i2l d_X_shown_84 ?_
              rw [zI_l (by unfold i32; omega)]
              refine r_lsub d_X_shown_85 ?_
              rw [← Int64.ofInt_sub]
              refine r_lstore d_X_shown_86 (Nat.le_of_ble_eq_true rfl) rfl ?_
              show WP _ _ _ _ _ [_, _, _, _, _, _, _, _, _, _, _] _
              refine r_lload d_X_shown_88 rfl ?_
              refine r_lconst (v := Int64.ofInt 0) d_X_shown_90 rfl ?_
              refine r_lcmp d_X_shown_91 ?_
              rw [cmp_L (by omega) (by omega)]
              refine r_if_lt 107 d_X_shown_92 (by decide) (by unfold i32; split; omega; split <;> omega) (fun h4 => ?_) (fun h4 => ?_)
              · refine nx _ (fun q => ?_)
                split at h4
                · omega
                · split at h4 <;> omega
              · have h4' : 0 ≤ U - sumI (duO v t) k - shO v t k := by
                  split at h4
                  · omega
                  · split at h4 <;> omega
                refine r_lload d_X_shown_95 rfl ?_
                refine r_iload d_X_shown_97 rfl ?_
                refine r_i2l d_X_shown_99 ?_
                rw [zI_l (by unfold i32; omega)]
                refine r_lcmp d_X_shown_100 ?_
                rw [cmp_L (by omega) (by omega)]
                refine r_if_ge 107 d_X_shown_101 (by decide) (by unfold i32; split; omega; split <;> omega) (fun h5 => ?_) (fun h5 => ?_)
                · refine nx _ (fun q => ?_)
                  split at h5
                  · omega
                  · split at h5 <;> omega
                · have h5' : U - sumI (duO v t) k - shO v t k < duO v t k := by
                    split at h5
                    · omega
                    · split at h5 <;> omega
                  rw [if_pos (by omega)] at he
                  refine r_iload d_X_shown_104 rfl ?_
                  refine r_iret d_X_shown_106 rfl (Nat.le_of_ble_eq_true rfl) (Nat.le_of_ble_eq_true rfl) ?_
                  exact fin _ he
        refine r_istore d_X_shown_27 (Nat.le_of_ble_eq_true rfl) rfl ?_
        show WP _ _ _ _ _ [_, _, _, _, _, _, _, _, _, _, _] _
        refine r_iload d_X_shown_29 rfl ?_
        refine r_if_ge 38 d_X_shown_31 (by decide) (by unfold i32; omega) (fun h3 => ?_) (fun h3 => ?_)
        · refine r_iload d_X_shown_38 rfl ?_
          refine r_i2l d_X_shown_40 ?_
          rw [zI_l (by unfold i32; omega)]
          refine r_lstore d_X_shown_41 (Nat.le_of_ble_eq_true rfl) rfl ?_
          show WP _ _ _ _ _ [_, _, _, _, _, _, _, _, _, _, _] _
          refine r_iconst d_X_shown_43 ?_
          refine r_istore d_X_shown_44 (Nat.le_of_ble_eq_true rfl) rfl ?_
          show WP _ _ _ _ _ [_, _, _, _, _, _, _, _, _, _, _] _
          have := lp (pv v (tb v t 3) 1).toNat 0 none none (by omega) rfl
          rw [show U - sumI (duO v t) 0 = U by show U - 0 = U; omega] at this
          exact this
        · omega
    · refine r_iconst d_X_shown_14 ?_
      refine r_goto 27 d_X_shown_15 (by decide) ?_
      exact f27 _ (Or.inr ⟨_, rfl⟩) (Or.inl (by omega))
  · rw [if_neg hc]
    refine r_astore_n d_X_shown_5 (Nat.le_of_ble_eq_true rfl) rfl rfl ?_
    show WP _ _ _ _ _ [_, _, _, _, _, _, _, _, _, _, _] _
    refine r_aload_n d_X_shown_6 rfl rfl ?_
    refine r_ifnull (r := none) 14 d_X_shown_7 (by decide) (fun _ => ?_) (fun _ q => by cases q)
    refine r_iconst d_X_shown_14 ?_
    refine r_goto 27 d_X_shown_15 (by decide) ?_
    exact f27 _ (Or.inl rfl) (Or.inr (fun q => hc q.1))
end XSM
