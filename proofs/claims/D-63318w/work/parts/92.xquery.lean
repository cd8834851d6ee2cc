abbrev q_K_decodeTime : Mi := (⟨"MovieBoxes$Track", "decodeTime", "([BI)I"⟩, prog_9_method_7_code, 7, (some .int))
theorem d_K_decodeTime_77 : decode prog_9_method_7_code 77 = .ok (.iload 4, 2) := by decide +kernel
theorem d_K_decodeTime_79 : decode prog_9_method_7_code 79 = .ok (.ireturn, 1) := by decide +kernel
theorem d_K_decodeTime_8 : decode prog_9_method_7_code 8 = .ok (.iload 5, 2) := by decide +kernel
theorem d_K_decodeTime_10 : decode prog_9_method_7_code 10 = .ok (.aload_n 0, 1) := by decide +kernel
theorem d_K_decodeTime_11 : decode prog_9_method_7_code 11 = .ok (.getfield 11, 3) := by decide +kernel
theorem d_K_decodeTime_14 : decode prog_9_method_7_code 14 = .ok (.iconst 0, 1) := by decide +kernel
theorem d_K_decodeTime_15 : decode prog_9_method_7_code 15 = .ok (.aaload, 1) := by decide +kernel
theorem d_K_decodeTime_16 : decode prog_9_method_7_code 16 = .ok (.getfield 38, 3) := by decide +kernel
theorem d_K_decodeTime_19 : decode prog_9_method_7_code 19 = .ok (.if_icmp .ge 58, 3) := by decide +kernel
theorem d_K_decodeTime_22 : decode prog_9_method_7_code 22 = .ok (.iload_n 3, 1) := by decide +kernel
theorem d_K_decodeTime_23 : decode prog_9_method_7_code 23 = .ok (.ifCond .le 54, 3) := by decide +kernel
theorem d_K_decodeTime_26 : decode prog_9_method_7_code 26 = .ok (.iload_n 3, 1) := by decide +kernel
theorem d_K_decodeTime_27 : decode prog_9_method_7_code 27 = .ok (.aload_n 0, 1) := by decide +kernel
theorem d_K_decodeTime_28 : decode prog_9_method_7_code 28 = .ok (.getfield 11, 3) := by decide +kernel
theorem d_K_decodeTime_31 : decode prog_9_method_7_code 31 = .ok (.iconst 0, 1) := by decide +kernel
theorem d_K_decodeTime_32 : decode prog_9_method_7_code 32 = .ok (.aaload, 1) := by decide +kernel
theorem d_K_decodeTime_33 : decode prog_9_method_7_code 33 = .ok (.aload_n 1, 1) := by decide +kernel
theorem d_K_decodeTime_34 : decode prog_9_method_7_code 34 = .ok (.iload 5, 2) := by decide +kernel
theorem d_K_decodeTime_36 : decode prog_9_method_7_code 36 = .ok (.iconst 0, 1) := by decide +kernel
theorem d_K_decodeTime_37 : decode prog_9_method_7_code 37 = .ok (.invokevirtual 41, 3) := by decide +kernel
theorem d_K_decodeTime_40 : decode prog_9_method_7_code 40 = .ok (.invokestatic 60, 3) := by decide +kernel
set_option maxRecDepth 20000 in
theorem w_596 : Cond.methodLink "MovieBoxes$Track" 60 ⟨"java/lang/Math", "min", "(II)I"⟩ ∈ gt := gt_of (in_t3 (List.mem_of_getElem? (i := 116) rfl)) rfl
theorem d_K_decodeTime_43 : decode prog_9_method_7_code 43 = .ok (.istore 6, 2) := by decide +kernel
theorem d_K_decodeTime_45 : decode prog_9_method_7_code 45 = .ok (.iload 4, 2) := by decide +kernel
theorem d_K_decodeTime_47 : decode prog_9_method_7_code 47 = .ok (.iload 6, 2) := by decide +kernel
theorem d_K_decodeTime_49 : decode prog_9_method_7_code 49 = .ok (.aload_n 0, 1) := by decide +kernel
theorem d_K_decodeTime_50 : decode prog_9_method_7_code 50 = .ok (.getfield 11, 3) := by decide +kernel
theorem d_K_decodeTime_53 : decode prog_9_method_7_code 53 = .ok (.iconst 0, 1) := by decide +kernel
theorem d_K_decodeTime_54 : decode prog_9_method_7_code 54 = .ok (.aaload, 1) := by decide +kernel
theorem d_K_decodeTime_55 : decode prog_9_method_7_code 55 = .ok (.aload_n 1, 1) := by decide +kernel
theorem d_K_decodeTime_56 : decode prog_9_method_7_code 56 = .ok (.iload 5, 2) := by decide +kernel
theorem d_K_decodeTime_58 : decode prog_9_method_7_code 58 = .ok (.iconst 1, 1) := by decide +kernel
theorem d_K_decodeTime_59 : decode prog_9_method_7_code 59 = .ok (.invokevirtual 41, 3) := by decide +kernel
theorem d_K_decodeTime_62 : decode prog_9_method_7_code 62 = .ok (.imul, 1) := by decide +kernel
theorem d_K_decodeTime_63 : decode prog_9_method_7_code 63 = .ok (.iadd, 1) := by decide +kernel
theorem d_K_decodeTime_64 : decode prog_9_method_7_code 64 = .ok (.istore 4, 2) := by decide +kernel
theorem d_K_decodeTime_66 : decode prog_9_method_7_code 66 = .ok (.iload_n 3, 1) := by decide +kernel
theorem d_K_decodeTime_67 : decode prog_9_method_7_code 67 = .ok (.iload 6, 2) := by decide +kernel
theorem d_K_decodeTime_69 : decode prog_9_method_7_code 69 = .ok (.isub, 1) := by decide +kernel
theorem d_K_decodeTime_70 : decode prog_9_method_7_code 70 = .ok (.istore_n 3, 1) := by decide +kernel
theorem d_K_decodeTime_71 : decode prog_9_method_7_code 71 = .ok (.iinc 5 1, 3) := by decide +kernel
theorem d_K_decodeTime_74 : decode prog_9_method_7_code 74 = .ok (.goto (-66), 3) := by decide +kernel
theorem d_K_decodeTime_0 : decode prog_9_method_7_code 0 = .ok (.iload_n 2, 1) := by decide +kernel
theorem d_K_decodeTime_1 : decode prog_9_method_7_code 1 = .ok (.istore_n 3, 1) := by decide +kernel
theorem d_K_decodeTime_2 : decode prog_9_method_7_code 2 = .ok (.iconst 0, 1) := by decide +kernel
theorem d_K_decodeTime_3 : decode prog_9_method_7_code 3 = .ok (.istore 4, 2) := by decide +kernel
theorem d_K_decodeTime_5 : decode prog_9_method_7_code 5 = .ok (.iconst 0, 1) := by decide +kernel
theorem d_K_decodeTime_6 : decode prog_9_method_7_code 6 = .ok (.istore 5, 2) := by decide +kernel
abbrev q_K_shift : Mi := (⟨"MovieBoxes$Track", "shift", "([BI)I"⟩, prog_9_method_8_code, 3, (some .int))
theorem d_K_shift_0 : decode prog_9_method_8_code 0 = .ok (.aload_n 0, 1) := by decide +kernel
theorem d_K_shift_1 : decode prog_9_method_8_code 1 = .ok (.getfield 11, 3) := by decide +kernel
theorem d_K_shift_4 : decode prog_9_method_8_code 4 = .ok (.iconst 1, 1) := by decide +kernel
theorem d_K_shift_5 : decode prog_9_method_8_code 5 = .ok (.aaload, 1) := by decide +kernel
theorem d_K_shift_6 : decode prog_9_method_8_code 6 = .ok (.ifnonnull 7, 3) := by decide +kernel
theorem d_K_shift_9 : decode prog_9_method_8_code 9 = .ok (.iconst 0, 1) := by decide +kernel
theorem d_K_shift_10 : decode prog_9_method_8_code 10 = .ok (.goto 15, 3) := by decide +kernel
theorem d_K_shift_25 : decode prog_9_method_8_code 25 = .ok (.ireturn, 1) := by decide +kernel
theorem d_K_shift_13 : decode prog_9_method_8_code 13 = .ok (.aload_n 0, 1) := by decide +kernel
theorem d_K_shift_14 : decode prog_9_method_8_code 14 = .ok (.getfield 11, 3) := by decide +kernel
theorem d_K_shift_17 : decode prog_9_method_8_code 17 = .ok (.iconst 1, 1) := by decide +kernel
theorem d_K_shift_18 : decode prog_9_method_8_code 18 = .ok (.aaload, 1) := by decide +kernel
theorem d_K_shift_19 : decode prog_9_method_8_code 19 = .ok (.aload_n 1, 1) := by decide +kernel
theorem d_K_shift_20 : decode prog_9_method_8_code 20 = .ok (.iload_n 2, 1) := by decide +kernel
theorem d_K_shift_21 : decode prog_9_method_8_code 21 = .ok (.invokevirtual 66, 3) := by decide +kernel
set_option maxRecDepth 20000 in
theorem w_601 : Cond.methodLink "MovieBoxes$Track" 66 ⟨"MovieBoxes$Table", "valueAt", "([BI)I"⟩ ∈ gt := gt_of (in_t3 (List.mem_of_getElem? (i := 121) rfl)) rfl
set_option maxRecDepth 20000 in
theorem w_602 : Cond.instanceMethod ⟨"MovieBoxes$Table", "valueAt", "([BI)I"⟩ ∈ gt := gt_of (in_t3 (List.mem_of_getElem? (i := 122) rfl)) rfl
set_option maxRecDepth 20000 in
theorem w_603 : Cond.selects "MovieBoxes$Table" ⟨"MovieBoxes$Table", "valueAt", "([BI)I"⟩ ⟨"MovieBoxes$Table", "valueAt", "([BI)I"⟩ ∈ gt := gt_of (in_t3 (List.mem_of_getElem? (i := 123) rfl)) rfl
set_option maxRecDepth 20000 in
theorem w_607 : Cond.code ⟨"MovieBoxes$Table", "valueAt", "([BI)I"⟩ prog_8_method_5_code 5 (some .int) ∈ gt := gt_of (in_t3 (List.mem_of_getElem? (i := 127) rfl)) rfl
theorem lk_K_66 : LkV "MovieBoxes$Track" 66 q_T_valueAt 2 := ⟨(List.forall_mem_cons.mpr ⟨w_601, (List.forall_mem_cons.mpr ⟨w_602, (List.forall_mem_cons.mpr ⟨w_603, (List.forall_mem_cons.mpr ⟨w_12, (fun _ h => absurd h List.not_mem_nil)⟩)⟩)⟩)⟩), w_607, by decide +kernel⟩
theorem d_K_shift_24 : decode prog_9_method_8_code 24 = .ok (.i2b, 1) := by decide +kernel
abbrev q_K_sync : Mi := (⟨"MovieBoxes$Track", "sync", "([BI)I"⟩, prog_9_method_9_code, 6, (some .int))
theorem d_K_sync_0 : decode prog_9_method_9_code 0 = .ok (.aload_n 0, 1) := by decide +kernel
theorem d_K_sync_1 : decode prog_9_method_9_code 1 = .ok (.getfield 11, 3) := by decide +kernel
theorem d_K_sync_4 : decode prog_9_method_9_code 4 = .ok (.iconst 5, 1) := by decide +kernel
theorem d_K_sync_5 : decode prog_9_method_9_code 5 = .ok (.aaload, 1) := by decide +kernel
theorem d_K_sync_6 : decode prog_9_method_9_code 6 = .ok (.ifnonnull 5, 3) := by decide +kernel
theorem d_K_sync_9 : decode prog_9_method_9_code 9 = .ok (.iconst 1, 1) := by decide +kernel
theorem d_K_sync_10 : decode prog_9_method_9_code 10 = .ok (.ireturn, 1) := by decide +kernel
theorem d_K_sync_105 : decode prog_9_method_9_code 105 = .ok (.iconst 0, 1) := by decide +kernel
theorem d_K_sync_106 : decode prog_9_method_9_code 106 = .ok (.ireturn, 1) := by decide +kernel
theorem d_K_sync_70 : decode prog_9_method_9_code 70 = .ok (.iload_n 3, 1) := by decide +kernel
theorem d_K_sync_71 : decode prog_9_method_9_code 71 = .ok (.aload_n 0, 1) := by decide +kernel
theorem d_K_sync_72 : decode prog_9_method_9_code 72 = .ok (.getfield 11, 3) := by decide +kernel
theorem d_K_sync_75 : decode prog_9_method_9_code 75 = .ok (.iconst 5, 1) := by decide +kernel
theorem d_K_sync_76 : decode prog_9_method_9_code 76 = .ok (.aaload, 1) := by decide +kernel
theorem d_K_sync_77 : decode prog_9_method_9_code 77 = .ok (.getfield 38, 3) := by decide +kernel
theorem d_K_sync_80 : decode prog_9_method_9_code 80 = .ok (.if_icmp .ge 25, 3) := by decide +kernel
theorem d_K_sync_83 : decode prog_9_method_9_code 83 = .ok (.aload_n 0, 1) := by decide +kernel
theorem d_K_sync_84 : decode prog_9_method_9_code 84 = .ok (.getfield 11, 3) := by decide +kernel
theorem d_K_sync_87 : decode prog_9_method_9_code 87 = .ok (.iconst 5, 1) := by decide +kernel
theorem d_K_sync_88 : decode prog_9_method_9_code 88 = .ok (.aaload, 1) := by decide +kernel
theorem d_K_sync_89 : decode prog_9_method_9_code 89 = .ok (.aload_n 1, 1) := by decide +kernel
theorem d_K_sync_90 : decode prog_9_method_9_code 90 = .ok (.iload_n 3, 1) := by decide +kernel
theorem d_K_sync_91 : decode prog_9_method_9_code 91 = .ok (.iconst 0, 1) := by decide +kernel
theorem d_K_sync_92 : decode prog_9_method_9_code 92 = .ok (.invokevirtual 41, 3) := by decide +kernel
theorem d_K_sync_95 : decode prog_9_method_9_code 95 = .ok (.iload_n 2, 1) := by decide +kernel
theorem d_K_sync_96 : decode prog_9_method_9_code 96 = .ok (.iconst 1, 1) := by decide +kernel
theorem d_K_sync_97 : decode prog_9_method_9_code 97 = .ok (.iadd, 1) := by decide +kernel
theorem d_K_sync_98 : decode prog_9_method_9_code 98 = .ok (.if_icmp .ne 7, 3) := by decide +kernel
theorem d_K_sync_101 : decode prog_9_method_9_code 101 = .ok (.iconst 1, 1) := by decide +kernel
theorem d_K_sync_102 : decode prog_9_method_9_code 102 = .ok (.goto 4, 3) := by decide +kernel
theorem d_K_sync_24 : decode prog_9_method_9_code 24 = .ok (.iload_n 3, 1) := by decide +kernel
theorem d_K_sync_25 : decode prog_9_method_9_code 25 = .ok (.iload 4, 2) := by decide +kernel
theorem d_K_sync_27 : decode prog_9_method_9_code 27 = .ok (.if_icmp .ge 43, 3) := by decide +kernel
theorem d_K_sync_30 : decode prog_9_method_9_code 30 = .ok (.iload_n 3, 1) := by decide +kernel
theorem d_K_sync_31 : decode prog_9_method_9_code 31 = .ok (.iload 4, 2) := by decide +kernel
theorem d_K_sync_33 : decode prog_9_method_9_code 33 = .ok (.iadd, 1) := by decide +kernel
theorem d_K_sync_34 : decode prog_9_method_9_code 34 = .ok (.iconst 1, 1) := by decide +kernel
theorem d_K_sync_35 : decode prog_9_method_9_code 35 = .ok (.iushr, 1) := by decide +kernel
theorem d_K_sync_36 : decode prog_9_method_9_code 36 = .ok (.istore 5, 2) := by decide +kernel
theorem d_K_sync_38 : decode prog_9_method_9_code 38 = .ok (.aload_n 0, 1) := by decide +kernel
theorem d_K_sync_39 : decode prog_9_method_9_code 39 = .ok (.getfield 11, 3) := by decide +kernel
theorem d_K_sync_42 : decode prog_9_method_9_code 42 = .ok (.iconst 5, 1) := by decide +kernel
theorem d_K_sync_43 : decode prog_9_method_9_code 43 = .ok (.aaload, 1) := by decide +kernel
theorem d_K_sync_44 : decode prog_9_method_9_code 44 = .ok (.aload_n 1, 1) := by decide +kernel
theorem d_K_sync_45 : decode prog_9_method_9_code 45 = .ok (.iload 5, 2) := by decide +kernel
theorem d_K_sync_47 : decode prog_9_method_9_code 47 = .ok (.iconst 0, 1) := by decide +kernel
theorem d_K_sync_48 : decode prog_9_method_9_code 48 = .ok (.invokevirtual 41, 3) := by decide +kernel
theorem d_K_sync_51 : decode prog_9_method_9_code 51 = .ok (.iload_n 2, 1) := by decide +kernel
theorem d_K_sync_52 : decode prog_9_method_9_code 52 = .ok (.if_icmp .gt 11, 3) := by decide +kernel
theorem d_K_sync_63 : decode prog_9_method_9_code 63 = .ok (.iload 5, 2) := by decide +kernel
theorem d_K_sync_65 : decode prog_9_method_9_code 65 = .ok (.istore 4, 2) := by decide +kernel
theorem d_K_sync_67 : decode prog_9_method_9_code 67 = .ok (.goto (-43), 3) := by decide +kernel
theorem d_K_sync_55 : decode prog_9_method_9_code 55 = .ok (.iload 5, 2) := by decide +kernel
theorem d_K_sync_57 : decode prog_9_method_9_code 57 = .ok (.iconst 1, 1) := by decide +kernel
theorem d_K_sync_58 : decode prog_9_method_9_code 58 = .ok (.iadd, 1) := by decide +kernel
theorem d_K_sync_59 : decode prog_9_method_9_code 59 = .ok (.istore_n 3, 1) := by decide +kernel
theorem d_K_sync_60 : decode prog_9_method_9_code 60 = .ok (.goto 7, 3) := by decide +kernel
theorem d_K_sync_11 : decode prog_9_method_9_code 11 = .ok (.iconst 0, 1) := by decide +kernel
theorem d_K_sync_12 : decode prog_9_method_9_code 12 = .ok (.istore_n 3, 1) := by decide +kernel
theorem d_K_sync_13 : decode prog_9_method_9_code 13 = .ok (.aload_n 0, 1) := by decide +kernel
theorem d_K_sync_14 : decode prog_9_method_9_code 14 = .ok (.getfield 11, 3) := by decide +kernel
theorem d_K_sync_17 : decode prog_9_method_9_code 17 = .ok (.iconst 5, 1) := by decide +kernel
theorem d_K_sync_18 : decode prog_9_method_9_code 18 = .ok (.aaload, 1) := by decide +kernel
theorem d_K_sync_19 : decode prog_9_method_9_code 19 = .ok (.getfield 38, 3) := by decide +kernel
theorem d_K_sync_22 : decode prog_9_method_9_code 22 = .ok (.istore 4, 2) := by decide +kernel
abbrev q_K_mediaTime : Mi := (⟨"MovieBoxes$Track", "mediaTime", "([BI)I"⟩, prog_9_method_11_code, 7, (some .int))
theorem d_K_mediaTime_0 : decode prog_9_method_11_code 0 = .ok (.aload_n 0, 1) := by decide +kernel
theorem d_K_mediaTime_1 : decode prog_9_method_11_code 1 = .ok (.getfield 11, 3) := by decide +kernel
theorem d_K_mediaTime_4 : decode prog_9_method_11_code 4 = .ok (.bipush 6, 2) := by decide +kernel
theorem d_K_mediaTime_6 : decode prog_9_method_11_code 6 = .ok (.aaload, 1) := by decide +kernel
theorem d_K_mediaTime_7 : decode prog_9_method_11_code 7 = .ok (.astore_n 3, 1) := by decide +kernel
theorem d_K_mediaTime_8 : decode prog_9_method_11_code 8 = .ok (.aload_n 3, 1) := by decide +kernel
theorem d_K_mediaTime_9 : decode prog_9_method_11_code 9 = .ok (.ifnonnull 5, 3) := by decide +kernel
theorem d_K_mediaTime_12 : decode prog_9_method_11_code 12 = .ok (.iload_n 2, 1) := by decide +kernel
theorem d_K_mediaTime_13 : decode prog_9_method_11_code 13 = .ok (.ireturn, 1) := by decide +kernel
theorem d_K_mediaTime_20 : decode prog_9_method_11_code 20 = .ok (.iload 5, 2) := by decide +kernel
theorem d_K_mediaTime_22 : decode prog_9_method_11_code 22 = .ok (.aload_n 3, 1) := by decide +kernel
theorem d_K_mediaTime_23 : decode prog_9_method_11_code 23 = .ok (.getfield 38, 3) := by decide +kernel
theorem d_K_mediaTime_26 : decode prog_9_method_11_code 26 = .ok (.if_icmp .ge 63, 3) := by decide +kernel
theorem d_K_mediaTime_89 : decode prog_9_method_11_code 89 = .ok (.iconst (-1), 1) := by decide +kernel
theorem d_K_mediaTime_90 : decode prog_9_method_11_code 90 = .ok (.ireturn, 1) := by decide +kernel
theorem d_K_mediaTime_29 : decode prog_9_method_11_code 29 = .ok (.aload_n 3, 1) := by decide +kernel
theorem d_K_mediaTime_30 : decode prog_9_method_11_code 30 = .ok (.aload_n 1, 1) := by decide +kernel
theorem d_K_mediaTime_31 : decode prog_9_method_11_code 31 = .ok (.iload 5, 2) := by decide +kernel
theorem d_K_mediaTime_33 : decode prog_9_method_11_code 33 = .ok (.iconst 1, 1) := by decide +kernel
theorem d_K_mediaTime_34 : decode prog_9_method_11_code 34 = .ok (.invokevirtual 41, 3) := by decide +kernel
theorem d_K_mediaTime_37 : decode prog_9_method_11_code 37 = .ok (.istore 6, 2) := by decide +kernel
theorem d_K_mediaTime_39 : decode prog_9_method_11_code 39 = .ok (.iload 4, 2) := by decide +kernel
theorem d_K_mediaTime_41 : decode prog_9_method_11_code 41 = .ok (.aload_n 3, 1) := by decide +kernel
theorem d_K_mediaTime_42 : decode prog_9_method_11_code 42 = .ok (.aload_n 1, 1) := by decide +kernel
theorem d_K_mediaTime_43 : decode prog_9_method_11_code 43 = .ok (.iload 5, 2) := by decide +kernel
theorem d_K_mediaTime_45 : decode prog_9_method_11_code 45 = .ok (.iconst 0, 1) := by decide +kernel
theorem d_K_mediaTime_46 : decode prog_9_method_11_code 46 = .ok (.invokevirtual 41, 3) := by decide +kernel
theorem d_K_mediaTime_49 : decode prog_9_method_11_code 49 = .ok (.if_icmp .ge 21, 3) := by decide +kernel
theorem d_K_mediaTime_70 : decode prog_9_method_11_code 70 = .ok (.iload 4, 2) := by decide +kernel
theorem d_K_mediaTime_72 : decode prog_9_method_11_code 72 = .ok (.aload_n 3, 1) := by decide +kernel
theorem d_K_mediaTime_73 : decode prog_9_method_11_code 73 = .ok (.aload_n 1, 1) := by decide +kernel
theorem d_K_mediaTime_74 : decode prog_9_method_11_code 74 = .ok (.iload 5, 2) := by decide +kernel
theorem d_K_mediaTime_76 : decode prog_9_method_11_code 76 = .ok (.iconst 0, 1) := by decide +kernel
theorem d_K_mediaTime_77 : decode prog_9_method_11_code 77 = .ok (.invokevirtual 41, 3) := by decide +kernel
theorem d_K_mediaTime_80 : decode prog_9_method_11_code 80 = .ok (.isub, 1) := by decide +kernel
theorem d_K_mediaTime_81 : decode prog_9_method_11_code 81 = .ok (.istore 4, 2) := by decide +kernel
theorem d_K_mediaTime_83 : decode prog_9_method_11_code 83 = .ok (.iinc 5 1, 3) := by decide +kernel
theorem d_K_mediaTime_86 : decode prog_9_method_11_code 86 = .ok (.goto (-66), 3) := by decide +kernel
theorem d_K_mediaTime_52 : decode prog_9_method_11_code 52 = .ok (.iload 6, 2) := by decide +kernel
theorem d_K_mediaTime_54 : decode prog_9_method_11_code 54 = .ok (.sipush 255, 3) := by decide +kernel
theorem d_K_mediaTime_57 : decode prog_9_method_11_code 57 = .ok (.if_icmp .ne 7, 3) := by decide +kernel
theorem d_K_mediaTime_64 : decode prog_9_method_11_code 64 = .ok (.iload 6, 2) := by decide +kernel
theorem d_K_mediaTime_66 : decode prog_9_method_11_code 66 = .ok (.iload 4, 2) := by decide +kernel
theorem d_K_mediaTime_68 : decode prog_9_method_11_code 68 = .ok (.iadd, 1) := by decide +kernel
theorem d_K_mediaTime_69 : decode prog_9_method_11_code 69 = .ok (.ireturn, 1) := by decide +kernel
theorem d_K_mediaTime_60 : decode prog_9_method_11_code 60 = .ok (.iconst (-1), 1) := by decide +kernel
theorem d_K_mediaTime_61 : decode prog_9_method_11_code 61 = .ok (.goto 8, 3) := by decide +kernel
theorem d_K_mediaTime_14 : decode prog_9_method_11_code 14 = .ok (.iload_n 2, 1) := by decide +kernel
theorem d_K_mediaTime_15 : decode prog_9_method_11_code 15 = .ok (.istore 4, 2) := by decide +kernel
theorem d_K_mediaTime_17 : decode prog_9_method_11_code 17 = .ok (.iconst 0, 1) := by decide +kernel
theorem d_K_mediaTime_18 : decode prog_9_method_11_code 18 = .ok (.istore 5, 2) := by decide +kernel
/-! ===== the component: what is asked of a track ===== -/
theorem ushr1_nat : ∀ c : Nat, c < 1024 → ((zI (c : Int)).toUInt32 >>> ((zI 1).toUInt32 &&& Int32.toUInt32 31)).toInt32 = zI ((c : Int) / 2) := by decide +kernel
theorem zI_ushr1 {x : Int} (h : 0 ≤ x ∧ x < 1024) : ((zI x).toUInt32 >>> ((zI 1).toUInt32 &&& Int32.toUInt32 31)).toInt32 = zI (x / 2) := by
  obtain ⟨j, rfl⟩ := Int.eq_ofNat_of_zero_le h.1
  exact ushr1_nat j (by omega)
theorem icL_at {v : mS} {t k what : Int} (hb : byOk v) : ∀ (n c0 d : Nat), d < n → smp v t (c0 + d) ≤ k → k < smp v t (c0 + d + 1) → icL v t k what n c0 = (if what = 0 then cpl v t (1 + (c0 + d : Nat)) + sumI (fun i => szO v t (smp v t (c0 + d) + i)) (k - smp v t (c0 + d)).toNat else pv v (tb v t 2) (3 + 3 * rowU v (tb v t 2) (1 + (c0 + d : Nat)) (pv v (tb v t 2) 0).toNat))
  | 0, c0, d, h, _, _ => by omega
  | n + 1, c0, d, h, h1, h2 => by
    unfold icL
    have e : smp v t (c0 + 1) = smp v t c0 + mnO v t (1 + c0) := rfl
    rw [← e]
    cases d with
    | zero => rw [if_pos h2]; rfl
    | succ d =>
      have := smp_mono (t := t) hb (a := c0 + 1) (b := c0 + (d + 1)) (by omega)
      rw [if_neg (by omega), icL_at hb n (c0 + 1) d (by omega) (by rw [show c0 + 1 + d = c0 + (d + 1) by omega]; exact h1) (by rw [show c0 + 1 + d + 1 = c0 + (d + 1) + 1 by omega]; exact h2)]
      rw [show c0 + 1 + d = c0 + (d + 1) by omega]
theorem cnt_tot {v : mS} {t : Int} (h : ¬ cntBad v t) : totO v (tb v t 0) = pv v (tb v t 3) 1 ∧ (0 ≤ tb v t 1 → totO v (tb v t 1) = pv v (tb v t 3) 1) := by
  unfold cntBad at h
  exact ⟨Classical.byContradiction fun q => h (Or.inl q), fun p => Classical.byContradiction fun q => h (Or.inr (Or.inl ⟨p, q⟩))⟩
section XQ
variable (G : gG) (l : Launch) (y : xP) (z v : mS) (t : Nat)
set_option maxRecDepth 8000 in
theorem c_K_decodeTime (hK : tK y z v t) (k : Int) (hk : 0 ≤ k ∧ k ≤ totO v (tb v t 0)) : Ct G l q_K_decodeTime 2 0 0 [.ref (yc y (7 + t)), .ref (yc y 1), vI k] (xW G y z) (fun r w => r = some (vI (sumI (duO v t) k.toNat)) ∧ w = xW G y z) := by
  have hb := hK.1.2.2
  have bR := pv_b hb (tb v t 0) 0
  have bt := totO_b v hb (tb v t 0)
  have etot : totO v (tb v t 0) = cumI v (tb v t 0) (pv v (tb v t 0) 0).toNat := rfl
  refine Ct.intro [some (.ref (yc y (7 + t))), some (.ref (yc y 1)), some (vI k), none, none, none, none] (by decide) (Nat.le_of_ble_eq_true rfl) rfl (fun sz => ?_)
  generalize hQ : (fun r w => r = some (vI (sumI (duO v t) k.toNat)) ∧ w = xW G y z) = Q
  have fin : ∀ (a b c : Option Value) (time : Int), time = sumI (duO v t) k.toNat → WP (mth G l q_K_decodeTime 2 0 0 (xW G y z) sz Q) 0 0 (xW G y z) 77 [some (.ref (yc y (7 + t))), some (.ref (yc y 1)), some (vI k), a, some (vI time), b, c] [] := by
    intro a b c time e
    refine r_iload d_K_decodeTime_77 rfl ?_
    refine r_iret d_K_decodeTime_79 rfl (Nat.le_of_ble_eq_true rfl) (Nat.le_of_ble_eq_true rfl) ?_
    rw [← hQ]; exact ⟨by rw [e], rfl⟩
  have lp : ∀ (f r : Nat) (left time : Int) (x6 : Option Value), (r : Int) ≤ pv v (tb v t 0) 0 → (pv v (tb v t 0) 0).toNat - r = f → ((0 < left ∧ left = k - cumI v (tb v t 0) r ∧ time = sumI (duO v t) (cumI v (tb v t 0) r).toNat) ∨ (left = 0 ∧ time = sumI (duO v t) k.toNat)) → WP (mth G l q_K_decodeTime 2 0 0 (xW G y z) sz Q) 0 0 (xW G y z) 8 [some (.ref (yc y (7 + t))), some (.ref (yc y 1)), some (vI k), some (vI left), some (vI time), some (vI r), x6] [] := by
    intro f
    induction f with
    | zero =>
      intro r left time x6 hr hf hc
      have er : r = (pv v (tb v t 0) 0).toNat := by omega
      refine r_iload d_K_decodeTime_8 rfl ?_
      refine r_aload_n d_K_decodeTime_10 rfl rfl ?_
      refine r_get d_K_decodeTime_11 fl_K_11_6 (7+t) (xw_k hK.1.1) rfl ?_
      refine r_iconst d_K_decodeTime_14 ?_
      refine r_tab (sl := 0) d_K_decodeTime_15 hK hK.2.2.2.1 ⟨by omega, by omega⟩ ?_
      show WP _ _ _ _ _ _ (.ref (yo y (tb v t 0)) :: _)
      refine r_rows (sl := 0) d_K_decodeTime_16 ft_K_38 hK hK.2.2.2.1 ⟨by omega, by omega⟩ ?_
      show WP _ _ _ _ _ _ (vI (pv v (tb v t 0) 0) :: _)
      refine r_icmp_ge 77 d_K_decodeTime_19 (by decide) (by unfold i32; omega) (by unfold i32; omega) (fun h1 => ?_) (fun h1 => ?_)
      · refine fin _ _ _ time ?_
        rcases hc with ⟨a, b, c⟩ | ⟨a, b⟩
        · rw [er, ← etot] at b; omega
        · exact b
      · omega
    | succ f ih =>
      intro r left time x6 hr hf hc
      have hlb : 0 ≤ left ∧ left ≤ 70000 := by
        rcases hc with ⟨a, b, c⟩ | ⟨a, b⟩
        · have := (sumI_b (f := fun r => pv v (tb v t 0) (1 + 2 * r)) (fun i => pv_b hb _ _) r).1
          have this : 0 ≤ cumI v (tb v t 0) r := this
          omega
        · omega
      refine r_iload d_K_decodeTime_8 rfl ?_
      refine r_aload_n d_K_decodeTime_10 rfl rfl ?_
      refine r_get d_K_decodeTime_11 fl_K_11_6 (7+t) (xw_k hK.1.1) rfl ?_
      refine r_iconst d_K_decodeTime_14 ?_
      refine r_tab (sl := 0) d_K_decodeTime_15 hK hK.2.2.2.1 ⟨by omega, by omega⟩ ?_
      show WP _ _ _ _ _ _ (.ref (yo y (tb v t 0)) :: _)
      refine r_rows (sl := 0) d_K_decodeTime_16 ft_K_38 hK hK.2.2.2.1 ⟨by omega, by omega⟩ ?_
      show WP _ _ _ _ _ _ (vI (pv v (tb v t 0) 0) :: _)
      refine r_icmp_ge 77 d_K_decodeTime_19 (by decide) (by unfold i32; omega) (by unfold i32; omega) (fun h1 => ?_) (fun h1 => ?_)
      · omega
      · refine r_iload_n d_K_decodeTime_22 rfl ?_
        refine r_if_le 77 d_K_decodeTime_23 (by decide) (by unfold i32; omega) (fun h2 => ?_) (fun h2 => ?_)
        · refine fin _ _ _ time ?_
          rcases hc with ⟨a, b, c⟩ | ⟨a, b⟩
          · omega
          · exact b
        · obtain ⟨a, b, c⟩ := hc.resolve_right (by omega)
          have bc := pv_b hb (tb v t 0) (1 + 2 * (r : Int))
          have bv := pv_b hb (tb v t 0) (2 + 2 * (r : Int))
          have hrr : (r : Int) < pv v (tb v t 0) 0 := by omega
          have hcum := (sumI_b (f := fun r => pv v (tb v t 0) (1 + 2 * r)) (fun i => pv_b hb _ _) r).1
          have hcum : 0 ≤ cumI v (tb v t 0) r := hcum
          have ecum : cumI v (tb v t 0) (r + 1) = cumI v (tb v t 0) r + pv v (tb v t 0) (1 + 2 * (r : Int)) := rfl
          refine r_iload_n d_K_decodeTime_26 rfl ?_
          refine r_aload_n d_K_decodeTime_27 rfl rfl ?_
          refine r_get d_K_decodeTime_28 fl_K_11_6 (7+t) (xw_k hK.1.1) rfl ?_
          refine r_iconst d_K_decodeTime_31 ?_
          refine r_tab (sl := 0) d_K_decodeTime_32 hK hK.2.2.2.1 ⟨by omega, by omega⟩ ?_
          show WP _ _ _ _ _ _ (.ref (yo y (tb v t 0)) :: _)
          refine r_aload_n d_K_decodeTime_33 rfl rfl ?_
          refine r_iload d_K_decodeTime_34 rfl ?_
          refine r_iconst d_K_decodeTime_36 ?_
          refine r_cV3 d_K_decodeTime_37 lk_K_41 (c_c0 G l y z v t hK ((r : Int)) (0) (by omega) (by omega)) (13 + tb v t 0).toNat rfl (xw_bc (tK_k hK hK.2.2.2.1 ⟨by omega, by omega⟩) (tK_cT hK hK.2.2.2.1 (by omega))) (Nat.le_of_ble_eq_true rfl) (rok rfl rfl) ⟨(Nat.le_of_ble_eq_true rfl), (Nat.le_of_ble_eq_true rfl)⟩ (fun r ws2 hq => ?_)
          obtain ⟨rfl, rfl⟩ := hq
          show WP _ _ _ _ _ _ (_ :: _)
          rw [Int.add_zero]
          refine r_mmin d_K_decodeTime_40 w_596 (by unfold i32; omega) (by unfold i32; omega) rfl rfl (Nat.le_of_ble_eq_true rfl) (Nat.le_of_ble_eq_true rfl) ?_
          generalize hnn : (if pv v (tb v t 0) (1 + 2 * (r : Int)) < left then pv v (tb v t 0) (1 + 2 * (r : Int)) else left) = nn
          refine r_istore d_K_decodeTime_43 (Nat.le_of_ble_eq_true rfl) rfl ?_
          show WP _ _ _ _ _ [_, _, _, _, _, _, _] _
          refine r_iload d_K_decodeTime_45 rfl ?_
          refine r_iload d_K_decodeTime_47 rfl ?_
          refine r_aload_n d_K_decodeTime_49 rfl rfl ?_
          refine r_get d_K_decodeTime_50 fl_K_11_6 (7+t) (xw_k hK.1.1) rfl ?_
          refine r_iconst d_K_decodeTime_53 ?_
          refine r_tab (sl := 0) d_K_decodeTime_54 hK hK.2.2.2.1 ⟨by omega, by omega⟩ ?_
          show WP _ _ _ _ _ _ (.ref (yo y (tb v t 0)) :: _)
          refine r_aload_n d_K_decodeTime_55 rfl rfl ?_
          refine r_iload d_K_decodeTime_56 rfl ?_
          refine r_iconst d_K_decodeTime_58 ?_
          refine r_cV3 d_K_decodeTime_59 lk_K_41 (c_c0 G l y z v t hK ((r : Int)) (1) (by omega) (by omega)) (13 + tb v t 0).toNat rfl (xw_bc (tK_k hK hK.2.2.2.1 ⟨by omega, by omega⟩) (tK_cT hK hK.2.2.2.1 (by omega))) (Nat.le_of_ble_eq_true rfl) (rok rfl rfl) ⟨(Nat.le_of_ble_eq_true rfl), (Nat.le_of_ble_eq_true rfl)⟩ (fun r ws2 hq => ?_)
          obtain ⟨rfl, rfl⟩ := hq
          show WP _ _ _ _ _ _ (_ :: _)
          rw [show 1 + 2 * (r : Int) + 1 = 2 + 2 * r by omega]
          refine r_imul d_K_decodeTime_62 ?_
          refine r_iadd d_K_decodeTime_63 ?_
          refine r_istore d_K_decodeTime_64 (Nat.le_of_ble_eq_true rfl) rfl ?_
          show WP _ _ _ _ _ [_, _, _, _, _, _, _] _
          refine r_iload_n d_K_decodeTime_66 rfl ?_
          refine r_iload d_K_decodeTime_67 rfl ?_
          refine r_isub d_K_decodeTime_69 ?_
          refine r_istore_n d_K_decodeTime_70 (Nat.le_of_ble_eq_true rfl) rfl ?_
          show WP _ _ _ _ _ [_, _, _, _, _, _, _] _
          refine r_iinc d_K_decodeTime_71 rfl (Nat.le_of_ble_eq_true rfl) rfl ?_
          show WP _ _ _ _ _ [_, _, _, _, _, _, _] _
          refine r_goto 8 d_K_decodeTime_74 (by decide) ?_
          refine ih (r + 1) _ _ _ (by omega) (by omega) ?_
          have hn0 : 0 ≤ nn ∧ nn ≤ pv v (tb v t 0) (1 + 2 * (r : Int)) ∧ nn ≤ left := by rw [← hnn]; split <;> omega
          have hrun := du_run (t := (t : Int)) hb hrr nn.toNat (by omega)
          rw [show ((nn.toNat : Nat) : Int) = nn by omega] at hrun
          rw [c, ← hrun]
          by_cases q : pv v (tb v t 0) (1 + 2 * (r : Int)) < left
          · rw [if_pos q] at hnn
            left
            refine ⟨by omega, by omega, ?_⟩
            congr 1
            omega
          · rw [if_neg q] at hnn
            right
            refine ⟨by omega, ?_⟩
            congr 1
            omega
  refine r_iload_n d_K_decodeTime_0 rfl ?_
  refine r_istore_n d_K_decodeTime_1 (Nat.le_of_ble_eq_true rfl) rfl ?_
  show WP _ _ _ _ _ [_, _, _, _, _, _, _] _
  refine r_iconst d_K_decodeTime_2 ?_
  refine r_istore d_K_decodeTime_3 (Nat.le_of_ble_eq_true rfl) rfl ?_
  show WP _ _ _ _ _ [_, _, _, _, _, _, _] _
  refine r_iconst d_K_decodeTime_5 ?_
  refine r_istore d_K_decodeTime_6 (Nat.le_of_ble_eq_true rfl) rfl ?_
  show WP _ _ _ _ _ [_, _, _, _, _, _, _] _
  refine lp _ 0 k 0 none (by omega) rfl ?_
  have e0 : cumI v (tb v t 0) 0 = 0 := rfl
  by_cases q : 0 < k
  · exact Or.inl ⟨q, by omega, rfl⟩
  · have : k = 0 := by omega
    subst this
    exact Or.inr ⟨rfl, rfl⟩
theorem c_kva (hK : tK y z v t) {sl : Int} (hs : sl = 0 ∨ sl = 1) (h0 : 0 ≤ ts v t sl) (k : Int) (hk : 0 ≤ k ∧ k < totO v (ts v t sl)) : Ct G l q_T_valueAt 2 0 0 [.ref (yo y (ts v t sl)), .ref (yc y 1), vI k] (xW G y z) (fun r w => r = some (vI (rvK v (ts v t sl) k)) ∧ w = xW G y z) := by
  have hX := hK.2.2.1 sl (by omega) (by omega) h0
  have bt := totO_b v hK.1.2.2 (ts v t sl)
  have h17 := hX.2.2.2.2.1
  rw [if_neg (by omega)] at h17
  have := c_T_valueAt G l y z (ts v t sl) k hK.1.2.1 (tK_tz y z v t hK (by omega) h0) (by omega)
  rw [vaO_eq hK.1.2.2 hX.pv_eq h17 hk] at this
  exact this
theorem c_K_shift (hK : tK y z v t) (k : Int) (hk : 0 ≤ k ∧ (0 ≤ tb v t 1 → k < totO v (tb v t 1))) : Ct G l q_K_shift 3 0 0 [.ref (yc y (7 + t)), .ref (yc y 1), vI k] (xW G y z) (fun r w => r = some (vI (shO v t k)) ∧ w = xW G y z) := by
  refine Ct.intro [some (.ref (yc y (7 + t))), some (.ref (yc y 1)), some (vI k)] (by decide) (Nat.le_of_ble_eq_true rfl) rfl (fun sz => ?_)
  generalize hQ : (fun r w => r = some (vI (shO v t k)) ∧ w = xW G y z) = Q
  refine r_aload_n d_K_shift_0 rfl rfl ?_
  refine r_get d_K_shift_1 fl_K_11_6 (7+t) (xw_k hK.1.1) rfl ?_
  refine r_iconst d_K_shift_4 ?_
  refine r_tabN (sl := 1) d_K_shift_5 hK ⟨by omega, by omega⟩ ?_
  show WP _ _ _ _ _ _ (va_rf (rN (yo y) (tb v t 1)) :: _)
  refine r_ifnonnull 13 d_K_shift_6 (by decide) (fun h1 => ?_) (fun h1a h1 => ?_)
  · have h2 := rN_none.mp h1
    refine r_iconst d_K_shift_9 ?_
    refine r_goto 25 d_K_shift_10 (by decide) ?_
    refine r_iret d_K_shift_25 rfl (Nat.le_of_ble_eq_true rfl) (Nat.le_of_ble_eq_true rfl) ?_
    rw [← hQ]; exact ⟨by unfold shO; rw [if_pos h2], rfl⟩
  · have p1 : 0 ≤ ts v t 1 := Classical.byContradiction fun q => by rw [rN_none.mpr (show tb v t 1 < 0 from by have : ¬ 0 ≤ tb v t 1 := q; omega)] at h1; cases h1
    have p1' : 0 ≤ tb v t 1 := p1
    have hv : 0 ≤ rvK v (tb v t 1) k ∧ rvK v (tb v t 1) k < 256 := rv_b (fun r => pv_b hK.1.2.2 _ _) k _ _ _
    refine r_aload_n d_K_shift_13 rfl rfl ?_
    refine r_get d_K_shift_14 fl_K_11_6 (7+t) (xw_k hK.1.1) rfl ?_
    refine r_iconst d_K_shift_17 ?_
    refine r_tab (sl := 1) d_K_shift_18 hK p1 ⟨by omega, by omega⟩ ?_
    show WP _ _ _ _ _ _ (.ref (yo y (tb v t 1)) :: _)
    refine r_aload_n d_K_shift_19 rfl rfl ?_
    refine r_iload_n d_K_shift_20 rfl ?_
    refine r_cV2 d_K_shift_21 lk_K_66 (c_kva G l y z v t hK (sl := 1) (by omega) p1 k ⟨hk.1, hk.2 p1⟩) (13 + tb v t 1).toNat rfl (xw_bc (tK_k hK p1 ⟨by omega, by omega⟩) (tK_cT hK p1 (by omega))) (Nat.le_of_ble_eq_true rfl) (rok rfl rfl) ⟨(Nat.le_of_ble_eq_true rfl), (Nat.le_of_ble_eq_true rfl)⟩ (fun r ws2 hq => ?_)
    obtain ⟨rfl, rfl⟩ := hq
    show WP _ _ _ _ _ _ (_ :: _)
    show WP _ _ _ _ _ _ (vI (rvK v (tb v t 1) k) :: _)
    refine r_i2b d_K_shift_24 ?_
    rw [zB_sb hv]
    refine r_iret d_K_shift_25 rfl (Nat.le_of_ble_eq_true rfl) (Nat.le_of_ble_eq_true rfl) ?_
    have esh : shO v t k = sbO (rvK v (tb v t 1) k) := by unfold shO sbO; rw [if_neg (show ¬ tb v t 1 < 0 by omega)]
    rw [← hQ]; exact ⟨by rw [esh], rfl⟩
theorem c_K_sync (hK : tK y z v t) (hS : 0 ≤ tb v t 6 → syA v t) (k : Int) (hk : 0 ≤ k ∧ k < 256) : Ct G l q_K_sync 2 0 0 [.ref (yc y (7 + t)), .ref (yc y 1), vI k] (xW G y z) (fun r w => r = some (vI (syO v t k)) ∧ w = xW G y z) := by
  have hb := hK.1.2.2
  refine Ct.intro [some (.ref (yc y (7 + t))), some (.ref (yc y 1)), some (vI k), none, none, none] (by decide) (Nat.le_of_ble_eq_true rfl) rfl (fun sz => ?_)
  generalize hQ : (fun r w => r = some (vI (syO v t k)) ∧ w = xW G y z) = Q
  refine r_aload_n d_K_sync_0 rfl rfl ?_
  refine r_get d_K_sync_1 fl_K_11_6 (7+t) (xw_k hK.1.1) rfl ?_
  refine r_iconst d_K_sync_4 ?_
  refine r_tabN (sl := 5) d_K_sync_5 hK ⟨by omega, by omega⟩ ?_
  show WP _ _ _ _ _ _ (va_rf (rN (yo y) (tb v t 6)) :: _)
  refine r_ifnonnull 11 d_K_sync_6 (by decide) (fun h1 => ?_) (fun h1a h1 => ?_)
  · have h2 := rN_none.mp h1
    refine r_iconst d_K_sync_9 ?_
    refine r_iret d_K_sync_10 rfl (Nat.le_of_ble_eq_true rfl) (Nat.le_of_ble_eq_true rfl) ?_
    rw [← hQ]; exact ⟨by unfold syO; rw [if_pos h2], rfl⟩
  · have p5 : 0 ≤ ts v t 5 := Classical.byContradiction fun q => by rw [rN_none.mpr (show tb v t 6 < 0 from by have : ¬ 0 ≤ tb v t 6 := q; omega)] at h1; cases h1
    have p6 : 0 ≤ tb v t 6 := p5
    have hA := hS p6
    have bR := pv_b hb (tb v t 6) 0
    have eq : syO v t k = b2 (exB (fun r => pv v (tb v t 6) (1 + r) = k + 1) (pv v (tb v t 6) 0).toNat) := by unfold syO; rw [if_neg (by omega)]
    have mono : ∀ (d : Nat) (j : Int), 0 ≤ j → j + d < pv v (tb v t 6) 0 → pv v (tb v t 6) (1 + j) ≤ pv v (tb v t 6) (1 + (j + d)) := by
      intro d
      induction d with
      | zero => intro j _ _; rw [show j + ((0 : Nat) : Int) = j by omega]; exact Int.le_refl _
      | succ d ih =>
        intro j j0 hd
        have a := ih j j0 (by omega)
        have b := (hA (j + (d + 1 : Nat)) (by omega) hd).2 (by omega)
        rw [show j + ((d + 1 : Nat) : Int) = 1 + (j + d) by omega] at b ⊢
        omega
    have mono2 : ∀ i j : Int, 0 ≤ i → i ≤ j → j < pv v (tb v t 6) 0 → pv v (tb v t 6) (1 + i) ≤ pv v (tb v t 6) (1 + j) := by
      intro i j i0 ij j1
      have := mono (j - i).toNat i i0 (by omega)
      rw [show i + (((j - i).toNat : Nat) : Int) = j by omega] at this
      exact this
    have c70 : ∀ (low : Int) (a b : Option Value), 0 ≤ low → low ≤ pv v (tb v t 6) 0 → (∀ j, 0 ≤ j → j < low → pv v (tb v t 6) (1 + j) ≤ k) → (∀ j, low ≤ j → j < pv v (tb v t 6) 0 → k < pv v (tb v t 6) (1 + j)) → WP (mth G l q_K_sync 2 0 0 (xW G y z) sz Q) 0 0 (xW G y z) 70 [some (.ref (yc y (7 + t))), some (.ref (yc y 1)), some (vI k), some (vI low), a, b] [] := by
      intro low a b l0 l1 hlo hhi
      have f0 : ¬ exB (fun r => pv v (tb v t 6) (1 + r) = k + 1) (pv v (tb v t 6) 0).toNat → WP (mth G l q_K_sync 2 0 0 (xW G y z) sz Q) 0 0 (xW G y z) 105 [some (.ref (yc y (7 + t))), some (.ref (yc y 1)), some (vI k), some (vI low), a, b] [] := by
        intro h
        refine r_iconst d_K_sync_105 ?_
        refine r_iret d_K_sync_106 rfl (Nat.le_of_ble_eq_true rfl) (Nat.le_of_ble_eq_true rfl) ?_
        rw [← hQ]; exact ⟨by rw [eq, b2_f h], rfl⟩
      refine r_iload_n d_K_sync_70 rfl ?_
      refine r_aload_n d_K_sync_71 rfl rfl ?_
      refine r_get d_K_sync_72 fl_K_11_6 (7+t) (xw_k hK.1.1) rfl ?_
      refine r_iconst d_K_sync_75 ?_
      refine r_tab (sl := 5) d_K_sync_76 hK p5 ⟨by omega, by omega⟩ ?_
      show WP _ _ _ _ _ _ (.ref (yo y (tb v t 6)) :: _)
      refine r_rows (sl := 5) d_K_sync_77 ft_K_38 hK p5 ⟨by omega, by omega⟩ ?_
      show WP _ _ _ _ _ _ (vI (pv v (tb v t 6) 0) :: _)
      refine r_icmp_ge 105 d_K_sync_80 (by decide) (by unfold i32; omega) (by unfold i32; omega) (fun h2 => ?_) (fun h2 => ?_)
      · refine f0 ?_
        rintro ⟨j, j1, j2⟩
        have := hlo j (by omega) (by omega)
        omega
      · have bl := pv_b hb (tb v t 6) (1 + low)
        refine r_aload_n d_K_sync_83 rfl rfl ?_
        refine r_get d_K_sync_84 fl_K_11_6 (7+t) (xw_k hK.1.1) rfl ?_
        refine r_iconst d_K_sync_87 ?_
        refine r_tab (sl := 5) d_K_sync_88 hK p5 ⟨by omega, by omega⟩ ?_
        show WP _ _ _ _ _ _ (.ref (yo y (tb v t 6)) :: _)
        refine r_aload_n d_K_sync_89 rfl rfl ?_
        refine r_iload_n d_K_sync_90 rfl ?_
        refine r_iconst d_K_sync_91 ?_
        refine r_cV3 d_K_sync_92 lk_K_41 (c_c5 G l y z v t hK p5 (low) (0) (by omega) (by omega)) (13 + tb v t 6).toNat rfl (xw_bc (tK_k hK p5 ⟨by omega, by omega⟩) (tK_cT hK p5 (by omega))) (Nat.le_of_ble_eq_true rfl) (rok rfl rfl) ⟨(Nat.le_of_ble_eq_true rfl), (Nat.le_of_ble_eq_true rfl)⟩ (fun r ws2 hq => ?_)
        obtain ⟨rfl, rfl⟩ := hq
        show WP _ _ _ _ _ _ (_ :: _)
        refine r_iload_n d_K_sync_95 rfl ?_
        refine r_iconst d_K_sync_96 ?_
        refine r_iadd d_K_sync_97 ?_
        refine r_icmp_ne 105 d_K_sync_98 (by decide) (by unfold i32; omega) (by unfold i32; omega) (fun h3 => ?_) (fun h3 => ?_)
        · refine f0 ?_
          rintro ⟨j, j1, j2⟩
          by_cases q : (j : Int) < low
          · have := hlo j (by omega) q; omega
          · have := mono2 low j l0 (by omega) (by omega)
            have := hhi low (by omega) (by omega)
            omega
        · have h3 := Classical.not_not.mp h3
          refine r_iconst d_K_sync_101 ?_
          refine r_goto 106 d_K_sync_102 (by decide) ?_
          refine r_iret d_K_sync_106 rfl (Nat.le_of_ble_eq_true rfl) (Nat.le_of_ble_eq_true rfl) ?_
          rw [← hQ]; exact ⟨by rw [eq, b2_t ⟨low.toNat, by omega, by rw [show ((low.toNat : Nat) : Int) = low by omega]; exact h3⟩], rfl⟩
    have lp : ∀ (f : Nat) (low high : Int) (x5 : Option Value), 0 ≤ low → low ≤ high → high ≤ pv v (tb v t 6) 0 → high - low ≤ f → (∀ j, 0 ≤ j → j < low → pv v (tb v t 6) (1 + j) ≤ k) → (∀ j, high ≤ j → j < pv v (tb v t 6) 0 → k < pv v (tb v t 6) (1 + j)) → WP (mth G l q_K_sync 2 0 0 (xW G y z) sz Q) 0 0 (xW G y z) 24 [some (.ref (yc y (7 + t))), some (.ref (yc y 1)), some (vI k), some (vI low), some (vI high), x5] [] := by
      intro f
      induction f with
      | zero =>
        intro low high x5 l0 lh hr hf hlo hhi
        refine r_iload_n d_K_sync_24 rfl ?_
        refine r_iload d_K_sync_25 rfl ?_
        refine r_icmp_ge 70 d_K_sync_27 (by decide) (by unfold i32; omega) (by unfold i32; omega) (fun h2 => ?_) (fun h2 => ?_)
        · exact c70 low _ _ l0 (by omega) hlo (fun j a b => hhi j (by omega) b)
        · omega
      | succ f ih =>
        intro low high x5 l0 lh hr hf hlo hhi
        refine r_iload_n d_K_sync_24 rfl ?_
        refine r_iload d_K_sync_25 rfl ?_
        refine r_icmp_ge 70 d_K_sync_27 (by decide) (by unfold i32; omega) (by unfold i32; omega) (fun h2 => ?_) (fun h2 => ?_)
        · exact c70 low _ _ l0 (by omega) hlo (fun j a b => hhi j (by omega) b)
        · refine r_iload_n d_K_sync_30 rfl ?_
          refine r_iload d_K_sync_31 rfl ?_
          refine r_iadd d_K_sync_33 ?_
          refine r_iconst d_K_sync_34 ?_
          refine r_iushrR d_K_sync_35 ?_
          rw [zI_ushr1 (by omega)]
          generalize hmid : (low + high) / 2 = mid
          have hm : low ≤ mid ∧ mid < high := by omega
          have bm := pv_b hb (tb v t 6) (1 + mid)
          refine r_istore d_K_sync_36 (Nat.le_of_ble_eq_true rfl) rfl ?_
          show WP _ _ _ _ _ [_, _, _, _, _, _] _
          refine r_aload_n d_K_sync_38 rfl rfl ?_
          refine r_get d_K_sync_39 fl_K_11_6 (7+t) (xw_k hK.1.1) rfl ?_
          refine r_iconst d_K_sync_42 ?_
          refine r_tab (sl := 5) d_K_sync_43 hK p5 ⟨by omega, by omega⟩ ?_
          show WP _ _ _ _ _ _ (.ref (yo y (tb v t 6)) :: _)
          refine r_aload_n d_K_sync_44 rfl rfl ?_
          refine r_iload d_K_sync_45 rfl ?_
          refine r_iconst d_K_sync_47 ?_
          refine r_cV3 d_K_sync_48 lk_K_41 (c_c5 G l y z v t hK p5 (mid) (0) (by omega) (by omega)) (13 + tb v t 6).toNat rfl (xw_bc (tK_k hK p5 ⟨by omega, by omega⟩) (tK_cT hK p5 (by omega))) (Nat.le_of_ble_eq_true rfl) (rok rfl rfl) ⟨(Nat.le_of_ble_eq_true rfl), (Nat.le_of_ble_eq_true rfl)⟩ (fun r ws2 hq => ?_)
          obtain ⟨rfl, rfl⟩ := hq
          show WP _ _ _ _ _ _ (_ :: _)
          refine r_iload_n d_K_sync_51 rfl ?_
          refine r_icmp_gt 63 d_K_sync_52 (by decide) (by unfold i32; omega) (by unfold i32; omega) (fun h3 => ?_) (fun h3 => ?_)
          · refine r_iload d_K_sync_63 rfl ?_
            refine r_istore d_K_sync_65 (Nat.le_of_ble_eq_true rfl) rfl ?_
            show WP _ _ _ _ _ [_, _, _, _, _, _] _
            refine r_goto 24 d_K_sync_67 (by decide) ?_
            refine ih low mid _ l0 (by omega) (by omega) (by omega) hlo (fun j a b => ?_)
            have := mono2 mid j (by omega) a b
            omega
          · refine r_iload d_K_sync_55 rfl ?_
            refine r_iconst d_K_sync_57 ?_
            refine r_iadd d_K_sync_58 ?_
            refine r_istore_n d_K_sync_59 (Nat.le_of_ble_eq_true rfl) rfl ?_
            show WP _ _ _ _ _ [_, _, _, _, _, _] _
            refine r_goto 67 d_K_sync_60 (by decide) ?_
            refine r_goto 24 d_K_sync_67 (by decide) ?_
            refine ih (mid + 1) high _ (by omega) (by omega) hr (by omega) (fun j a b => ?_) hhi
            have := mono2 j mid a (by omega) (by omega)
            omega
    refine r_iconst d_K_sync_11 ?_
    refine r_istore_n d_K_sync_12 (Nat.le_of_ble_eq_true rfl) rfl ?_
    show WP _ _ _ _ _ [_, _, _, _, _, _] _
    refine r_aload_n d_K_sync_13 rfl rfl ?_
    refine r_get d_K_sync_14 fl_K_11_6 (7+t) (xw_k hK.1.1) rfl ?_
    refine r_iconst d_K_sync_17 ?_
    refine r_tab (sl := 5) d_K_sync_18 hK p5 ⟨by omega, by omega⟩ ?_
    show WP _ _ _ _ _ _ (.ref (yo y (tb v t 6)) :: _)
    refine r_rows (sl := 5) d_K_sync_19 ft_K_38 hK p5 ⟨by omega, by omega⟩ ?_
    show WP _ _ _ _ _ _ (vI (pv v (tb v t 6) 0) :: _)
    refine r_istore d_K_sync_22 (Nat.le_of_ble_eq_true rfl) rfl ?_
    show WP _ _ _ _ _ [_, _, _, _, _, _] _
    exact lp (pv v (tb v t 6) 0).toNat 0 _ none (by omega) (by omega) (by omega) (by omega) (fun j a b => by omega) (fun j a b => by omega)
theorem c_K_mediaTime (hK : tK y z v t) (time : Int) (ht0 : 0 ≤ time ∧ i32 time) : Ct G l q_K_mediaTime 2 0 0 [.ref (yc y (7 + t)), .ref (yc y 1), vI time] (xW G y z) (fun r w => r = some (vI (if mtO v t time = -1000 then -1 else mtO v t time)) ∧ w = xW G y z) := by
  have hb := hK.1.2.2
  have hi := ht0.2
  unfold i32 at hi
  refine Ct.intro [some (.ref (yc y (7 + t))), some (.ref (yc y 1)), some (vI time), none, none, none, none] (by decide) (Nat.le_of_ble_eq_true rfl) rfl (fun sz => ?_)
  generalize hQ : (fun r w => r = some (vI (if mtO v t time = -1000 then -1 else mtO v t time)) ∧ w = xW G y z) = Q
  refine r_aload_n d_K_mediaTime_0 rfl rfl ?_
  refine r_get d_K_mediaTime_1 fl_K_11_6 (7+t) (xw_k hK.1.1) rfl ?_
  refine r_bipush d_K_mediaTime_4 (by decide) ?_
  refine r_tabN (sl := 6) d_K_mediaTime_6 hK ⟨by omega, by omega⟩ ?_
  show WP _ _ _ _ _ _ (va_rf (rN (yo y) (tb v t 7)) :: _)
  refine r_astore_n d_K_mediaTime_7 (Nat.le_of_ble_eq_true rfl) rfl (isRf_rf _) ?_
  show WP _ _ _ _ _ [_, _, _, _, _, _, _] _
  refine r_aload_n d_K_mediaTime_8 rfl (isRf_rf _) ?_
  refine r_ifnonnull 14 d_K_mediaTime_9 (by decide) (fun h1 => ?_) (fun h1a h1 => ?_)
  · have h2 := rN_none.mp h1
    have e : mtO v t time = time := by unfold mtO; rw [if_pos h2]
    refine r_iload_n d_K_mediaTime_12 rfl ?_
    refine r_iret d_K_mediaTime_13 rfl (Nat.le_of_ble_eq_true rfl) (Nat.le_of_ble_eq_true rfl) ?_
    rw [← hQ]; exact ⟨by rw [e, if_neg (by omega)], rfl⟩
  · have p6 : 0 ≤ ts v t 6 := Classical.byContradiction fun q => by rw [rN_none.mpr (show tb v t 7 < 0 from by have : ¬ 0 ≤ tb v t 7 := q; omega)] at h1; cases h1
    have p7 : 0 ≤ tb v t 7 := p6
    rw [rN_nn p7]
    have bR := pv_b hb (tb v t 7) 0
    have lp : ∀ (f r : Nat) (bf : Int) (x6 : Option Value), (r : Int) ≤ pv v (tb v t 7) 0 → (pv v (tb v t 7) 0).toNat - r = f → 0 ≤ bf → bf ≤ time → mtL (fun r => pv v (tb v t 7) (1 + 2 * r)) (fun r => pv v (tb v t 7) (2 + 2 * r)) time f r bf = mtO v t time → WP (mth G l q_K_mediaTime 2 0 0 (xW G y z) sz Q) 0 0 (xW G y z) 20 [some (.ref (yc y (7 + t))), some (.ref (yc y 1)), some (vI time), some (.ref (yo y (tb v t 7))), some (vI (time - bf)), some (vI r), x6] [] := by
      intro f
      induction f with
      | zero =>
        intro r bf x6 hr hf b0 b1 he
        have he : -1000 = mtO v t time := he
        refine r_iload d_K_mediaTime_20 rfl ?_
        refine r_aload_n d_K_mediaTime_22 rfl rfl ?_
        refine r_rows (sl := 6) d_K_mediaTime_23 ft_K_38 hK p6 ⟨by omega, by omega⟩ ?_
        show WP _ _ _ _ _ _ (vI (pv v (tb v t 7) 0) :: _)
        refine r_icmp_ge 89 d_K_mediaTime_26 (by decide) (by unfold i32; omega) (by unfold i32; omega) (fun h2 => ?_) (fun h2 => ?_)
        · refine r_iconst d_K_mediaTime_89 ?_
          refine r_iret d_K_mediaTime_90 rfl (Nat.le_of_ble_eq_true rfl) (Nat.le_of_ble_eq_true rfl) ?_
          rw [← hQ]; exact ⟨by rw [← he, if_pos rfl], rfl⟩
        · omega
      | succ f ih =>
        intro r bf x6 hr hf b0 b1 he
        have bc := pv_b hb (tb v t 7) (1 + 2 * (r : Int))
        have bv := pv_b hb (tb v t 7) (2 + 2 * (r : Int))
        have he : (if time < bf + pv v (tb v t 7) (1 + 2 * (r : Int)) then (if pv v (tb v t 7) (2 + 2 * (r : Int)) = 255 then -1000 else pv v (tb v t 7) (2 + 2 * (r : Int)) + time - bf) else mtL (fun r => pv v (tb v t 7) (1 + 2 * r)) (fun r => pv v (tb v t 7) (2 + 2 * r)) time f ((r : Int) + 1) (bf + pv v (tb v t 7) (1 + 2 * (r : Int)))) = mtO v t time := he
        refine r_iload d_K_mediaTime_20 rfl ?_
        refine r_aload_n d_K_mediaTime_22 rfl rfl ?_
        refine r_rows (sl := 6) d_K_mediaTime_23 ft_K_38 hK p6 ⟨by omega, by omega⟩ ?_
        show WP _ _ _ _ _ _ (vI (pv v (tb v t 7) 0) :: _)
        refine r_icmp_ge 89 d_K_mediaTime_26 (by decide) (by unfold i32; omega) (by unfold i32; omega) (fun h2 => ?_) (fun h2 => ?_)
        · omega
        · refine r_aload_n d_K_mediaTime_29 rfl rfl ?_
          refine r_aload_n d_K_mediaTime_30 rfl rfl ?_
          refine r_iload d_K_mediaTime_31 rfl ?_
          refine r_iconst d_K_mediaTime_33 ?_
          refine r_cV3 d_K_mediaTime_34 lk_K_41 (c_c6 G l y z v t hK p6 ((r : Int)) (1) (by omega) (by omega)) (13 + tb v t 7).toNat rfl (xw_bc (tK_k hK p6 ⟨by omega, by omega⟩) (tK_cT hK p6 (by omega))) (Nat.le_of_ble_eq_true rfl) (rok rfl rfl) ⟨(Nat.le_of_ble_eq_true rfl), (Nat.le_of_ble_eq_true rfl)⟩ (fun r ws2 hq => ?_)
          obtain ⟨rfl, rfl⟩ := hq
          show WP _ _ _ _ _ _ (_ :: _)
          rw [show 1 + 2 * (r : Int) + 1 = 2 + 2 * r by omega]
          refine r_istore d_K_mediaTime_37 (Nat.le_of_ble_eq_true rfl) rfl ?_
          show WP _ _ _ _ _ [_, _, _, _, _, _, _] _
          refine r_iload d_K_mediaTime_39 rfl ?_
          refine r_aload_n d_K_mediaTime_41 rfl rfl ?_
          refine r_aload_n d_K_mediaTime_42 rfl rfl ?_
          refine r_iload d_K_mediaTime_43 rfl ?_
          refine r_iconst d_K_mediaTime_45 ?_
          refine r_cV3 d_K_mediaTime_46 lk_K_41 (c_c6 G l y z v t hK p6 ((r : Int)) (0) (by omega) (by omega)) (13 + tb v t 7).toNat rfl (xw_bc (tK_k hK p6 ⟨by omega, by omega⟩) (tK_cT hK p6 (by omega))) (Nat.le_of_ble_eq_true rfl) (rok rfl rfl) ⟨(Nat.le_of_ble_eq_true rfl), (Nat.le_of_ble_eq_true rfl)⟩ (fun r ws2 hq => ?_)
          obtain ⟨rfl, rfl⟩ := hq
          show WP _ _ _ _ _ _ (_ :: _)
          rw [Int.add_zero]
          refine r_icmp_ge 70 d_K_mediaTime_49 (by decide) (by unfold i32; omega) (by unfold i32; omega) (fun h3 => ?_) (fun h3 => ?_)
          · refine r_iload d_K_mediaTime_70 rfl ?_
            refine r_aload_n d_K_mediaTime_72 rfl rfl ?_
            refine r_aload_n d_K_mediaTime_73 rfl rfl ?_
            refine r_iload d_K_mediaTime_74 rfl ?_
            refine r_iconst d_K_mediaTime_76 ?_
            refine r_cV3 d_K_mediaTime_77 lk_K_41 (c_c6 G l y z v t hK p6 ((r : Int)) (0) (by omega) (by omega)) (13 + tb v t 7).toNat rfl (xw_bc (tK_k hK p6 ⟨by omega, by omega⟩) (tK_cT hK p6 (by omega))) (Nat.le_of_ble_eq_true rfl) (rok rfl rfl) ⟨(Nat.le_of_ble_eq_true rfl), (Nat.le_of_ble_eq_true rfl)⟩ (fun r ws2 hq => ?_)
            obtain ⟨rfl, rfl⟩ := hq
            show WP _ _ _ _ _ _ (_ :: _)
            rw [Int.add_zero]
            refine r_isub d_K_mediaTime_80 ?_
            refine r_istore d_K_mediaTime_81 (Nat.le_of_ble_eq_true rfl) rfl ?_
            show WP _ _ _ _ _ [_, _, _, _, _, _, _] _
            refine r_iinc d_K_mediaTime_83 rfl (Nat.le_of_ble_eq_true rfl) rfl ?_
            show WP _ _ _ _ _ [_, _, _, _, _, _, _] _
            refine r_goto 20 d_K_mediaTime_86 (by decide) ?_
            rw [show time - bf - pv v (tb v t 7) (1 + 2 * (r : Int)) = time - (bf + pv v (tb v t 7) (1 + 2 * (r : Int))) by omega]
            rw [if_neg (by omega)] at he
            exact ih (r + 1) _ _ (by omega) (by omega) (by omega) (by omega) he
          · rw [if_pos (by omega)] at he
            refine r_iload d_K_mediaTime_52 rfl ?_
            refine r_sipush d_K_mediaTime_54 (by decide) ?_
            refine r_icmp_ne 64 d_K_mediaTime_57 (by decide) (by unfold i32; omega) (by unfold i32; omega) (fun h4 => ?_) (fun h4 => ?_)
            · rw [if_neg h4] at he
              refine r_iload d_K_mediaTime_64 rfl ?_
              refine r_iload d_K_mediaTime_66 rfl ?_
              refine r_iadd d_K_mediaTime_68 ?_
              refine r_iret d_K_mediaTime_69 rfl (Nat.le_of_ble_eq_true rfl) (Nat.le_of_ble_eq_true rfl) ?_
              rw [← hQ]; exact ⟨by rw [← he, if_neg (by omega)]; show some (vI (pv v (tb v t 7) (2 + 2 * (r : Int)) + (time - bf))) = _; rw [show pv v (tb v t 7) (2 + 2 * (r : Int)) + (time - bf) = pv v (tb v t 7) (2 + 2 * (r : Int)) + time - bf by omega], rfl⟩
            · rw [if_pos (Classical.not_not.mp h4)] at he
              refine r_iconst d_K_mediaTime_60 ?_
              refine r_goto 69 d_K_mediaTime_61 (by decide) ?_
              refine r_iret d_K_mediaTime_69 rfl (Nat.le_of_ble_eq_true rfl) (Nat.le_of_ble_eq_true rfl) ?_
              rw [← hQ]; exact ⟨by rw [← he, if_pos rfl], rfl⟩
    refine r_iload_n d_K_mediaTime_14 rfl ?_
    refine r_istore d_K_mediaTime_15 (Nat.le_of_ble_eq_true rfl) rfl ?_
    show WP _ _ _ _ _ [_, _, _, _, _, _, _] _
    refine r_iconst d_K_mediaTime_17 ?_
    refine r_istore d_K_mediaTime_18 (Nat.le_of_ble_eq_true rfl) rfl ?_
    show WP _ _ _ _ _ [_, _, _, _, _, _, _] _
    have := lp _ 0 0 none (by omega) rfl (by omega) ht0.1 (by unfold mtO; rw [if_neg (by omega)]; rfl)
    rw [show time - 0 = time by omega] at this
    exact this
end XQ
