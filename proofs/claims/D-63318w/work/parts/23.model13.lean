abbrev q_M_inChunk : Mi := (⟨"MovieBoxesModel", "inChunk", "(III)I"⟩, prog_12_method_36_code, 9, (some .int))
theorem d_M_inChunk_6 : decode prog_12_method_36_code 6 = .ok (.iload 5, 2) := by decide +kernel
theorem d_M_inChunk_8 : decode prog_12_method_36_code 8 = .ok (.aload_n 0, 1) := by decide +kernel
theorem d_M_inChunk_9 : decode prog_12_method_36_code 9 = .ok (.iload_n 1, 1) := by decide +kernel
theorem d_M_inChunk_10 : decode prog_12_method_36_code 10 = .ok (.invokevirtual 116, 3) := by decide +kernel
theorem d_M_inChunk_13 : decode prog_12_method_36_code 13 = .ok (.if_icmp .gt 111, 3) := by decide +kernel
theorem d_M_inChunk_124 : decode prog_12_method_36_code 124 = .ok (.sipush (-1000), 3) := by decide +kernel
theorem d_M_inChunk_127 : decode prog_12_method_36_code 127 = .ok (.ireturn, 1) := by decide +kernel
theorem d_M_inChunk_16 : decode prog_12_method_36_code 16 = .ok (.aload_n 0, 1) := by decide +kernel
theorem d_M_inChunk_17 : decode prog_12_method_36_code 17 = .ok (.iload_n 1, 1) := by decide +kernel
theorem d_M_inChunk_18 : decode prog_12_method_36_code 18 = .ok (.iload 5, 2) := by decide +kernel
theorem d_M_inChunk_20 : decode prog_12_method_36_code 20 = .ok (.invokevirtual 119, 3) := by decide +kernel
theorem d_M_inChunk_23 : decode prog_12_method_36_code 23 = .ok (.istore 6, 2) := by decide +kernel
theorem d_M_inChunk_25 : decode prog_12_method_36_code 25 = .ok (.iload_n 2, 1) := by decide +kernel
theorem d_M_inChunk_26 : decode prog_12_method_36_code 26 = .ok (.iload 4, 2) := by decide +kernel
theorem d_M_inChunk_28 : decode prog_12_method_36_code 28 = .ok (.iload 6, 2) := by decide +kernel
theorem d_M_inChunk_30 : decode prog_12_method_36_code 30 = .ok (.iadd, 1) := by decide +kernel
theorem d_M_inChunk_31 : decode prog_12_method_36_code 31 = .ok (.if_icmp .ge 80, 3) := by decide +kernel
theorem d_M_inChunk_111 : decode prog_12_method_36_code 111 = .ok (.iload 4, 2) := by decide +kernel
theorem d_M_inChunk_113 : decode prog_12_method_36_code 113 = .ok (.iload 6, 2) := by decide +kernel
theorem d_M_inChunk_115 : decode prog_12_method_36_code 115 = .ok (.iadd, 1) := by decide +kernel
theorem d_M_inChunk_116 : decode prog_12_method_36_code 116 = .ok (.istore 4, 2) := by decide +kernel
theorem d_M_inChunk_118 : decode prog_12_method_36_code 118 = .ok (.iinc 5 1, 3) := by decide +kernel
theorem d_M_inChunk_121 : decode prog_12_method_36_code 121 = .ok (.goto (-115), 3) := by decide +kernel
theorem d_M_inChunk_34 : decode prog_12_method_36_code 34 = .ok (.aload_n 0, 1) := by decide +kernel
theorem d_M_inChunk_35 : decode prog_12_method_36_code 35 = .ok (.iload_n 1, 1) := by decide +kernel
theorem d_M_inChunk_36 : decode prog_12_method_36_code 36 = .ok (.iload 5, 2) := by decide +kernel
theorem d_M_inChunk_38 : decode prog_12_method_36_code 38 = .ok (.invokevirtual 131, 3) := by decide +kernel
theorem d_M_inChunk_47 : decode prog_12_method_36_code 47 = .ok (.iload 8, 2) := by decide +kernel
theorem d_M_inChunk_49 : decode prog_12_method_36_code 49 = .ok (.iload_n 2, 1) := by decide +kernel
theorem d_M_inChunk_50 : decode prog_12_method_36_code 50 = .ok (.if_icmp .ge 21, 3) := by decide +kernel
theorem d_M_inChunk_71 : decode prog_12_method_36_code 71 = .ok (.aload_n 0, 1) := by decide +kernel
theorem d_M_inChunk_72 : decode prog_12_method_36_code 72 = .ok (.iload_n 1, 1) := by decide +kernel
theorem d_M_inChunk_73 : decode prog_12_method_36_code 73 = .ok (.iload 5, 2) := by decide +kernel
theorem d_M_inChunk_75 : decode prog_12_method_36_code 75 = .ok (.invokevirtual 125, 3) := by decide +kernel
theorem d_M_inChunk_78 : decode prog_12_method_36_code 78 = .ok (.istore 8, 2) := by decide +kernel
theorem d_M_inChunk_80 : decode prog_12_method_36_code 80 = .ok (.iload_n 3, 1) := by decide +kernel
theorem d_M_inChunk_81 : decode prog_12_method_36_code 81 = .ok (.ifCond .ne 8, 3) := by decide +kernel
theorem d_M_inChunk_89 : decode prog_12_method_36_code 89 = .ok (.aload_n 0, 1) := by decide +kernel
theorem d_M_inChunk_90 : decode prog_12_method_36_code 90 = .ok (.aload_n 0, 1) := by decide +kernel
theorem d_M_inChunk_91 : decode prog_12_method_36_code 91 = .ok (.getfield 40, 3) := by decide +kernel
theorem d_M_inChunk_94 : decode prog_12_method_36_code 94 = .ok (.bipush 8, 2) := by decide +kernel
theorem d_M_inChunk_96 : decode prog_12_method_36_code 96 = .ok (.iload_n 1, 1) := by decide +kernel
theorem d_M_inChunk_97 : decode prog_12_method_36_code 97 = .ok (.imul, 1) := by decide +kernel
theorem d_M_inChunk_98 : decode prog_12_method_36_code 98 = .ok (.iconst 2, 1) := by decide +kernel
theorem d_M_inChunk_99 : decode prog_12_method_36_code 99 = .ok (.iadd, 1) := by decide +kernel
theorem d_M_inChunk_100 : decode prog_12_method_36_code 100 = .ok (.iaload, 1) := by decide +kernel
theorem d_M_inChunk_101 : decode prog_12_method_36_code 101 = .ok (.iconst 3, 1) := by decide +kernel
theorem d_M_inChunk_102 : decode prog_12_method_36_code 102 = .ok (.iconst 3, 1) := by decide +kernel
theorem d_M_inChunk_103 : decode prog_12_method_36_code 103 = .ok (.iload 8, 2) := by decide +kernel
theorem d_M_inChunk_105 : decode prog_12_method_36_code 105 = .ok (.imul, 1) := by decide +kernel
theorem d_M_inChunk_106 : decode prog_12_method_36_code 106 = .ok (.iadd, 1) := by decide +kernel
theorem d_M_inChunk_107 : decode prog_12_method_36_code 107 = .ok (.invokevirtual 106, 3) := by decide +kernel
theorem d_M_inChunk_110 : decode prog_12_method_36_code 110 = .ok (.ireturn, 1) := by decide +kernel
theorem d_M_inChunk_84 : decode prog_12_method_36_code 84 = .ok (.iload 7, 2) := by decide +kernel
theorem d_M_inChunk_86 : decode prog_12_method_36_code 86 = .ok (.goto 24, 3) := by decide +kernel
theorem d_M_inChunk_53 : decode prog_12_method_36_code 53 = .ok (.iload 7, 2) := by decide +kernel
theorem d_M_inChunk_55 : decode prog_12_method_36_code 55 = .ok (.aload_n 0, 1) := by decide +kernel
theorem d_M_inChunk_56 : decode prog_12_method_36_code 56 = .ok (.iload_n 1, 1) := by decide +kernel
theorem d_M_inChunk_57 : decode prog_12_method_36_code 57 = .ok (.iload 8, 2) := by decide +kernel
theorem d_M_inChunk_59 : decode prog_12_method_36_code 59 = .ok (.invokevirtual 128, 3) := by decide +kernel
theorem d_M_inChunk_62 : decode prog_12_method_36_code 62 = .ok (.iadd, 1) := by decide +kernel
theorem d_M_inChunk_63 : decode prog_12_method_36_code 63 = .ok (.istore 7, 2) := by decide +kernel
theorem d_M_inChunk_65 : decode prog_12_method_36_code 65 = .ok (.iinc 8 1, 3) := by decide +kernel
theorem d_M_inChunk_68 : decode prog_12_method_36_code 68 = .ok (.goto (-21), 3) := by decide +kernel
theorem d_M_inChunk_41 : decode prog_12_method_36_code 41 = .ok (.istore 7, 2) := by decide +kernel
theorem d_M_inChunk_43 : decode prog_12_method_36_code 43 = .ok (.iload 4, 2) := by decide +kernel
theorem d_M_inChunk_45 : decode prog_12_method_36_code 45 = .ok (.istore 8, 2) := by decide +kernel
theorem d_M_inChunk_0 : decode prog_12_method_36_code 0 = .ok (.iconst 0, 1) := by decide +kernel
theorem d_M_inChunk_1 : decode prog_12_method_36_code 1 = .ok (.istore 4, 2) := by decide +kernel
theorem d_M_inChunk_3 : decode prog_12_method_36_code 3 = .ok (.iconst 1, 1) := by decide +kernel
theorem d_M_inChunk_4 : decode prog_12_method_36_code 4 = .ok (.istore 5, 2) := by decide +kernel
abbrev q_M_isSync : Mi := (⟨"MovieBoxesModel", "isSync", "(II)I"⟩, prog_12_method_37_code, 7, (some .int))
theorem d_M_isSync_43 : decode prog_12_method_37_code 43 = .ok (.iload 6, 2) := by decide +kernel
theorem d_M_isSync_45 : decode prog_12_method_37_code 45 = .ok (.iload 5, 2) := by decide +kernel
theorem d_M_isSync_47 : decode prog_12_method_37_code 47 = .ok (.if_icmp .ge 32, 3) := by decide +kernel
theorem d_M_isSync_79 : decode prog_12_method_37_code 79 = .ok (.iload 4, 2) := by decide +kernel
theorem d_M_isSync_81 : decode prog_12_method_37_code 81 = .ok (.ireturn, 1) := by decide +kernel
theorem d_M_isSync_50 : decode prog_12_method_37_code 50 = .ok (.aload_n 0, 1) := by decide +kernel
theorem d_M_isSync_51 : decode prog_12_method_37_code 51 = .ok (.iload_n 3, 1) := by decide +kernel
theorem d_M_isSync_52 : decode prog_12_method_37_code 52 = .ok (.iconst 1, 1) := by decide +kernel
theorem d_M_isSync_53 : decode prog_12_method_37_code 53 = .ok (.iload 6, 2) := by decide +kernel
theorem d_M_isSync_55 : decode prog_12_method_37_code 55 = .ok (.iadd, 1) := by decide +kernel
theorem d_M_isSync_56 : decode prog_12_method_37_code 56 = .ok (.invokevirtual 106, 3) := by decide +kernel
theorem d_M_isSync_59 : decode prog_12_method_37_code 59 = .ok (.iload_n 2, 1) := by decide +kernel
theorem d_M_isSync_60 : decode prog_12_method_37_code 60 = .ok (.iconst 1, 1) := by decide +kernel
theorem d_M_isSync_61 : decode prog_12_method_37_code 61 = .ok (.iadd, 1) := by decide +kernel
theorem d_M_isSync_62 : decode prog_12_method_37_code 62 = .ok (.if_icmp .ne 7, 3) := by decide +kernel
theorem d_M_isSync_69 : decode prog_12_method_37_code 69 = .ok (.iload 4, 2) := by decide +kernel
theorem d_M_isSync_71 : decode prog_12_method_37_code 71 = .ok (.istore 4, 2) := by decide +kernel
theorem d_M_isSync_73 : decode prog_12_method_37_code 73 = .ok (.iinc 6 1, 3) := by decide +kernel
theorem d_M_isSync_76 : decode prog_12_method_37_code 76 = .ok (.goto (-33), 3) := by decide +kernel
theorem d_M_isSync_65 : decode prog_12_method_37_code 65 = .ok (.iconst 1, 1) := by decide +kernel
theorem d_M_isSync_66 : decode prog_12_method_37_code 66 = .ok (.goto 5, 3) := by decide +kernel
theorem d_M_isSync_38 : decode prog_12_method_37_code 38 = .ok (.istore 5, 2) := by decide +kernel
theorem d_M_isSync_40 : decode prog_12_method_37_code 40 = .ok (.iconst 0, 1) := by decide +kernel
theorem d_M_isSync_41 : decode prog_12_method_37_code 41 = .ok (.istore 6, 2) := by decide +kernel
theorem d_M_isSync_22 : decode prog_12_method_37_code 22 = .ok (.istore 4, 2) := by decide +kernel
theorem d_M_isSync_24 : decode prog_12_method_37_code 24 = .ok (.iload_n 3, 1) := by decide +kernel
theorem d_M_isSync_25 : decode prog_12_method_37_code 25 = .ok (.ifCond .ge 7, 3) := by decide +kernel
theorem d_M_isSync_32 : decode prog_12_method_37_code 32 = .ok (.aload_n 0, 1) := by decide +kernel
theorem d_M_isSync_33 : decode prog_12_method_37_code 33 = .ok (.iload_n 3, 1) := by decide +kernel
theorem d_M_isSync_34 : decode prog_12_method_37_code 34 = .ok (.iconst 0, 1) := by decide +kernel
theorem d_M_isSync_35 : decode prog_12_method_37_code 35 = .ok (.invokevirtual 106, 3) := by decide +kernel
theorem d_M_isSync_28 : decode prog_12_method_37_code 28 = .ok (.iconst 0, 1) := by decide +kernel
theorem d_M_isSync_29 : decode prog_12_method_37_code 29 = .ok (.goto 9, 3) := by decide +kernel
theorem d_M_isSync_0 : decode prog_12_method_37_code 0 = .ok (.aload_n 0, 1) := by decide +kernel
theorem d_M_isSync_1 : decode prog_12_method_37_code 1 = .ok (.getfield 40, 3) := by decide +kernel
theorem d_M_isSync_4 : decode prog_12_method_37_code 4 = .ok (.bipush 8, 2) := by decide +kernel
theorem d_M_isSync_6 : decode prog_12_method_37_code 6 = .ok (.iload_n 1, 1) := by decide +kernel
theorem d_M_isSync_7 : decode prog_12_method_37_code 7 = .ok (.imul, 1) := by decide +kernel
theorem d_M_isSync_8 : decode prog_12_method_37_code 8 = .ok (.bipush 6, 2) := by decide +kernel
theorem d_M_isSync_10 : decode prog_12_method_37_code 10 = .ok (.iadd, 1) := by decide +kernel
theorem d_M_isSync_11 : decode prog_12_method_37_code 11 = .ok (.iaload, 1) := by decide +kernel
theorem d_M_isSync_12 : decode prog_12_method_37_code 12 = .ok (.istore_n 3, 1) := by decide +kernel
theorem d_M_isSync_13 : decode prog_12_method_37_code 13 = .ok (.iload_n 3, 1) := by decide +kernel
theorem d_M_isSync_14 : decode prog_12_method_37_code 14 = .ok (.ifCond .ge 7, 3) := by decide +kernel
theorem d_M_isSync_21 : decode prog_12_method_37_code 21 = .ok (.iconst 0, 1) := by decide +kernel
theorem d_M_isSync_17 : decode prog_12_method_37_code 17 = .ok (.iconst 1, 1) := by decide +kernel
theorem d_M_isSync_18 : decode prog_12_method_37_code 18 = .ok (.goto 4, 3) := by decide +kernel
abbrev q_M_mediaTime : Mi := (⟨"MovieBoxesModel", "mediaTime", "(II)I"⟩, prog_12_method_39_code, 8, (some .int))
theorem d_M_mediaTime_0 : decode prog_12_method_39_code 0 = .ok (.aload_n 0, 1) := by decide +kernel
theorem d_M_mediaTime_1 : decode prog_12_method_39_code 1 = .ok (.getfield 40, 3) := by decide +kernel
theorem d_M_mediaTime_4 : decode prog_12_method_39_code 4 = .ok (.bipush 8, 2) := by decide +kernel
theorem d_M_mediaTime_6 : decode prog_12_method_39_code 6 = .ok (.iload_n 1, 1) := by decide +kernel
theorem d_M_mediaTime_7 : decode prog_12_method_39_code 7 = .ok (.imul, 1) := by decide +kernel
theorem d_M_mediaTime_8 : decode prog_12_method_39_code 8 = .ok (.bipush 7, 2) := by decide +kernel
theorem d_M_mediaTime_10 : decode prog_12_method_39_code 10 = .ok (.iadd, 1) := by decide +kernel
theorem d_M_mediaTime_11 : decode prog_12_method_39_code 11 = .ok (.iaload, 1) := by decide +kernel
theorem d_M_mediaTime_12 : decode prog_12_method_39_code 12 = .ok (.istore_n 3, 1) := by decide +kernel
theorem d_M_mediaTime_13 : decode prog_12_method_39_code 13 = .ok (.iload_n 3, 1) := by decide +kernel
theorem d_M_mediaTime_14 : decode prog_12_method_39_code 14 = .ok (.ifCond .ge 5, 3) := by decide +kernel
theorem d_M_mediaTime_25 : decode prog_12_method_39_code 25 = .ok (.iload 5, 2) := by decide +kernel
theorem d_M_mediaTime_27 : decode prog_12_method_39_code 27 = .ok (.aload_n 0, 1) := by decide +kernel
theorem d_M_mediaTime_28 : decode prog_12_method_39_code 28 = .ok (.iload_n 3, 1) := by decide +kernel
theorem d_M_mediaTime_29 : decode prog_12_method_39_code 29 = .ok (.iconst 0, 1) := by decide +kernel
theorem d_M_mediaTime_30 : decode prog_12_method_39_code 30 = .ok (.invokevirtual 106, 3) := by decide +kernel
theorem d_M_mediaTime_33 : decode prog_12_method_39_code 33 = .ok (.if_icmp .ge 73, 3) := by decide +kernel
theorem d_M_mediaTime_106 : decode prog_12_method_39_code 106 = .ok (.sipush (-1000), 3) := by decide +kernel
theorem d_M_mediaTime_109 : decode prog_12_method_39_code 109 = .ok (.ireturn, 1) := by decide +kernel
theorem d_M_mediaTime_36 : decode prog_12_method_39_code 36 = .ok (.aload_n 0, 1) := by decide +kernel
theorem d_M_mediaTime_37 : decode prog_12_method_39_code 37 = .ok (.iload_n 3, 1) := by decide +kernel
theorem d_M_mediaTime_38 : decode prog_12_method_39_code 38 = .ok (.iconst 1, 1) := by decide +kernel
theorem d_M_mediaTime_39 : decode prog_12_method_39_code 39 = .ok (.iconst 2, 1) := by decide +kernel
theorem d_M_mediaTime_40 : decode prog_12_method_39_code 40 = .ok (.iload 5, 2) := by decide +kernel
theorem d_M_mediaTime_42 : decode prog_12_method_39_code 42 = .ok (.imul, 1) := by decide +kernel
theorem d_M_mediaTime_43 : decode prog_12_method_39_code 43 = .ok (.iadd, 1) := by decide +kernel
theorem d_M_mediaTime_44 : decode prog_12_method_39_code 44 = .ok (.invokevirtual 106, 3) := by decide +kernel
theorem d_M_mediaTime_47 : decode prog_12_method_39_code 47 = .ok (.istore 6, 2) := by decide +kernel
theorem d_M_mediaTime_49 : decode prog_12_method_39_code 49 = .ok (.iload_n 2, 1) := by decide +kernel
theorem d_M_mediaTime_50 : decode prog_12_method_39_code 50 = .ok (.iload 4, 2) := by decide +kernel
theorem d_M_mediaTime_52 : decode prog_12_method_39_code 52 = .ok (.iload 6, 2) := by decide +kernel
theorem d_M_mediaTime_54 : decode prog_12_method_39_code 54 = .ok (.iadd, 1) := by decide +kernel
theorem d_M_mediaTime_55 : decode prog_12_method_39_code 55 = .ok (.if_icmp .ge 38, 3) := by decide +kernel
theorem d_M_mediaTime_93 : decode prog_12_method_39_code 93 = .ok (.iload 4, 2) := by decide +kernel
theorem d_M_mediaTime_95 : decode prog_12_method_39_code 95 = .ok (.iload 6, 2) := by decide +kernel
theorem d_M_mediaTime_97 : decode prog_12_method_39_code 97 = .ok (.iadd, 1) := by decide +kernel
theorem d_M_mediaTime_98 : decode prog_12_method_39_code 98 = .ok (.istore 4, 2) := by decide +kernel
theorem d_M_mediaTime_100 : decode prog_12_method_39_code 100 = .ok (.iinc 5 1, 3) := by decide +kernel
theorem d_M_mediaTime_103 : decode prog_12_method_39_code 103 = .ok (.goto (-78), 3) := by decide +kernel
theorem d_M_mediaTime_58 : decode prog_12_method_39_code 58 = .ok (.aload_n 0, 1) := by decide +kernel
theorem d_M_mediaTime_59 : decode prog_12_method_39_code 59 = .ok (.iload_n 3, 1) := by decide +kernel
theorem d_M_mediaTime_60 : decode prog_12_method_39_code 60 = .ok (.iconst 2, 1) := by decide +kernel
theorem d_M_mediaTime_61 : decode prog_12_method_39_code 61 = .ok (.iconst 2, 1) := by decide +kernel
theorem d_M_mediaTime_62 : decode prog_12_method_39_code 62 = .ok (.iload 5, 2) := by decide +kernel
theorem d_M_mediaTime_64 : decode prog_12_method_39_code 64 = .ok (.imul, 1) := by decide +kernel
theorem d_M_mediaTime_65 : decode prog_12_method_39_code 65 = .ok (.iadd, 1) := by decide +kernel
theorem d_M_mediaTime_66 : decode prog_12_method_39_code 66 = .ok (.invokevirtual 106, 3) := by decide +kernel
theorem d_M_mediaTime_69 : decode prog_12_method_39_code 69 = .ok (.istore 7, 2) := by decide +kernel
theorem d_M_mediaTime_71 : decode prog_12_method_39_code 71 = .ok (.iload 7, 2) := by decide +kernel
theorem d_M_mediaTime_73 : decode prog_12_method_39_code 73 = .ok (.sipush 255, 3) := by decide +kernel
theorem d_M_mediaTime_76 : decode prog_12_method_39_code 76 = .ok (.if_icmp .ne 9, 3) := by decide +kernel
theorem d_M_mediaTime_85 : decode prog_12_method_39_code 85 = .ok (.iload 7, 2) := by decide +kernel
theorem d_M_mediaTime_87 : decode prog_12_method_39_code 87 = .ok (.iload_n 2, 1) := by decide +kernel
theorem d_M_mediaTime_88 : decode prog_12_method_39_code 88 = .ok (.iadd, 1) := by decide +kernel
theorem d_M_mediaTime_89 : decode prog_12_method_39_code 89 = .ok (.iload 4, 2) := by decide +kernel
theorem d_M_mediaTime_91 : decode prog_12_method_39_code 91 = .ok (.isub, 1) := by decide +kernel
theorem d_M_mediaTime_92 : decode prog_12_method_39_code 92 = .ok (.ireturn, 1) := by decide +kernel
theorem d_M_mediaTime_79 : decode prog_12_method_39_code 79 = .ok (.sipush (-1000), 3) := by decide +kernel
theorem d_M_mediaTime_82 : decode prog_12_method_39_code 82 = .ok (.goto 10, 3) := by decide +kernel
theorem d_M_mediaTime_19 : decode prog_12_method_39_code 19 = .ok (.iconst 0, 1) := by decide +kernel
theorem d_M_mediaTime_20 : decode prog_12_method_39_code 20 = .ok (.istore 4, 2) := by decide +kernel
theorem d_M_mediaTime_22 : decode prog_12_method_39_code 22 = .ok (.iconst 0, 1) := by decide +kernel
theorem d_M_mediaTime_23 : decode prog_12_method_39_code 23 = .ok (.istore 5, 2) := by decide +kernel
theorem d_M_mediaTime_17 : decode prog_12_method_39_code 17 = .ok (.iload_n 2, 1) := by decide +kernel
theorem d_M_mediaTime_18 : decode prog_12_method_39_code 18 = .ok (.ireturn, 1) := by decide +kernel
/-! ===== the model: what check leaves; the public questions ===== -/
def ckOk (v : mS) : Prop := byOk v ∧ rdOk v ∧ hoOk v ∧ (1 ≤ v 0 3 ∧ v 0 3 ≤ 2) ∧ ∀ t, 0 ≤ t → t < v 0 3 → trOk v t ∧ ¬ cntBad v t
theorem hoOk_cg {s u : mS} (h : agr s u) (hs : hoOk s) : hoOk u := by
  unfold hoOk
  rw [h 0 (by omega), h 4 (by omega), h 6 (by omega), h 7 (by omega)]
  exact hs
theorem ckR_i {s0 : mS} (hm : mI s0) {f : Int} {v : mS} (h : ckR s0 f v) : v 1 = s0 1 ∧ v 0 0 = s0 0 0 := by
  obtain ⟨f1, hr, ho, hk1, hk0⟩ := rd_ok s0 hm
  unfold ckR at h
  generalize (rdL 100 (rd0 s0) 0 0).2 = s at hr ho hk1 hk0 h
  dsimp only at h
  obtain ⟨hI, hT⟩ := kdF_I s hr ho (s 0 1).toNat (by have := hr.1; omega)
  generalize (kdF s (s 0 1).toNat).1 = u at hI h
  have hs : s 1 = s0 1 ∧ s 0 0 = s0 0 0 := ⟨hk1 1 (Or.inl rfl), hk0 0 (by omega)⟩
  have hu : u 1 = s0 1 ∧ u 0 0 = s0 0 0 := ⟨(hI.1 1 (by omega) (by omega) (by omega)).trans hs.1, hI.2.1.trans hs.2⟩
  have hst := agr_stT u (u 0 3).toNat
  have hv : v = s ∨ v = u ∨ v = stT u (u 0 3).toNat := by
    rcases h with h | ⟨-, h | ⟨-, h | ⟨-, h | ⟨-, h, -⟩⟩⟩⟩
    · exact Or.inl h.2.2
    · exact Or.inr (Or.inl h.2.2)
    · exact Or.inr (Or.inl h.2.2)
    · exact Or.inr (Or.inl h.2.2)
    · exact Or.inr (Or.inr h)
  rcases hv with rfl | rfl | rfl
  · exact hs
  · exact hu
  · rw [hst 1 (by omega), hst 0 (by omega)]; exact hu
theorem ckR_m {s0 : mS} (hm : mI s0) {f : Int} {v : mS} (h : ckR s0 f v) : mI v := by
  obtain ⟨h1, h2⟩ := ckR_i hm h
  unfold mI
  rw [h1, h2]; exact hm
theorem ckR_b {s0 : mS} (hm : mI s0) {f : Int} {v : mS} (h : ckR s0 f v) : 0 ≤ f ∧ f ≤ 6 := by
  obtain ⟨f1, -⟩ := rd_ok s0 hm
  unfold ckR at h
  dsimp only at h
  rcases h with h | ⟨-, h | ⟨-, h | ⟨-, h | ⟨-, -, h | h⟩⟩⟩⟩
  · omega
  · omega
  · omega
  · omega
  · omega
  · omega
theorem ckR_0 {s0 : mS} (hm : mI s0) {v : mS} (h : ckR s0 0 v) : ckOk v ∧ ∃ u, ¬ datAny u ∧ agr u v ∧ v = stT u (u 0 3).toNat := by
  obtain ⟨f1, hr, ho, hk1, hk0⟩ := rd_ok s0 hm
  unfold ckR at h
  generalize (rdL 100 (rd0 s0) 0 0).2 = s at hr ho hk1 hk0 h
  dsimp only at h
  have hb : byOk s := fun j => by rw [hk1 1 (Or.inl rfl)]; exact hm.2 j
  rcases h with h | ⟨-, h | ⟨g2, h | ⟨hw, h | ⟨hc, hv, h | h⟩⟩⟩⟩
  · omega
  · omega
  · omega
  · omega
  · omega
  obtain ⟨hI, hT⟩ := kdF_I s hr ho (s 0 1).toNat (by have := hr.1; omega)
  obtain ⟨-, k1, k2, -, k4⟩ := kdR_0 hr ho g2
  have hbu : byOk (kdF s (s 0 1).toNat).1 := fun j => by rw [hI.1 1 (by omega) (by omega) (by omega)]; exact hb j
  have hto := trOk_of hr ho g2 rfl hbu hw
  generalize (kdF s (s 0 1).toNat).1 = u at hI k1 k2 hbu hto hw hc hv h
  have ha := agr_stT u (u 0 3).toNat
  rw [← hv] at ha
  refine ⟨⟨byOk_cg ha hbu, rdOk_cg ha hto.1, hoOk_cg ha hto.2.1, by rw [ha 0 (by omega)]; exact ⟨k1, k2⟩, fun t h0 h1 => ?_⟩, u, h.1, ha, hv⟩
  rw [ha 0 (by omega)] at h1
  refine ⟨trOk_cg ha (hto.2.2 t h0 h1), fun q => hc ⟨t.toNat, by omega, ?_⟩⟩
  show cntBad u ((t.toNat : Nat) : Int)
  rw [show ((t.toNat : Nat) : Int) = t by omega]
  exact (cntBad_cg ha t).mp q
/-- a track's sample: what inChunk answers -/
def icL (s : mS) (t k what : Int) : Nat → Nat → Int
  | 0, _ => -1000
  | n + 1, c => if k < smp s t c + mnO s t (1 + c) then (if what = 0 then cpl s t (1 + c) + sumI (fun i => szO s t (smp s t c + i)) (k - smp s t c).toNat else pv s (tb s t 2) (3 + 3 * rowU s (tb s t 2) (1 + c) (pv s (tb s t 2) 0).toNat)) else icL s t k what n (c + 1)
abbrev icO (s : mS) (t k what : Int) : Int := icL s t k what (pv s (pbx s t) 0).toNat 0
noncomputable def syO (s : mS) (t k : Int) : Int := if tb s t 6 < 0 then 1 else b2 (exB (fun r => pv s (tb s t 6) (1 + r) = k + 1) (pv s (tb s t 6) 0).toNat)
def mtL (f g : Int → Int) (time : Int) : Nat → Int → Int → Int
  | 0, _, _ => -1000
  | n + 1, r, bf => if time < bf + f r then (if g r = 255 then -1000 else g r + time - bf) else mtL f g time n (r + 1) (bf + f r)
def mtO (s : mS) (t time : Int) : Int := if tb s t 7 < 0 then time else mtL (fun r => pv s (tb s t 7) (1 + 2 * r)) (fun r => pv s (tb s t 7) (2 + 2 * r)) time (pv s (tb s t 7) 0).toNat 0 0
def shL (s : mS) (t u : Int) : Nat → Nat → Int
  | 0, _ => -1000
  | n + 1, k => if sumI (duO s t) k + shO s t k ≤ u ∧ u < sumI (duO s t) k + shO s t k + duO s t k then k else shL s t u n (k + 1)
/-- what sample answers of a sample that is there -/
noncomputable def smO (s : mS) (t k what : Int) : Int := if what = 0 ∨ what = 5 then icO s t k what else if what = 1 then szO s t k else if what = 2 then sumI (duO s t) k.toNat else if what = 3 then sumI (duO s t) k.toNat + shO s t k else if what = 4 then syO s t k else -1000
theorem shO_b {s : mS} (h : byOk s) (t i : Int) : -128 ≤ shO s t i ∧ shO s t i < 128 := by
  have : 0 ≤ rvK s (tb s t 1) i ∧ rvK s (tb s t 1) i < 256 := rv_b (fun r => pv_b h _ _) i _ _ _
  unfold shO
  split
  · omega
  · split <;> omega
theorem duO_b {s : mS} (h : byOk s) (t i : Int) : 0 ≤ duO s t i ∧ duO s t i < 256 := rv_b (fun r => pv_b h _ _) i _ _ _
section MODEL13
variable (G : gG) (l : Launch) (ad : Nat → Nat)
theorem c_M_inChunk (s : mS) (t k what : Int) (hb : byOk s) (ht : 0 ≤ t ∧ t ≤ 1) (hT : trOk s t) (hC : ¬ cntBad s t) (hk : 0 ≤ k ∧ k < pv s (tb s t 3) 1) (hw : i32 what) : Ct G l q_M_inChunk 3 0 0 [.ref (ad 0), vI t, vI k, vI what] (mW G ad s) (fun r w => r = some (vI (icO s t k what)) ∧ w = mW G ad s) := by
  refine Ct.intro [some (.ref (ad 0)), some (vI t), some (vI k), some (vI what), none, none, none, none, none] (by decide) (Nat.le_of_ble_eq_true rfl) rfl (fun sz => ?_)
  generalize hQ : (fun r w => r = some (vI (icO s t k what)) ∧ w = mW G ad s) = Q
  have i4 := hT.i ht (kd := 4) (by omega)
  obtain ⟨k0, k1, k2, k3, k4, k6, k7, k8⟩ := id hT
  have hn := pv_b hb (tb s t 3) 1
  have hch := pv_b hb (pbx s t) 0
  have hro := pv_b hb (tb s t 2) 0
  unfold cntBad at hC
  have c3 : 0 < pv s (pbx s t) 0 → 1 ≤ pv s (tb s t 2) 0 := fun h => Classical.byContradiction fun q => hC (Or.inr (Or.inr (Or.inl ⟨h, by omega⟩)))
  have loop : ∀ (m c : Nat) (x6 x7 x8 : Option Value), (c : Int) + m = pv s (pbx s t) 0 → smp s t c ≤ k → icL s t k what m c = icO s t k what → WP (mth G l q_M_inChunk 3 0 0 (mW G ad s) sz Q) 0 0 (mW G ad s) 6 [some (.ref (ad 0)), some (vI t), some (vI k), some (vI what), some (vI (smp s t c)), some (vI (1 + c)), x6, x7, x8] [] := by
    intro m
    induction m with
    | zero =>
      intro c x6 x7 x8 hc hsk hE
      refine r_iload d_M_inChunk_6 rfl ?_
      refine r_aload_n d_M_inChunk_8 rfl rfl ?_
      refine r_iload_n d_M_inChunk_9 rfl ?_
      refine r_cV1 d_M_inChunk_10 lk_M_116 (c_M_chunkCount G l ad s t ht (by unfold i32; omega) k4.1 k4.2.1) 0 rfl rfl (Nat.le_of_ble_eq_true rfl) (rok rfl rfl) ⟨(Nat.le_of_ble_eq_true rfl), (Nat.le_of_ble_eq_true rfl)⟩ (fun r ws2 hq => ?_)
      obtain ⟨rfl, rfl⟩ := hq
      show WP _ _ _ _ _ _ (_ :: _)
      refine r_icmp_gt 124 d_M_inChunk_13 (by decide) (by unfold i32; omega) (by unfold i32; omega) (fun g1 => ?_) (fun g1 => ?_)
      · refine r_sipush d_M_inChunk_124 (by decide) ?_
        refine r_iret d_M_inChunk_127 rfl (Nat.le_of_ble_eq_true rfl) (Nat.le_of_ble_eq_true rfl) ?_
        rw [← hQ]; exact ⟨by rw [← hE]; rfl, rfl⟩
      · exact absurd g1 (by omega)
    | succ m ih =>
      intro c x6 x7 x8 hc hsk hE
      have hro2 := c3 (by omega)
      have hmn := mnO_b hb t (1 + c)
      have hsm : 0 ≤ smp s t c ∧ smp s t c ≤ 255 * (c : Nat) := sumI_le (fun i => by have := mnO_b hb t (1 + i); omega) _
      rw [icL] at hE
      refine r_iload d_M_inChunk_6 rfl ?_
      refine r_aload_n d_M_inChunk_8 rfl rfl ?_
      refine r_iload_n d_M_inChunk_9 rfl ?_
      refine r_cV1 d_M_inChunk_10 lk_M_116 (c_M_chunkCount G l ad s t ht (by unfold i32; omega) k4.1 k4.2.1) 0 rfl rfl (Nat.le_of_ble_eq_true rfl) (rok rfl rfl) ⟨(Nat.le_of_ble_eq_true rfl), (Nat.le_of_ble_eq_true rfl)⟩ (fun r ws2 hq => ?_)
      obtain ⟨rfl, rfl⟩ := hq
      show WP _ _ _ _ _ _ (_ :: _)
      refine r_icmp_gt 124 d_M_inChunk_13 (by decide) (by unfold i32; omega) (by unfold i32; omega) (fun g1 => ?_) (fun g1 => ?_)
      · exact absurd g1 (by omega)
      refine r_aload_n d_M_inChunk_16 rfl rfl ?_
      refine r_iload_n d_M_inChunk_17 rfl ?_
      refine r_iload d_M_inChunk_18 rfl ?_
      refine r_cV2 d_M_inChunk_20 lk_M_119 (c_M_many G l ad s t (1 + c) hb ht (by unfold i32; omega) k2 (by omega)) 0 rfl rfl (Nat.le_of_ble_eq_true rfl) (rok rfl rfl) ⟨(Nat.le_of_ble_eq_true rfl), (Nat.le_of_ble_eq_true rfl)⟩ (fun r ws2 hq => ?_)
      obtain ⟨rfl, rfl⟩ := hq
      show WP _ _ _ _ _ _ (_ :: _)
      show WP _ 0 0 _ _ _ (vI (mnO s t (1 + c)) :: _)
      refine r_istore d_M_inChunk_23 (Nat.le_of_ble_eq_true rfl) rfl ?_
      show WP _ _ _ _ _ [_, _, _, _, _, _, _, _, _] _
      refine r_iload_n d_M_inChunk_25 rfl ?_
      refine r_iload d_M_inChunk_26 rfl ?_
      refine r_iload d_M_inChunk_28 rfl ?_
      refine r_iadd d_M_inChunk_30 ?_
      refine r_icmp_ge 111 d_M_inChunk_31 (by decide) (by unfold i32; omega) (by unfold i32; omega) (fun g2 => ?_) (fun g2 => ?_)
      · rw [if_neg (by omega)] at hE
        refine r_iload d_M_inChunk_111 rfl ?_
        refine r_iload d_M_inChunk_113 rfl ?_
        refine r_iadd d_M_inChunk_115 ?_
        refine r_istore d_M_inChunk_116 (Nat.le_of_ble_eq_true rfl) rfl ?_
        show WP _ _ _ _ _ [_, _, _, _, _, _, _, _, _] _
        refine r_iinc d_M_inChunk_118 rfl (Nat.le_of_ble_eq_true rfl) rfl ?_
        show WP _ _ _ _ _ [_, _, _, _, _, _, _, _, _] _
        refine r_goto 6 d_M_inChunk_121 (by decide) ?_
        have J := ih (c + 1) (some (vI (mnO s t (1 + c)))) x7 x8 (by omega) (by show smp s t c + mnO s t (1 + c) ≤ k; omega) hE
        rw [show (1 : Int) + ((c + 1 : Nat) : Int) = 1 + c + 1 by omega] at J
        exact J
      · rw [if_pos (by omega)] at hE
        have hu := rowU_le s (tb s t 2) (1 + c) (pv s (tb s t 2) 0).toNat
        refine r_aload_n d_M_inChunk_34 rfl rfl ?_
        refine r_iload_n d_M_inChunk_35 rfl ?_
        refine r_iload d_M_inChunk_36 rfl ?_
        refine r_cV2 d_M_inChunk_38 lk_M_131 (c_M_chunkPlace G l ad s t (1 + c) ht (by unfold i32; omega) k4.1 (by unfold i32; omega) (by refine ⟨fun h => ?_, fun h => ?_⟩; have := k4.2.2.1 h; omega; have := k4.2.2.2.1 h; omega)) 0 rfl rfl (Nat.le_of_ble_eq_true rfl) (rok rfl rfl) ⟨(Nat.le_of_ble_eq_true rfl), (Nat.le_of_ble_eq_true rfl)⟩ (fun r ws2 hq => ?_)
        obtain ⟨rfl, rfl⟩ := hq
        show WP _ _ _ _ _ _ (_ :: _)
        have inner : ∀ (m2 i : Nat), (i : Int) + m2 = k - smp s t c → WP (mth G l q_M_inChunk 3 0 0 (mW G ad s) sz Q) 0 0 (mW G ad s) 47 [some (.ref (ad 0)), some (vI t), some (vI k), some (vI what), some (vI (smp s t c)), some (vI (1 + c)), some (vI (mnO s t (1 + c))), some (vI (cpl s t (1 + c) + sumI (fun i => szO s t (smp s t c + i)) i)), some (vI (smp s t c + i))] [] := by
          intro m2
          induction m2 with
          | zero =>
            intro i hi
            refine r_iload d_M_inChunk_47 rfl ?_
            refine r_iload_n d_M_inChunk_49 rfl ?_
            refine r_icmp_ge 71 d_M_inChunk_50 (by decide) (by unfold i32; omega) (by unfold i32; omega) (fun q1 => ?_) (fun q1 => ?_)
            · refine r_aload_n d_M_inChunk_71 rfl rfl ?_
              refine r_iload_n d_M_inChunk_72 rfl ?_
              refine r_iload d_M_inChunk_73 rfl ?_
              refine r_cV2 d_M_inChunk_75 lk_M_125 (c_M_rowOf G l ad s t (1 + c) hb ht (by unfold i32; omega) k2) 0 rfl rfl (Nat.le_of_ble_eq_true rfl) (rok rfl rfl) ⟨(Nat.le_of_ble_eq_true rfl), (Nat.le_of_ble_eq_true rfl)⟩ (fun r ws2 hq => ?_)
              obtain ⟨rfl, rfl⟩ := hq
              show WP _ _ _ _ _ _ (_ :: _)
              refine r_istore d_M_inChunk_78 (Nat.le_of_ble_eq_true rfl) rfl ?_
              show WP _ _ _ _ _ [_, _, _, _, _, _, _, _, _] _
              refine r_iload_n d_M_inChunk_80 rfl ?_
              refine r_if_ne 89 d_M_inChunk_81 (by decide) hw (fun q2 => ?_) (fun q2 => ?_)
              · refine r_aload_n d_M_inChunk_89 rfl rfl ?_
                refine r_aload_n d_M_inChunk_90 rfl rfl ?_
                refine r_get d_M_inChunk_91 fl_M_40_7 0 rfl rfl ?_
                refine r_bipush d_M_inChunk_94 (by decide) ?_
                refine r_iload_n d_M_inChunk_96 rfl ?_
                refine r_imul d_M_inChunk_97 ?_
                refine r_iconst d_M_inChunk_98 ?_
                refine r_iadd d_M_inChunk_99 ?_
                refine r_iald d_M_inChunk_100 11 rfl (by omega) ?_
                refine r_iconst d_M_inChunk_101 ?_
                refine r_iconst d_M_inChunk_102 ?_
                refine r_iload d_M_inChunk_103 rfl ?_
                refine r_imul d_M_inChunk_105 ?_
                refine r_iadd d_M_inChunk_106 ?_
                refine r_cV2 d_M_inChunk_107 lk_M_106 (c_M_payB G l ad s (tb s t 2) (3 + 3 * rowU s (tb s t 2) (1 + c) (pv s (tb s t 2) 0).toNat) k2.1 (by omega)) 0 rfl rfl (Nat.le_of_ble_eq_true rfl) (rok rfl rfl) ⟨(Nat.le_of_ble_eq_true rfl), (Nat.le_of_ble_eq_true rfl)⟩ (fun r ws2 hq => ?_)
                obtain ⟨rfl, rfl⟩ := hq
                show WP _ _ _ _ _ _ (_ :: _)
                refine r_iret d_M_inChunk_110 rfl (Nat.le_of_ble_eq_true rfl) (Nat.le_of_ble_eq_true rfl) ?_
                rw [if_neg q2] at hE
                rw [← hQ]; exact ⟨by rw [← hE], rfl⟩
              · refine r_iload d_M_inChunk_84 rfl ?_
                refine r_goto 110 d_M_inChunk_86 (by decide) ?_
                refine r_iret d_M_inChunk_110 rfl (Nat.le_of_ble_eq_true rfl) (Nat.le_of_ble_eq_true rfl) ?_
                rw [if_pos (by omega), show (k - smp s t c).toNat = i by omega] at hE
                rw [← hQ]; exact ⟨by rw [← hE], rfl⟩
            · exact absurd q1 (by omega)
          | succ m2 ihm =>
            intro i hi
            refine r_iload d_M_inChunk_47 rfl ?_
            refine r_iload_n d_M_inChunk_49 rfl ?_
            refine r_icmp_ge 71 d_M_inChunk_50 (by decide) (by unfold i32; omega) (by unfold i32; omega) (fun q1 => ?_) (fun q1 => ?_)
            · exact absurd q1 (by omega)
            refine r_iload d_M_inChunk_53 rfl ?_
            refine r_aload_n d_M_inChunk_55 rfl rfl ?_
            refine r_iload_n d_M_inChunk_56 rfl ?_
            refine r_iload d_M_inChunk_57 rfl ?_
            refine r_cV2 d_M_inChunk_59 lk_M_128 (c_M_sizeOf G l ad s t (smp s t c + i) hb ht k3.1 (by omega) (by intro h; have := k3.2.2 h; omega)) 0 rfl rfl (Nat.le_of_ble_eq_true rfl) (rok rfl rfl) ⟨(Nat.le_of_ble_eq_true rfl), (Nat.le_of_ble_eq_true rfl)⟩ (fun r ws2 hq => ?_)
            obtain ⟨rfl, rfl⟩ := hq
            show WP _ _ _ _ _ _ (_ :: _)
            refine r_iadd d_M_inChunk_62 ?_
            refine r_istore d_M_inChunk_63 (Nat.le_of_ble_eq_true rfl) rfl ?_
            show WP _ _ _ _ _ [_, _, _, _, _, _, _, _, _] _
            refine r_iinc d_M_inChunk_65 rfl (Nat.le_of_ble_eq_true rfl) rfl ?_
            show WP _ _ _ _ _ [_, _, _, _, _, _, _, _, _] _
            refine r_goto 47 d_M_inChunk_68 (by decide) ?_
            have J := ihm (i + 1) (by omega)
            rw [show smp s t c + ((i + 1 : Nat) : Int) = smp s t c + i + 1 by omega, show cpl s t (1 + c) + sumI (fun i => szO s t (smp s t c + i)) (i + 1) = cpl s t (1 + c) + sumI (fun i => szO s t (smp s t c + i)) i + szO s t (smp s t c + i) from by rw [Int.add_assoc]; rfl] at J
            exact J
        refine r_istore d_M_inChunk_41 (Nat.le_of_ble_eq_true rfl) rfl ?_
        show WP _ _ _ _ _ [_, _, _, _, _, _, _, _, _] _
        refine r_iload d_M_inChunk_43 rfl ?_
        refine r_istore d_M_inChunk_45 (Nat.le_of_ble_eq_true rfl) rfl ?_
        show WP _ _ _ _ _ [_, _, _, _, _, _, _, _, _] _
        have J := inner (k - smp s t c).toNat 0 (by omega)
        rw [show smp s t c + ((0 : Nat) : Int) = smp s t c by omega, show cpl s t (1 + c) + sumI (fun i => szO s t (smp s t c + i)) 0 = cpl s t (1 + c) from Int.add_zero _] at J
        exact J
  refine r_iconst d_M_inChunk_0 ?_
  refine r_istore d_M_inChunk_1 (Nat.le_of_ble_eq_true rfl) rfl ?_
  show WP _ _ _ _ _ [_, _, _, _, _, _, _, _, _] _
  refine r_iconst d_M_inChunk_3 ?_
  refine r_istore d_M_inChunk_4 (Nat.le_of_ble_eq_true rfl) rfl ?_
  show WP _ _ _ _ _ [_, _, _, _, _, _, _, _, _] _
  exact loop (pv s (pbx s t) 0).toNat 0 none none none (by omega) hk.1 rfl
theorem c_M_isSync (s : mS) (t k : Int) (hb : byOk s) (ht : 0 ≤ t ∧ t ≤ 1) (hT : trOk s t) (hk : 0 ≤ k ∧ k < 256) : Ct G l q_M_isSync 1 0 0 [.ref (ad 0), vI t, vI k] (mW G ad s) (fun r w => r = some (vI (syO s t k)) ∧ w = mW G ad s) := by
  refine Ct.intro [some (.ref (ad 0)), some (vI t), some (vI k), none, none, none, none] (by decide) (Nat.le_of_ble_eq_true rfl) rfl (fun sz => ?_)
  generalize hQ : (fun r w => r = some (vI (syO s t k)) ∧ w = mW G ad s) = Q
  have i6 := hT.i ht (kd := 6) (by omega)
  have k6 := hT.2.2.2.2.2.1
  have h60 := pv_b hb (tb s t 6) 0
  have loop : ∀ (m r : Nat) (rw0 fd : Int), rw0 = (if tb s t 6 < 0 then 0 else pv s (tb s t 6) 0) → (r : Int) + m = rw0 → fd = (if tb s t 6 < 0 then 1 else b2 (exB (fun r => pv s (tb s t 6) (1 + r) = k + 1) r)) → WP (mth G l q_M_isSync 1 0 0 (mW G ad s) sz Q) 0 0 (mW G ad s) 43 [some (.ref (ad 0)), some (vI t), some (vI k), some (vI (tb s t 6)), some (vI fd), some (vI rw0), some (vI r)] [] := by
    intro m
    induction m with
    | zero =>
      intro r rw0 fd h1 h2 h3
      have hrb : 0 ≤ rw0 ∧ rw0 < 256 := by rw [h1]; split <;> omega
      refine r_iload d_M_isSync_43 rfl ?_
      refine r_iload d_M_isSync_45 rfl ?_
      refine r_icmp_ge 79 d_M_isSync_47 (by decide) (by unfold i32; omega) (by unfold i32; omega) (fun g1 => ?_) (fun g1 => ?_)
      · refine r_iload d_M_isSync_79 rfl ?_
        refine r_iret d_M_isSync_81 rfl (Nat.le_of_ble_eq_true rfl) (Nat.le_of_ble_eq_true rfl) ?_
        refine hQ ▸ ⟨?_, rfl⟩
        rw [h3]
        unfold syO
        by_cases hn : tb s t 6 < 0
        · rw [if_pos hn, if_pos hn]
        · rw [if_neg hn] at h1 ⊢
          rw [if_neg hn, show (pv s (tb s t 6) 0).toNat = r by omega]
      · exact absurd g1 (by omega)
    | succ m ih =>
      intro r rw0 fd h1 h2 h3
      have hrb : 0 ≤ rw0 ∧ rw0 < 256 := by rw [h1]; split <;> omega
      have hn : ¬ tb s t 6 < 0 := fun h => by rw [if_pos h] at h1; omega
      have hk6 := k6 (by omega)
      have hp := pv_b hb (tb s t 6) (1 + r)
      rw [if_neg hn] at h3
      have hr6 : rw0 = pv s (tb s t 6) 0 := by rw [h1, if_neg hn]
      have ih2 := fun fd => ih (r + 1) rw0 fd h1 (by omega)
      rw [if_neg hn, b2_c (exB_s (fun r => pv s (tb s t 6) (1 + r) = k + 1) r)] at ih2
      refine r_iload d_M_isSync_43 rfl ?_
      refine r_iload d_M_isSync_45 rfl ?_
      refine r_icmp_ge 79 d_M_isSync_47 (by decide) (by unfold i32; omega) (by unfold i32; omega) (fun g1 => ?_) (fun g1 => ?_)
      · exact absurd g1 (by omega)
      refine r_aload_n d_M_isSync_50 rfl rfl ?_
      refine r_iload_n d_M_isSync_51 rfl ?_
      refine r_iconst d_M_isSync_52 ?_
      refine r_iload d_M_isSync_53 rfl ?_
      refine r_iadd d_M_isSync_55 ?_
      refine r_cV2 d_M_isSync_56 lk_M_106 (c_M_payB G l ad s (tb s t 6) (1 + r) hk6.1 (by omega)) 0 rfl rfl (Nat.le_of_ble_eq_true rfl) (rok rfl rfl) ⟨(Nat.le_of_ble_eq_true rfl), (Nat.le_of_ble_eq_true rfl)⟩ (fun r ws2 hq => ?_)
      obtain ⟨rfl, rfl⟩ := hq
      show WP _ _ _ _ _ _ (_ :: _)
      refine r_iload_n d_M_isSync_59 rfl ?_
      refine r_iconst d_M_isSync_60 ?_
      refine r_iadd d_M_isSync_61 ?_
      refine r_icmp_ne 69 d_M_isSync_62 (by decide) (by unfold i32; omega) (by unfold i32; omega) (fun g2 => ?_) (fun g2 => ?_)
      · refine r_iload d_M_isSync_69 rfl ?_
        refine r_istore d_M_isSync_71 (Nat.le_of_ble_eq_true rfl) rfl ?_
        show WP _ _ _ _ _ [_, _, _, _, _, _, _] _
        refine r_iinc d_M_isSync_73 rfl (Nat.le_of_ble_eq_true rfl) rfl ?_
        show WP _ _ _ _ _ [_, _, _, _, _, _, _] _
        refine r_goto 43 d_M_isSync_76 (by decide) ?_
        refine ih2 fd ?_
        rw [h3]
        exact b2_c ⟨Or.inl, fun h => h.elim id (fun q => absurd q g2)⟩
      · refine r_iconst d_M_isSync_65 ?_
        refine r_goto 71 d_M_isSync_66 (by decide) ?_
        refine r_istore d_M_isSync_71 (Nat.le_of_ble_eq_true rfl) rfl ?_
        show WP _ _ _ _ _ [_, _, _, _, _, _, _] _
        refine r_iinc d_M_isSync_73 rfl (Nat.le_of_ble_eq_true rfl) rfl ?_
        show WP _ _ _ _ _ [_, _, _, _, _, _, _] _
        refine r_goto 43 d_M_isSync_76 (by decide) ?_
        refine ih2 1 ?_
        rw [b2_t]
        exact Or.inr (by omega)
  have j38 : ∀ x fd, x = (if tb s t 6 < 0 then 0 else pv s (tb s t 6) 0) → fd = (if tb s t 6 < 0 then 1 else 0) → WP (mth G l q_M_isSync 1 0 0 (mW G ad s) sz Q) 0 0 (mW G ad s) 38 [some (.ref (ad 0)), some (vI t), some (vI k), some (vI (tb s t 6)), some (vI fd), none, none] [vI x] := by
    intro x fd hx hfd
    have hxb : 0 ≤ x ∧ x < 256 := by rw [hx]; split <;> omega
    refine r_istore d_M_isSync_38 (Nat.le_of_ble_eq_true rfl) rfl ?_
    show WP _ _ _ _ _ [_, _, _, _, _, _, _] _
    refine r_iconst d_M_isSync_40 ?_
    refine r_istore d_M_isSync_41 (Nat.le_of_ble_eq_true rfl) rfl ?_
    show WP _ _ _ _ _ [_, _, _, _, _, _, _] _
    exact loop x.toNat 0 x fd hx (by omega) (by rw [hfd, b2_f (exB_0 _)])
  have j22 : ∀ fd, fd = (if tb s t 6 < 0 then 1 else 0) → WP (mth G l q_M_isSync 1 0 0 (mW G ad s) sz Q) 0 0 (mW G ad s) 22 [some (.ref (ad 0)), some (vI t), some (vI k), some (vI (tb s t 6)), none, none, none] [vI fd] := by
    intro fd hfd
    refine r_istore d_M_isSync_22 (Nat.le_of_ble_eq_true rfl) rfl ?_
    show WP _ _ _ _ _ [_, _, _, _, _, _, _] _
    refine r_iload_n d_M_isSync_24 rfl ?_
    refine r_if_ge 32 d_M_isSync_25 (by decide) (by unfold i32; omega) (fun g1 => ?_) (fun g1 => ?_)
    · have hk6 := k6 g1
      refine r_aload_n d_M_isSync_32 rfl rfl ?_
      refine r_iload_n d_M_isSync_33 rfl ?_
      refine r_iconst d_M_isSync_34 ?_
      refine r_cV2 d_M_isSync_35 lk_M_106 (c_M_payB G l ad s (tb s t 6) 0 hk6.1 (by omega)) 0 rfl rfl (Nat.le_of_ble_eq_true rfl) (rok rfl rfl) ⟨(Nat.le_of_ble_eq_true rfl), (Nat.le_of_ble_eq_true rfl)⟩ (fun r ws2 hq => ?_)
      obtain ⟨rfl, rfl⟩ := hq
      show WP _ _ _ _ _ _ (_ :: _)
      exact j38 _ fd (by rw [if_neg (by omega)]) hfd
    · refine r_iconst d_M_isSync_28 ?_
      refine r_goto 38 d_M_isSync_29 (by decide) ?_
      exact j38 0 fd (by rw [if_pos (by omega)]) hfd
  refine r_aload_n d_M_isSync_0 rfl rfl ?_
  refine r_get d_M_isSync_1 fl_M_40_7 0 rfl rfl ?_
  refine r_bipush d_M_isSync_4 (by decide) ?_
  refine r_iload_n d_M_isSync_6 rfl ?_
  refine r_imul d_M_isSync_7 ?_
  refine r_bipush d_M_isSync_8 (by decide) ?_
  refine r_iadd d_M_isSync_10 ?_
  refine r_iald d_M_isSync_11 11 rfl (by omega) ?_
  show WP _ 0 0 _ _ _ (vI (tb s t 6) :: _)
  refine r_istore_n d_M_isSync_12 (Nat.le_of_ble_eq_true rfl) rfl ?_
  show WP _ _ _ _ _ [_, _, _, _, _, _, _] _
  refine r_iload_n d_M_isSync_13 rfl ?_
  refine r_if_ge 21 d_M_isSync_14 (by decide) (by unfold i32; omega) (fun g1 => ?_) (fun g1 => ?_)
  · refine r_iconst d_M_isSync_21 ?_
    exact j22 0 (by rw [if_neg (by omega)])
  · refine r_iconst d_M_isSync_17 ?_
    refine r_goto 22 d_M_isSync_18 (by decide) ?_
    exact j22 1 (by rw [if_pos (by omega)])
theorem c_M_mediaTime (s : mS) (t time : Int) (hb : byOk s) (ht : 0 ≤ t ∧ t ≤ 1) (hT : trOk s t) (hk : 0 ≤ time ∧ i32 time) : Ct G l q_M_mediaTime 1 0 0 [.ref (ad 0), vI t, vI time] (mW G ad s) (fun r w => r = some (vI (mtO s t time)) ∧ w = mW G ad s) := by
  refine Ct.intro [some (.ref (ad 0)), some (vI t), some (vI time), none, none, none, none, none] (by decide) (Nat.le_of_ble_eq_true rfl) rfl (fun sz => ?_)
  generalize hQ : (fun r w => r = some (vI (mtO s t time)) ∧ w = mW G ad s) = Q
  have i7 := hT.i ht (kd := 7) (by omega)
  have k7 := hT.2.2.2.2.2.2.1
  refine r_aload_n d_M_mediaTime_0 rfl rfl ?_
  refine r_get d_M_mediaTime_1 fl_M_40_7 0 rfl rfl ?_
  refine r_bipush d_M_mediaTime_4 (by decide) ?_
  refine r_iload_n d_M_mediaTime_6 rfl ?_
  refine r_imul d_M_mediaTime_7 ?_
  refine r_bipush d_M_mediaTime_8 (by decide) ?_
  refine r_iadd d_M_mediaTime_10 ?_
  refine r_iald d_M_mediaTime_11 11 rfl (by omega) ?_
  show WP _ 0 0 _ _ _ (vI (tb s t 7) :: _)
  refine r_istore_n d_M_mediaTime_12 (Nat.le_of_ble_eq_true rfl) rfl ?_
  show WP _ _ _ _ _ [_, _, _, _, _, _, _, _] _
  refine r_iload_n d_M_mediaTime_13 rfl ?_
  refine r_if_ge 19 d_M_mediaTime_14 (by decide) (by unfold i32; omega) (fun g0 => ?_) (fun g0 => ?_)
  · obtain ⟨hx, hl⟩ := k7 g0
    have hQ2 : (fun r w => r = some (vI (mtL (fun r => pv s (tb s t 7) (1 + 2 * r)) (fun r => pv s (tb s t 7) (2 + 2 * r)) time (pv s (tb s t 7) 0).toNat 0 0)) ∧ w = mW G ad s) = Q := by rw [← hQ]; unfold mtO; rw [if_neg (by omega)]
    generalize tb s t 7 = k at hx hl hQ2 g0 i7
    have h0 := pv_b hb k 0
    have loop : ∀ (m : Nat) (r bf : Int) (x6 x7 : Option Value), 0 ≤ r → r + m = pv s k 0 → 0 ≤ bf → bf ≤ 255 * r → bf ≤ time → mtL (fun r => pv s k (1 + 2 * r)) (fun r => pv s k (2 + 2 * r)) time m r bf = mtL (fun r => pv s k (1 + 2 * r)) (fun r => pv s k (2 + 2 * r)) time (pv s k 0).toNat 0 0 → WP (mth G l q_M_mediaTime 1 0 0 (mW G ad s) sz Q) 0 0 (mW G ad s) 25 [some (.ref (ad 0)), some (vI t), some (vI time), some (vI k), some (vI bf), some (vI r), x6, x7] [] := by
      intro m
      induction m with
      | zero =>
        intro r bf x6 x7 h1 h2 h3 h4 h5 hE
        refine r_iload d_M_mediaTime_25 rfl ?_
        refine r_aload_n d_M_mediaTime_27 rfl rfl ?_
        refine r_iload_n d_M_mediaTime_28 rfl ?_
        refine r_iconst d_M_mediaTime_29 ?_
        refine r_cV2 d_M_mediaTime_30 lk_M_106 (c_M_payB G l ad s k 0 hx (by omega)) 0 rfl rfl (Nat.le_of_ble_eq_true rfl) (rok rfl rfl) ⟨(Nat.le_of_ble_eq_true rfl), (Nat.le_of_ble_eq_true rfl)⟩ (fun r ws2 hq => ?_)
        obtain ⟨rfl, rfl⟩ := hq
        show WP _ _ _ _ _ _ (_ :: _)
        refine r_icmp_ge 106 d_M_mediaTime_33 (by decide) (by unfold i32; omega) (by unfold i32; omega) (fun g1 => ?_) (fun g1 => ?_)
        · refine r_sipush d_M_mediaTime_106 (by decide) ?_
          refine r_iret d_M_mediaTime_109 rfl (Nat.le_of_ble_eq_true rfl) (Nat.le_of_ble_eq_true rfl) ?_
          rw [← hQ2, ← hE]; exact ⟨rfl, rfl⟩
        · exact absurd g1 (by omega)
      | succ m ih =>
        intro r bf x6 x7 h1 h2 h3 h4 h5 hE
        have p1 := pv_b hb k (1 + 2 * r)
        have p2 := pv_b hb k (2 + 2 * r)
        rw [mtL] at hE
        refine r_iload d_M_mediaTime_25 rfl ?_
        refine r_aload_n d_M_mediaTime_27 rfl rfl ?_
        refine r_iload_n d_M_mediaTime_28 rfl ?_
        refine r_iconst d_M_mediaTime_29 ?_
        refine r_cV2 d_M_mediaTime_30 lk_M_106 (c_M_payB G l ad s k 0 hx (by omega)) 0 rfl rfl (Nat.le_of_ble_eq_true rfl) (rok rfl rfl) ⟨(Nat.le_of_ble_eq_true rfl), (Nat.le_of_ble_eq_true rfl)⟩ (fun r ws2 hq => ?_)
        obtain ⟨rfl, rfl⟩ := hq
        show WP _ _ _ _ _ _ (_ :: _)
        refine r_icmp_ge 106 d_M_mediaTime_33 (by decide) (by unfold i32; omega) (by unfold i32; omega) (fun g1 => ?_) (fun g1 => ?_)
        · exact absurd g1 (by omega)
        refine r_aload_n d_M_mediaTime_36 rfl rfl ?_
        refine r_iload_n d_M_mediaTime_37 rfl ?_
        refine r_iconst d_M_mediaTime_38 ?_
        refine r_iconst d_M_mediaTime_39 ?_
        refine r_iload d_M_mediaTime_40 rfl ?_
        refine r_imul d_M_mediaTime_42 ?_
        refine r_iadd d_M_mediaTime_43 ?_
        refine r_cV2 d_M_mediaTime_44 lk_M_106 (c_M_payB G l ad s k (1 + 2 * r) hx (by omega)) 0 rfl rfl (Nat.le_of_ble_eq_true rfl) (rok rfl rfl) ⟨(Nat.le_of_ble_eq_true rfl), (Nat.le_of_ble_eq_true rfl)⟩ (fun r ws2 hq => ?_)
        obtain ⟨rfl, rfl⟩ := hq
        show WP _ _ _ _ _ _ (_ :: _)
        refine r_istore d_M_mediaTime_47 (Nat.le_of_ble_eq_true rfl) rfl ?_
        show WP _ _ _ _ _ [_, _, _, _, _, _, _, _] _
        refine r_iload_n d_M_mediaTime_49 rfl ?_
        refine r_iload d_M_mediaTime_50 rfl ?_
        refine r_iload d_M_mediaTime_52 rfl ?_
        refine r_iadd d_M_mediaTime_54 ?_
        refine r_icmp_ge 93 d_M_mediaTime_55 (by decide) hk.2 (by unfold i32; omega) (fun g2 => ?_) (fun g2 => ?_)
        · rw [if_neg (by omega)] at hE
          refine r_iload d_M_mediaTime_93 rfl ?_
          refine r_iload d_M_mediaTime_95 rfl ?_
          refine r_iadd d_M_mediaTime_97 ?_
          refine r_istore d_M_mediaTime_98 (Nat.le_of_ble_eq_true rfl) rfl ?_
          show WP _ _ _ _ _ [_, _, _, _, _, _, _, _] _
          refine r_iinc d_M_mediaTime_100 rfl (Nat.le_of_ble_eq_true rfl) rfl ?_
          show WP _ _ _ _ _ [_, _, _, _, _, _, _, _] _
          refine r_goto 25 d_M_mediaTime_103 (by decide) ?_
          exact ih (r + 1) (bf + pv s k (1 + 2 * r)) _ _ (by omega) (by omega) (by omega) (by omega) (by omega) hE
        · rw [if_pos (by omega)] at hE
          refine r_aload_n d_M_mediaTime_58 rfl rfl ?_
          refine r_iload_n d_M_mediaTime_59 rfl ?_
          refine r_iconst d_M_mediaTime_60 ?_
          refine r_iconst d_M_mediaTime_61 ?_
          refine r_iload d_M_mediaTime_62 rfl ?_
          refine r_imul d_M_mediaTime_64 ?_
          refine r_iadd d_M_mediaTime_65 ?_
          refine r_cV2 d_M_mediaTime_66 lk_M_106 (c_M_payB G l ad s k (2 + 2 * r) hx (by omega)) 0 rfl rfl (Nat.le_of_ble_eq_true rfl) (rok rfl rfl) ⟨(Nat.le_of_ble_eq_true rfl), (Nat.le_of_ble_eq_true rfl)⟩ (fun r ws2 hq => ?_)
          obtain ⟨rfl, rfl⟩ := hq
          show WP _ _ _ _ _ _ (_ :: _)
          refine r_istore d_M_mediaTime_69 (Nat.le_of_ble_eq_true rfl) rfl ?_
          show WP _ _ _ _ _ [_, _, _, _, _, _, _, _] _
          refine r_iload d_M_mediaTime_71 rfl ?_
          refine r_sipush d_M_mediaTime_73 (by decide) ?_
          refine r_icmp_ne 85 d_M_mediaTime_76 (by decide) (by unfold i32; omega) (by unfold i32; omega) (fun g3 => ?_) (fun g3 => ?_)
          · rw [if_neg g3] at hE
            refine r_iload d_M_mediaTime_85 rfl ?_
            refine r_iload_n d_M_mediaTime_87 rfl ?_
            refine r_iadd d_M_mediaTime_88 ?_
            refine r_iload d_M_mediaTime_89 rfl ?_
            refine r_isub d_M_mediaTime_91 ?_
            refine r_iret d_M_mediaTime_92 rfl (Nat.le_of_ble_eq_true rfl) (Nat.le_of_ble_eq_true rfl) ?_
            rw [← hQ2, ← hE]; exact ⟨rfl, rfl⟩
          · rw [if_pos (by omega)] at hE
            refine r_sipush d_M_mediaTime_79 (by decide) ?_
            refine r_goto 92 d_M_mediaTime_82 (by decide) ?_
            refine r_iret d_M_mediaTime_92 rfl (Nat.le_of_ble_eq_true rfl) (Nat.le_of_ble_eq_true rfl) ?_
            rw [← hQ2, ← hE]; exact ⟨rfl, rfl⟩
    refine r_iconst d_M_mediaTime_19 ?_
    refine r_istore d_M_mediaTime_20 (Nat.le_of_ble_eq_true rfl) rfl ?_
    show WP _ _ _ _ _ [_, _, _, _, _, _, _, _] _
    refine r_iconst d_M_mediaTime_22 ?_
    refine r_istore d_M_mediaTime_23 (Nat.le_of_ble_eq_true rfl) rfl ?_
    show WP _ _ _ _ _ [_, _, _, _, _, _, _, _] _
    exact loop (pv s k 0).toNat 0 0 none none (by omega) (by omega) (by omega) (by omega) (by omega) rfl
  · refine r_iload_n d_M_mediaTime_17 rfl ?_
    refine r_iret d_M_mediaTime_18 rfl (Nat.le_of_ble_eq_true rfl) (Nat.le_of_ble_eq_true rfl) ?_
    rw [← hQ]; exact ⟨by unfold mtO; rw [if_pos (by omega)], rfl⟩
end MODEL13
