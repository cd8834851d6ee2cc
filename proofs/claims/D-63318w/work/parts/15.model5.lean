abbrev q_M_total : Mi := (⟨"MovieBoxesModel", "total", "(I)I"⟩, prog_12_method_16_code, 4, (some .int))
theorem d_M_total_4 : decode prog_12_method_16_code 4 = .ok (.iload_n 3, 1) := by decide +kernel
theorem d_M_total_5 : decode prog_12_method_16_code 5 = .ok (.aload_n 0, 1) := by decide +kernel
theorem d_M_total_6 : decode prog_12_method_16_code 6 = .ok (.iload_n 1, 1) := by decide +kernel
theorem d_M_total_7 : decode prog_12_method_16_code 7 = .ok (.iconst 0, 1) := by decide +kernel
theorem d_M_total_8 : decode prog_12_method_16_code 8 = .ok (.invokevirtual 106, 3) := by decide +kernel
set_option maxRecDepth 20000 in
theorem w_828 : Cond.methodLink "MovieBoxesModel" 106 ⟨"MovieBoxesModel", "pay", "(II)I"⟩ ∈ gt := gt_of (in_t4 (List.mem_of_getElem? (i := 108) rfl)) rfl
set_option maxRecDepth 20000 in
theorem w_830 : Cond.instanceMethod ⟨"MovieBoxesModel", "pay", "(II)I"⟩ ∈ gt := gt_of (in_t4 (List.mem_of_getElem? (i := 110) rfl)) rfl
set_option maxRecDepth 20000 in
theorem ws_M_pay : Cond.selects "MovieBoxesModel" ⟨"MovieBoxesModel", "pay", "(II)I"⟩ ⟨"MovieBoxesModel", "pay", "(II)I"⟩ ∈ gt := gt_of (in_p2 (List.mem_of_getElem? (i := 3) rfl)) rfl
set_option maxRecDepth 20000 in
theorem w_831 : Cond.code ⟨"MovieBoxesModel", "pay", "(II)I"⟩ prog_12_method_10_code 3 (some .int) ∈ gt := gt_of (in_t4 (List.mem_of_getElem? (i := 111) rfl)) rfl
theorem lk_M_106 : LkV "MovieBoxesModel" 106 q_M_pay 2 := ⟨(List.forall_mem_cons.mpr ⟨w_828, (List.forall_mem_cons.mpr ⟨w_830, (List.forall_mem_cons.mpr ⟨ws_M_pay, (List.forall_mem_cons.mpr ⟨w_8, (fun _ h => absurd h List.not_mem_nil)⟩)⟩)⟩)⟩), w_831, by decide +kernel⟩
theorem d_M_total_11 : decode prog_12_method_16_code 11 = .ok (.if_icmp .ge 22, 3) := by decide +kernel
theorem d_M_total_33 : decode prog_12_method_16_code 33 = .ok (.iload_n 2, 1) := by decide +kernel
theorem d_M_total_34 : decode prog_12_method_16_code 34 = .ok (.ireturn, 1) := by decide +kernel
theorem d_M_total_14 : decode prog_12_method_16_code 14 = .ok (.iload_n 2, 1) := by decide +kernel
theorem d_M_total_15 : decode prog_12_method_16_code 15 = .ok (.aload_n 0, 1) := by decide +kernel
theorem d_M_total_16 : decode prog_12_method_16_code 16 = .ok (.iload_n 1, 1) := by decide +kernel
theorem d_M_total_17 : decode prog_12_method_16_code 17 = .ok (.iconst 1, 1) := by decide +kernel
theorem d_M_total_18 : decode prog_12_method_16_code 18 = .ok (.iconst 2, 1) := by decide +kernel
theorem d_M_total_19 : decode prog_12_method_16_code 19 = .ok (.iload_n 3, 1) := by decide +kernel
theorem d_M_total_20 : decode prog_12_method_16_code 20 = .ok (.imul, 1) := by decide +kernel
theorem d_M_total_21 : decode prog_12_method_16_code 21 = .ok (.iadd, 1) := by decide +kernel
theorem d_M_total_22 : decode prog_12_method_16_code 22 = .ok (.invokevirtual 106, 3) := by decide +kernel
theorem d_M_total_25 : decode prog_12_method_16_code 25 = .ok (.iadd, 1) := by decide +kernel
theorem d_M_total_26 : decode prog_12_method_16_code 26 = .ok (.istore_n 2, 1) := by decide +kernel
theorem d_M_total_27 : decode prog_12_method_16_code 27 = .ok (.iinc 3 1, 3) := by decide +kernel
theorem d_M_total_30 : decode prog_12_method_16_code 30 = .ok (.goto (-26), 3) := by decide +kernel
theorem d_M_total_0 : decode prog_12_method_16_code 0 = .ok (.iconst 0, 1) := by decide +kernel
theorem d_M_total_1 : decode prog_12_method_16_code 1 = .ok (.istore_n 2, 1) := by decide +kernel
theorem d_M_total_2 : decode prog_12_method_16_code 2 = .ok (.iconst 0, 1) := by decide +kernel
theorem d_M_total_3 : decode prog_12_method_16_code 3 = .ok (.istore_n 3, 1) := by decide +kernel
abbrev q_M_sampleCount : Mi := (⟨"MovieBoxesModel", "sampleCount", "(I)I"⟩, prog_12_method_18_code, 2, (some .int))
theorem d_M_sampleCount_0 : decode prog_12_method_18_code 0 = .ok (.aload_n 0, 1) := by decide +kernel
theorem d_M_sampleCount_1 : decode prog_12_method_18_code 1 = .ok (.aload_n 0, 1) := by decide +kernel
theorem d_M_sampleCount_2 : decode prog_12_method_18_code 2 = .ok (.getfield 40, 3) := by decide +kernel
set_option maxRecDepth 20000 in
theorem w_726 : Cond.fieldLink "MovieBoxesModel" 40 "MovieBoxesModel" "table" "[I" ∈ gt := gt_of (in_t4 (List.mem_of_getElem? (i := 6) rfl)) rfl
theorem fl_M_40_7 : FL "MovieBoxesModel" 40 7 14 true := ⟨_, _, _, "MovieBoxesModel", rfl, by decide, rfl, Or.inl w_726, Or.inl rfl⟩
theorem d_M_sampleCount_5 : decode prog_12_method_18_code 5 = .ok (.bipush 8, 2) := by decide +kernel
theorem d_M_sampleCount_7 : decode prog_12_method_18_code 7 = .ok (.iload_n 1, 1) := by decide +kernel
theorem d_M_sampleCount_8 : decode prog_12_method_18_code 8 = .ok (.imul, 1) := by decide +kernel
theorem d_M_sampleCount_9 : decode prog_12_method_18_code 9 = .ok (.iconst 3, 1) := by decide +kernel
theorem d_M_sampleCount_10 : decode prog_12_method_18_code 10 = .ok (.iadd, 1) := by decide +kernel
theorem d_M_sampleCount_11 : decode prog_12_method_18_code 11 = .ok (.iaload, 1) := by decide +kernel
theorem d_M_sampleCount_12 : decode prog_12_method_18_code 12 = .ok (.iconst 1, 1) := by decide +kernel
theorem d_M_sampleCount_13 : decode prog_12_method_18_code 13 = .ok (.invokevirtual 106, 3) := by decide +kernel
theorem d_M_sampleCount_16 : decode prog_12_method_18_code 16 = .ok (.ireturn, 1) := by decide +kernel
abbrev q_M_sizeOf : Mi := (⟨"MovieBoxesModel", "sizeOf", "(II)I"⟩, prog_12_method_19_code, 5, (some .int))
theorem d_M_sizeOf_0 : decode prog_12_method_19_code 0 = .ok (.aload_n 0, 1) := by decide +kernel
theorem d_M_sizeOf_1 : decode prog_12_method_19_code 1 = .ok (.getfield 40, 3) := by decide +kernel
theorem d_M_sizeOf_4 : decode prog_12_method_19_code 4 = .ok (.bipush 8, 2) := by decide +kernel
theorem d_M_sizeOf_6 : decode prog_12_method_19_code 6 = .ok (.iload_n 1, 1) := by decide +kernel
theorem d_M_sizeOf_7 : decode prog_12_method_19_code 7 = .ok (.imul, 1) := by decide +kernel
theorem d_M_sizeOf_8 : decode prog_12_method_19_code 8 = .ok (.iconst 3, 1) := by decide +kernel
theorem d_M_sizeOf_9 : decode prog_12_method_19_code 9 = .ok (.iadd, 1) := by decide +kernel
theorem d_M_sizeOf_10 : decode prog_12_method_19_code 10 = .ok (.iaload, 1) := by decide +kernel
theorem d_M_sizeOf_11 : decode prog_12_method_19_code 11 = .ok (.istore_n 3, 1) := by decide +kernel
theorem d_M_sizeOf_12 : decode prog_12_method_19_code 12 = .ok (.aload_n 0, 1) := by decide +kernel
theorem d_M_sizeOf_13 : decode prog_12_method_19_code 13 = .ok (.iload_n 3, 1) := by decide +kernel
theorem d_M_sizeOf_14 : decode prog_12_method_19_code 14 = .ok (.iconst 0, 1) := by decide +kernel
theorem d_M_sizeOf_15 : decode prog_12_method_19_code 15 = .ok (.invokevirtual 106, 3) := by decide +kernel
theorem d_M_sizeOf_18 : decode prog_12_method_19_code 18 = .ok (.istore 4, 2) := by decide +kernel
theorem d_M_sizeOf_20 : decode prog_12_method_19_code 20 = .ok (.iload 4, 2) := by decide +kernel
theorem d_M_sizeOf_22 : decode prog_12_method_19_code 22 = .ok (.ifCond .eq 8, 3) := by decide +kernel
theorem d_M_sizeOf_30 : decode prog_12_method_19_code 30 = .ok (.aload_n 0, 1) := by decide +kernel
theorem d_M_sizeOf_31 : decode prog_12_method_19_code 31 = .ok (.iload_n 3, 1) := by decide +kernel
theorem d_M_sizeOf_32 : decode prog_12_method_19_code 32 = .ok (.iconst 2, 1) := by decide +kernel
theorem d_M_sizeOf_33 : decode prog_12_method_19_code 33 = .ok (.iload_n 2, 1) := by decide +kernel
theorem d_M_sizeOf_34 : decode prog_12_method_19_code 34 = .ok (.iadd, 1) := by decide +kernel
theorem d_M_sizeOf_35 : decode prog_12_method_19_code 35 = .ok (.invokevirtual 106, 3) := by decide +kernel
theorem d_M_sizeOf_38 : decode prog_12_method_19_code 38 = .ok (.ireturn, 1) := by decide +kernel
theorem d_M_sizeOf_25 : decode prog_12_method_19_code 25 = .ok (.iload 4, 2) := by decide +kernel
theorem d_M_sizeOf_27 : decode prog_12_method_19_code 27 = .ok (.goto 11, 3) := by decide +kernel
abbrev q_M_placesBox : Mi := (⟨"MovieBoxesModel", "placesBox", "(I)I"⟩, prog_12_method_20_code, 3, (some .int))
theorem d_M_placesBox_0 : decode prog_12_method_20_code 0 = .ok (.aload_n 0, 1) := by decide +kernel
theorem d_M_placesBox_1 : decode prog_12_method_20_code 1 = .ok (.getfield 40, 3) := by decide +kernel
theorem d_M_placesBox_4 : decode prog_12_method_20_code 4 = .ok (.bipush 8, 2) := by decide +kernel
theorem d_M_placesBox_6 : decode prog_12_method_20_code 6 = .ok (.iload_n 1, 1) := by decide +kernel
theorem d_M_placesBox_7 : decode prog_12_method_20_code 7 = .ok (.imul, 1) := by decide +kernel
theorem d_M_placesBox_8 : decode prog_12_method_20_code 8 = .ok (.iconst 4, 1) := by decide +kernel
theorem d_M_placesBox_9 : decode prog_12_method_20_code 9 = .ok (.iadd, 1) := by decide +kernel
theorem d_M_placesBox_10 : decode prog_12_method_20_code 10 = .ok (.iaload, 1) := by decide +kernel
theorem d_M_placesBox_11 : decode prog_12_method_20_code 11 = .ok (.istore_n 2, 1) := by decide +kernel
theorem d_M_placesBox_12 : decode prog_12_method_20_code 12 = .ok (.iload_n 2, 1) := by decide +kernel
theorem d_M_placesBox_13 : decode prog_12_method_20_code 13 = .ok (.ifCond .lt 7, 3) := by decide +kernel
theorem d_M_placesBox_20 : decode prog_12_method_20_code 20 = .ok (.aload_n 0, 1) := by decide +kernel
theorem d_M_placesBox_21 : decode prog_12_method_20_code 21 = .ok (.getfield 40, 3) := by decide +kernel
theorem d_M_placesBox_24 : decode prog_12_method_20_code 24 = .ok (.bipush 8, 2) := by decide +kernel
theorem d_M_placesBox_26 : decode prog_12_method_20_code 26 = .ok (.iload_n 1, 1) := by decide +kernel
theorem d_M_placesBox_27 : decode prog_12_method_20_code 27 = .ok (.imul, 1) := by decide +kernel
theorem d_M_placesBox_28 : decode prog_12_method_20_code 28 = .ok (.iconst 5, 1) := by decide +kernel
theorem d_M_placesBox_29 : decode prog_12_method_20_code 29 = .ok (.iadd, 1) := by decide +kernel
theorem d_M_placesBox_30 : decode prog_12_method_20_code 30 = .ok (.iaload, 1) := by decide +kernel
theorem d_M_placesBox_31 : decode prog_12_method_20_code 31 = .ok (.ireturn, 1) := by decide +kernel
theorem d_M_placesBox_16 : decode prog_12_method_20_code 16 = .ok (.iload_n 2, 1) := by decide +kernel
theorem d_M_placesBox_17 : decode prog_12_method_20_code 17 = .ok (.goto 14, 3) := by decide +kernel
abbrev q_M_chunkCount : Mi := (⟨"MovieBoxesModel", "chunkCount", "(I)I"⟩, prog_12_method_21_code, 3, (some .int))
theorem d_M_chunkCount_0 : decode prog_12_method_21_code 0 = .ok (.aload_n 0, 1) := by decide +kernel
theorem d_M_chunkCount_1 : decode prog_12_method_21_code 1 = .ok (.iload_n 1, 1) := by decide +kernel
theorem d_M_chunkCount_2 : decode prog_12_method_21_code 2 = .ok (.invokevirtual 122, 3) := by decide +kernel
set_option maxRecDepth 20000 in
theorem w_848 : Cond.methodLink "MovieBoxesModel" 122 ⟨"MovieBoxesModel", "placesBox", "(I)I"⟩ ∈ gt := gt_of (in_t4 (List.mem_of_getElem? (i := 128) rfl)) rfl
set_option maxRecDepth 20000 in
theorem w_850 : Cond.instanceMethod ⟨"MovieBoxesModel", "placesBox", "(I)I"⟩ ∈ gt := gt_of (in_t4 (List.mem_of_getElem? (i := 130) rfl)) rfl
set_option maxRecDepth 20000 in
theorem ws_M_placesBox : Cond.selects "MovieBoxesModel" ⟨"MovieBoxesModel", "placesBox", "(I)I"⟩ ⟨"MovieBoxesModel", "placesBox", "(I)I"⟩ ∈ gt := gt_of (in_p2 (List.mem_of_getElem? (i := 8) rfl)) rfl
set_option maxRecDepth 20000 in
theorem w_851 : Cond.code ⟨"MovieBoxesModel", "placesBox", "(I)I"⟩ prog_12_method_20_code 3 (some .int) ∈ gt := gt_of (in_t4 (List.mem_of_getElem? (i := 131) rfl)) rfl
theorem lk_M_122 : LkV "MovieBoxesModel" 122 q_M_placesBox 1 := ⟨(List.forall_mem_cons.mpr ⟨w_848, (List.forall_mem_cons.mpr ⟨w_850, (List.forall_mem_cons.mpr ⟨ws_M_placesBox, (List.forall_mem_cons.mpr ⟨w_8, (fun _ h => absurd h List.not_mem_nil)⟩)⟩)⟩)⟩), w_851, by decide +kernel⟩
theorem d_M_chunkCount_5 : decode prog_12_method_21_code 5 = .ok (.istore_n 2, 1) := by decide +kernel
theorem d_M_chunkCount_6 : decode prog_12_method_21_code 6 = .ok (.aload_n 0, 1) := by decide +kernel
theorem d_M_chunkCount_7 : decode prog_12_method_21_code 7 = .ok (.iload_n 2, 1) := by decide +kernel
theorem d_M_chunkCount_8 : decode prog_12_method_21_code 8 = .ok (.iconst 0, 1) := by decide +kernel
theorem d_M_chunkCount_9 : decode prog_12_method_21_code 9 = .ok (.invokevirtual 106, 3) := by decide +kernel
theorem d_M_chunkCount_12 : decode prog_12_method_21_code 12 = .ok (.ireturn, 1) := by decide +kernel
abbrev q_M_chunkPlace : Mi := (⟨"MovieBoxesModel", "chunkPlace", "(II)I"⟩, prog_12_method_22_code, 4, (some .int))
theorem d_M_chunkPlace_0 : decode prog_12_method_22_code 0 = .ok (.aload_n 0, 1) := by decide +kernel
theorem d_M_chunkPlace_1 : decode prog_12_method_22_code 1 = .ok (.iload_n 1, 1) := by decide +kernel
theorem d_M_chunkPlace_2 : decode prog_12_method_22_code 2 = .ok (.invokevirtual 122, 3) := by decide +kernel
theorem d_M_chunkPlace_5 : decode prog_12_method_22_code 5 = .ok (.istore_n 3, 1) := by decide +kernel
theorem d_M_chunkPlace_6 : decode prog_12_method_22_code 6 = .ok (.aload_n 0, 1) := by decide +kernel
theorem d_M_chunkPlace_7 : decode prog_12_method_22_code 7 = .ok (.getfield 19, 3) := by decide +kernel
theorem d_M_chunkPlace_10 : decode prog_12_method_22_code 10 = .ok (.iload_n 3, 1) := by decide +kernel
theorem d_M_chunkPlace_11 : decode prog_12_method_22_code 11 = .ok (.iaload, 1) := by decide +kernel
theorem d_M_chunkPlace_12 : decode prog_12_method_22_code 12 = .ok (.bipush 111, 2) := by decide +kernel
theorem d_M_chunkPlace_14 : decode prog_12_method_22_code 14 = .ok (.if_icmp .ne 12, 3) := by decide +kernel
theorem d_M_chunkPlace_26 : decode prog_12_method_22_code 26 = .ok (.sipush 256, 3) := by decide +kernel
theorem d_M_chunkPlace_29 : decode prog_12_method_22_code 29 = .ok (.aload_n 0, 1) := by decide +kernel
theorem d_M_chunkPlace_30 : decode prog_12_method_22_code 30 = .ok (.iload_n 3, 1) := by decide +kernel
theorem d_M_chunkPlace_31 : decode prog_12_method_22_code 31 = .ok (.iconst 2, 1) := by decide +kernel
theorem d_M_chunkPlace_32 : decode prog_12_method_22_code 32 = .ok (.iload_n 2, 1) := by decide +kernel
theorem d_M_chunkPlace_33 : decode prog_12_method_22_code 33 = .ok (.imul, 1) := by decide +kernel
theorem d_M_chunkPlace_34 : decode prog_12_method_22_code 34 = .ok (.iconst 1, 1) := by decide +kernel
theorem d_M_chunkPlace_35 : decode prog_12_method_22_code 35 = .ok (.isub, 1) := by decide +kernel
theorem d_M_chunkPlace_36 : decode prog_12_method_22_code 36 = .ok (.invokevirtual 106, 3) := by decide +kernel
theorem d_M_chunkPlace_39 : decode prog_12_method_22_code 39 = .ok (.imul, 1) := by decide +kernel
theorem d_M_chunkPlace_40 : decode prog_12_method_22_code 40 = .ok (.aload_n 0, 1) := by decide +kernel
theorem d_M_chunkPlace_41 : decode prog_12_method_22_code 41 = .ok (.iload_n 3, 1) := by decide +kernel
theorem d_M_chunkPlace_42 : decode prog_12_method_22_code 42 = .ok (.iconst 2, 1) := by decide +kernel
theorem d_M_chunkPlace_43 : decode prog_12_method_22_code 43 = .ok (.iload_n 2, 1) := by decide +kernel
theorem d_M_chunkPlace_44 : decode prog_12_method_22_code 44 = .ok (.imul, 1) := by decide +kernel
theorem d_M_chunkPlace_45 : decode prog_12_method_22_code 45 = .ok (.invokevirtual 106, 3) := by decide +kernel
theorem d_M_chunkPlace_48 : decode prog_12_method_22_code 48 = .ok (.iadd, 1) := by decide +kernel
theorem d_M_chunkPlace_49 : decode prog_12_method_22_code 49 = .ok (.ireturn, 1) := by decide +kernel
theorem d_M_chunkPlace_17 : decode prog_12_method_22_code 17 = .ok (.aload_n 0, 1) := by decide +kernel
theorem d_M_chunkPlace_18 : decode prog_12_method_22_code 18 = .ok (.iload_n 3, 1) := by decide +kernel
theorem d_M_chunkPlace_19 : decode prog_12_method_22_code 19 = .ok (.iload_n 2, 1) := by decide +kernel
theorem d_M_chunkPlace_20 : decode prog_12_method_22_code 20 = .ok (.invokevirtual 106, 3) := by decide +kernel
theorem d_M_chunkPlace_23 : decode prog_12_method_22_code 23 = .ok (.goto 26, 3) := by decide +kernel
abbrev q_M_rowOf : Mi := (⟨"MovieBoxesModel", "rowOf", "(II)I"⟩, prog_12_method_23_code, 6, (some .int))
theorem d_M_rowOf_0 : decode prog_12_method_23_code 0 = .ok (.aload_n 0, 1) := by decide +kernel
theorem d_M_rowOf_1 : decode prog_12_method_23_code 1 = .ok (.getfield 40, 3) := by decide +kernel
theorem d_M_rowOf_4 : decode prog_12_method_23_code 4 = .ok (.bipush 8, 2) := by decide +kernel
theorem d_M_rowOf_6 : decode prog_12_method_23_code 6 = .ok (.iload_n 1, 1) := by decide +kernel
theorem d_M_rowOf_7 : decode prog_12_method_23_code 7 = .ok (.imul, 1) := by decide +kernel
theorem d_M_rowOf_8 : decode prog_12_method_23_code 8 = .ok (.iconst 2, 1) := by decide +kernel
theorem d_M_rowOf_9 : decode prog_12_method_23_code 9 = .ok (.iadd, 1) := by decide +kernel
theorem d_M_rowOf_10 : decode prog_12_method_23_code 10 = .ok (.iaload, 1) := by decide +kernel
theorem d_M_rowOf_11 : decode prog_12_method_23_code 11 = .ok (.istore_n 3, 1) := by decide +kernel
theorem d_M_rowOf_18 : decode prog_12_method_23_code 18 = .ok (.iload 5, 2) := by decide +kernel
theorem d_M_rowOf_20 : decode prog_12_method_23_code 20 = .ok (.aload_n 0, 1) := by decide +kernel
theorem d_M_rowOf_21 : decode prog_12_method_23_code 21 = .ok (.iload_n 3, 1) := by decide +kernel
theorem d_M_rowOf_22 : decode prog_12_method_23_code 22 = .ok (.iconst 0, 1) := by decide +kernel
theorem d_M_rowOf_23 : decode prog_12_method_23_code 23 = .ok (.invokevirtual 106, 3) := by decide +kernel
theorem d_M_rowOf_26 : decode prog_12_method_23_code 26 = .ok (.if_icmp .ge 33, 3) := by decide +kernel
theorem d_M_rowOf_59 : decode prog_12_method_23_code 59 = .ok (.iload 4, 2) := by decide +kernel
theorem d_M_rowOf_61 : decode prog_12_method_23_code 61 = .ok (.ireturn, 1) := by decide +kernel
theorem d_M_rowOf_29 : decode prog_12_method_23_code 29 = .ok (.aload_n 0, 1) := by decide +kernel
theorem d_M_rowOf_30 : decode prog_12_method_23_code 30 = .ok (.iload_n 3, 1) := by decide +kernel
theorem d_M_rowOf_31 : decode prog_12_method_23_code 31 = .ok (.iconst 1, 1) := by decide +kernel
theorem d_M_rowOf_32 : decode prog_12_method_23_code 32 = .ok (.iconst 3, 1) := by decide +kernel
theorem d_M_rowOf_33 : decode prog_12_method_23_code 33 = .ok (.iload 5, 2) := by decide +kernel
theorem d_M_rowOf_35 : decode prog_12_method_23_code 35 = .ok (.imul, 1) := by decide +kernel
theorem d_M_rowOf_36 : decode prog_12_method_23_code 36 = .ok (.iadd, 1) := by decide +kernel
theorem d_M_rowOf_37 : decode prog_12_method_23_code 37 = .ok (.invokevirtual 106, 3) := by decide +kernel
theorem d_M_rowOf_40 : decode prog_12_method_23_code 40 = .ok (.iload_n 2, 1) := by decide +kernel
theorem d_M_rowOf_41 : decode prog_12_method_23_code 41 = .ok (.if_icmp .gt 8, 3) := by decide +kernel
theorem d_M_rowOf_49 : decode prog_12_method_23_code 49 = .ok (.iload 4, 2) := by decide +kernel
theorem d_M_rowOf_51 : decode prog_12_method_23_code 51 = .ok (.istore 4, 2) := by decide +kernel
theorem d_M_rowOf_53 : decode prog_12_method_23_code 53 = .ok (.iinc 5 1, 3) := by decide +kernel
theorem d_M_rowOf_56 : decode prog_12_method_23_code 56 = .ok (.goto (-38), 3) := by decide +kernel
theorem d_M_rowOf_44 : decode prog_12_method_23_code 44 = .ok (.iload 5, 2) := by decide +kernel
theorem d_M_rowOf_46 : decode prog_12_method_23_code 46 = .ok (.goto 5, 3) := by decide +kernel
theorem d_M_rowOf_12 : decode prog_12_method_23_code 12 = .ok (.iconst 0, 1) := by decide +kernel
theorem d_M_rowOf_13 : decode prog_12_method_23_code 13 = .ok (.istore 4, 2) := by decide +kernel
theorem d_M_rowOf_15 : decode prog_12_method_23_code 15 = .ok (.iconst 0, 1) := by decide +kernel
theorem d_M_rowOf_16 : decode prog_12_method_23_code 16 = .ok (.istore 5, 2) := by decide +kernel
abbrev q_M_many : Mi := (⟨"MovieBoxesModel", "many", "(II)I"⟩, prog_12_method_24_code, 4, (some .int))
theorem d_M_many_0 : decode prog_12_method_24_code 0 = .ok (.aload_n 0, 1) := by decide +kernel
theorem d_M_many_1 : decode prog_12_method_24_code 1 = .ok (.iload_n 1, 1) := by decide +kernel
theorem d_M_many_2 : decode prog_12_method_24_code 2 = .ok (.iload_n 2, 1) := by decide +kernel
theorem d_M_many_3 : decode prog_12_method_24_code 3 = .ok (.invokevirtual 125, 3) := by decide +kernel
set_option maxRecDepth 20000 in
theorem w_856 : Cond.methodLink "MovieBoxesModel" 125 ⟨"MovieBoxesModel", "rowOf", "(II)I"⟩ ∈ gt := gt_of (in_t4 (List.mem_of_getElem? (i := 136) rfl)) rfl
set_option maxRecDepth 20000 in
theorem w_858 : Cond.instanceMethod ⟨"MovieBoxesModel", "rowOf", "(II)I"⟩ ∈ gt := gt_of (in_t4 (List.mem_of_getElem? (i := 138) rfl)) rfl
set_option maxRecDepth 20000 in
theorem ws_M_rowOf : Cond.selects "MovieBoxesModel" ⟨"MovieBoxesModel", "rowOf", "(II)I"⟩ ⟨"MovieBoxesModel", "rowOf", "(II)I"⟩ ∈ gt := gt_of (in_p2 (List.mem_of_getElem? (i := 10) rfl)) rfl
set_option maxRecDepth 20000 in
theorem w_859 : Cond.code ⟨"MovieBoxesModel", "rowOf", "(II)I"⟩ prog_12_method_23_code 6 (some .int) ∈ gt := gt_of (in_t4 (List.mem_of_getElem? (i := 139) rfl)) rfl
theorem lk_M_125 : LkV "MovieBoxesModel" 125 q_M_rowOf 2 := ⟨(List.forall_mem_cons.mpr ⟨w_856, (List.forall_mem_cons.mpr ⟨w_858, (List.forall_mem_cons.mpr ⟨ws_M_rowOf, (List.forall_mem_cons.mpr ⟨w_8, (fun _ h => absurd h List.not_mem_nil)⟩)⟩)⟩)⟩), w_859, by decide +kernel⟩
theorem d_M_many_6 : decode prog_12_method_24_code 6 = .ok (.istore_n 3, 1) := by decide +kernel
theorem d_M_many_7 : decode prog_12_method_24_code 7 = .ok (.aload_n 0, 1) := by decide +kernel
theorem d_M_many_8 : decode prog_12_method_24_code 8 = .ok (.aload_n 0, 1) := by decide +kernel
theorem d_M_many_9 : decode prog_12_method_24_code 9 = .ok (.getfield 40, 3) := by decide +kernel
theorem d_M_many_12 : decode prog_12_method_24_code 12 = .ok (.bipush 8, 2) := by decide +kernel
theorem d_M_many_14 : decode prog_12_method_24_code 14 = .ok (.iload_n 1, 1) := by decide +kernel
theorem d_M_many_15 : decode prog_12_method_24_code 15 = .ok (.imul, 1) := by decide +kernel
theorem d_M_many_16 : decode prog_12_method_24_code 16 = .ok (.iconst 2, 1) := by decide +kernel
theorem d_M_many_17 : decode prog_12_method_24_code 17 = .ok (.iadd, 1) := by decide +kernel
theorem d_M_many_18 : decode prog_12_method_24_code 18 = .ok (.iaload, 1) := by decide +kernel
theorem d_M_many_19 : decode prog_12_method_24_code 19 = .ok (.iconst 2, 1) := by decide +kernel
theorem d_M_many_20 : decode prog_12_method_24_code 20 = .ok (.iconst 3, 1) := by decide +kernel
theorem d_M_many_21 : decode prog_12_method_24_code 21 = .ok (.iload_n 3, 1) := by decide +kernel
theorem d_M_many_22 : decode prog_12_method_24_code 22 = .ok (.imul, 1) := by decide +kernel
theorem d_M_many_23 : decode prog_12_method_24_code 23 = .ok (.iadd, 1) := by decide +kernel
theorem d_M_many_24 : decode prog_12_method_24_code 24 = .ok (.invokevirtual 106, 3) := by decide +kernel
theorem d_M_many_27 : decode prog_12_method_24_code 27 = .ok (.ireturn, 1) := by decide +kernel
abbrev q_M_dataBox : Mi := (⟨"MovieBoxesModel", "dataBox", "(II)I"⟩, prog_12_method_25_code, 4, (some .int))
theorem d_M_dataBox_2 : decode prog_12_method_25_code 2 = .ok (.iload_n 3, 1) := by decide +kernel
theorem d_M_dataBox_3 : decode prog_12_method_25_code 3 = .ok (.aload_n 0, 1) := by decide +kernel
theorem d_M_dataBox_4 : decode prog_12_method_25_code 4 = .ok (.getfield 64, 3) := by decide +kernel
theorem d_M_dataBox_7 : decode prog_12_method_25_code 7 = .ok (.if_icmp .ge 67, 3) := by decide +kernel
theorem d_M_dataBox_74 : decode prog_12_method_25_code 74 = .ok (.iconst (-1), 1) := by decide +kernel
theorem d_M_dataBox_75 : decode prog_12_method_25_code 75 = .ok (.ireturn, 1) := by decide +kernel
theorem d_M_dataBox_68 : decode prog_12_method_25_code 68 = .ok (.iinc 3 1, 3) := by decide +kernel
theorem d_M_dataBox_71 : decode prog_12_method_25_code 71 = .ok (.goto (-69), 3) := by decide +kernel
theorem d_M_dataBox_10 : decode prog_12_method_25_code 10 = .ok (.aload_n 0, 1) := by decide +kernel
theorem d_M_dataBox_11 : decode prog_12_method_25_code 11 = .ok (.getfield 25, 3) := by decide +kernel
theorem d_M_dataBox_14 : decode prog_12_method_25_code 14 = .ok (.iload_n 3, 1) := by decide +kernel
theorem d_M_dataBox_15 : decode prog_12_method_25_code 15 = .ok (.iaload, 1) := by decide +kernel
theorem d_M_dataBox_16 : decode prog_12_method_25_code 16 = .ok (.ifCond .ne 52, 3) := by decide +kernel
theorem d_M_dataBox_19 : decode prog_12_method_25_code 19 = .ok (.aload_n 0, 1) := by decide +kernel
theorem d_M_dataBox_20 : decode prog_12_method_25_code 20 = .ok (.getfield 19, 3) := by decide +kernel
theorem d_M_dataBox_23 : decode prog_12_method_25_code 23 = .ok (.iload_n 3, 1) := by decide +kernel
theorem d_M_dataBox_24 : decode prog_12_method_25_code 24 = .ok (.iaload, 1) := by decide +kernel
theorem d_M_dataBox_25 : decode prog_12_method_25_code 25 = .ok (.bipush 68, 2) := by decide +kernel
theorem d_M_dataBox_27 : decode prog_12_method_25_code 27 = .ok (.if_icmp .ne 41, 3) := by decide +kernel
theorem d_M_dataBox_30 : decode prog_12_method_25_code 30 = .ok (.aload_n 0, 1) := by decide +kernel
theorem d_M_dataBox_31 : decode prog_12_method_25_code 31 = .ok (.getfield 13, 3) := by decide +kernel
theorem d_M_dataBox_34 : decode prog_12_method_25_code 34 = .ok (.iload_n 3, 1) := by decide +kernel
theorem d_M_dataBox_35 : decode prog_12_method_25_code 35 = .ok (.iaload, 1) := by decide +kernel
theorem d_M_dataBox_36 : decode prog_12_method_25_code 36 = .ok (.aload_n 0, 1) := by decide +kernel
theorem d_M_dataBox_37 : decode prog_12_method_25_code 37 = .ok (.getfield 22, 3) := by decide +kernel
theorem d_M_dataBox_40 : decode prog_12_method_25_code 40 = .ok (.iload_n 3, 1) := by decide +kernel
theorem d_M_dataBox_41 : decode prog_12_method_25_code 41 = .ok (.iaload, 1) := by decide +kernel
theorem d_M_dataBox_42 : decode prog_12_method_25_code 42 = .ok (.iadd, 1) := by decide +kernel
theorem d_M_dataBox_43 : decode prog_12_method_25_code 43 = .ok (.iload_n 1, 1) := by decide +kernel
theorem d_M_dataBox_44 : decode prog_12_method_25_code 44 = .ok (.if_icmp .gt 24, 3) := by decide +kernel
theorem d_M_dataBox_47 : decode prog_12_method_25_code 47 = .ok (.iload_n 1, 1) := by decide +kernel
theorem d_M_dataBox_48 : decode prog_12_method_25_code 48 = .ok (.iload_n 2, 1) := by decide +kernel
theorem d_M_dataBox_49 : decode prog_12_method_25_code 49 = .ok (.iadd, 1) := by decide +kernel
theorem d_M_dataBox_50 : decode prog_12_method_25_code 50 = .ok (.aload_n 0, 1) := by decide +kernel
theorem d_M_dataBox_51 : decode prog_12_method_25_code 51 = .ok (.getfield 13, 3) := by decide +kernel
theorem d_M_dataBox_54 : decode prog_12_method_25_code 54 = .ok (.iload_n 3, 1) := by decide +kernel
theorem d_M_dataBox_55 : decode prog_12_method_25_code 55 = .ok (.iaload, 1) := by decide +kernel
theorem d_M_dataBox_56 : decode prog_12_method_25_code 56 = .ok (.aload_n 0, 1) := by decide +kernel
theorem d_M_dataBox_57 : decode prog_12_method_25_code 57 = .ok (.getfield 16, 3) := by decide +kernel
theorem d_M_dataBox_60 : decode prog_12_method_25_code 60 = .ok (.iload_n 3, 1) := by decide +kernel
theorem d_M_dataBox_61 : decode prog_12_method_25_code 61 = .ok (.iaload, 1) := by decide +kernel
theorem d_M_dataBox_62 : decode prog_12_method_25_code 62 = .ok (.iadd, 1) := by decide +kernel
theorem d_M_dataBox_63 : decode prog_12_method_25_code 63 = .ok (.if_icmp .gt 5, 3) := by decide +kernel
theorem d_M_dataBox_66 : decode prog_12_method_25_code 66 = .ok (.iload_n 3, 1) := by decide +kernel
theorem d_M_dataBox_67 : decode prog_12_method_25_code 67 = .ok (.ireturn, 1) := by decide +kernel
theorem d_M_dataBox_0 : decode prog_12_method_25_code 0 = .ok (.iconst 0, 1) := by decide +kernel
theorem d_M_dataBox_1 : decode prog_12_method_25_code 1 = .ok (.istore_n 3, 1) := by decide +kernel
abbrev q_M_runValue : Mi := (⟨"MovieBoxesModel", "runValue", "(II)I"⟩, prog_12_method_32_code, 5, (some .int))
theorem d_M_runValue_5 : decode prog_12_method_32_code 5 = .ok (.iload 4, 2) := by decide +kernel
theorem d_M_runValue_7 : decode prog_12_method_32_code 7 = .ok (.aload_n 0, 1) := by decide +kernel
theorem d_M_runValue_8 : decode prog_12_method_32_code 8 = .ok (.iload_n 1, 1) := by decide +kernel
theorem d_M_runValue_9 : decode prog_12_method_32_code 9 = .ok (.iconst 0, 1) := by decide +kernel
theorem d_M_runValue_10 : decode prog_12_method_32_code 10 = .ok (.invokevirtual 106, 3) := by decide +kernel
theorem d_M_runValue_13 : decode prog_12_method_32_code 13 = .ok (.if_icmp .ge 40, 3) := by decide +kernel
theorem d_M_runValue_53 : decode prog_12_method_32_code 53 = .ok (.iconst 0, 1) := by decide +kernel
theorem d_M_runValue_54 : decode prog_12_method_32_code 54 = .ok (.ireturn, 1) := by decide +kernel
theorem d_M_runValue_16 : decode prog_12_method_32_code 16 = .ok (.iload_n 3, 1) := by decide +kernel
theorem d_M_runValue_17 : decode prog_12_method_32_code 17 = .ok (.aload_n 0, 1) := by decide +kernel
theorem d_M_runValue_18 : decode prog_12_method_32_code 18 = .ok (.iload_n 1, 1) := by decide +kernel
theorem d_M_runValue_19 : decode prog_12_method_32_code 19 = .ok (.iconst 1, 1) := by decide +kernel
theorem d_M_runValue_20 : decode prog_12_method_32_code 20 = .ok (.iconst 2, 1) := by decide +kernel
theorem d_M_runValue_21 : decode prog_12_method_32_code 21 = .ok (.iload 4, 2) := by decide +kernel
theorem d_M_runValue_23 : decode prog_12_method_32_code 23 = .ok (.imul, 1) := by decide +kernel
theorem d_M_runValue_24 : decode prog_12_method_32_code 24 = .ok (.iadd, 1) := by decide +kernel
theorem d_M_runValue_25 : decode prog_12_method_32_code 25 = .ok (.invokevirtual 106, 3) := by decide +kernel
theorem d_M_runValue_28 : decode prog_12_method_32_code 28 = .ok (.iadd, 1) := by decide +kernel
theorem d_M_runValue_29 : decode prog_12_method_32_code 29 = .ok (.istore_n 3, 1) := by decide +kernel
theorem d_M_runValue_30 : decode prog_12_method_32_code 30 = .ok (.iload_n 2, 1) := by decide +kernel
theorem d_M_runValue_31 : decode prog_12_method_32_code 31 = .ok (.iload_n 3, 1) := by decide +kernel
theorem d_M_runValue_32 : decode prog_12_method_32_code 32 = .ok (.if_icmp .ge 15, 3) := by decide +kernel
theorem d_M_runValue_47 : decode prog_12_method_32_code 47 = .ok (.iinc 4 1, 3) := by decide +kernel
theorem d_M_runValue_50 : decode prog_12_method_32_code 50 = .ok (.goto (-45), 3) := by decide +kernel
theorem d_M_runValue_35 : decode prog_12_method_32_code 35 = .ok (.aload_n 0, 1) := by decide +kernel
theorem d_M_runValue_36 : decode prog_12_method_32_code 36 = .ok (.iload_n 1, 1) := by decide +kernel
theorem d_M_runValue_37 : decode prog_12_method_32_code 37 = .ok (.iconst 2, 1) := by decide +kernel
theorem d_M_runValue_38 : decode prog_12_method_32_code 38 = .ok (.iconst 2, 1) := by decide +kernel
theorem d_M_runValue_39 : decode prog_12_method_32_code 39 = .ok (.iload 4, 2) := by decide +kernel
theorem d_M_runValue_41 : decode prog_12_method_32_code 41 = .ok (.imul, 1) := by decide +kernel
theorem d_M_runValue_42 : decode prog_12_method_32_code 42 = .ok (.iadd, 1) := by decide +kernel
theorem d_M_runValue_43 : decode prog_12_method_32_code 43 = .ok (.invokevirtual 106, 3) := by decide +kernel
theorem d_M_runValue_46 : decode prog_12_method_32_code 46 = .ok (.ireturn, 1) := by decide +kernel
theorem d_M_runValue_0 : decode prog_12_method_32_code 0 = .ok (.iconst 0, 1) := by decide +kernel
theorem d_M_runValue_1 : decode prog_12_method_32_code 1 = .ok (.istore_n 3, 1) := by decide +kernel
theorem d_M_runValue_2 : decode prog_12_method_32_code 2 = .ok (.iconst 0, 1) := by decide +kernel
theorem d_M_runValue_3 : decode prog_12_method_32_code 3 = .ok (.istore 4, 2) := by decide +kernel
abbrev q_M_durationOf : Mi := (⟨"MovieBoxesModel", "durationOf", "(II)I"⟩, prog_12_method_33_code, 3, (some .int))
theorem d_M_durationOf_0 : decode prog_12_method_33_code 0 = .ok (.aload_n 0, 1) := by decide +kernel
theorem d_M_durationOf_1 : decode prog_12_method_33_code 1 = .ok (.aload_n 0, 1) := by decide +kernel
theorem d_M_durationOf_2 : decode prog_12_method_33_code 2 = .ok (.getfield 40, 3) := by decide +kernel
theorem d_M_durationOf_5 : decode prog_12_method_33_code 5 = .ok (.bipush 8, 2) := by decide +kernel
theorem d_M_durationOf_7 : decode prog_12_method_33_code 7 = .ok (.iload_n 1, 1) := by decide +kernel
theorem d_M_durationOf_8 : decode prog_12_method_33_code 8 = .ok (.imul, 1) := by decide +kernel
theorem d_M_durationOf_9 : decode prog_12_method_33_code 9 = .ok (.iconst 0, 1) := by decide +kernel
theorem d_M_durationOf_10 : decode prog_12_method_33_code 10 = .ok (.iadd, 1) := by decide +kernel
theorem d_M_durationOf_11 : decode prog_12_method_33_code 11 = .ok (.iaload, 1) := by decide +kernel
theorem d_M_durationOf_12 : decode prog_12_method_33_code 12 = .ok (.iload_n 2, 1) := by decide +kernel
theorem d_M_durationOf_13 : decode prog_12_method_33_code 13 = .ok (.invokevirtual 143, 3) := by decide +kernel
set_option maxRecDepth 20000 in
theorem w_913 : Cond.methodLink "MovieBoxesModel" 143 ⟨"MovieBoxesModel", "runValue", "(II)I"⟩ ∈ gt := gt_of (in_t4 (List.mem_of_getElem? (i := 193) rfl)) rfl
set_option maxRecDepth 20000 in
theorem w_915 : Cond.instanceMethod ⟨"MovieBoxesModel", "runValue", "(II)I"⟩ ∈ gt := gt_of (in_t4 (List.mem_of_getElem? (i := 195) rfl)) rfl
set_option maxRecDepth 20000 in
theorem ws_M_runValue : Cond.selects "MovieBoxesModel" ⟨"MovieBoxesModel", "runValue", "(II)I"⟩ ⟨"MovieBoxesModel", "runValue", "(II)I"⟩ ∈ gt := gt_of (in_p3 (List.mem_of_getElem? (i := 3) rfl)) rfl
set_option maxRecDepth 20000 in
theorem w_916 : Cond.code ⟨"MovieBoxesModel", "runValue", "(II)I"⟩ prog_12_method_32_code 5 (some .int) ∈ gt := gt_of (in_t4 (List.mem_of_getElem? (i := 196) rfl)) rfl
theorem lk_M_143 : LkV "MovieBoxesModel" 143 q_M_runValue 2 := ⟨(List.forall_mem_cons.mpr ⟨w_913, (List.forall_mem_cons.mpr ⟨w_915, (List.forall_mem_cons.mpr ⟨ws_M_runValue, (List.forall_mem_cons.mpr ⟨w_8, (fun _ h => absurd h List.not_mem_nil)⟩)⟩)⟩)⟩), w_916, by decide +kernel⟩
theorem d_M_durationOf_16 : decode prog_12_method_33_code 16 = .ok (.ireturn, 1) := by decide +kernel
abbrev q_M_shiftOf : Mi := (⟨"MovieBoxesModel", "shiftOf", "(II)I"⟩, prog_12_method_34_code, 5, (some .int))
theorem d_M_shiftOf_0 : decode prog_12_method_34_code 0 = .ok (.aload_n 0, 1) := by decide +kernel
theorem d_M_shiftOf_1 : decode prog_12_method_34_code 1 = .ok (.getfield 40, 3) := by decide +kernel
theorem d_M_shiftOf_4 : decode prog_12_method_34_code 4 = .ok (.bipush 8, 2) := by decide +kernel
theorem d_M_shiftOf_6 : decode prog_12_method_34_code 6 = .ok (.iload_n 1, 1) := by decide +kernel
theorem d_M_shiftOf_7 : decode prog_12_method_34_code 7 = .ok (.imul, 1) := by decide +kernel
theorem d_M_shiftOf_8 : decode prog_12_method_34_code 8 = .ok (.iconst 1, 1) := by decide +kernel
theorem d_M_shiftOf_9 : decode prog_12_method_34_code 9 = .ok (.iadd, 1) := by decide +kernel
theorem d_M_shiftOf_10 : decode prog_12_method_34_code 10 = .ok (.iaload, 1) := by decide +kernel
theorem d_M_shiftOf_11 : decode prog_12_method_34_code 11 = .ok (.istore_n 3, 1) := by decide +kernel
theorem d_M_shiftOf_12 : decode prog_12_method_34_code 12 = .ok (.iload_n 3, 1) := by decide +kernel
theorem d_M_shiftOf_26 : decode prog_12_method_34_code 26 = .ok (.istore 4, 2) := by decide +kernel
theorem d_M_shiftOf_28 : decode prog_12_method_34_code 28 = .ok (.iload 4, 2) := by decide +kernel
theorem d_M_shiftOf_30 : decode prog_12_method_34_code 30 = .ok (.sipush 128, 3) := by decide +kernel
theorem d_M_shiftOf_33 : decode prog_12_method_34_code 33 = .ok (.if_icmp .ge 8, 3) := by decide +kernel
theorem d_M_shiftOf_41 : decode prog_12_method_34_code 41 = .ok (.iload 4, 2) := by decide +kernel
theorem d_M_shiftOf_43 : decode prog_12_method_34_code 43 = .ok (.sipush 256, 3) := by decide +kernel
theorem d_M_shiftOf_46 : decode prog_12_method_34_code 46 = .ok (.isub, 1) := by decide +kernel
theorem d_M_shiftOf_47 : decode prog_12_method_34_code 47 = .ok (.ireturn, 1) := by decide +kernel
theorem d_M_shiftOf_36 : decode prog_12_method_34_code 36 = .ok (.iload 4, 2) := by decide +kernel
theorem d_M_shiftOf_38 : decode prog_12_method_34_code 38 = .ok (.goto 9, 3) := by decide +kernel
theorem d_M_shiftOf_13 : decode prog_12_method_34_code 13 = .ok (.ifCond .ge 7, 3) := by decide +kernel
theorem d_M_shiftOf_20 : decode prog_12_method_34_code 20 = .ok (.aload_n 0, 1) := by decide +kernel
theorem d_M_shiftOf_21 : decode prog_12_method_34_code 21 = .ok (.iload_n 3, 1) := by decide +kernel
theorem d_M_shiftOf_22 : decode prog_12_method_34_code 22 = .ok (.iload_n 2, 1) := by decide +kernel
theorem d_M_shiftOf_23 : decode prog_12_method_34_code 23 = .ok (.invokevirtual 143, 3) := by decide +kernel
theorem d_M_shiftOf_16 : decode prog_12_method_34_code 16 = .ok (.iconst 0, 1) := by decide +kernel
theorem d_M_shiftOf_17 : decode prog_12_method_34_code 17 = .ok (.goto 9, 3) := by decide +kernel
abbrev q_M_decodeTime : Mi := (⟨"MovieBoxesModel", "decodeTime", "(II)I"⟩, prog_12_method_35_code, 5, (some .int))
theorem d_M_decodeTime_5 : decode prog_12_method_35_code 5 = .ok (.iload 4, 2) := by decide +kernel
theorem d_M_decodeTime_7 : decode prog_12_method_35_code 7 = .ok (.iload_n 2, 1) := by decide +kernel
theorem d_M_decodeTime_8 : decode prog_12_method_35_code 8 = .ok (.if_icmp .ge 19, 3) := by decide +kernel
theorem d_M_decodeTime_27 : decode prog_12_method_35_code 27 = .ok (.iload_n 3, 1) := by decide +kernel
theorem d_M_decodeTime_28 : decode prog_12_method_35_code 28 = .ok (.ireturn, 1) := by decide +kernel
theorem d_M_decodeTime_11 : decode prog_12_method_35_code 11 = .ok (.iload_n 3, 1) := by decide +kernel
theorem d_M_decodeTime_12 : decode prog_12_method_35_code 12 = .ok (.aload_n 0, 1) := by decide +kernel
theorem d_M_decodeTime_13 : decode prog_12_method_35_code 13 = .ok (.iload_n 1, 1) := by decide +kernel
theorem d_M_decodeTime_14 : decode prog_12_method_35_code 14 = .ok (.iload 4, 2) := by decide +kernel
theorem d_M_decodeTime_16 : decode prog_12_method_35_code 16 = .ok (.invokevirtual 146, 3) := by decide +kernel
set_option maxRecDepth 20000 in
theorem w_909 : Cond.methodLink "MovieBoxesModel" 146 ⟨"MovieBoxesModel", "durationOf", "(II)I"⟩ ∈ gt := gt_of (in_t4 (List.mem_of_getElem? (i := 189) rfl)) rfl
set_option maxRecDepth 20000 in
theorem w_911 : Cond.instanceMethod ⟨"MovieBoxesModel", "durationOf", "(II)I"⟩ ∈ gt := gt_of (in_t4 (List.mem_of_getElem? (i := 191) rfl)) rfl
set_option maxRecDepth 20000 in
theorem ws_M_durationOf : Cond.selects "MovieBoxesModel" ⟨"MovieBoxesModel", "durationOf", "(II)I"⟩ ⟨"MovieBoxesModel", "durationOf", "(II)I"⟩ ∈ gt := gt_of (in_p3 (List.mem_of_getElem? (i := 2) rfl)) rfl
set_option maxRecDepth 20000 in
theorem w_912 : Cond.code ⟨"MovieBoxesModel", "durationOf", "(II)I"⟩ prog_12_method_33_code 3 (some .int) ∈ gt := gt_of (in_t4 (List.mem_of_getElem? (i := 192) rfl)) rfl
theorem lk_M_146 : LkV "MovieBoxesModel" 146 q_M_durationOf 2 := ⟨(List.forall_mem_cons.mpr ⟨w_909, (List.forall_mem_cons.mpr ⟨w_911, (List.forall_mem_cons.mpr ⟨ws_M_durationOf, (List.forall_mem_cons.mpr ⟨w_8, (fun _ h => absurd h List.not_mem_nil)⟩)⟩)⟩)⟩), w_912, by decide +kernel⟩
theorem d_M_decodeTime_19 : decode prog_12_method_35_code 19 = .ok (.iadd, 1) := by decide +kernel
theorem d_M_decodeTime_20 : decode prog_12_method_35_code 20 = .ok (.istore_n 3, 1) := by decide +kernel
theorem d_M_decodeTime_21 : decode prog_12_method_35_code 21 = .ok (.iinc 4 1, 3) := by decide +kernel
theorem d_M_decodeTime_24 : decode prog_12_method_35_code 24 = .ok (.goto (-19), 3) := by decide +kernel
theorem d_M_decodeTime_0 : decode prog_12_method_35_code 0 = .ok (.iconst 0, 1) := by decide +kernel
theorem d_M_decodeTime_1 : decode prog_12_method_35_code 1 = .ok (.istore_n 3, 1) := by decide +kernel
theorem d_M_decodeTime_2 : decode prog_12_method_35_code 2 = .ok (.iconst 0, 1) := by decide +kernel
theorem d_M_decodeTime_3 : decode prog_12_method_35_code 3 = .ok (.istore 4, 2) := by decide +kernel
/-! ===== the model: what tables say ===== -/
def sumI (f : Int → Int) : Nat → Int
  | 0 => 0
  | n + 1 => sumI f n + f n
/-- byte i of the payload of box k -/
def pv (s : mS) (k i : Int) : Int := s 1 (s 2 k + s 5 k + i)
def byOk (s : mS) : Prop := ∀ j, 0 ≤ s 1 j ∧ s 1 j < 256
theorem pv_b {s : mS} (h : byOk s) (k i : Int) : 0 ≤ pv s k i ∧ pv s k i < 256 := h _
abbrev bxok (s : mS) (k : Int) : Prop := 0 ≤ k ∧ k < 20 ∧ 0 ≤ s 2 k ∧ 0 ≤ s 5 k ∧ s 2 k + s 3 k ≤ 1000
/-- a table of rows of w bytes, well long -/
abbrev tbl (s : mS) (k w : Int) : Prop := bxok s k ∧ s 3 k - s 5 k = 1 + w * pv s k 0
abbrev tb (s : mS) (t kd : Int) : Int := s 11 (8 * t + kd)
def pbx (s : mS) (t : Int) : Int := if tb s t 4 < 0 then tb s t 5 else tb s t 4
def szO (s : mS) (t i : Int) : Int := if pv s (tb s t 3) 0 = 0 then pv s (tb s t 3) (2 + i) else pv s (tb s t 3) 0
def cpl (s : mS) (t c : Int) : Int := if s 4 (pbx s t) = 111 then pv s (pbx s t) c else 256 * pv s (pbx s t) (2 * c - 1) + pv s (pbx s t) (2 * c)
def rowU (s : mS) (k c : Int) : Nat → Int
  | 0 => 0
  | r + 1 => if pv s k (1 + 3 * r) ≤ c then r else rowU s k c r
theorem rowU_le (s : mS) (k c : Int) : ∀ r : Nat, 0 ≤ rowU s k c r ∧ (rowU s k c r = 0 ∨ rowU s k c r < r)
  | 0 => ⟨by simp [rowU], Or.inl rfl⟩
  | r + 1 => by
    have := rowU_le s k c r
    unfold rowU
    split <;> omega
def rv (f g : Int → Int) (i : Int) : Nat → Int → Int → Int
  | 0, _, _ => 0
  | n + 1, r, up => if i < up + f r then g r else rv f g i n (r + 1) (up + f r)
theorem rv_b {f g : Int → Int} (hg : ∀ r, 0 ≤ g r ∧ g r < 256) (i : Int) : ∀ (n : Nat) (r up : Int), 0 ≤ rv f g i n r up ∧ rv f g i n r up < 256
  | 0, _, _ => by unfold rv; omega
  | n + 1, r, up => by
    unfold rv
    split
    · exact hg r
    · exact rv_b hg i n _ _
abbrev rvK (s : mS) (k i : Int) : Int := rv (fun r => pv s k (1 + 2 * r)) (fun r => pv s k (2 + 2 * r)) i (pv s k 0).toNat 0 0
def duO (s : mS) (t i : Int) : Int := rvK s (tb s t 0) i
def shO (s : mS) (t i : Int) : Int := if tb s t 1 < 0 then 0 else if rvK s (tb s t 1) i < 128 then rvK s (tb s t 1) i else rvK s (tb s t 1) i - 256
abbrev dbC (s : mS) (place bytes k : Int) : Prop := s 6 k = 0 ∧ s 4 k = 68 ∧ s 2 k + s 5 k ≤ place ∧ place + bytes ≤ s 2 k + s 3 k
def dbx (s : mS) (place bytes : Int) : Nat → Int → Int
  | 0, _ => -1
  | n + 1, k => if dbC s place bytes k then k else dbx s place bytes n (k + 1)
/-- what read leaves: count boxes, each within the file -/
def rdOk (s : mS) : Prop := (0 ≤ s 0 1 ∧ s 0 1 ≤ 20) ∧ ∀ k, 0 ≤ k → k < s 0 1 → (0 ≤ s 2 k ∧ (s 5 k = 2 ∨ s 5 k = 4) ∧ s 5 k ≤ s 3 k ∧ s 2 k + s 3 k ≤ 1000 ∧ 0 ≤ s 4 k ∧ s 4 k < 256 ∧ 0 ≤ s 6 k ∧ s 6 k ≤ 2 ∧ -1 ≤ s 7 k ∧ s 7 k < 20)
section MODEL5
variable (G : gG) (l : Launch) (ad : Nat → Nat)
theorem c_M_payB (s : mS) (k i : Int) (hk : bxok s k) (hi : 0 ≤ i ∧ i < s 3 k - s 5 k) : Ct G l q_M_pay 0 0 0 [.ref (ad 0), vI k, vI i] (mW G ad s) (fun r w => r = some (vI (pv s k i)) ∧ w = mW G ad s) :=
  c_M_pay G l ad s k i (by omega) (by omega)
theorem c_M_total (s : mS) (k : Int) (hb : byOk s) (hk : tbl s k 2) : Ct G l q_M_total 1 0 0 [.ref (ad 0), vI k] (mW G ad s) (fun r w => r = some (vI (sumI (fun r => pv s k (1 + 2 * r)) (pv s k 0).toNat)) ∧ w = mW G ad s) := by
  refine Ct.intro [some (.ref (ad 0)), some (vI k), none, none] (by decide) (Nat.le_of_ble_eq_true rfl) rfl (fun sz => ?_)
  generalize hQ : (fun r w => r = some (vI (sumI (fun r => pv s k (1 + 2 * r)) (pv s k 0).toNat)) ∧ w = mW G ad s) = Q
  have h0 := pv_b hb k 0
  obtain ⟨hx, hl⟩ := hk
  have loop : ∀ (m r : Nat), (r : Int) + m = pv s k 0 → WP (mth G l q_M_total 1 0 0 (mW G ad s) sz Q) 0 0 (mW G ad s) 4 [some (.ref (ad 0)), some (vI k), some (vI (sumI (fun r => pv s k (1 + 2 * r)) r)), some (vI r)] [] := by
    intro m
    induction m with
    | zero =>
      intro r hr
      refine r_iload_n d_M_total_4 rfl ?_
      refine r_aload_n d_M_total_5 rfl rfl ?_
      refine r_iload_n d_M_total_6 rfl ?_
      refine r_iconst d_M_total_7 ?_
      refine r_cV2 d_M_total_8 lk_M_106 (c_M_payB G l ad s k 0 hx (by omega)) 0 rfl rfl (Nat.le_of_ble_eq_true rfl) (rok rfl rfl) ⟨(Nat.le_of_ble_eq_true rfl), (Nat.le_of_ble_eq_true rfl)⟩ (fun r ws2 hq => ?_)
      obtain ⟨rfl, rfl⟩ := hq
      show WP _ _ _ _ _ _ (_ :: _)
      refine r_icmp_ge 33 d_M_total_11 (by decide) (by unfold i32; omega) (by unfold i32; omega) (fun h1 => ?_) (fun h1 => ?_)
      · refine r_iload_n d_M_total_33 rfl ?_
        refine r_iret d_M_total_34 rfl (Nat.le_of_ble_eq_true rfl) (Nat.le_of_ble_eq_true rfl) ?_
        rw [← hQ]; exact ⟨by rw [show (pv s k 0).toNat = r by omega], rfl⟩
      · exact absurd h1 (by omega)
    | succ m ih =>
      intro r hr
      refine r_iload_n d_M_total_4 rfl ?_
      refine r_aload_n d_M_total_5 rfl rfl ?_
      refine r_iload_n d_M_total_6 rfl ?_
      refine r_iconst d_M_total_7 ?_
      refine r_cV2 d_M_total_8 lk_M_106 (c_M_payB G l ad s k 0 hx (by omega)) 0 rfl rfl (Nat.le_of_ble_eq_true rfl) (rok rfl rfl) ⟨(Nat.le_of_ble_eq_true rfl), (Nat.le_of_ble_eq_true rfl)⟩ (fun r ws2 hq => ?_)
      obtain ⟨rfl, rfl⟩ := hq
      show WP _ _ _ _ _ _ (_ :: _)
      refine r_icmp_ge 33 d_M_total_11 (by decide) (by unfold i32; omega) (by unfold i32; omega) (fun h1 => ?_) (fun h1 => ?_)
      · exact absurd h1 (by omega)
      refine r_iload_n d_M_total_14 rfl ?_
      refine r_aload_n d_M_total_15 rfl rfl ?_
      refine r_iload_n d_M_total_16 rfl ?_
      refine r_iconst d_M_total_17 ?_
      refine r_iconst d_M_total_18 ?_
      refine r_iload_n d_M_total_19 rfl ?_
      refine r_imul d_M_total_20 ?_
      refine r_iadd d_M_total_21 ?_
      refine r_cV2 d_M_total_22 lk_M_106 (c_M_payB G l ad s k (1 + 2 * r) hx (by omega)) 0 rfl rfl (Nat.le_of_ble_eq_true rfl) (rok rfl rfl) ⟨(Nat.le_of_ble_eq_true rfl), (Nat.le_of_ble_eq_true rfl)⟩ (fun r ws2 hq => ?_)
      obtain ⟨rfl, rfl⟩ := hq
      show WP _ _ _ _ _ _ (_ :: _)
      refine r_iadd d_M_total_25 ?_
      refine r_istore_n d_M_total_26 (Nat.le_of_ble_eq_true rfl) rfl ?_
      show WP _ _ _ _ _ [_, _, _, _] _
      refine r_iinc d_M_total_27 rfl (Nat.le_of_ble_eq_true rfl) rfl ?_
      show WP _ _ _ _ _ [_, _, _, _] _
      refine r_goto 4 d_M_total_30 (by decide) ?_
      exact ih (r + 1) (by omega)
  refine r_iconst d_M_total_0 ?_
  refine r_istore_n d_M_total_1 (Nat.le_of_ble_eq_true rfl) rfl ?_
  show WP _ _ _ _ _ [_, _, _, _] _
  refine r_iconst d_M_total_2 ?_
  refine r_istore_n d_M_total_3 (Nat.le_of_ble_eq_true rfl) rfl ?_
  show WP _ _ _ _ _ [_, _, _, _] _
  exact loop (pv s k 0).toNat 0 (by omega)
theorem c_M_sampleCount (s : mS) (t : Int) (ht : 0 ≤ t ∧ t ≤ 1) (hk : bxok s (tb s t 3)) (hl : 2 ≤ s 3 (tb s t 3) - s 5 (tb s t 3)) : Ct G l q_M_sampleCount 1 0 0 [.ref (ad 0), vI t] (mW G ad s) (fun r w => r = some (vI (pv s (tb s t 3) 1)) ∧ w = mW G ad s) := by
  refine Ct.intro [some (.ref (ad 0)), some (vI t)] (by decide) (Nat.le_of_ble_eq_true rfl) rfl (fun sz => ?_)
  generalize hQ : (fun r w => r = some (vI (pv s (tb s t 3) 1)) ∧ w = mW G ad s) = Q
  refine r_aload_n d_M_sampleCount_0 rfl rfl ?_
  refine r_aload_n d_M_sampleCount_1 rfl rfl ?_
  refine r_get d_M_sampleCount_2 fl_M_40_7 0 rfl rfl ?_
  refine r_bipush d_M_sampleCount_5 (by decide) ?_
  refine r_iload_n d_M_sampleCount_7 rfl ?_
  refine r_imul d_M_sampleCount_8 ?_
  refine r_iconst d_M_sampleCount_9 ?_
  refine r_iadd d_M_sampleCount_10 ?_
  refine r_iald d_M_sampleCount_11 11 rfl (by omega) ?_
  refine r_iconst d_M_sampleCount_12 ?_
  refine r_cV2 d_M_sampleCount_13 lk_M_106 (c_M_payB G l ad s (tb s t 3) 1 hk (by omega)) 0 rfl rfl (Nat.le_of_ble_eq_true rfl) (rok rfl rfl) ⟨(Nat.le_of_ble_eq_true rfl), (Nat.le_of_ble_eq_true rfl)⟩ (fun r ws2 hq => ?_)
  obtain ⟨rfl, rfl⟩ := hq
  show WP _ _ _ _ _ _ (_ :: _)
  refine r_iret d_M_sampleCount_16 rfl (Nat.le_of_ble_eq_true rfl) (Nat.le_of_ble_eq_true rfl) ?_
  rw [← hQ]; exact ⟨rfl, rfl⟩
theorem c_M_sizeOf (s : mS) (t i : Int) (hb : byOk s) (ht : 0 ≤ t ∧ t ≤ 1) (hk : bxok s (tb s t 3)) (hl : 1 ≤ s 3 (tb s t 3) - s 5 (tb s t 3)) (hi : pv s (tb s t 3) 0 = 0 → 0 ≤ i ∧ 2 + i < s 3 (tb s t 3) - s 5 (tb s t 3)) : Ct G l q_M_sizeOf 1 0 0 [.ref (ad 0), vI t, vI i] (mW G ad s) (fun r w => r = some (vI (szO s t i)) ∧ w = mW G ad s) := by
  refine Ct.intro [some (.ref (ad 0)), some (vI t), some (vI i), none, none] (by decide) (Nat.le_of_ble_eq_true rfl) rfl (fun sz => ?_)
  generalize hQ : (fun r w => r = some (vI (szO s t i)) ∧ w = mW G ad s) = Q
  have h0 := pv_b hb (tb s t 3) 0
  refine r_aload_n d_M_sizeOf_0 rfl rfl ?_
  refine r_get d_M_sizeOf_1 fl_M_40_7 0 rfl rfl ?_
  refine r_bipush d_M_sizeOf_4 (by decide) ?_
  refine r_iload_n d_M_sizeOf_6 rfl ?_
  refine r_imul d_M_sizeOf_7 ?_
  refine r_iconst d_M_sizeOf_8 ?_
  refine r_iadd d_M_sizeOf_9 ?_
  refine r_iald d_M_sizeOf_10 11 rfl (by omega) ?_
  refine r_istore_n d_M_sizeOf_11 (Nat.le_of_ble_eq_true rfl) rfl ?_
  show WP _ _ _ _ _ [_, _, _, _, _] _
  refine r_aload_n d_M_sizeOf_12 rfl rfl ?_
  refine r_iload_n d_M_sizeOf_13 rfl ?_
  refine r_iconst d_M_sizeOf_14 ?_
  refine r_cV2 d_M_sizeOf_15 lk_M_106 (c_M_payB G l ad s (tb s t 3) 0 hk (by omega)) 0 rfl rfl (Nat.le_of_ble_eq_true rfl) (rok rfl rfl) ⟨(Nat.le_of_ble_eq_true rfl), (Nat.le_of_ble_eq_true rfl)⟩ (fun r ws2 hq => ?_)
  obtain ⟨rfl, rfl⟩ := hq
  show WP _ _ _ _ _ _ (_ :: _)
  refine r_istore d_M_sizeOf_18 (Nat.le_of_ble_eq_true rfl) rfl ?_
  show WP _ _ _ _ _ [_, _, _, _, _] _
  refine r_iload d_M_sizeOf_20 rfl ?_
  refine r_if_eq 30 d_M_sizeOf_22 (by decide) (by unfold i32; omega) (fun h1 => ?_) (fun h1 => ?_)
  · refine r_aload_n d_M_sizeOf_30 rfl rfl ?_
    refine r_iload_n d_M_sizeOf_31 rfl ?_
    refine r_iconst d_M_sizeOf_32 ?_
    refine r_iload_n d_M_sizeOf_33 rfl ?_
    refine r_iadd d_M_sizeOf_34 ?_
    refine r_cV2 d_M_sizeOf_35 lk_M_106 (c_M_payB G l ad s (tb s t 3) (2 + i) hk (by omega)) 0 rfl rfl (Nat.le_of_ble_eq_true rfl) (rok rfl rfl) ⟨(Nat.le_of_ble_eq_true rfl), (Nat.le_of_ble_eq_true rfl)⟩ (fun r ws2 hq => ?_)
    obtain ⟨rfl, rfl⟩ := hq
    show WP _ _ _ _ _ _ (_ :: _)
    refine r_iret d_M_sizeOf_38 rfl (Nat.le_of_ble_eq_true rfl) (Nat.le_of_ble_eq_true rfl) ?_
    rw [← hQ]; exact ⟨by unfold szO; rw [if_pos h1], rfl⟩
  · refine r_iload d_M_sizeOf_25 rfl ?_
    refine r_goto 38 d_M_sizeOf_27 (by decide) ?_
    refine r_iret d_M_sizeOf_38 rfl (Nat.le_of_ble_eq_true rfl) (Nat.le_of_ble_eq_true rfl) ?_
    rw [← hQ]; exact ⟨by unfold szO; rw [if_neg h1], rfl⟩
theorem c_M_placesBox (s : mS) (t : Int) (ht : 0 ≤ t ∧ t ≤ 1) (h4 : i32 (tb s t 4)) : Ct G l q_M_placesBox 0 0 0 [.ref (ad 0), vI t] (mW G ad s) (fun r w => r = some (vI (pbx s t)) ∧ w = mW G ad s) := by
  refine Ct.intro [some (.ref (ad 0)), some (vI t), none] (by decide) (Nat.le_of_ble_eq_true rfl) rfl (fun sz => ?_)
  generalize hQ : (fun r w => r = some (vI (pbx s t)) ∧ w = mW G ad s) = Q
  refine r_aload_n d_M_placesBox_0 rfl rfl ?_
  refine r_get d_M_placesBox_1 fl_M_40_7 0 rfl rfl ?_
  refine r_bipush d_M_placesBox_4 (by decide) ?_
  refine r_iload_n d_M_placesBox_6 rfl ?_
  refine r_imul d_M_placesBox_7 ?_
  refine r_iconst d_M_placesBox_8 ?_
  refine r_iadd d_M_placesBox_9 ?_
  refine r_iald d_M_placesBox_10 11 rfl (by omega) ?_
  refine r_istore_n d_M_placesBox_11 (Nat.le_of_ble_eq_true rfl) rfl ?_
  show WP _ _ _ _ _ [_, _, _] _
  refine r_iload_n d_M_placesBox_12 rfl ?_
  refine r_if_lt 20 d_M_placesBox_13 (by decide) h4 (fun h1 => ?_) (fun h1 => ?_)
  · refine r_aload_n d_M_placesBox_20 rfl rfl ?_
    refine r_get d_M_placesBox_21 fl_M_40_7 0 rfl rfl ?_
    refine r_bipush d_M_placesBox_24 (by decide) ?_
    refine r_iload_n d_M_placesBox_26 rfl ?_
    refine r_imul d_M_placesBox_27 ?_
    refine r_iconst d_M_placesBox_28 ?_
    refine r_iadd d_M_placesBox_29 ?_
    refine r_iald d_M_placesBox_30 11 rfl (by omega) ?_
    refine r_iret d_M_placesBox_31 rfl (Nat.le_of_ble_eq_true rfl) (Nat.le_of_ble_eq_true rfl) ?_
    rw [← hQ]; exact ⟨by unfold pbx; rw [if_pos h1], rfl⟩
  · refine r_iload_n d_M_placesBox_16 rfl ?_
    refine r_goto 31 d_M_placesBox_17 (by decide) ?_
    refine r_iret d_M_placesBox_31 rfl (Nat.le_of_ble_eq_true rfl) (Nat.le_of_ble_eq_true rfl) ?_
    rw [← hQ]; exact ⟨by unfold pbx; rw [if_neg h1], rfl⟩
theorem c_M_chunkCount (s : mS) (t : Int) (ht : 0 ≤ t ∧ t ≤ 1) (h4 : i32 (tb s t 4)) (hk : bxok s (pbx s t)) (hl : 1 ≤ s 3 (pbx s t) - s 5 (pbx s t)) : Ct G l q_M_chunkCount 1 0 0 [.ref (ad 0), vI t] (mW G ad s) (fun r w => r = some (vI (pv s (pbx s t) 0)) ∧ w = mW G ad s) := by
  refine Ct.intro [some (.ref (ad 0)), some (vI t), none] (by decide) (Nat.le_of_ble_eq_true rfl) rfl (fun sz => ?_)
  generalize hQ : (fun r w => r = some (vI (pv s (pbx s t) 0)) ∧ w = mW G ad s) = Q
  refine r_aload_n d_M_chunkCount_0 rfl rfl ?_
  refine r_iload_n d_M_chunkCount_1 rfl ?_
  refine r_cV1 d_M_chunkCount_2 lk_M_122 (c_M_placesBox G l ad s t ht h4) 0 rfl rfl (Nat.le_of_ble_eq_true rfl) (rok rfl rfl) ⟨(Nat.le_of_ble_eq_true rfl), (Nat.le_of_ble_eq_true rfl)⟩ (fun r ws2 hq => ?_)
  obtain ⟨rfl, rfl⟩ := hq
  show WP _ _ _ _ _ _ (_ :: _)
  refine r_istore_n d_M_chunkCount_5 (Nat.le_of_ble_eq_true rfl) rfl ?_
  show WP _ _ _ _ _ [_, _, _] _
  refine r_aload_n d_M_chunkCount_6 rfl rfl ?_
  refine r_iload_n d_M_chunkCount_7 rfl ?_
  refine r_iconst d_M_chunkCount_8 ?_
  refine r_cV2 d_M_chunkCount_9 lk_M_106 (c_M_payB G l ad s (pbx s t) 0 hk (by omega)) 0 rfl rfl (Nat.le_of_ble_eq_true rfl) (rok rfl rfl) ⟨(Nat.le_of_ble_eq_true rfl), (Nat.le_of_ble_eq_true rfl)⟩ (fun r ws2 hq => ?_)
  obtain ⟨rfl, rfl⟩ := hq
  show WP _ _ _ _ _ _ (_ :: _)
  refine r_iret d_M_chunkCount_12 rfl (Nat.le_of_ble_eq_true rfl) (Nat.le_of_ble_eq_true rfl) ?_
  rw [← hQ]; exact ⟨rfl, rfl⟩
theorem c_M_chunkPlace (s : mS) (t c : Int) (ht : 0 ≤ t ∧ t ≤ 1) (h4 : i32 (tb s t 4)) (hk : bxok s (pbx s t)) (h5 : i32 (s 4 (pbx s t))) (hc : (s 4 (pbx s t) = 111 → 0 ≤ c ∧ c < s 3 (pbx s t) - s 5 (pbx s t)) ∧ (¬ s 4 (pbx s t) = 111 → 1 ≤ c ∧ 2 * c < s 3 (pbx s t) - s 5 (pbx s t))) : Ct G l q_M_chunkPlace 1 0 0 [.ref (ad 0), vI t, vI c] (mW G ad s) (fun r w => r = some (vI (cpl s t c)) ∧ w = mW G ad s) := by
  refine Ct.intro [some (.ref (ad 0)), some (vI t), some (vI c), none] (by decide) (Nat.le_of_ble_eq_true rfl) rfl (fun sz => ?_)
  generalize hQ : (fun r w => r = some (vI (cpl s t c)) ∧ w = mW G ad s) = Q
  refine r_aload_n d_M_chunkPlace_0 rfl rfl ?_
  refine r_iload_n d_M_chunkPlace_1 rfl ?_
  refine r_cV1 d_M_chunkPlace_2 lk_M_122 (c_M_placesBox G l ad s t ht h4) 0 rfl rfl (Nat.le_of_ble_eq_true rfl) (rok rfl rfl) ⟨(Nat.le_of_ble_eq_true rfl), (Nat.le_of_ble_eq_true rfl)⟩ (fun r ws2 hq => ?_)
  obtain ⟨rfl, rfl⟩ := hq
  show WP _ _ _ _ _ _ (_ :: _)
  refine r_istore_n d_M_chunkPlace_5 (Nat.le_of_ble_eq_true rfl) rfl ?_
  show WP _ _ _ _ _ [_, _, _, _] _
  refine r_aload_n d_M_chunkPlace_6 rfl rfl ?_
  refine r_get d_M_chunkPlace_7 fl_M_19_7 0 rfl rfl ?_
  refine r_iload_n d_M_chunkPlace_10 rfl ?_
  refine r_iald d_M_chunkPlace_11 4 rfl (by omega) ?_
  refine r_bipush d_M_chunkPlace_12 (by decide) ?_
  refine r_icmp_ne 26 d_M_chunkPlace_14 (by decide) h5 (by unfold i32; omega) (fun h1 => ?_) (fun h1 => ?_)
  · have hc2 := hc.2 h1
    refine r_sipush d_M_chunkPlace_26 (by decide) ?_
    refine r_aload_n d_M_chunkPlace_29 rfl rfl ?_
    refine r_iload_n d_M_chunkPlace_30 rfl ?_
    refine r_iconst d_M_chunkPlace_31 ?_
    refine r_iload_n d_M_chunkPlace_32 rfl ?_
    refine r_imul d_M_chunkPlace_33 ?_
    refine r_iconst d_M_chunkPlace_34 ?_
    refine r_isub d_M_chunkPlace_35 ?_
    refine r_cV2 d_M_chunkPlace_36 lk_M_106 (c_M_payB G l ad s (pbx s t) (2 * c - 1) hk (by omega)) 0 rfl rfl (Nat.le_of_ble_eq_true rfl) (rok rfl rfl) ⟨(Nat.le_of_ble_eq_true rfl), (Nat.le_of_ble_eq_true rfl)⟩ (fun r ws2 hq => ?_)
    obtain ⟨rfl, rfl⟩ := hq
    show WP _ _ _ _ _ _ (_ :: _)
    refine r_imul d_M_chunkPlace_39 ?_
    refine r_aload_n d_M_chunkPlace_40 rfl rfl ?_
    refine r_iload_n d_M_chunkPlace_41 rfl ?_
    refine r_iconst d_M_chunkPlace_42 ?_
    refine r_iload_n d_M_chunkPlace_43 rfl ?_
    refine r_imul d_M_chunkPlace_44 ?_
    refine r_cV2 d_M_chunkPlace_45 lk_M_106 (c_M_payB G l ad s (pbx s t) (2 * c) hk (by omega)) 0 rfl rfl (Nat.le_of_ble_eq_true rfl) (rok rfl rfl) ⟨(Nat.le_of_ble_eq_true rfl), (Nat.le_of_ble_eq_true rfl)⟩ (fun r ws2 hq => ?_)
    obtain ⟨rfl, rfl⟩ := hq
    show WP _ _ _ _ _ _ (_ :: _)
    refine r_iadd d_M_chunkPlace_48 ?_
    refine r_iret d_M_chunkPlace_49 rfl (Nat.le_of_ble_eq_true rfl) (Nat.le_of_ble_eq_true rfl) ?_
    rw [← hQ]; exact ⟨by unfold cpl; rw [if_neg h1], rfl⟩
  · have h2 : s 4 (pbx s t) = 111 := by omega
    have hc1 := hc.1 h2
    refine r_aload_n d_M_chunkPlace_17 rfl rfl ?_
    refine r_iload_n d_M_chunkPlace_18 rfl ?_
    refine r_iload_n d_M_chunkPlace_19 rfl ?_
    refine r_cV2 d_M_chunkPlace_20 lk_M_106 (c_M_payB G l ad s (pbx s t) c hk (by omega)) 0 rfl rfl (Nat.le_of_ble_eq_true rfl) (rok rfl rfl) ⟨(Nat.le_of_ble_eq_true rfl), (Nat.le_of_ble_eq_true rfl)⟩ (fun r ws2 hq => ?_)
    obtain ⟨rfl, rfl⟩ := hq
    show WP _ _ _ _ _ _ (_ :: _)
    refine r_goto 49 d_M_chunkPlace_23 (by decide) ?_
    refine r_iret d_M_chunkPlace_49 rfl (Nat.le_of_ble_eq_true rfl) (Nat.le_of_ble_eq_true rfl) ?_
    rw [← hQ]; exact ⟨by unfold cpl; rw [if_pos h2], rfl⟩
theorem c_M_rowOf (s : mS) (t c : Int) (hb : byOk s) (ht : 0 ≤ t ∧ t ≤ 1) (hc : i32 c) (hk : tbl s (tb s t 2) 3) : Ct G l q_M_rowOf 1 0 0 [.ref (ad 0), vI t, vI c] (mW G ad s) (fun r w => r = some (vI (rowU s (tb s t 2) c (pv s (tb s t 2) 0).toNat)) ∧ w = mW G ad s) := by
  refine Ct.intro [some (.ref (ad 0)), some (vI t), some (vI c), none, none, none] (by decide) (Nat.le_of_ble_eq_true rfl) rfl (fun sz => ?_)
  generalize hQ : (fun r w => r = some (vI (rowU s (tb s t 2) c (pv s (tb s t 2) 0).toNat)) ∧ w = mW G ad s) = Q
  refine r_aload_n d_M_rowOf_0 rfl rfl ?_
  refine r_get d_M_rowOf_1 fl_M_40_7 0 rfl rfl ?_
  refine r_bipush d_M_rowOf_4 (by decide) ?_
  refine r_iload_n d_M_rowOf_6 rfl ?_
  refine r_imul d_M_rowOf_7 ?_
  refine r_iconst d_M_rowOf_8 ?_
  refine r_iadd d_M_rowOf_9 ?_
  refine r_iald d_M_rowOf_10 11 rfl (by omega) ?_
  refine r_istore_n d_M_rowOf_11 (Nat.le_of_ble_eq_true rfl) rfl ?_
  show WP _ _ _ _ _ [_, _, _, _, _, _] _
  have h0 := pv_b hb (tb s t 2) 0
  obtain ⟨hx, hl⟩ := hk
  show WP _ 0 0 _ _ [_, _, _, some (vI (tb s t 2)), _, _] _
  generalize tb s t 2 = k at h0 hx hl hQ ⊢
  have loop : ∀ (m r : Nat), (r : Int) + m = pv s k 0 → WP (mth G l q_M_rowOf 1 0 0 (mW G ad s) sz Q) 0 0 (mW G ad s) 18 [some (.ref (ad 0)), some (vI t), some (vI c), some (vI k), some (vI (rowU s k c r)), some (vI r)] [] := by
    intro m
    induction m with
    | zero =>
      intro r hr
      refine r_iload d_M_rowOf_18 rfl ?_
      refine r_aload_n d_M_rowOf_20 rfl rfl ?_
      refine r_iload_n d_M_rowOf_21 rfl ?_
      refine r_iconst d_M_rowOf_22 ?_
      refine r_cV2 d_M_rowOf_23 lk_M_106 (c_M_payB G l ad s k 0 hx (by omega)) 0 rfl rfl (Nat.le_of_ble_eq_true rfl) (rok rfl rfl) ⟨(Nat.le_of_ble_eq_true rfl), (Nat.le_of_ble_eq_true rfl)⟩ (fun r ws2 hq => ?_)
      obtain ⟨rfl, rfl⟩ := hq
      show WP _ _ _ _ _ _ (_ :: _)
      refine r_icmp_ge 59 d_M_rowOf_26 (by decide) (by unfold i32; omega) (by unfold i32; omega) (fun h1 => ?_) (fun h1 => ?_)
      · refine r_iload d_M_rowOf_59 rfl ?_
        refine r_iret d_M_rowOf_61 rfl (Nat.le_of_ble_eq_true rfl) (Nat.le_of_ble_eq_true rfl) ?_
        rw [← hQ]; exact ⟨by rw [show (pv s k 0).toNat = r by omega], rfl⟩
      · exact absurd h1 (by omega)
    | succ m ih =>
      intro r hr
      refine r_iload d_M_rowOf_18 rfl ?_
      refine r_aload_n d_M_rowOf_20 rfl rfl ?_
      refine r_iload_n d_M_rowOf_21 rfl ?_
      refine r_iconst d_M_rowOf_22 ?_
      refine r_cV2 d_M_rowOf_23 lk_M_106 (c_M_payB G l ad s k 0 hx (by omega)) 0 rfl rfl (Nat.le_of_ble_eq_true rfl) (rok rfl rfl) ⟨(Nat.le_of_ble_eq_true rfl), (Nat.le_of_ble_eq_true rfl)⟩ (fun r ws2 hq => ?_)
      obtain ⟨rfl, rfl⟩ := hq
      show WP _ _ _ _ _ _ (_ :: _)
      refine r_icmp_ge 59 d_M_rowOf_26 (by decide) (by unfold i32; omega) (by unfold i32; omega) (fun h1 => ?_) (fun h1 => ?_)
      · exact absurd h1 (by omega)
      have h2 := pv_b hb k (1 + 3 * r)
      have J := ih (r + 1) (by omega)
      unfold rowU at J
      refine r_aload_n d_M_rowOf_29 rfl rfl ?_
      refine r_iload_n d_M_rowOf_30 rfl ?_
      refine r_iconst d_M_rowOf_31 ?_
      refine r_iconst d_M_rowOf_32 ?_
      refine r_iload d_M_rowOf_33 rfl ?_
      refine r_imul d_M_rowOf_35 ?_
      refine r_iadd d_M_rowOf_36 ?_
      refine r_cV2 d_M_rowOf_37 lk_M_106 (c_M_payB G l ad s k (1 + 3 * r) hx (by omega)) 0 rfl rfl (Nat.le_of_ble_eq_true rfl) (rok rfl rfl) ⟨(Nat.le_of_ble_eq_true rfl), (Nat.le_of_ble_eq_true rfl)⟩ (fun r ws2 hq => ?_)
      obtain ⟨rfl, rfl⟩ := hq
      show WP _ _ _ _ _ _ (_ :: _)
      refine r_iload_n d_M_rowOf_40 rfl ?_
      refine r_icmp_gt 49 d_M_rowOf_41 (by decide) (by unfold i32; omega) hc (fun h3 => ?_) (fun h3 => ?_)
      · rw [if_neg (by omega)] at J
        refine r_iload d_M_rowOf_49 rfl ?_
        refine r_istore d_M_rowOf_51 (Nat.le_of_ble_eq_true rfl) rfl ?_
        show WP _ _ _ _ _ [_, _, _, _, _, _] _
        refine r_iinc d_M_rowOf_53 rfl (Nat.le_of_ble_eq_true rfl) rfl ?_
        show WP _ _ _ _ _ [_, _, _, _, _, _] _
        refine r_goto 18 d_M_rowOf_56 (by decide) ?_
        exact J
      · rw [if_pos (by omega)] at J
        refine r_iload d_M_rowOf_44 rfl ?_
        refine r_goto 51 d_M_rowOf_46 (by decide) ?_
        refine r_istore d_M_rowOf_51 (Nat.le_of_ble_eq_true rfl) rfl ?_
        show WP _ _ _ _ _ [_, _, _, _, _, _] _
        refine r_iinc d_M_rowOf_53 rfl (Nat.le_of_ble_eq_true rfl) rfl ?_
        show WP _ _ _ _ _ [_, _, _, _, _, _] _
        refine r_goto 18 d_M_rowOf_56 (by decide) ?_
        exact J
  refine r_iconst d_M_rowOf_12 ?_
  refine r_istore d_M_rowOf_13 (Nat.le_of_ble_eq_true rfl) rfl ?_
  show WP _ _ _ _ _ [_, _, _, _, _, _] _
  refine r_iconst d_M_rowOf_15 ?_
  refine r_istore d_M_rowOf_16 (Nat.le_of_ble_eq_true rfl) rfl ?_
  show WP _ _ _ _ _ [_, _, _, _, _, _] _
  exact loop (pv s k 0).toNat 0 (by omega)
theorem c_M_many (s : mS) (t c : Int) (hb : byOk s) (ht : 0 ≤ t ∧ t ≤ 1) (hc : i32 c) (hk : tbl s (tb s t 2) 3) (hr : 1 ≤ pv s (tb s t 2) 0) : Ct G l q_M_many 2 0 0 [.ref (ad 0), vI t, vI c] (mW G ad s) (fun r w => r = some (vI (pv s (tb s t 2) (2 + 3 * rowU s (tb s t 2) c (pv s (tb s t 2) 0).toNat))) ∧ w = mW G ad s) := by
  refine Ct.intro [some (.ref (ad 0)), some (vI t), some (vI c), none] (by decide) (Nat.le_of_ble_eq_true rfl) rfl (fun sz => ?_)
  generalize hQ : (fun r w => r = some (vI (pv s (tb s t 2) (2 + 3 * rowU s (tb s t 2) c (pv s (tb s t 2) 0).toNat))) ∧ w = mW G ad s) = Q
  have hu := rowU_le s (tb s t 2) c (pv s (tb s t 2) 0).toNat
  refine r_aload_n d_M_many_0 rfl rfl ?_
  refine r_iload_n d_M_many_1 rfl ?_
  refine r_iload_n d_M_many_2 rfl ?_
  refine r_cV2 d_M_many_3 lk_M_125 (c_M_rowOf G l ad s t c hb ht hc hk) 0 rfl rfl (Nat.le_of_ble_eq_true rfl) (rok rfl rfl) ⟨(Nat.le_of_ble_eq_true rfl), (Nat.le_of_ble_eq_true rfl)⟩ (fun r ws2 hq => ?_)
  obtain ⟨rfl, rfl⟩ := hq
  show WP _ _ _ _ _ _ (_ :: _)
  refine r_istore_n d_M_many_6 (Nat.le_of_ble_eq_true rfl) rfl ?_
  show WP _ _ _ _ _ [_, _, _, _] _
  refine r_aload_n d_M_many_7 rfl rfl ?_
  refine r_aload_n d_M_many_8 rfl rfl ?_
  refine r_get d_M_many_9 fl_M_40_7 0 rfl rfl ?_
  refine r_bipush d_M_many_12 (by decide) ?_
  refine r_iload_n d_M_many_14 rfl ?_
  refine r_imul d_M_many_15 ?_
  refine r_iconst d_M_many_16 ?_
  refine r_iadd d_M_many_17 ?_
  refine r_iald d_M_many_18 11 rfl (by omega) ?_
  refine r_iconst d_M_many_19 ?_
  refine r_iconst d_M_many_20 ?_
  refine r_iload_n d_M_many_21 rfl ?_
  refine r_imul d_M_many_22 ?_
  refine r_iadd d_M_many_23 ?_
  refine r_cV2 d_M_many_24 lk_M_106 (c_M_payB G l ad s (tb s t 2) (2 + 3 * rowU s (tb s t 2) c (pv s (tb s t 2) 0).toNat) hk.1 (by omega)) 0 rfl rfl (Nat.le_of_ble_eq_true rfl) (rok rfl rfl) ⟨(Nat.le_of_ble_eq_true rfl), (Nat.le_of_ble_eq_true rfl)⟩ (fun r ws2 hq => ?_)
  obtain ⟨rfl, rfl⟩ := hq
  show WP _ _ _ _ _ _ (_ :: _)
  refine r_iret d_M_many_27 rfl (Nat.le_of_ble_eq_true rfl) (Nat.le_of_ble_eq_true rfl) ?_
  rw [← hQ]; exact ⟨rfl, rfl⟩
theorem c_M_dataBox (s : mS) (place bytes : Int) (hr : rdOk s) (hp : -1000000 ≤ place ∧ place ≤ 1000000) (hby : -1000000 ≤ bytes ∧ bytes ≤ 1000000) : Ct G l q_M_dataBox 0 0 0 [.ref (ad 0), vI place, vI bytes] (mW G ad s) (fun r w => r = some (vI (dbx s place bytes (s 0 1).toNat 0)) ∧ w = mW G ad s) := by
  refine Ct.intro [some (.ref (ad 0)), some (vI place), some (vI bytes), none] (by decide) (Nat.le_of_ble_eq_true rfl) rfl (fun sz => ?_)
  generalize hQ : (fun r w => r = some (vI (dbx s place bytes (s 0 1).toNat 0)) ∧ w = mW G ad s) = Q
  obtain ⟨hc, hk⟩ := hr
  have loop : ∀ (m : Nat) (k : Int), 0 ≤ k → k + m = s 0 1 → dbx s place bytes m k = dbx s place bytes (s 0 1).toNat 0 → WP (mth G l q_M_dataBox 0 0 0 (mW G ad s) sz Q) 0 0 (mW G ad s) 2 [some (.ref (ad 0)), some (vI place), some (vI bytes), some (vI k)] [] := by
    intro m
    induction m with
    | zero =>
      intro k h0 hm hE
      refine r_iload_n d_M_dataBox_2 rfl ?_
      refine r_aload_n d_M_dataBox_3 rfl rfl ?_
      refine r_get d_M_dataBox_4 fl_M_64_7 0 rfl rfl ?_
      refine r_icmp_ge 74 d_M_dataBox_7 (by decide) (by unfold i32; omega) (by unfold i32; omega) (fun h1 => ?_) (fun h1 => ?_)
      · refine r_iconst d_M_dataBox_74 ?_
        refine r_iret d_M_dataBox_75 rfl (Nat.le_of_ble_eq_true rfl) (Nat.le_of_ble_eq_true rfl) ?_
        rw [← hQ]; exact ⟨by rw [← hE]; rfl, rfl⟩
      · exact absurd h1 (by omega)
    | succ m ih =>
      intro k h0 hm hE
      have hb := hk k h0 (by omega)
      rw [dbx] at hE
      have no : ¬ dbC s place bytes k → WP (mth G l q_M_dataBox 0 0 0 (mW G ad s) sz Q) 0 0 (mW G ad s) 68 [some (.ref (ad 0)), some (vI place), some (vI bytes), some (vI k)] [] := by
        intro h
        rw [if_neg h] at hE
        refine r_iinc d_M_dataBox_68 rfl (Nat.le_of_ble_eq_true rfl) rfl ?_
        show WP _ _ _ _ _ [_, _, _, _] _
        refine r_goto 2 d_M_dataBox_71 (by decide) ?_
        exact ih (k + 1) (by omega) (by omega) hE
      refine r_iload_n d_M_dataBox_2 rfl ?_
      refine r_aload_n d_M_dataBox_3 rfl rfl ?_
      refine r_get d_M_dataBox_4 fl_M_64_7 0 rfl rfl ?_
      refine r_icmp_ge 74 d_M_dataBox_7 (by decide) (by unfold i32; omega) (by unfold i32; omega) (fun h1 => ?_) (fun h1 => ?_)
      · exact absurd h1 (by omega)
      refine r_aload_n d_M_dataBox_10 rfl rfl ?_
      refine r_get d_M_dataBox_11 fl_M_25_7 0 rfl rfl ?_
      refine r_iload_n d_M_dataBox_14 rfl ?_
      refine r_iald d_M_dataBox_15 6 rfl (by omega) ?_
      refine r_if_ne 68 d_M_dataBox_16 (by decide) (by unfold i32; omega) (fun h2 => ?_) (fun h2 => ?_)
      · exact no (by unfold dbC; omega)
      refine r_aload_n d_M_dataBox_19 rfl rfl ?_
      refine r_get d_M_dataBox_20 fl_M_19_7 0 rfl rfl ?_
      refine r_iload_n d_M_dataBox_23 rfl ?_
      refine r_iald d_M_dataBox_24 4 rfl (by omega) ?_
      refine r_bipush d_M_dataBox_25 (by decide) ?_
      refine r_icmp_ne 68 d_M_dataBox_27 (by decide) (by unfold i32; omega) (by unfold i32; omega) (fun h3 => ?_) (fun h3 => ?_)
      · exact no (by unfold dbC; omega)
      refine r_aload_n d_M_dataBox_30 rfl rfl ?_
      refine r_get d_M_dataBox_31 fl_M_13_7 0 rfl rfl ?_
      refine r_iload_n d_M_dataBox_34 rfl ?_
      refine r_iald d_M_dataBox_35 2 rfl (by omega) ?_
      refine r_aload_n d_M_dataBox_36 rfl rfl ?_
      refine r_get d_M_dataBox_37 fl_M_22_7 0 rfl rfl ?_
      refine r_iload_n d_M_dataBox_40 rfl ?_
      refine r_iald d_M_dataBox_41 5 rfl (by omega) ?_
      refine r_iadd d_M_dataBox_42 ?_
      refine r_iload_n d_M_dataBox_43 rfl ?_
      refine r_icmp_gt 68 d_M_dataBox_44 (by decide) (by unfold i32; omega) (by unfold i32; omega) (fun h4 => ?_) (fun h4 => ?_)
      · exact no (by unfold dbC; omega)
      refine r_iload_n d_M_dataBox_47 rfl ?_
      refine r_iload_n d_M_dataBox_48 rfl ?_
      refine r_iadd d_M_dataBox_49 ?_
      refine r_aload_n d_M_dataBox_50 rfl rfl ?_
      refine r_get d_M_dataBox_51 fl_M_13_7 0 rfl rfl ?_
      refine r_iload_n d_M_dataBox_54 rfl ?_
      refine r_iald d_M_dataBox_55 2 rfl (by omega) ?_
      refine r_aload_n d_M_dataBox_56 rfl rfl ?_
      refine r_get d_M_dataBox_57 fl_M_16_7 0 rfl rfl ?_
      refine r_iload_n d_M_dataBox_60 rfl ?_
      refine r_iald d_M_dataBox_61 3 rfl (by omega) ?_
      refine r_iadd d_M_dataBox_62 ?_
      refine r_icmp_gt 68 d_M_dataBox_63 (by decide) (by unfold i32; omega) (by unfold i32; omega) (fun h5 => ?_) (fun h5 => ?_)
      · exact no (by unfold dbC; omega)
      rw [if_pos (by unfold dbC; omega)] at hE
      refine r_iload_n d_M_dataBox_66 rfl ?_
      refine r_iret d_M_dataBox_67 rfl (Nat.le_of_ble_eq_true rfl) (Nat.le_of_ble_eq_true rfl) ?_
      rw [← hQ]; exact ⟨by rw [← hE], rfl⟩
  refine r_iconst d_M_dataBox_0 ?_
  refine r_istore_n d_M_dataBox_1 (Nat.le_of_ble_eq_true rfl) rfl ?_
  show WP _ _ _ _ _ [_, _, _, _] _
  exact loop (s 0 1).toNat 0 (by omega) (by omega) rfl
theorem c_M_runValue (s : mS) (k i : Int) (hb : byOk s) (hi : i32 i) (hk : tbl s k 2) : Ct G l q_M_runValue 1 0 0 [.ref (ad 0), vI k, vI i] (mW G ad s) (fun r w => r = some (vI (rvK s k i)) ∧ w = mW G ad s) := by
  refine Ct.intro [some (.ref (ad 0)), some (vI k), some (vI i), none, none] (by decide) (Nat.le_of_ble_eq_true rfl) rfl (fun sz => ?_)
  generalize hQ : (fun r w => r = some (vI (rvK s k i)) ∧ w = mW G ad s) = Q
  have h0 := pv_b hb k 0
  obtain ⟨hx, hl⟩ := hk
  have loop : ∀ (m : Nat) (r up : Int), 0 ≤ r → r + m = pv s k 0 → 0 ≤ up → up ≤ 255 * r → rv (fun r => pv s k (1 + 2 * r)) (fun r => pv s k (2 + 2 * r)) i m r up = rvK s k i → WP (mth G l q_M_runValue 1 0 0 (mW G ad s) sz Q) 0 0 (mW G ad s) 5 [some (.ref (ad 0)), some (vI k), some (vI i), some (vI up), some (vI r)] [] := by
    intro m
    induction m with
    | zero =>
      intro r up h1 h2 h3 h4 hE
      refine r_iload d_M_runValue_5 rfl ?_
      refine r_aload_n d_M_runValue_7 rfl rfl ?_
      refine r_iload_n d_M_runValue_8 rfl ?_
      refine r_iconst d_M_runValue_9 ?_
      refine r_cV2 d_M_runValue_10 lk_M_106 (c_M_payB G l ad s k 0 hx (by omega)) 0 rfl rfl (Nat.le_of_ble_eq_true rfl) (rok rfl rfl) ⟨(Nat.le_of_ble_eq_true rfl), (Nat.le_of_ble_eq_true rfl)⟩ (fun r ws2 hq => ?_)
      obtain ⟨rfl, rfl⟩ := hq
      show WP _ _ _ _ _ _ (_ :: _)
      refine r_icmp_ge 53 d_M_runValue_13 (by decide) (by unfold i32; omega) (by unfold i32; omega) (fun h5 => ?_) (fun h5 => ?_)
      · refine r_iconst d_M_runValue_53 ?_
        refine r_iret d_M_runValue_54 rfl (Nat.le_of_ble_eq_true rfl) (Nat.le_of_ble_eq_true rfl) ?_
        rw [← hQ]; exact ⟨by rw [← hE]; rfl, rfl⟩
      · exact absurd h5 (by omega)
    | succ m ih =>
      intro r up h1 h2 h3 h4 hE
      have g1 := pv_b hb k (1 + 2 * r)
      rw [rv] at hE
      refine r_iload d_M_runValue_5 rfl ?_
      refine r_aload_n d_M_runValue_7 rfl rfl ?_
      refine r_iload_n d_M_runValue_8 rfl ?_
      refine r_iconst d_M_runValue_9 ?_
      refine r_cV2 d_M_runValue_10 lk_M_106 (c_M_payB G l ad s k 0 hx (by omega)) 0 rfl rfl (Nat.le_of_ble_eq_true rfl) (rok rfl rfl) ⟨(Nat.le_of_ble_eq_true rfl), (Nat.le_of_ble_eq_true rfl)⟩ (fun r ws2 hq => ?_)
      obtain ⟨rfl, rfl⟩ := hq
      show WP _ _ _ _ _ _ (_ :: _)
      refine r_icmp_ge 53 d_M_runValue_13 (by decide) (by unfold i32; omega) (by unfold i32; omega) (fun h5 => ?_) (fun h5 => ?_)
      · exact absurd h5 (by omega)
      refine r_iload_n d_M_runValue_16 rfl ?_
      refine r_aload_n d_M_runValue_17 rfl rfl ?_
      refine r_iload_n d_M_runValue_18 rfl ?_
      refine r_iconst d_M_runValue_19 ?_
      refine r_iconst d_M_runValue_20 ?_
      refine r_iload d_M_runValue_21 rfl ?_
      refine r_imul d_M_runValue_23 ?_
      refine r_iadd d_M_runValue_24 ?_
      refine r_cV2 d_M_runValue_25 lk_M_106 (c_M_payB G l ad s k (1 + 2 * r) hx (by omega)) 0 rfl rfl (Nat.le_of_ble_eq_true rfl) (rok rfl rfl) ⟨(Nat.le_of_ble_eq_true rfl), (Nat.le_of_ble_eq_true rfl)⟩ (fun r ws2 hq => ?_)
      obtain ⟨rfl, rfl⟩ := hq
      show WP _ _ _ _ _ _ (_ :: _)
      refine r_iadd d_M_runValue_28 ?_
      refine r_istore_n d_M_runValue_29 (Nat.le_of_ble_eq_true rfl) rfl ?_
      show WP _ _ _ _ _ [_, _, _, _, _] _
      refine r_iload_n d_M_runValue_30 rfl ?_
      refine r_iload_n d_M_runValue_31 rfl ?_
      refine r_icmp_ge 47 d_M_runValue_32 (by decide) hi (by unfold i32; omega) (fun h6 => ?_) (fun h6 => ?_)
      · rw [if_neg (by omega)] at hE
        refine r_iinc d_M_runValue_47 rfl (Nat.le_of_ble_eq_true rfl) rfl ?_
        show WP _ _ _ _ _ [_, _, _, _, _] _
        refine r_goto 5 d_M_runValue_50 (by decide) ?_
        exact ih (r + 1) (up + pv s k (1 + 2 * r)) (by omega) (by omega) (by omega) (by omega) hE
      · rw [if_pos (by omega)] at hE
        refine r_aload_n d_M_runValue_35 rfl rfl ?_
        refine r_iload_n d_M_runValue_36 rfl ?_
        refine r_iconst d_M_runValue_37 ?_
        refine r_iconst d_M_runValue_38 ?_
        refine r_iload d_M_runValue_39 rfl ?_
        refine r_imul d_M_runValue_41 ?_
        refine r_iadd d_M_runValue_42 ?_
        refine r_cV2 d_M_runValue_43 lk_M_106 (c_M_payB G l ad s k (2 + 2 * r) hx (by omega)) 0 rfl rfl (Nat.le_of_ble_eq_true rfl) (rok rfl rfl) ⟨(Nat.le_of_ble_eq_true rfl), (Nat.le_of_ble_eq_true rfl)⟩ (fun r ws2 hq => ?_)
        obtain ⟨rfl, rfl⟩ := hq
        show WP _ _ _ _ _ _ (_ :: _)
        refine r_iret d_M_runValue_46 rfl (Nat.le_of_ble_eq_true rfl) (Nat.le_of_ble_eq_true rfl) ?_
        rw [← hQ]; exact ⟨by rw [← hE], rfl⟩
  refine r_iconst d_M_runValue_0 ?_
  refine r_istore_n d_M_runValue_1 (Nat.le_of_ble_eq_true rfl) rfl ?_
  show WP _ _ _ _ _ [_, _, _, _, _] _
  refine r_iconst d_M_runValue_2 ?_
  refine r_istore d_M_runValue_3 (Nat.le_of_ble_eq_true rfl) rfl ?_
  show WP _ _ _ _ _ [_, _, _, _, _] _
  exact loop (pv s k 0).toNat 0 0 (by omega) (by omega) (by omega) (by omega) rfl
theorem c_M_durationOf (s : mS) (t i : Int) (hb : byOk s) (ht : 0 ≤ t ∧ t ≤ 1) (hi : i32 i) (hk : tbl s (tb s t 0) 2) : Ct G l q_M_durationOf 2 0 0 [.ref (ad 0), vI t, vI i] (mW G ad s) (fun r w => r = some (vI (duO s t i)) ∧ w = mW G ad s) := by
  refine Ct.intro [some (.ref (ad 0)), some (vI t), some (vI i)] (by decide) (Nat.le_of_ble_eq_true rfl) rfl (fun sz => ?_)
  generalize hQ : (fun r w => r = some (vI (duO s t i)) ∧ w = mW G ad s) = Q
  refine r_aload_n d_M_durationOf_0 rfl rfl ?_
  refine r_aload_n d_M_durationOf_1 rfl rfl ?_
  refine r_get d_M_durationOf_2 fl_M_40_7 0 rfl rfl ?_
  refine r_bipush d_M_durationOf_5 (by decide) ?_
  refine r_iload_n d_M_durationOf_7 rfl ?_
  refine r_imul d_M_durationOf_8 ?_
  refine r_iconst d_M_durationOf_9 ?_
  refine r_iadd d_M_durationOf_10 ?_
  refine r_iald d_M_durationOf_11 11 rfl (by omega) ?_
  refine r_iload_n d_M_durationOf_12 rfl ?_
  refine r_cV2 d_M_durationOf_13 lk_M_143 (c_M_runValue G l ad s (tb s t 0) i hb hi hk) 0 rfl rfl (Nat.le_of_ble_eq_true rfl) (rok rfl rfl) ⟨(Nat.le_of_ble_eq_true rfl), (Nat.le_of_ble_eq_true rfl)⟩ (fun r ws2 hq => ?_)
  obtain ⟨rfl, rfl⟩ := hq
  show WP _ _ _ _ _ _ (_ :: _)
  refine r_iret d_M_durationOf_16 rfl (Nat.le_of_ble_eq_true rfl) (Nat.le_of_ble_eq_true rfl) ?_
  rw [← hQ]; exact ⟨rfl, rfl⟩
theorem c_M_shiftOf (s : mS) (t i : Int) (hb : byOk s) (ht : 0 ≤ t ∧ t ≤ 1) (hi : i32 i) (h1 : i32 (tb s t 1)) (hk : 0 ≤ tb s t 1 → tbl s (tb s t 1) 2) : Ct G l q_M_shiftOf 2 0 0 [.ref (ad 0), vI t, vI i] (mW G ad s) (fun r w => r = some (vI (shO s t i)) ∧ w = mW G ad s) := by
  refine Ct.intro [some (.ref (ad 0)), some (vI t), some (vI i), none, none] (by decide) (Nat.le_of_ble_eq_true rfl) rfl (fun sz => ?_)
  generalize hQ : (fun r w => r = some (vI (shO s t i)) ∧ w = mW G ad s) = Q
  refine r_aload_n d_M_shiftOf_0 rfl rfl ?_
  refine r_get d_M_shiftOf_1 fl_M_40_7 0 rfl rfl ?_
  refine r_bipush d_M_shiftOf_4 (by decide) ?_
  refine r_iload_n d_M_shiftOf_6 rfl ?_
  refine r_imul d_M_shiftOf_7 ?_
  refine r_iconst d_M_shiftOf_8 ?_
  refine r_iadd d_M_shiftOf_9 ?_
  refine r_iald d_M_shiftOf_10 11 rfl (by omega) ?_
  refine r_istore_n d_M_shiftOf_11 (Nat.le_of_ble_eq_true rfl) rfl ?_
  show WP _ _ _ _ _ [_, _, _, _, _] _
  refine r_iload_n d_M_shiftOf_12 rfl ?_
  have j26 : ∀ v, v = (if tb s t 1 < 0 then 0 else rvK s (tb s t 1) i) → WP (mth G l q_M_shiftOf 2 0 0 (mW G ad s) sz Q) 0 0 (mW G ad s) 26 [some (.ref (ad 0)), some (vI t), some (vI i), some (vI (tb s t 1)), none] [vI v] := by
    intro v hv
    have hvb : 0 ≤ v ∧ v < 256 := by
      rw [hv]
      split
      · omega
      · exact rv_b (fun r => pv_b hb _ _) _ _ _ _
    have hsh : shO s t i = if v < 128 then v else v - 256 := by
      unfold shO
      by_cases hn : tb s t 1 < 0
      · rw [if_pos hn] at hv ⊢; subst hv; rfl
      · rw [if_neg hn] at hv ⊢; rw [hv]
    refine r_istore d_M_shiftOf_26 (Nat.le_of_ble_eq_true rfl) rfl ?_
    show WP _ _ _ _ _ [_, _, _, _, _] _
    refine r_iload d_M_shiftOf_28 rfl ?_
    refine r_sipush d_M_shiftOf_30 (by decide) ?_
    refine r_icmp_ge 41 d_M_shiftOf_33 (by decide) (by unfold i32; omega) (by unfold i32; omega) (fun h2 => ?_) (fun h2 => ?_)
    · refine r_iload d_M_shiftOf_41 rfl ?_
      refine r_sipush d_M_shiftOf_43 (by decide) ?_
      refine r_isub d_M_shiftOf_46 ?_
      refine r_iret d_M_shiftOf_47 rfl (Nat.le_of_ble_eq_true rfl) (Nat.le_of_ble_eq_true rfl) ?_
      rw [← hQ]; exact ⟨by rw [hsh, if_neg (by omega)], rfl⟩
    · refine r_iload d_M_shiftOf_36 rfl ?_
      refine r_goto 47 d_M_shiftOf_38 (by decide) ?_
      refine r_iret d_M_shiftOf_47 rfl (Nat.le_of_ble_eq_true rfl) (Nat.le_of_ble_eq_true rfl) ?_
      rw [← hQ]; exact ⟨by rw [hsh, if_pos (by omega)], rfl⟩
  refine r_if_ge 20 d_M_shiftOf_13 (by decide) h1 (fun h2 => ?_) (fun h2 => ?_)
  · have h2 : 0 ≤ tb s t 1 := h2
    refine r_aload_n d_M_shiftOf_20 rfl rfl ?_
    refine r_iload_n d_M_shiftOf_21 rfl ?_
    refine r_iload_n d_M_shiftOf_22 rfl ?_
    refine r_cV2 d_M_shiftOf_23 lk_M_143 (c_M_runValue G l ad s (tb s t 1) i hb hi (hk h2)) 0 rfl rfl (Nat.le_of_ble_eq_true rfl) (rok rfl rfl) ⟨(Nat.le_of_ble_eq_true rfl), (Nat.le_of_ble_eq_true rfl)⟩ (fun r ws2 hq => ?_)
    obtain ⟨rfl, rfl⟩ := hq
    show WP _ _ _ _ _ _ (_ :: _)
    exact j26 _ (by rw [if_neg (by omega)])
  · have h2 : ¬ 0 ≤ tb s t 1 := h2
    refine r_iconst d_M_shiftOf_16 ?_
    refine r_goto 26 d_M_shiftOf_17 (by decide) ?_
    exact j26 _ (by rw [if_pos (by omega)])
theorem c_M_decodeTime (s : mS) (t k : Int) (hb : byOk s) (ht : 0 ≤ t ∧ t ≤ 1) (hk0 : 0 ≤ k ∧ k < 100000) (hk : tbl s (tb s t 0) 2) : Ct G l q_M_decodeTime 3 0 0 [.ref (ad 0), vI t, vI k] (mW G ad s) (fun r w => r = some (vI (sumI (duO s t) k.toNat)) ∧ w = mW G ad s) := by
  refine Ct.intro [some (.ref (ad 0)), some (vI t), some (vI k), none, none] (by decide) (Nat.le_of_ble_eq_true rfl) rfl (fun sz => ?_)
  generalize hQ : (fun r w => r = some (vI (sumI (duO s t) k.toNat)) ∧ w = mW G ad s) = Q
  have loop : ∀ (m i : Nat), (i : Int) + m = k → WP (mth G l q_M_decodeTime 3 0 0 (mW G ad s) sz Q) 0 0 (mW G ad s) 5 [some (.ref (ad 0)), some (vI t), some (vI k), some (vI (sumI (duO s t) i)), some (vI i)] [] := by
    intro m
    induction m with
    | zero =>
      intro i hi
      refine r_iload d_M_decodeTime_5 rfl ?_
      refine r_iload_n d_M_decodeTime_7 rfl ?_
      refine r_icmp_ge 27 d_M_decodeTime_8 (by decide) (by unfold i32; omega) (by unfold i32; omega) (fun h1 => ?_) (fun h1 => ?_)
      · refine r_iload_n d_M_decodeTime_27 rfl ?_
        refine r_iret d_M_decodeTime_28 rfl (Nat.le_of_ble_eq_true rfl) (Nat.le_of_ble_eq_true rfl) ?_
        rw [← hQ]; exact ⟨by rw [show k.toNat = i by omega], rfl⟩
      · exact absurd h1 (by omega)
    | succ m ih =>
      intro i hi
      refine r_iload d_M_decodeTime_5 rfl ?_
      refine r_iload_n d_M_decodeTime_7 rfl ?_
      refine r_icmp_ge 27 d_M_decodeTime_8 (by decide) (by unfold i32; omega) (by unfold i32; omega) (fun h1 => ?_) (fun h1 => ?_)
      · exact absurd h1 (by omega)
      refine r_iload_n d_M_decodeTime_11 rfl ?_
      refine r_aload_n d_M_decodeTime_12 rfl rfl ?_
      refine r_iload_n d_M_decodeTime_13 rfl ?_
      refine r_iload d_M_decodeTime_14 rfl ?_
      refine r_cV2 d_M_decodeTime_16 lk_M_146 (c_M_durationOf G l ad s t i hb ht (by unfold i32; omega) hk) 0 rfl rfl (Nat.le_of_ble_eq_true rfl) (rok rfl rfl) ⟨(Nat.le_of_ble_eq_true rfl), (Nat.le_of_ble_eq_true rfl)⟩ (fun r ws2 hq => ?_)
      obtain ⟨rfl, rfl⟩ := hq
      show WP _ _ _ _ _ _ (_ :: _)
      refine r_iadd d_M_decodeTime_19 ?_
      refine r_istore_n d_M_decodeTime_20 (Nat.le_of_ble_eq_true rfl) rfl ?_
      show WP _ _ _ _ _ [_, _, _, _, _] _
      refine r_iinc d_M_decodeTime_21 rfl (Nat.le_of_ble_eq_true rfl) rfl ?_
      show WP _ _ _ _ _ [_, _, _, _, _] _
      refine r_goto 5 d_M_decodeTime_24 (by decide) ?_
      exact ih (i + 1) (by omega)
  refine r_iconst d_M_decodeTime_0 ?_
  refine r_istore_n d_M_decodeTime_1 (Nat.le_of_ble_eq_true rfl) rfl ?_
  show WP _ _ _ _ _ [_, _, _, _, _] _
  refine r_iconst d_M_decodeTime_2 ?_
  refine r_istore d_M_decodeTime_3 (Nat.le_of_ble_eq_true rfl) rfl ?_
  show WP _ _ _ _ _ [_, _, _, _, _] _
  exact loop k.toNat 0 (by omega)
end MODEL5
