abbrev q_M_tracks : Mi := (⟨"MovieBoxesModel", "tracks", "()I"⟩, prog_12_method_29_code, 2, (some .int))
theorem d_M_tracks_0 : decode prog_12_method_29_code 0 = .ok (.aload_n 0, 1) := by decide +kernel
theorem d_M_tracks_1 : decode prog_12_method_29_code 1 = .ok (.invokevirtual 137, 3) := by decide +kernel
set_option maxRecDepth 20000 in
theorem w_888 : Cond.methodLink "MovieBoxesModel" 137 ⟨"MovieBoxesModel", "check", "()I"⟩ ∈ gt := gt_of (in_t4 (List.mem_of_getElem? (i := 168) rfl)) rfl
set_option maxRecDepth 20000 in
theorem w_798 : Cond.instanceMethod ⟨"MovieBoxesModel", "check", "()I"⟩ ∈ gt := gt_of (in_t4 (List.mem_of_getElem? (i := 78) rfl)) rfl
set_option maxRecDepth 20000 in
theorem w_799 : Cond.selects "MovieBoxesModel" ⟨"MovieBoxesModel", "check", "()I"⟩ ⟨"MovieBoxesModel", "check", "()I"⟩ ∈ gt := gt_of (in_t4 (List.mem_of_getElem? (i := 79) rfl)) rfl
set_option maxRecDepth 20000 in
theorem w_800 : Cond.code ⟨"MovieBoxesModel", "check", "()I"⟩ prog_12_method_13_code 7 (some .int) ∈ gt := gt_of (in_t4 (List.mem_of_getElem? (i := 80) rfl)) rfl
theorem lk_M_137 : LkV "MovieBoxesModel" 137 q_M_check 0 := ⟨(List.forall_mem_cons.mpr ⟨w_888, (List.forall_mem_cons.mpr ⟨w_798, (List.forall_mem_cons.mpr ⟨w_799, (List.forall_mem_cons.mpr ⟨w_8, (fun _ h => absurd h List.not_mem_nil)⟩)⟩)⟩)⟩), w_800, by decide +kernel⟩
theorem d_M_tracks_4 : decode prog_12_method_29_code 4 = .ok (.istore_n 1, 1) := by decide +kernel
theorem d_M_tracks_5 : decode prog_12_method_29_code 5 = .ok (.iload_n 1, 1) := by decide +kernel
theorem d_M_tracks_6 : decode prog_12_method_29_code 6 = .ok (.ifCond .le 9, 3) := by decide +kernel
theorem d_M_tracks_15 : decode prog_12_method_29_code 15 = .ok (.aload_n 0, 1) := by decide +kernel
theorem d_M_tracks_16 : decode prog_12_method_29_code 16 = .ok (.getfield 83, 3) := by decide +kernel
theorem d_M_tracks_19 : decode prog_12_method_29_code 19 = .ok (.ireturn, 1) := by decide +kernel
theorem d_M_tracks_9 : decode prog_12_method_29_code 9 = .ok (.sipush (-1000), 3) := by decide +kernel
theorem d_M_tracks_12 : decode prog_12_method_29_code 12 = .ok (.goto 7, 3) := by decide +kernel
abbrev q_M_isTrack : Mi := (⟨"MovieBoxesModel", "isTrack", "(I)Z"⟩, prog_12_method_30_code, 3, (some .boolean))
theorem d_M_isTrack_0 : decode prog_12_method_30_code 0 = .ok (.aload_n 0, 1) := by decide +kernel
theorem d_M_isTrack_1 : decode prog_12_method_30_code 1 = .ok (.invokevirtual 137, 3) := by decide +kernel
theorem d_M_isTrack_25 : decode prog_12_method_30_code 25 = .ok (.iconst 0, 1) := by decide +kernel
theorem d_M_isTrack_26 : decode prog_12_method_30_code 26 = .ok (.ireturn, 1) := by decide +kernel
theorem d_M_isTrack_4 : decode prog_12_method_30_code 4 = .ok (.istore_n 2, 1) := by decide +kernel
theorem d_M_isTrack_5 : decode prog_12_method_30_code 5 = .ok (.iload_n 2, 1) := by decide +kernel
theorem d_M_isTrack_6 : decode prog_12_method_30_code 6 = .ok (.ifCond .ne 19, 3) := by decide +kernel
theorem d_M_isTrack_9 : decode prog_12_method_30_code 9 = .ok (.iload_n 1, 1) := by decide +kernel
theorem d_M_isTrack_10 : decode prog_12_method_30_code 10 = .ok (.ifCond .lt 15, 3) := by decide +kernel
theorem d_M_isTrack_13 : decode prog_12_method_30_code 13 = .ok (.iload_n 1, 1) := by decide +kernel
theorem d_M_isTrack_14 : decode prog_12_method_30_code 14 = .ok (.aload_n 0, 1) := by decide +kernel
theorem d_M_isTrack_15 : decode prog_12_method_30_code 15 = .ok (.getfield 83, 3) := by decide +kernel
theorem d_M_isTrack_18 : decode prog_12_method_30_code 18 = .ok (.if_icmp .ge 7, 3) := by decide +kernel
theorem d_M_isTrack_21 : decode prog_12_method_30_code 21 = .ok (.iconst 1, 1) := by decide +kernel
theorem d_M_isTrack_22 : decode prog_12_method_30_code 22 = .ok (.goto 4, 3) := by decide +kernel
abbrev q_M_samples : Mi := (⟨"MovieBoxesModel", "samples", "(I)I"⟩, prog_12_method_31_code, 2, (some .int))
theorem d_M_samples_0 : decode prog_12_method_31_code 0 = .ok (.aload_n 0, 1) := by decide +kernel
theorem d_M_samples_1 : decode prog_12_method_31_code 1 = .ok (.iload_n 1, 1) := by decide +kernel
theorem d_M_samples_2 : decode prog_12_method_31_code 2 = .ok (.invokevirtual 140, 3) := by decide +kernel
set_option maxRecDepth 20000 in
theorem w_893 : Cond.methodLink "MovieBoxesModel" 140 ⟨"MovieBoxesModel", "isTrack", "(I)Z"⟩ ∈ gt := gt_of (in_t4 (List.mem_of_getElem? (i := 173) rfl)) rfl
set_option maxRecDepth 20000 in
theorem w_895 : Cond.instanceMethod ⟨"MovieBoxesModel", "isTrack", "(I)Z"⟩ ∈ gt := gt_of (in_t4 (List.mem_of_getElem? (i := 175) rfl)) rfl
set_option maxRecDepth 20000 in
theorem ws_M_isTrack : Cond.selects "MovieBoxesModel" ⟨"MovieBoxesModel", "isTrack", "(I)Z"⟩ ⟨"MovieBoxesModel", "isTrack", "(I)Z"⟩ ∈ gt := gt_of (in_p2 (List.mem_of_getElem? (i := 15) rfl)) rfl
set_option maxRecDepth 20000 in
theorem w_896 : Cond.code ⟨"MovieBoxesModel", "isTrack", "(I)Z"⟩ prog_12_method_30_code 3 (some .boolean) ∈ gt := gt_of (in_t4 (List.mem_of_getElem? (i := 176) rfl)) rfl
theorem lk_M_140 : LkV "MovieBoxesModel" 140 q_M_isTrack 1 := ⟨(List.forall_mem_cons.mpr ⟨w_893, (List.forall_mem_cons.mpr ⟨w_895, (List.forall_mem_cons.mpr ⟨ws_M_isTrack, (List.forall_mem_cons.mpr ⟨w_8, (fun _ h => absurd h List.not_mem_nil)⟩)⟩)⟩)⟩), w_896, by decide +kernel⟩
theorem d_M_samples_5 : decode prog_12_method_31_code 5 = .ok (.ifCond .eq 11, 3) := by decide +kernel
theorem d_M_samples_8 : decode prog_12_method_31_code 8 = .ok (.aload_n 0, 1) := by decide +kernel
theorem d_M_samples_9 : decode prog_12_method_31_code 9 = .ok (.iload_n 1, 1) := by decide +kernel
theorem d_M_samples_10 : decode prog_12_method_31_code 10 = .ok (.invokevirtual 110, 3) := by decide +kernel
theorem d_M_samples_13 : decode prog_12_method_31_code 13 = .ok (.goto 6, 3) := by decide +kernel
theorem d_M_samples_19 : decode prog_12_method_31_code 19 = .ok (.ireturn, 1) := by decide +kernel
theorem d_M_samples_16 : decode prog_12_method_31_code 16 = .ok (.sipush (-1000), 3) := by decide +kernel
abbrev q_M_sample : Mi := (⟨"MovieBoxesModel", "sample", "(III)I"⟩, prog_12_method_38_code, 4, (some .int))
theorem d_M_sample_0 : decode prog_12_method_38_code 0 = .ok (.aload_n 0, 1) := by decide +kernel
theorem d_M_sample_1 : decode prog_12_method_38_code 1 = .ok (.iload_n 1, 1) := by decide +kernel
theorem d_M_sample_2 : decode prog_12_method_38_code 2 = .ok (.invokevirtual 140, 3) := by decide +kernel
theorem d_M_sample_21 : decode prog_12_method_38_code 21 = .ok (.sipush (-1000), 3) := by decide +kernel
theorem d_M_sample_24 : decode prog_12_method_38_code 24 = .ok (.ireturn, 1) := by decide +kernel
theorem d_M_sample_5 : decode prog_12_method_38_code 5 = .ok (.ifCond .eq 16, 3) := by decide +kernel
theorem d_M_sample_8 : decode prog_12_method_38_code 8 = .ok (.iload_n 2, 1) := by decide +kernel
theorem d_M_sample_9 : decode prog_12_method_38_code 9 = .ok (.ifCond .lt 12, 3) := by decide +kernel
theorem d_M_sample_12 : decode prog_12_method_38_code 12 = .ok (.iload_n 2, 1) := by decide +kernel
theorem d_M_sample_13 : decode prog_12_method_38_code 13 = .ok (.aload_n 0, 1) := by decide +kernel
theorem d_M_sample_14 : decode prog_12_method_38_code 14 = .ok (.iload_n 1, 1) := by decide +kernel
theorem d_M_sample_15 : decode prog_12_method_38_code 15 = .ok (.invokevirtual 110, 3) := by decide +kernel
theorem d_M_sample_18 : decode prog_12_method_38_code 18 = .ok (.if_icmp .lt 7, 3) := by decide +kernel
theorem d_M_sample_25 : decode prog_12_method_38_code 25 = .ok (.iload_n 3, 1) := by decide +kernel
theorem d_M_sample_26 : decode prog_12_method_38_code 26 = .ok (.tableswitch 81 0 5 #[38, 46, 53, 60, 74, 38], 38) := by decide +kernel
theorem d_M_sample_64 : decode prog_12_method_38_code 64 = .ok (.aload_n 0, 1) := by decide +kernel
theorem d_M_sample_65 : decode prog_12_method_38_code 65 = .ok (.iload_n 1, 1) := by decide +kernel
theorem d_M_sample_66 : decode prog_12_method_38_code 66 = .ok (.iload_n 2, 1) := by decide +kernel
theorem d_M_sample_67 : decode prog_12_method_38_code 67 = .ok (.iload_n 3, 1) := by decide +kernel
theorem d_M_sample_68 : decode prog_12_method_38_code 68 = .ok (.invokevirtual 149, 3) := by decide +kernel
set_option maxRecDepth 20000 in
theorem w_901 : Cond.methodLink "MovieBoxesModel" 149 ⟨"MovieBoxesModel", "inChunk", "(III)I"⟩ ∈ gt := gt_of (in_t4 (List.mem_of_getElem? (i := 181) rfl)) rfl
set_option maxRecDepth 20000 in
theorem w_903 : Cond.instanceMethod ⟨"MovieBoxesModel", "inChunk", "(III)I"⟩ ∈ gt := gt_of (in_t4 (List.mem_of_getElem? (i := 183) rfl)) rfl
set_option maxRecDepth 20000 in
theorem ws_M_inChunk : Cond.selects "MovieBoxesModel" ⟨"MovieBoxesModel", "inChunk", "(III)I"⟩ ⟨"MovieBoxesModel", "inChunk", "(III)I"⟩ ∈ gt := gt_of (in_p3 (List.mem_of_getElem? (i := 0) rfl)) rfl
set_option maxRecDepth 20000 in
theorem w_904 : Cond.code ⟨"MovieBoxesModel", "inChunk", "(III)I"⟩ prog_12_method_36_code 9 (some .int) ∈ gt := gt_of (in_t4 (List.mem_of_getElem? (i := 184) rfl)) rfl
theorem lk_M_149 : LkV "MovieBoxesModel" 149 q_M_inChunk 3 := ⟨(List.forall_mem_cons.mpr ⟨w_901, (List.forall_mem_cons.mpr ⟨w_903, (List.forall_mem_cons.mpr ⟨ws_M_inChunk, (List.forall_mem_cons.mpr ⟨w_8, (fun _ h => absurd h List.not_mem_nil)⟩)⟩)⟩)⟩), w_904, by decide +kernel⟩
theorem d_M_sample_71 : decode prog_12_method_38_code 71 = .ok (.ireturn, 1) := by decide +kernel
theorem d_M_sample_72 : decode prog_12_method_38_code 72 = .ok (.aload_n 0, 1) := by decide +kernel
theorem d_M_sample_73 : decode prog_12_method_38_code 73 = .ok (.iload_n 1, 1) := by decide +kernel
theorem d_M_sample_74 : decode prog_12_method_38_code 74 = .ok (.iload_n 2, 1) := by decide +kernel
theorem d_M_sample_75 : decode prog_12_method_38_code 75 = .ok (.invokevirtual 128, 3) := by decide +kernel
theorem d_M_sample_78 : decode prog_12_method_38_code 78 = .ok (.ireturn, 1) := by decide +kernel
theorem d_M_sample_79 : decode prog_12_method_38_code 79 = .ok (.aload_n 0, 1) := by decide +kernel
theorem d_M_sample_80 : decode prog_12_method_38_code 80 = .ok (.iload_n 1, 1) := by decide +kernel
theorem d_M_sample_81 : decode prog_12_method_38_code 81 = .ok (.iload_n 2, 1) := by decide +kernel
theorem d_M_sample_82 : decode prog_12_method_38_code 82 = .ok (.invokevirtual 153, 3) := by decide +kernel
set_option maxRecDepth 20000 in
theorem w_905 : Cond.methodLink "MovieBoxesModel" 153 ⟨"MovieBoxesModel", "decodeTime", "(II)I"⟩ ∈ gt := gt_of (in_t4 (List.mem_of_getElem? (i := 185) rfl)) rfl
set_option maxRecDepth 20000 in
theorem w_907 : Cond.instanceMethod ⟨"MovieBoxesModel", "decodeTime", "(II)I"⟩ ∈ gt := gt_of (in_t4 (List.mem_of_getElem? (i := 187) rfl)) rfl
set_option maxRecDepth 20000 in
theorem ws_M_decodeTime : Cond.selects "MovieBoxesModel" ⟨"MovieBoxesModel", "decodeTime", "(II)I"⟩ ⟨"MovieBoxesModel", "decodeTime", "(II)I"⟩ ∈ gt := gt_of (in_p3 (List.mem_of_getElem? (i := 1) rfl)) rfl
set_option maxRecDepth 20000 in
theorem w_908 : Cond.code ⟨"MovieBoxesModel", "decodeTime", "(II)I"⟩ prog_12_method_35_code 5 (some .int) ∈ gt := gt_of (in_t4 (List.mem_of_getElem? (i := 188) rfl)) rfl
theorem lk_M_153 : LkV "MovieBoxesModel" 153 q_M_decodeTime 2 := ⟨(List.forall_mem_cons.mpr ⟨w_905, (List.forall_mem_cons.mpr ⟨w_907, (List.forall_mem_cons.mpr ⟨ws_M_decodeTime, (List.forall_mem_cons.mpr ⟨w_8, (fun _ h => absurd h List.not_mem_nil)⟩)⟩)⟩)⟩), w_908, by decide +kernel⟩
theorem d_M_sample_85 : decode prog_12_method_38_code 85 = .ok (.ireturn, 1) := by decide +kernel
theorem d_M_sample_86 : decode prog_12_method_38_code 86 = .ok (.aload_n 0, 1) := by decide +kernel
theorem d_M_sample_87 : decode prog_12_method_38_code 87 = .ok (.iload_n 1, 1) := by decide +kernel
theorem d_M_sample_88 : decode prog_12_method_38_code 88 = .ok (.iload_n 2, 1) := by decide +kernel
theorem d_M_sample_89 : decode prog_12_method_38_code 89 = .ok (.invokevirtual 153, 3) := by decide +kernel
theorem d_M_sample_92 : decode prog_12_method_38_code 92 = .ok (.aload_n 0, 1) := by decide +kernel
theorem d_M_sample_93 : decode prog_12_method_38_code 93 = .ok (.iload_n 1, 1) := by decide +kernel
theorem d_M_sample_94 : decode prog_12_method_38_code 94 = .ok (.iload_n 2, 1) := by decide +kernel
theorem d_M_sample_95 : decode prog_12_method_38_code 95 = .ok (.invokevirtual 156, 3) := by decide +kernel
set_option maxRecDepth 20000 in
theorem w_917 : Cond.methodLink "MovieBoxesModel" 156 ⟨"MovieBoxesModel", "shiftOf", "(II)I"⟩ ∈ gt := gt_of (in_t4 (List.mem_of_getElem? (i := 197) rfl)) rfl
set_option maxRecDepth 20000 in
theorem w_919 : Cond.instanceMethod ⟨"MovieBoxesModel", "shiftOf", "(II)I"⟩ ∈ gt := gt_of (in_t4 (List.mem_of_getElem? (i := 199) rfl)) rfl
set_option maxRecDepth 20000 in
theorem ws_M_shiftOf : Cond.selects "MovieBoxesModel" ⟨"MovieBoxesModel", "shiftOf", "(II)I"⟩ ⟨"MovieBoxesModel", "shiftOf", "(II)I"⟩ ∈ gt := gt_of (in_p3 (List.mem_of_getElem? (i := 4) rfl)) rfl
set_option maxRecDepth 20000 in
theorem w_920 : Cond.code ⟨"MovieBoxesModel", "shiftOf", "(II)I"⟩ prog_12_method_34_code 5 (some .int) ∈ gt := gt_of (in_t4 (List.mem_of_getElem? (i := 200) rfl)) rfl
theorem lk_M_156 : LkV "MovieBoxesModel" 156 q_M_shiftOf 2 := ⟨(List.forall_mem_cons.mpr ⟨w_917, (List.forall_mem_cons.mpr ⟨w_919, (List.forall_mem_cons.mpr ⟨ws_M_shiftOf, (List.forall_mem_cons.mpr ⟨w_8, (fun _ h => absurd h List.not_mem_nil)⟩)⟩)⟩)⟩), w_920, by decide +kernel⟩
theorem d_M_sample_98 : decode prog_12_method_38_code 98 = .ok (.iadd, 1) := by decide +kernel
theorem d_M_sample_99 : decode prog_12_method_38_code 99 = .ok (.ireturn, 1) := by decide +kernel
theorem d_M_sample_100 : decode prog_12_method_38_code 100 = .ok (.aload_n 0, 1) := by decide +kernel
theorem d_M_sample_101 : decode prog_12_method_38_code 101 = .ok (.iload_n 1, 1) := by decide +kernel
theorem d_M_sample_102 : decode prog_12_method_38_code 102 = .ok (.iload_n 2, 1) := by decide +kernel
theorem d_M_sample_103 : decode prog_12_method_38_code 103 = .ok (.invokevirtual 159, 3) := by decide +kernel
set_option maxRecDepth 20000 in
theorem w_921 : Cond.methodLink "MovieBoxesModel" 159 ⟨"MovieBoxesModel", "isSync", "(II)I"⟩ ∈ gt := gt_of (in_t4 (List.mem_of_getElem? (i := 201) rfl)) rfl
set_option maxRecDepth 20000 in
theorem w_923 : Cond.instanceMethod ⟨"MovieBoxesModel", "isSync", "(II)I"⟩ ∈ gt := gt_of (in_t4 (List.mem_of_getElem? (i := 203) rfl)) rfl
set_option maxRecDepth 20000 in
theorem ws_M_isSync : Cond.selects "MovieBoxesModel" ⟨"MovieBoxesModel", "isSync", "(II)I"⟩ ⟨"MovieBoxesModel", "isSync", "(II)I"⟩ ∈ gt := gt_of (in_p3 (List.mem_of_getElem? (i := 5) rfl)) rfl
set_option maxRecDepth 20000 in
theorem w_924 : Cond.code ⟨"MovieBoxesModel", "isSync", "(II)I"⟩ prog_12_method_37_code 7 (some .int) ∈ gt := gt_of (in_t4 (List.mem_of_getElem? (i := 204) rfl)) rfl
theorem lk_M_159 : LkV "MovieBoxesModel" 159 q_M_isSync 2 := ⟨(List.forall_mem_cons.mpr ⟨w_921, (List.forall_mem_cons.mpr ⟨w_923, (List.forall_mem_cons.mpr ⟨ws_M_isSync, (List.forall_mem_cons.mpr ⟨w_8, (fun _ h => absurd h List.not_mem_nil)⟩)⟩)⟩)⟩), w_924, by decide +kernel⟩
theorem d_M_sample_106 : decode prog_12_method_38_code 106 = .ok (.ireturn, 1) := by decide +kernel
theorem d_M_sample_107 : decode prog_12_method_38_code 107 = .ok (.sipush (-1000), 3) := by decide +kernel
theorem d_M_sample_110 : decode prog_12_method_38_code 110 = .ok (.ireturn, 1) := by decide +kernel
abbrev q_M_shown : Mi := (⟨"MovieBoxesModel", "shown", "(II)I"⟩, prog_12_method_40_code, 8, (some .int))
theorem d_M_shown_0 : decode prog_12_method_40_code 0 = .ok (.iload_n 2, 1) := by decide +kernel
theorem d_M_shown_1 : decode prog_12_method_40_code 1 = .ok (.ifCond .lt 11, 3) := by decide +kernel
theorem d_M_shown_12 : decode prog_12_method_40_code 12 = .ok (.sipush (-1000), 3) := by decide +kernel
theorem d_M_shown_15 : decode prog_12_method_40_code 15 = .ok (.ireturn, 1) := by decide +kernel
theorem d_M_shown_4 : decode prog_12_method_40_code 4 = .ok (.aload_n 0, 1) := by decide +kernel
theorem d_M_shown_5 : decode prog_12_method_40_code 5 = .ok (.iload_n 1, 1) := by decide +kernel
theorem d_M_shown_6 : decode prog_12_method_40_code 6 = .ok (.invokevirtual 140, 3) := by decide +kernel
theorem d_M_shown_9 : decode prog_12_method_40_code 9 = .ok (.ifCond .ne 7, 3) := by decide +kernel
theorem d_M_shown_16 : decode prog_12_method_40_code 16 = .ok (.aload_n 0, 1) := by decide +kernel
theorem d_M_shown_17 : decode prog_12_method_40_code 17 = .ok (.iload_n 1, 1) := by decide +kernel
theorem d_M_shown_18 : decode prog_12_method_40_code 18 = .ok (.iload_n 2, 1) := by decide +kernel
theorem d_M_shown_19 : decode prog_12_method_40_code 19 = .ok (.invokevirtual 162, 3) := by decide +kernel
set_option maxRecDepth 20000 in
theorem w_929 : Cond.methodLink "MovieBoxesModel" 162 ⟨"MovieBoxesModel", "mediaTime", "(II)I"⟩ ∈ gt := gt_of (in_t4 (List.mem_of_getElem? (i := 209) rfl)) rfl
set_option maxRecDepth 20000 in
theorem w_931 : Cond.instanceMethod ⟨"MovieBoxesModel", "mediaTime", "(II)I"⟩ ∈ gt := gt_of (in_t4 (List.mem_of_getElem? (i := 211) rfl)) rfl
set_option maxRecDepth 20000 in
theorem ws_M_mediaTime : Cond.selects "MovieBoxesModel" ⟨"MovieBoxesModel", "mediaTime", "(II)I"⟩ ⟨"MovieBoxesModel", "mediaTime", "(II)I"⟩ ∈ gt := gt_of (in_p3 (List.mem_of_getElem? (i := 6) rfl)) rfl
set_option maxRecDepth 20000 in
theorem w_932 : Cond.code ⟨"MovieBoxesModel", "mediaTime", "(II)I"⟩ prog_12_method_39_code 8 (some .int) ∈ gt := gt_of (in_t4 (List.mem_of_getElem? (i := 212) rfl)) rfl
theorem lk_M_162 : LkV "MovieBoxesModel" 162 q_M_mediaTime 2 := ⟨(List.forall_mem_cons.mpr ⟨w_929, (List.forall_mem_cons.mpr ⟨w_931, (List.forall_mem_cons.mpr ⟨ws_M_mediaTime, (List.forall_mem_cons.mpr ⟨w_8, (fun _ h => absurd h List.not_mem_nil)⟩)⟩)⟩)⟩), w_932, by decide +kernel⟩
theorem d_M_shown_22 : decode prog_12_method_40_code 22 = .ok (.istore_n 3, 1) := by decide +kernel
theorem d_M_shown_23 : decode prog_12_method_40_code 23 = .ok (.iload_n 3, 1) := by decide +kernel
theorem d_M_shown_24 : decode prog_12_method_40_code 24 = .ok (.sipush (-1000), 3) := by decide +kernel
theorem d_M_shown_27 : decode prog_12_method_40_code 27 = .ok (.if_icmp .ne 7, 3) := by decide +kernel
theorem d_M_shown_40 : decode prog_12_method_40_code 40 = .ok (.iload 5, 2) := by decide +kernel
theorem d_M_shown_42 : decode prog_12_method_40_code 42 = .ok (.aload_n 0, 1) := by decide +kernel
theorem d_M_shown_43 : decode prog_12_method_40_code 43 = .ok (.iload_n 1, 1) := by decide +kernel
theorem d_M_shown_44 : decode prog_12_method_40_code 44 = .ok (.invokevirtual 110, 3) := by decide +kernel
theorem d_M_shown_47 : decode prog_12_method_40_code 47 = .ok (.if_icmp .ge 55, 3) := by decide +kernel
theorem d_M_shown_102 : decode prog_12_method_40_code 102 = .ok (.sipush (-1000), 3) := by decide +kernel
theorem d_M_shown_105 : decode prog_12_method_40_code 105 = .ok (.ireturn, 1) := by decide +kernel
theorem d_M_shown_50 : decode prog_12_method_40_code 50 = .ok (.iload 4, 2) := by decide +kernel
theorem d_M_shown_52 : decode prog_12_method_40_code 52 = .ok (.aload_n 0, 1) := by decide +kernel
theorem d_M_shown_53 : decode prog_12_method_40_code 53 = .ok (.iload_n 1, 1) := by decide +kernel
theorem d_M_shown_54 : decode prog_12_method_40_code 54 = .ok (.iload 5, 2) := by decide +kernel
theorem d_M_shown_56 : decode prog_12_method_40_code 56 = .ok (.invokevirtual 156, 3) := by decide +kernel
theorem d_M_shown_59 : decode prog_12_method_40_code 59 = .ok (.iadd, 1) := by decide +kernel
theorem d_M_shown_60 : decode prog_12_method_40_code 60 = .ok (.istore 6, 2) := by decide +kernel
theorem d_M_shown_62 : decode prog_12_method_40_code 62 = .ok (.aload_n 0, 1) := by decide +kernel
theorem d_M_shown_63 : decode prog_12_method_40_code 63 = .ok (.iload_n 1, 1) := by decide +kernel
theorem d_M_shown_64 : decode prog_12_method_40_code 64 = .ok (.iload 5, 2) := by decide +kernel
theorem d_M_shown_66 : decode prog_12_method_40_code 66 = .ok (.invokevirtual 146, 3) := by decide +kernel
theorem d_M_shown_89 : decode prog_12_method_40_code 89 = .ok (.iload 4, 2) := by decide +kernel
theorem d_M_shown_91 : decode prog_12_method_40_code 91 = .ok (.iload 7, 2) := by decide +kernel
theorem d_M_shown_93 : decode prog_12_method_40_code 93 = .ok (.iadd, 1) := by decide +kernel
theorem d_M_shown_94 : decode prog_12_method_40_code 94 = .ok (.istore 4, 2) := by decide +kernel
theorem d_M_shown_96 : decode prog_12_method_40_code 96 = .ok (.iinc 5 1, 3) := by decide +kernel
theorem d_M_shown_99 : decode prog_12_method_40_code 99 = .ok (.goto (-59), 3) := by decide +kernel
theorem d_M_shown_69 : decode prog_12_method_40_code 69 = .ok (.istore 7, 2) := by decide +kernel
theorem d_M_shown_71 : decode prog_12_method_40_code 71 = .ok (.iload_n 3, 1) := by decide +kernel
theorem d_M_shown_72 : decode prog_12_method_40_code 72 = .ok (.iload 6, 2) := by decide +kernel
theorem d_M_shown_74 : decode prog_12_method_40_code 74 = .ok (.if_icmp .lt 15, 3) := by decide +kernel
theorem d_M_shown_77 : decode prog_12_method_40_code 77 = .ok (.iload_n 3, 1) := by decide +kernel
theorem d_M_shown_78 : decode prog_12_method_40_code 78 = .ok (.iload 6, 2) := by decide +kernel
theorem d_M_shown_80 : decode prog_12_method_40_code 80 = .ok (.iload 7, 2) := by decide +kernel
theorem d_M_shown_82 : decode prog_12_method_40_code 82 = .ok (.iadd, 1) := by decide +kernel
theorem d_M_shown_83 : decode prog_12_method_40_code 83 = .ok (.if_icmp .ge 6, 3) := by decide +kernel
theorem d_M_shown_86 : decode prog_12_method_40_code 86 = .ok (.iload 5, 2) := by decide +kernel
theorem d_M_shown_88 : decode prog_12_method_40_code 88 = .ok (.ireturn, 1) := by decide +kernel
theorem d_M_shown_34 : decode prog_12_method_40_code 34 = .ok (.iconst 0, 1) := by decide +kernel
theorem d_M_shown_35 : decode prog_12_method_40_code 35 = .ok (.istore 4, 2) := by decide +kernel
theorem d_M_shown_37 : decode prog_12_method_40_code 37 = .ok (.iconst 0, 1) := by decide +kernel
theorem d_M_shown_38 : decode prog_12_method_40_code 38 = .ok (.istore 5, 2) := by decide +kernel
theorem d_M_shown_30 : decode prog_12_method_40_code 30 = .ok (.sipush (-1000), 3) := by decide +kernel
theorem d_M_shown_33 : decode prog_12_method_40_code 33 = .ok (.ireturn, 1) := by decide +kernel
/-! ===== the model: the public questions of tracks ===== -/
section MODEL15
variable (G : gG) (l : Launch) (ad : Nat → Nat)
theorem c_M_tracks (s0 : mS) (hm : mI s0) : Ct G l q_M_tracks 5 0 0 [.ref (ad 0)] (mW G ad s0) (fun r w => ∃ f v, ckR s0 f v ∧ r = some (vI (if 0 < f then -1000 else v 0 3)) ∧ w = mW G ad v) := by
  refine Ct.intro [some (.ref (ad 0)), none] (by decide) (Nat.le_of_ble_eq_true rfl) rfl (fun sz => ?_)
  generalize hQ : (fun r w => ∃ f v, ckR s0 f v ∧ r = some (vI (if 0 < f then -1000 else v 0 3)) ∧ w = mW G ad v) = Q
  refine r_aload_n d_M_tracks_0 rfl rfl ?_
  refine r_cV0 d_M_tracks_1 lk_M_137 (c_M_check G l ad s0 hm) 0 rfl rfl (Nat.le_of_ble_eq_true rfl) (rok rfl rfl) ⟨(Nat.le_of_ble_eq_true rfl), (Nat.le_of_ble_eq_true rfl)⟩ (fun r ws2 hq => ?_)
  obtain ⟨f, v, hck, rfl, rfl⟩ := hq
  show WP _ _ _ _ _ _ (_ :: _)
  have hfb := ckR_b hm hck
  refine r_istore_n d_M_tracks_4 (Nat.le_of_ble_eq_true rfl) rfl ?_
  show WP _ _ _ _ _ [_, _] _
  refine r_iload_n d_M_tracks_5 rfl ?_
  refine r_if_le 15 d_M_tracks_6 (by decide) (by unfold i32; omega) (fun g1 => ?_) (fun g1 => ?_)
  · refine r_aload_n d_M_tracks_15 rfl rfl ?_
    refine r_get d_M_tracks_16 fl_M_83_7 0 rfl rfl ?_
    refine r_iret d_M_tracks_19 rfl (Nat.le_of_ble_eq_true rfl) (Nat.le_of_ble_eq_true rfl) ?_
    rw [← hQ]; exact ⟨f, v, hck, by rw [if_neg (by omega)], rfl⟩
  · refine r_sipush d_M_tracks_9 (by decide) ?_
    refine r_goto 19 d_M_tracks_12 (by decide) ?_
    refine r_iret d_M_tracks_19 rfl (Nat.le_of_ble_eq_true rfl) (Nat.le_of_ble_eq_true rfl) ?_
    rw [← hQ]; exact ⟨f, v, hck, by rw [if_pos (by omega)], rfl⟩
theorem c_M_isTrack (s0 : mS) (t : Int) (hm : mI s0) (ht : i32 t) : Ct G l q_M_isTrack 5 0 0 [.ref (ad 0), vI t] (mW G ad s0) (fun r w => ∃ f v, ckR s0 f v ∧ r = some (vI (if f = 0 ∧ 0 ≤ t ∧ t < v 0 3 then 1 else 0)) ∧ w = mW G ad v) := by
  refine Ct.intro [some (.ref (ad 0)), some (vI t), none] (by decide) (Nat.le_of_ble_eq_true rfl) rfl (fun sz => ?_)
  generalize hQ : (fun r w => ∃ f v, ckR s0 f v ∧ r = some (vI (if f = 0 ∧ 0 ≤ t ∧ t < v 0 3 then 1 else 0)) ∧ w = mW G ad v) = Q
  refine r_aload_n d_M_isTrack_0 rfl rfl ?_
  refine r_cV0 d_M_isTrack_1 lk_M_137 (c_M_check G l ad s0 hm) 0 rfl rfl (Nat.le_of_ble_eq_true rfl) (rok rfl rfl) ⟨(Nat.le_of_ble_eq_true rfl), (Nat.le_of_ble_eq_true rfl)⟩ (fun r ws2 hq => ?_)
  obtain ⟨f, v, hck, rfl, rfl⟩ := hq
  show WP _ _ _ _ _ _ (_ :: _)
  have hfb := ckR_b hm hck
  have no : ¬ (f = 0 ∧ 0 ≤ t ∧ t < v 0 3) → WP (mth G l q_M_isTrack 5 0 0 (mW G ad s0) sz Q) 0 0 (mW G ad v) 25 [some (.ref (ad 0)), some (vI t), some (vI f)] [] := by
    intro h
    refine r_iconst d_M_isTrack_25 ?_
    refine r_zret d_M_isTrack_26 rfl (by first | exact Or.inl rfl | exact Or.inr rfl) (Nat.le_of_ble_eq_true rfl) (Nat.le_of_ble_eq_true rfl) ?_
    rw [← hQ]; exact ⟨f, v, hck, by rw [if_neg h], rfl⟩
  refine r_istore_n d_M_isTrack_4 (Nat.le_of_ble_eq_true rfl) rfl ?_
  show WP _ _ _ _ _ [_, _, _] _
  refine r_iload_n d_M_isTrack_5 rfl ?_
  refine r_if_ne 25 d_M_isTrack_6 (by decide) (by unfold i32; omega) (fun g1 => ?_) (fun g1 => ?_)
  · exact no (by omega)
  refine r_iload_n d_M_isTrack_9 rfl ?_
  refine r_if_lt 25 d_M_isTrack_10 (by decide) ht (fun g2 => ?_) (fun g2 => ?_)
  · exact no (by omega)
  have hf : f = 0 := by omega
  have hv := hf ▸ hck
  obtain ⟨⟨-, -, -, h3, -⟩, -⟩ := ckR_0 hm hv
  refine r_iload_n d_M_isTrack_13 rfl ?_
  refine r_aload_n d_M_isTrack_14 rfl rfl ?_
  refine r_get d_M_isTrack_15 fl_M_83_7 0 rfl rfl ?_
  refine r_icmp_ge 25 d_M_isTrack_18 (by decide) ht (by unfold i32; omega) (fun g3 => ?_) (fun g3 => ?_)
  · exact no (by omega)
  · refine r_iconst d_M_isTrack_21 ?_
    refine r_goto 26 d_M_isTrack_22 (by decide) ?_
    refine r_zret d_M_isTrack_26 rfl (by first | exact Or.inl rfl | exact Or.inr rfl) (Nat.le_of_ble_eq_true rfl) (Nat.le_of_ble_eq_true rfl) ?_
    rw [← hQ]; exact ⟨f, v, hck, by rw [if_pos (by omega)], rfl⟩
theorem c_M_samples (s0 : mS) (t : Int) (hm : mI s0) (ht : i32 t) : Ct G l q_M_samples 6 0 0 [.ref (ad 0), vI t] (mW G ad s0) (fun r w => ∃ f v, ckR s0 f v ∧ r = some (vI (if f = 0 ∧ 0 ≤ t ∧ t < v 0 3 then pv v (tb v t 3) 1 else -1000)) ∧ w = mW G ad v) := by
  refine Ct.intro [some (.ref (ad 0)), some (vI t)] (by decide) (Nat.le_of_ble_eq_true rfl) rfl (fun sz => ?_)
  generalize hQ : (fun r w => ∃ f v, ckR s0 f v ∧ r = some (vI (if f = 0 ∧ 0 ≤ t ∧ t < v 0 3 then pv v (tb v t 3) 1 else -1000)) ∧ w = mW G ad v) = Q
  refine r_aload_n d_M_samples_0 rfl rfl ?_
  refine r_iload_n d_M_samples_1 rfl ?_
  refine r_cV1 d_M_samples_2 lk_M_140 (c_M_isTrack G l ad s0 t hm ht) 0 rfl rfl (Nat.le_of_ble_eq_true rfl) (rok rfl rfl) ⟨(Nat.le_of_ble_eq_true rfl), (Nat.le_of_ble_eq_true rfl)⟩ (fun r ws2 hq => ?_)
  obtain ⟨f, v, hck, rfl, rfl⟩ := hq
  show WP _ _ _ _ _ _ (_ :: _)
  by_cases h : f = 0 ∧ 0 ≤ t ∧ t < v 0 3
  · rw [if_pos h]
    obtain ⟨⟨-, -, -, h3, h4⟩, -⟩ := ckR_0 hm (h.1 ▸ hck)
    have hT := (h4 t h.2.1 h.2.2).1
    refine r_if_eq 16 d_M_samples_5 (by decide) (by unfold i32; omega) (fun g1 => ?_) (fun g1 => ?_)
    · exact absurd g1 (by omega)
    refine r_aload_n d_M_samples_8 rfl rfl ?_
    refine r_iload_n d_M_samples_9 rfl ?_
    refine r_cV1 d_M_samples_10 lk_M_110 (c_M_sampleCount G l ad v t (by omega) hT.2.2.2.1.1 hT.2.2.2.1.2.1) 0 rfl rfl (Nat.le_of_ble_eq_true rfl) (rok rfl rfl) ⟨(Nat.le_of_ble_eq_true rfl), (Nat.le_of_ble_eq_true rfl)⟩ (fun r ws2 hq => ?_)
    obtain ⟨rfl, rfl⟩ := hq
    show WP _ _ _ _ _ _ (_ :: _)
    refine r_goto 19 d_M_samples_13 (by decide) ?_
    refine r_iret d_M_samples_19 rfl (Nat.le_of_ble_eq_true rfl) (Nat.le_of_ble_eq_true rfl) ?_
    rw [← hQ]; exact ⟨f, v, hck, by rw [if_pos h], rfl⟩
  · rw [if_neg h]
    refine r_if_eq 16 d_M_samples_5 (by decide) (by unfold i32; omega) (fun g1 => ?_) (fun g1 => ?_)
    · refine r_sipush d_M_samples_16 (by decide) ?_
      refine r_iret d_M_samples_19 rfl (Nat.le_of_ble_eq_true rfl) (Nat.le_of_ble_eq_true rfl) ?_
      rw [← hQ]; exact ⟨f, v, hck, by rw [if_neg h], rfl⟩
    · exact absurd g1 (by omega)
theorem c_M_sample (s0 : mS) (t k what : Int) (hm : mI s0) (ht : i32 t) (hk : i32 k) (hw : i32 what) : Ct G l q_M_sample 6 0 0 [.ref (ad 0), vI t, vI k, vI what] (mW G ad s0) (fun r w => ∃ f v, ckR s0 f v ∧ r = some (vI (if (f = 0 ∧ 0 ≤ t ∧ t < v 0 3) ∧ 0 ≤ k ∧ k < pv v (tb v t 3) 1 then smO v t k what else -1000)) ∧ w = mW G ad v) := by
  refine Ct.intro [some (.ref (ad 0)), some (vI t), some (vI k), some (vI what)] (by decide) (Nat.le_of_ble_eq_true rfl) rfl (fun sz => ?_)
  generalize hQ : (fun r w => ∃ f v, ckR s0 f v ∧ r = some (vI (if (f = 0 ∧ 0 ≤ t ∧ t < v 0 3) ∧ 0 ≤ k ∧ k < pv v (tb v t 3) 1 then smO v t k what else -1000)) ∧ w = mW G ad v) = Q
  refine r_aload_n d_M_sample_0 rfl rfl ?_
  refine r_iload_n d_M_sample_1 rfl ?_
  refine r_cV1 d_M_sample_2 lk_M_140 (c_M_isTrack G l ad s0 t hm ht) 0 rfl rfl (Nat.le_of_ble_eq_true rfl) (rok rfl rfl) ⟨(Nat.le_of_ble_eq_true rfl), (Nat.le_of_ble_eq_true rfl)⟩ (fun r ws2 hq => ?_)
  obtain ⟨f, v, hck, rfl, rfl⟩ := hq
  show WP _ _ _ _ _ _ (_ :: _)
  have no : ¬ ((f = 0 ∧ 0 ≤ t ∧ t < v 0 3) ∧ 0 ≤ k ∧ k < pv v (tb v t 3) 1) → WP (mth G l q_M_sample 6 0 0 (mW G ad s0) sz Q) 0 0 (mW G ad v) 21 [some (.ref (ad 0)), some (vI t), some (vI k), some (vI what)] [] := by
    intro h
    refine r_sipush d_M_sample_21 (by decide) ?_
    refine r_iret d_M_sample_24 rfl (Nat.le_of_ble_eq_true rfl) (Nat.le_of_ble_eq_true rfl) ?_
    rw [← hQ]; exact ⟨f, v, hck, by rw [if_neg h], rfl⟩
  by_cases h : f = 0 ∧ 0 ≤ t ∧ t < v 0 3
  · rw [if_pos h]
    obtain ⟨⟨hb, -, -, h3, h4⟩, -⟩ := ckR_0 hm (h.1 ▸ hck)
    obtain ⟨hT, hC⟩ := h4 t h.2.1 h.2.2
    have ht01 : 0 ≤ t ∧ t ≤ 1 := by omega
    have i1 := hT.i ht01 (kd := 1) (by omega)
    have hn := pv_b hb (tb v t 3) 1
    refine r_if_eq 21 d_M_sample_5 (by decide) (by unfold i32; omega) (fun g1 => ?_) (fun g1 => ?_)
    · exact absurd g1 (by omega)
    refine r_iload_n d_M_sample_8 rfl ?_
    refine r_if_lt 21 d_M_sample_9 (by decide) hk (fun g2 => ?_) (fun g2 => ?_)
    · exact no (by omega)
    refine r_iload_n d_M_sample_12 rfl ?_
    refine r_aload_n d_M_sample_13 rfl rfl ?_
    refine r_iload_n d_M_sample_14 rfl ?_
    refine r_cV1 d_M_sample_15 lk_M_110 (c_M_sampleCount G l ad v t (by omega) hT.2.2.2.1.1 hT.2.2.2.1.2.1) 0 rfl rfl (Nat.le_of_ble_eq_true rfl) (rok rfl rfl) ⟨(Nat.le_of_ble_eq_true rfl), (Nat.le_of_ble_eq_true rfl)⟩ (fun r ws2 hq => ?_)
    obtain ⟨rfl, rfl⟩ := hq
    show WP _ _ _ _ _ _ (_ :: _)
    refine r_icmp_lt 25 d_M_sample_18 (by decide) hk (by unfold i32; omega) (fun g3 => ?_) (fun g3 => ?_)
    · have e : ∀ r, r = smO v t k what → Q (some (vI r)) (mW G ad v) := by
        intro r hr
        rw [← hQ]; exact ⟨f, v, hck, by rw [if_pos ⟨h, by omega, g3⟩, hr], rfl⟩
      refine r_iload_n d_M_sample_25 rfl ?_
      by_cases hin : 0 ≤ what ∧ what ≤ 5
      · have j64 : what = 0 ∨ what = 5 → WP (mth G l q_M_sample 6 0 0 (mW G ad s0) sz Q) 0 0 (mW G ad v) 64 [some (.ref (ad 0)), some (vI t), some (vI k), some (vI what)] [] := by
          intro hw2
          refine r_aload_n d_M_sample_64 rfl rfl ?_
          refine r_iload_n d_M_sample_65 rfl ?_
          refine r_iload_n d_M_sample_66 rfl ?_
          refine r_iload_n d_M_sample_67 rfl ?_
          refine r_cV3 d_M_sample_68 lk_M_149 (c_M_inChunk G l ad v t k what hb ht01 hT hC (by omega) hw) 0 rfl rfl (Nat.le_of_ble_eq_true rfl) (rok rfl rfl) ⟨(Nat.le_of_ble_eq_true rfl), (Nat.le_of_ble_eq_true rfl)⟩ (fun r ws2 hq => ?_)
          obtain ⟨rfl, rfl⟩ := hq
          show WP _ _ _ _ _ _ (_ :: _)
          refine r_iret d_M_sample_71 rfl (Nat.le_of_ble_eq_true rfl) (Nat.le_of_ble_eq_true rfl) ?_
          exact e _ (by unfold smO; rw [if_pos hw2])
        rcases (show what = 0 ∨ what = 1 ∨ what = 2 ∨ what = 3 ∨ what = 4 ∨ what = 5 by omega) with rfl | rfl | rfl | rfl | rfl | rfl
        · refine r_tableIn 64 d_M_sample_26 hw (by omega) (by omega) rfl (by decide) ?_
          exact j64 (Or.inl rfl)
        · refine r_tableIn 72 d_M_sample_26 hw (by omega) (by omega) rfl (by decide) ?_
          refine r_aload_n d_M_sample_72 rfl rfl ?_
          refine r_iload_n d_M_sample_73 rfl ?_
          refine r_iload_n d_M_sample_74 rfl ?_
          refine r_cV2 d_M_sample_75 lk_M_128 (c_M_sizeOf G l ad v t k hb ht01 hT.2.2.2.1.1 (by have := hT.2.2.2.1.2.1; omega) (by intro hz; have := hT.2.2.2.1.2.2 hz; omega)) 0 rfl rfl (Nat.le_of_ble_eq_true rfl) (rok rfl rfl) ⟨(Nat.le_of_ble_eq_true rfl), (Nat.le_of_ble_eq_true rfl)⟩ (fun r ws2 hq => ?_)
          obtain ⟨rfl, rfl⟩ := hq
          show WP _ _ _ _ _ _ (_ :: _)
          refine r_iret d_M_sample_78 rfl (Nat.le_of_ble_eq_true rfl) (Nat.le_of_ble_eq_true rfl) ?_
          exact e _ (by unfold smO; simp)
        · refine r_tableIn 79 d_M_sample_26 hw (by omega) (by omega) rfl (by decide) ?_
          refine r_aload_n d_M_sample_79 rfl rfl ?_
          refine r_iload_n d_M_sample_80 rfl ?_
          refine r_iload_n d_M_sample_81 rfl ?_
          refine r_cV2 d_M_sample_82 lk_M_153 (c_M_decodeTime G l ad v t k hb ht01 (by omega) hT.1) 0 rfl rfl (Nat.le_of_ble_eq_true rfl) (rok rfl rfl) ⟨(Nat.le_of_ble_eq_true rfl), (Nat.le_of_ble_eq_true rfl)⟩ (fun r ws2 hq => ?_)
          obtain ⟨rfl, rfl⟩ := hq
          show WP _ _ _ _ _ _ (_ :: _)
          refine r_iret d_M_sample_85 rfl (Nat.le_of_ble_eq_true rfl) (Nat.le_of_ble_eq_true rfl) ?_
          exact e _ (by unfold smO; simp)
        · refine r_tableIn 86 d_M_sample_26 hw (by omega) (by omega) rfl (by decide) ?_
          refine r_aload_n d_M_sample_86 rfl rfl ?_
          refine r_iload_n d_M_sample_87 rfl ?_
          refine r_iload_n d_M_sample_88 rfl ?_
          refine r_cV2 d_M_sample_89 lk_M_153 (c_M_decodeTime G l ad v t k hb ht01 (by omega) hT.1) 0 rfl rfl (Nat.le_of_ble_eq_true rfl) (rok rfl rfl) ⟨(Nat.le_of_ble_eq_true rfl), (Nat.le_of_ble_eq_true rfl)⟩ (fun r ws2 hq => ?_)
          obtain ⟨rfl, rfl⟩ := hq
          show WP _ _ _ _ _ _ (_ :: _)
          refine r_aload_n d_M_sample_92 rfl rfl ?_
          refine r_iload_n d_M_sample_93 rfl ?_
          refine r_iload_n d_M_sample_94 rfl ?_
          refine r_cV2 d_M_sample_95 lk_M_156 (c_M_shiftOf G l ad v t k hb ht01 hk (by unfold i32; omega) hT.2.1) 0 rfl rfl (Nat.le_of_ble_eq_true rfl) (rok rfl rfl) ⟨(Nat.le_of_ble_eq_true rfl), (Nat.le_of_ble_eq_true rfl)⟩ (fun r ws2 hq => ?_)
          obtain ⟨rfl, rfl⟩ := hq
          show WP _ _ _ _ _ _ (_ :: _)
          refine r_iadd d_M_sample_98 ?_
          refine r_iret d_M_sample_99 rfl (Nat.le_of_ble_eq_true rfl) (Nat.le_of_ble_eq_true rfl) ?_
          exact e _ (by unfold smO; simp)
        · refine r_tableIn 100 d_M_sample_26 hw (by omega) (by omega) rfl (by decide) ?_
          refine r_aload_n d_M_sample_100 rfl rfl ?_
          refine r_iload_n d_M_sample_101 rfl ?_
          refine r_iload_n d_M_sample_102 rfl ?_
          refine r_cV2 d_M_sample_103 lk_M_159 (c_M_isSync G l ad v t k hb ht01 hT (by omega)) 0 rfl rfl (Nat.le_of_ble_eq_true rfl) (rok rfl rfl) ⟨(Nat.le_of_ble_eq_true rfl), (Nat.le_of_ble_eq_true rfl)⟩ (fun r ws2 hq => ?_)
          obtain ⟨rfl, rfl⟩ := hq
          show WP _ _ _ _ _ _ (_ :: _)
          refine r_iret d_M_sample_106 rfl (Nat.le_of_ble_eq_true rfl) (Nat.le_of_ble_eq_true rfl) ?_
          exact e _ (by unfold smO; simp)
        · refine r_tableIn 64 d_M_sample_26 hw (by omega) (by omega) rfl (by decide) ?_
          exact j64 (Or.inr rfl)
      · refine r_tableOut 107 d_M_sample_26 hw (by omega) (by decide) ?_
        refine r_sipush d_M_sample_107 (by decide) ?_
        refine r_iret d_M_sample_110 rfl (Nat.le_of_ble_eq_true rfl) (Nat.le_of_ble_eq_true rfl) ?_
        exact e _ (by unfold smO; rw [if_neg (by omega), if_neg (by omega), if_neg (by omega), if_neg (by omega), if_neg (by omega)])
    · exact no (by omega)
  · rw [if_neg h]
    refine r_if_eq 21 d_M_sample_5 (by decide) (by unfold i32; omega) (fun g1 => ?_) (fun g1 => ?_)
    · exact no (fun q => h q.1)
    · exact absurd g1 (by omega)
theorem c_M_shown (s0 : mS) (t time : Int) (hm : mI s0) (ht : i32 t) (hk : i32 time) : Ct G l q_M_shown 6 0 0 [.ref (ad 0), vI t, vI time] (mW G ad s0) (fun r w => (time < 0 ∧ r = some (vI (-1000)) ∧ w = mW G ad s0) ∨ (0 ≤ time ∧ ∃ f v, ckR s0 f v ∧ r = some (vI (if (f = 0 ∧ 0 ≤ t ∧ t < v 0 3) ∧ ¬ mtO v t time = -1000 then shL v t (mtO v t time) (pv v (tb v t 3) 1).toNat 0 else -1000)) ∧ w = mW G ad v)) := by
  refine Ct.intro [some (.ref (ad 0)), some (vI t), some (vI time), none, none, none, none, none] (by decide) (Nat.le_of_ble_eq_true rfl) rfl (fun sz => ?_)
  generalize hQ : (fun r w => (time < 0 ∧ r = some (vI (-1000)) ∧ w = mW G ad s0) ∨ (0 ≤ time ∧ ∃ f v, ckR s0 f v ∧ r = some (vI (if (f = 0 ∧ 0 ≤ t ∧ t < v 0 3) ∧ ¬ mtO v t time = -1000 then shL v t (mtO v t time) (pv v (tb v t 3) 1).toNat 0 else -1000)) ∧ w = mW G ad v)) = Q
  refine r_iload_n d_M_shown_0 rfl ?_
  refine r_if_lt 12 d_M_shown_1 (by decide) hk (fun g0 => ?_) (fun g0 => ?_)
  · refine r_sipush d_M_shown_12 (by decide) ?_
    refine r_iret d_M_shown_15 rfl (Nat.le_of_ble_eq_true rfl) (Nat.le_of_ble_eq_true rfl) ?_
    rw [← hQ]; exact Or.inl ⟨g0, rfl, rfl⟩
  refine r_aload_n d_M_shown_4 rfl rfl ?_
  refine r_iload_n d_M_shown_5 rfl ?_
  refine r_cV1 d_M_shown_6 lk_M_140 (c_M_isTrack G l ad s0 t hm ht) 0 rfl rfl (Nat.le_of_ble_eq_true rfl) (rok rfl rfl) ⟨(Nat.le_of_ble_eq_true rfl), (Nat.le_of_ble_eq_true rfl)⟩ (fun r ws2 hq => ?_)
  obtain ⟨f, v, hck, rfl, rfl⟩ := hq
  show WP _ _ _ _ _ _ (_ :: _)
  have e : ∀ r, r = (if (f = 0 ∧ 0 ≤ t ∧ t < v 0 3) ∧ ¬ mtO v t time = -1000 then shL v t (mtO v t time) (pv v (tb v t 3) 1).toNat 0 else -1000) → Q (some (vI r)) (mW G ad v) := by
    intro r hr
    rw [← hQ]
    exact Or.inr ⟨by omega, f, v, hck, by rw [hr], rfl⟩
  by_cases h : f = 0 ∧ 0 ≤ t ∧ t < v 0 3
  · rw [if_pos h]
    obtain ⟨⟨hb, -, -, h3, h4⟩, -⟩ := ckR_0 hm (h.1 ▸ hck)
    obtain ⟨hT, hC⟩ := h4 t h.2.1 h.2.2
    have ht01 : 0 ≤ t ∧ t ≤ 1 := by omega
    have i1 := hT.i ht01 (kd := 1) (by omega)
    have hn := pv_b hb (tb v t 3) 1
    have hmtb : i32 (mtO v t time) := by
      have gen : ∀ (n : Nat) (r bf : Int), 0 ≤ bf → bf ≤ time → i32 (mtL (fun r => pv v (tb v t 7) (1 + 2 * r)) (fun r => pv v (tb v t 7) (2 + 2 * r)) time n r bf) := by
        intro n
        induction n with
        | zero => intro r bf _ _; unfold mtL i32; omega
        | succ n ih =>
          intro r bf hbf hbt
          have p1 := pv_b hb (tb v t 7) (1 + 2 * r)
          have p2 := pv_b hb (tb v t 7) (2 + 2 * r)
          unfold mtL
          split
          · split
            · unfold i32; omega
            · unfold i32; omega
          · exact ih _ _ (by omega) (by omega)
      unfold mtO
      split
      · exact hk
      · exact gen _ _ _ (by omega) (by omega)
    refine r_if_ne 16 d_M_shown_9 (by decide) (by unfold i32; omega) (fun g1 => ?_) (fun g1 => ?_)
    · refine r_aload_n d_M_shown_16 rfl rfl ?_
      refine r_iload_n d_M_shown_17 rfl ?_
      refine r_iload_n d_M_shown_18 rfl ?_
      refine r_cV2 d_M_shown_19 lk_M_162 (c_M_mediaTime G l ad v t time hb ht01 hT ⟨by omega, hk⟩) 0 rfl rfl (Nat.le_of_ble_eq_true rfl) (rok rfl rfl) ⟨(Nat.le_of_ble_eq_true rfl), (Nat.le_of_ble_eq_true rfl)⟩ (fun r ws2 hq => ?_)
      obtain ⟨rfl, rfl⟩ := hq
      show WP _ _ _ _ _ _ (_ :: _)
      refine r_istore_n d_M_shown_22 (Nat.le_of_ble_eq_true rfl) rfl ?_
      show WP _ _ _ _ _ [_, _, _, _, _, _, _, _] _
      refine r_iload_n d_M_shown_23 rfl ?_
      refine r_sipush d_M_shown_24 (by decide) ?_
      refine r_icmp_ne 34 d_M_shown_27 (by decide) hmtb (by unfold i32; omega) (fun g2 => ?_) (fun g2 => ?_)
      · have e2 : ∀ r, r = shL v t (mtO v t time) (pv v (tb v t 3) 1).toNat 0 → Q (some (vI r)) (mW G ad v) := fun r hr => e r (by rw [if_pos ⟨h, g2⟩, hr])
        clear e
        generalize mtO v t time = u at hmtb e2 ⊢
        have loop : ∀ (m k : Nat) (x6 x7 : Option Value), (k : Int) + m = pv v (tb v t 3) 1 → shL v t u m k = shL v t u (pv v (tb v t 3) 1).toNat 0 → WP (mth G l q_M_shown 6 0 0 (mW G ad s0) sz Q) 0 0 (mW G ad v) 40 [some (.ref (ad 0)), some (vI t), some (vI time), some (vI u), some (vI (sumI (duO v t) k)), some (vI k), x6, x7] [] := by
          intro m
          induction m with
          | zero =>
            intro k x6 x7 hkm hE
            refine r_iload d_M_shown_40 rfl ?_
            refine r_aload_n d_M_shown_42 rfl rfl ?_
            refine r_iload_n d_M_shown_43 rfl ?_
            refine r_cV1 d_M_shown_44 lk_M_110 (c_M_sampleCount G l ad v t ht01 hT.2.2.2.1.1 hT.2.2.2.1.2.1) 0 rfl rfl (Nat.le_of_ble_eq_true rfl) (rok rfl rfl) ⟨(Nat.le_of_ble_eq_true rfl), (Nat.le_of_ble_eq_true rfl)⟩ (fun r ws2 hq => ?_)
            obtain ⟨rfl, rfl⟩ := hq
            show WP _ _ _ _ _ _ (_ :: _)
            refine r_icmp_ge 102 d_M_shown_47 (by decide) (by unfold i32; omega) (by unfold i32; omega) (fun q1 => ?_) (fun q1 => ?_)
            · refine r_sipush d_M_shown_102 (by decide) ?_
              refine r_iret d_M_shown_105 rfl (Nat.le_of_ble_eq_true rfl) (Nat.le_of_ble_eq_true rfl) ?_
              exact e2 _ (by rw [← hE]; rfl)
            · exact absurd q1 (by omega)
          | succ m ih =>
            intro k x6 x7 hkm hE
            have hsb := shO_b hb t k
            have hdb := duO_b hb t k
            have hst : 0 ≤ sumI (duO v t) k ∧ sumI (duO v t) k ≤ 255 * (k : Nat) := sumI_le (fun i => by have := duO_b hb t i; omega) _
            rw [shL] at hE
            refine r_iload d_M_shown_40 rfl ?_
            refine r_aload_n d_M_shown_42 rfl rfl ?_
            refine r_iload_n d_M_shown_43 rfl ?_
            refine r_cV1 d_M_shown_44 lk_M_110 (c_M_sampleCount G l ad v t ht01 hT.2.2.2.1.1 hT.2.2.2.1.2.1) 0 rfl rfl (Nat.le_of_ble_eq_true rfl) (rok rfl rfl) ⟨(Nat.le_of_ble_eq_true rfl), (Nat.le_of_ble_eq_true rfl)⟩ (fun r ws2 hq => ?_)
            obtain ⟨rfl, rfl⟩ := hq
            show WP _ _ _ _ _ _ (_ :: _)
            refine r_icmp_ge 102 d_M_shown_47 (by decide) (by unfold i32; omega) (by unfold i32; omega) (fun q1 => ?_) (fun q1 => ?_)
            · exact absurd q1 (by omega)
            refine r_iload d_M_shown_50 rfl ?_
            refine r_aload_n d_M_shown_52 rfl rfl ?_
            refine r_iload_n d_M_shown_53 rfl ?_
            refine r_iload d_M_shown_54 rfl ?_
            refine r_cV2 d_M_shown_56 lk_M_156 (c_M_shiftOf G l ad v t k hb ht01 (by unfold i32; omega) (by unfold i32; omega) hT.2.1) 0 rfl rfl (Nat.le_of_ble_eq_true rfl) (rok rfl rfl) ⟨(Nat.le_of_ble_eq_true rfl), (Nat.le_of_ble_eq_true rfl)⟩ (fun r ws2 hq => ?_)
            obtain ⟨rfl, rfl⟩ := hq
            show WP _ _ _ _ _ _ (_ :: _)
            refine r_iadd d_M_shown_59 ?_
            refine r_istore d_M_shown_60 (Nat.le_of_ble_eq_true rfl) rfl ?_
            show WP _ _ _ _ _ [_, _, _, _, _, _, _, _] _
            refine r_aload_n d_M_shown_62 rfl rfl ?_
            refine r_iload_n d_M_shown_63 rfl ?_
            refine r_iload d_M_shown_64 rfl ?_
            refine r_cV2 d_M_shown_66 lk_M_146 (c_M_durationOf G l ad v t k hb ht01 (by unfold i32; omega) hT.1) 0 rfl rfl (Nat.le_of_ble_eq_true rfl) (rok rfl rfl) ⟨(Nat.le_of_ble_eq_true rfl), (Nat.le_of_ble_eq_true rfl)⟩ (fun r ws2 hq => ?_)
            obtain ⟨rfl, rfl⟩ := hq
            show WP _ _ _ _ _ _ (_ :: _)
            have j89 : ¬ (sumI (duO v t) k + shO v t k ≤ u ∧ u < sumI (duO v t) k + shO v t k + duO v t k) → WP (mth G l q_M_shown 6 0 0 (mW G ad s0) sz Q) 0 0 (mW G ad v) 89 [some (.ref (ad 0)), some (vI t), some (vI time), some (vI u), some (vI (sumI (duO v t) k)), some (vI k), some (vI (sumI (duO v t) k + shO v t k)), some (vI (duO v t k))] [] := by
              intro hno
              rw [if_neg hno] at hE
              refine r_iload d_M_shown_89 rfl ?_
              refine r_iload d_M_shown_91 rfl ?_
              refine r_iadd d_M_shown_93 ?_
              refine r_istore d_M_shown_94 (Nat.le_of_ble_eq_true rfl) rfl ?_
              show WP _ _ _ _ _ [_, _, _, _, _, _, _, _] _
              refine r_iinc d_M_shown_96 rfl (Nat.le_of_ble_eq_true rfl) rfl ?_
              show WP _ _ _ _ _ [_, _, _, _, _, _, _, _] _
              refine r_goto 40 d_M_shown_99 (by decide) ?_
              exact ih (k + 1) _ _ (by omega) hE
            refine r_istore d_M_shown_69 (Nat.le_of_ble_eq_true rfl) rfl ?_
            show WP _ _ _ _ _ [_, _, _, _, _, _, _, _] _
            refine r_iload_n d_M_shown_71 rfl ?_
            refine r_iload d_M_shown_72 rfl ?_
            refine r_icmp_lt 89 d_M_shown_74 (by decide) hmtb (by unfold i32; omega) (fun q2 => ?_) (fun q2 => ?_)
            · exact j89 (by omega)
            refine r_iload_n d_M_shown_77 rfl ?_
            refine r_iload d_M_shown_78 rfl ?_
            refine r_iload d_M_shown_80 rfl ?_
            refine r_iadd d_M_shown_82 ?_
            refine r_icmp_ge 89 d_M_shown_83 (by decide) hmtb (by unfold i32; omega) (fun q3 => ?_) (fun q3 => ?_)
            · exact j89 (by omega)
            rw [if_pos (by omega)] at hE
            refine r_iload d_M_shown_86 rfl ?_
            refine r_iret d_M_shown_88 rfl (Nat.le_of_ble_eq_true rfl) (Nat.le_of_ble_eq_true rfl) ?_
            exact e2 _ (by rw [← hE])
        refine r_iconst d_M_shown_34 ?_
        refine r_istore d_M_shown_35 (Nat.le_of_ble_eq_true rfl) rfl ?_
        show WP _ _ _ _ _ [_, _, _, _, _, _, _, _] _
        refine r_iconst d_M_shown_37 ?_
        refine r_istore d_M_shown_38 (Nat.le_of_ble_eq_true rfl) rfl ?_
        show WP _ _ _ _ _ [_, _, _, _, _, _, _, _] _
        exact loop (pv v (tb v t 3) 1).toNat 0 none none (by omega) rfl
      · refine r_sipush d_M_shown_30 (by decide) ?_
        refine r_iret d_M_shown_33 rfl (Nat.le_of_ble_eq_true rfl) (Nat.le_of_ble_eq_true rfl) ?_
        exact e _ (by rw [if_neg (fun q => q.2 (by omega))])
    · exact absurd g1 (by omega)
  · rw [if_neg h]
    refine r_if_ne 16 d_M_shown_9 (by decide) (by unfold i32; omega) (fun g1 => ?_) (fun g1 => ?_)
    · exact absurd g1 (by omega)
    · refine r_sipush d_M_shown_12 (by decide) ?_
      refine r_iret d_M_shown_15 rfl (Nat.le_of_ble_eq_true rfl) (Nat.le_of_ble_eq_true rfl) ?_
      exact e _ (by rw [if_neg (fun q => h q.1)])
end MODEL15
