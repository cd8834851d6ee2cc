abbrev q_X_check : Mi := (⟨"MovieBoxes", "check", "()I"⟩, prog_1_method_18_code, 1, (some .int))
theorem d_X_check_0 : decode prog_1_method_18_code 0 = .ok (.aload_n 0, 1) := by decide +kernel
theorem d_X_check_1 : decode prog_1_method_18_code 1 = .ok (.invokevirtual 253, 3) := by decide +kernel
set_option maxRecDepth 20000 in
theorem w_226 : Cond.methodLink "MovieBoxes" 253 ⟨"MovieBoxes", "read", "()I"⟩ ∈ gt := gt_of (in_t1 (List.mem_of_getElem? (i := 226) rfl)) rfl
set_option maxRecDepth 20000 in
theorem w_228 : Cond.instanceMethod ⟨"MovieBoxes", "read", "()I"⟩ ∈ gt := gt_of (in_t1 (List.mem_of_getElem? (i := 228) rfl)) rfl
set_option maxRecDepth 20000 in
theorem ws_X_read : Cond.selects "MovieBoxes" ⟨"MovieBoxes", "read", "()I"⟩ ⟨"MovieBoxes", "read", "()I"⟩ ∈ gt := gt_of (in_p1 (List.mem_of_getElem? (i := 0) rfl)) rfl
set_option maxRecDepth 20000 in
theorem w_229 : Cond.code ⟨"MovieBoxes", "read", "()I"⟩ prog_1_method_13_code 2 (some .int) ∈ gt := gt_of (in_t1 (List.mem_of_getElem? (i := 229) rfl)) rfl
theorem lk_X_253 : LkV "MovieBoxes" 253 q_X_read 0 := ⟨(List.forall_mem_cons.mpr ⟨w_226, (List.forall_mem_cons.mpr ⟨w_228, (List.forall_mem_cons.mpr ⟨ws_X_read, (List.forall_mem_cons.mpr ⟨w_1, (fun _ h => absurd h List.not_mem_nil)⟩)⟩)⟩)⟩), w_229, by decide +kernel⟩
theorem d_X_check_4 : decode prog_1_method_18_code 4 = .ok (.ireturn, 1) := by decide +kernel
abbrev q_X_boxes : Mi := (⟨"MovieBoxes", "boxes", "()I"⟩, prog_1_method_19_code, 2, (some .int))
theorem d_X_boxes_0 : decode prog_1_method_19_code 0 = .ok (.aload_n 0, 1) := by decide +kernel
theorem d_X_boxes_1 : decode prog_1_method_19_code 1 = .ok (.invokevirtual 253, 3) := by decide +kernel
theorem d_X_boxes_15 : decode prog_1_method_19_code 15 = .ok (.sipush (-1000), 3) := by decide +kernel
theorem d_X_boxes_18 : decode prog_1_method_19_code 18 = .ok (.goto 10, 3) := by decide +kernel
theorem d_X_boxes_28 : decode prog_1_method_19_code 28 = .ok (.ireturn, 1) := by decide +kernel
theorem d_X_boxes_4 : decode prog_1_method_19_code 4 = .ok (.istore_n 1, 1) := by decide +kernel
theorem d_X_boxes_5 : decode prog_1_method_19_code 5 = .ok (.iload_n 1, 1) := by decide +kernel
theorem d_X_boxes_6 : decode prog_1_method_19_code 6 = .ok (.iconst 1, 1) := by decide +kernel
theorem d_X_boxes_7 : decode prog_1_method_19_code 7 = .ok (.if_icmp .eq 8, 3) := by decide +kernel
theorem d_X_boxes_10 : decode prog_1_method_19_code 10 = .ok (.iload_n 1, 1) := by decide +kernel
theorem d_X_boxes_11 : decode prog_1_method_19_code 11 = .ok (.iconst 2, 1) := by decide +kernel
theorem d_X_boxes_12 : decode prog_1_method_19_code 12 = .ok (.if_icmp .ne 9, 3) := by decide +kernel
theorem d_X_boxes_21 : decode prog_1_method_19_code 21 = .ok (.aload_n 0, 1) := by decide +kernel
theorem d_X_boxes_22 : decode prog_1_method_19_code 22 = .ok (.getfield 26, 3) := by decide +kernel
theorem d_X_boxes_25 : decode prog_1_method_19_code 25 = .ok (.invokevirtual 157, 3) := by decide +kernel
abbrev q_X_box : Mi := (⟨"MovieBoxes", "box", "(II)I"⟩, prog_1_method_20_code, 4, (some .int))
theorem d_X_box_0 : decode prog_1_method_20_code 0 = .ok (.aload_n 0, 1) := by decide +kernel
theorem d_X_box_1 : decode prog_1_method_20_code 1 = .ok (.invokevirtual 256, 3) := by decide +kernel
set_option maxRecDepth 20000 in
theorem w_570 : Cond.methodLink "MovieBoxes" 256 ⟨"MovieBoxes", "boxes", "()I"⟩ ∈ gt := gt_of (in_t3 (List.mem_of_getElem? (i := 90) rfl)) rfl
set_option maxRecDepth 20000 in
theorem w_563 : Cond.instanceMethod ⟨"MovieBoxes", "boxes", "()I"⟩ ∈ gt := gt_of (in_t3 (List.mem_of_getElem? (i := 83) rfl)) rfl
set_option maxRecDepth 20000 in
theorem w_564 : Cond.selects "MovieBoxes" ⟨"MovieBoxes", "boxes", "()I"⟩ ⟨"MovieBoxes", "boxes", "()I"⟩ ∈ gt := gt_of (in_t3 (List.mem_of_getElem? (i := 84) rfl)) rfl
set_option maxRecDepth 20000 in
theorem w_565 : Cond.code ⟨"MovieBoxes", "boxes", "()I"⟩ prog_1_method_19_code 2 (some .int) ∈ gt := gt_of (in_t3 (List.mem_of_getElem? (i := 85) rfl)) rfl
theorem lk_X_256 : LkV "MovieBoxes" 256 q_X_boxes 0 := ⟨(List.forall_mem_cons.mpr ⟨w_570, (List.forall_mem_cons.mpr ⟨w_563, (List.forall_mem_cons.mpr ⟨w_564, (List.forall_mem_cons.mpr ⟨w_1, (fun _ h => absurd h List.not_mem_nil)⟩)⟩)⟩)⟩), w_565, by decide +kernel⟩
theorem d_X_box_25 : decode prog_1_method_20_code 25 = .ok (.sipush (-1000), 3) := by decide +kernel
theorem d_X_box_28 : decode prog_1_method_20_code 28 = .ok (.ireturn, 1) := by decide +kernel
theorem d_X_box_4 : decode prog_1_method_20_code 4 = .ok (.sipush (-1000), 3) := by decide +kernel
theorem d_X_box_7 : decode prog_1_method_20_code 7 = .ok (.if_icmp .eq 18, 3) := by decide +kernel
theorem d_X_box_10 : decode prog_1_method_20_code 10 = .ok (.iload_n 1, 1) := by decide +kernel
theorem d_X_box_11 : decode prog_1_method_20_code 11 = .ok (.ifCond .lt 14, 3) := by decide +kernel
theorem d_X_box_14 : decode prog_1_method_20_code 14 = .ok (.iload_n 1, 1) := by decide +kernel
theorem d_X_box_15 : decode prog_1_method_20_code 15 = .ok (.aload_n 0, 1) := by decide +kernel
theorem d_X_box_16 : decode prog_1_method_20_code 16 = .ok (.getfield 26, 3) := by decide +kernel
theorem d_X_box_19 : decode prog_1_method_20_code 19 = .ok (.invokevirtual 157, 3) := by decide +kernel
theorem d_X_box_22 : decode prog_1_method_20_code 22 = .ok (.if_icmp .lt 7, 3) := by decide +kernel
theorem d_X_box_29 : decode prog_1_method_20_code 29 = .ok (.aload_n 0, 1) := by decide +kernel
theorem d_X_box_30 : decode prog_1_method_20_code 30 = .ok (.getfield 26, 3) := by decide +kernel
theorem d_X_box_33 : decode prog_1_method_20_code 33 = .ok (.iload_n 1, 1) := by decide +kernel
theorem d_X_box_34 : decode prog_1_method_20_code 34 = .ok (.invokevirtual 204, 3) := by decide +kernel
theorem d_X_box_37 : decode prog_1_method_20_code 37 = .ok (.checkcast 30, 3) := by decide +kernel
theorem d_X_box_40 : decode prog_1_method_20_code 40 = .ok (.astore_n 3, 1) := by decide +kernel
theorem d_X_box_41 : decode prog_1_method_20_code 41 = .ok (.iload_n 2, 1) := by decide +kernel
theorem d_X_box_42 : decode prog_1_method_20_code 42 = .ok (.tableswitch 68 0 5 #[38, 43, 48, 53, 58, 63], 38) := by decide +kernel
theorem d_X_box_80 : decode prog_1_method_20_code 80 = .ok (.aload_n 3, 1) := by decide +kernel
theorem d_X_box_81 : decode prog_1_method_20_code 81 = .ok (.getfield 139, 3) := by decide +kernel
theorem d_X_box_84 : decode prog_1_method_20_code 84 = .ok (.ireturn, 1) := by decide +kernel
theorem d_X_box_85 : decode prog_1_method_20_code 85 = .ok (.aload_n 3, 1) := by decide +kernel
theorem d_X_box_86 : decode prog_1_method_20_code 86 = .ok (.getfield 145, 3) := by decide +kernel
theorem d_X_box_89 : decode prog_1_method_20_code 89 = .ok (.ireturn, 1) := by decide +kernel
theorem d_X_box_90 : decode prog_1_method_20_code 90 = .ok (.aload_n 3, 1) := by decide +kernel
theorem d_X_box_91 : decode prog_1_method_20_code 91 = .ok (.getfield 136, 3) := by decide +kernel
theorem d_X_box_94 : decode prog_1_method_20_code 94 = .ok (.ireturn, 1) := by decide +kernel
theorem d_X_box_95 : decode prog_1_method_20_code 95 = .ok (.aload_n 3, 1) := by decide +kernel
theorem d_X_box_96 : decode prog_1_method_20_code 96 = .ok (.getfield 142, 3) := by decide +kernel
theorem d_X_box_99 : decode prog_1_method_20_code 99 = .ok (.ireturn, 1) := by decide +kernel
theorem d_X_box_100 : decode prog_1_method_20_code 100 = .ok (.aload_n 3, 1) := by decide +kernel
theorem d_X_box_101 : decode prog_1_method_20_code 101 = .ok (.getfield 148, 3) := by decide +kernel
theorem d_X_box_104 : decode prog_1_method_20_code 104 = .ok (.ireturn, 1) := by decide +kernel
theorem d_X_box_105 : decode prog_1_method_20_code 105 = .ok (.aload_n 3, 1) := by decide +kernel
theorem d_X_box_106 : decode prog_1_method_20_code 106 = .ok (.getfield 167, 3) := by decide +kernel
theorem d_X_box_109 : decode prog_1_method_20_code 109 = .ok (.ireturn, 1) := by decide +kernel
theorem d_X_box_110 : decode prog_1_method_20_code 110 = .ok (.sipush (-1000), 3) := by decide +kernel
theorem d_X_box_113 : decode prog_1_method_20_code 113 = .ok (.ireturn, 1) := by decide +kernel
abbrev q_X_tracks : Mi := (⟨"MovieBoxes", "tracks", "()I"⟩, prog_1_method_21_code, 1, (some .int))
theorem d_X_tracks_0 : decode prog_1_method_21_code 0 = .ok (.aload_n 0, 1) := by decide +kernel
theorem d_X_tracks_1 : decode prog_1_method_21_code 1 = .ok (.invokevirtual 253, 3) := by decide +kernel
theorem d_X_tracks_4 : decode prog_1_method_21_code 4 = .ok (.ifCond .eq 9, 3) := by decide +kernel
theorem d_X_tracks_13 : decode prog_1_method_21_code 13 = .ok (.aload_n 0, 1) := by decide +kernel
theorem d_X_tracks_14 : decode prog_1_method_21_code 14 = .ok (.getfield 189, 3) := by decide +kernel
theorem d_X_tracks_17 : decode prog_1_method_21_code 17 = .ok (.ireturn, 1) := by decide +kernel
theorem d_X_tracks_7 : decode prog_1_method_21_code 7 = .ok (.sipush (-1000), 3) := by decide +kernel
theorem d_X_tracks_10 : decode prog_1_method_21_code 10 = .ok (.goto 7, 3) := by decide +kernel
abbrev q_X_find : Mi := (⟨"MovieBoxes", "find", "(I)LMovieBoxes$Track;"⟩, prog_1_method_22_code, 2, (some (.object "MovieBoxes$Track")))
theorem d_X_find_0 : decode prog_1_method_22_code 0 = .ok (.aload_n 0, 1) := by decide +kernel
theorem d_X_find_1 : decode prog_1_method_22_code 1 = .ok (.invokevirtual 253, 3) := by decide +kernel
theorem d_X_find_19 : decode prog_1_method_22_code 19 = .ok (.aconst_null, 1) := by decide +kernel
theorem d_X_find_20 : decode prog_1_method_22_code 20 = .ok (.goto 9, 3) := by decide +kernel
theorem d_X_find_29 : decode prog_1_method_22_code 29 = .ok (.areturn, 1) := by decide +kernel
theorem d_X_find_4 : decode prog_1_method_22_code 4 = .ok (.ifCond .ne 15, 3) := by decide +kernel
theorem d_X_find_7 : decode prog_1_method_22_code 7 = .ok (.iload_n 1, 1) := by decide +kernel
theorem d_X_find_8 : decode prog_1_method_22_code 8 = .ok (.ifCond .lt 11, 3) := by decide +kernel
theorem d_X_find_11 : decode prog_1_method_22_code 11 = .ok (.iload_n 1, 1) := by decide +kernel
theorem d_X_find_12 : decode prog_1_method_22_code 12 = .ok (.aload_n 0, 1) := by decide +kernel
theorem d_X_find_13 : decode prog_1_method_22_code 13 = .ok (.getfield 189, 3) := by decide +kernel
theorem d_X_find_16 : decode prog_1_method_22_code 16 = .ok (.if_icmp .lt 7, 3) := by decide +kernel
theorem d_X_find_23 : decode prog_1_method_22_code 23 = .ok (.aload_n 0, 1) := by decide +kernel
theorem d_X_find_24 : decode prog_1_method_22_code 24 = .ok (.getfield 43, 3) := by decide +kernel
theorem d_X_find_27 : decode prog_1_method_22_code 27 = .ok (.iload_n 1, 1) := by decide +kernel
theorem d_X_find_28 : decode prog_1_method_22_code 28 = .ok (.aaload, 1) := by decide +kernel
abbrev q_X_samples : Mi := (⟨"MovieBoxes", "samples", "(I)I"⟩, prog_1_method_23_code, 3, (some .int))
theorem d_X_samples_0 : decode prog_1_method_23_code 0 = .ok (.aload_n 0, 1) := by decide +kernel
theorem d_X_samples_1 : decode prog_1_method_23_code 1 = .ok (.iload_n 1, 1) := by decide +kernel
theorem d_X_samples_2 : decode prog_1_method_23_code 2 = .ok (.invokevirtual 259, 3) := by decide +kernel
set_option maxRecDepth 20000 in
theorem w_579 : Cond.methodLink "MovieBoxes" 259 ⟨"MovieBoxes", "find", "(I)LMovieBoxes$Track;"⟩ ∈ gt := gt_of (in_t3 (List.mem_of_getElem? (i := 99) rfl)) rfl
set_option maxRecDepth 20000 in
theorem w_581 : Cond.instanceMethod ⟨"MovieBoxes", "find", "(I)LMovieBoxes$Track;"⟩ ∈ gt := gt_of (in_t3 (List.mem_of_getElem? (i := 101) rfl)) rfl
set_option maxRecDepth 20000 in
theorem ws_X_find : Cond.selects "MovieBoxes" ⟨"MovieBoxes", "find", "(I)LMovieBoxes$Track;"⟩ ⟨"MovieBoxes", "find", "(I)LMovieBoxes$Track;"⟩ ∈ gt := gt_of (in_p1 (List.mem_of_getElem? (i := 10) rfl)) rfl
set_option maxRecDepth 20000 in
theorem w_582 : Cond.code ⟨"MovieBoxes", "find", "(I)LMovieBoxes$Track;"⟩ prog_1_method_22_code 2 (some (.object "MovieBoxes$Track")) ∈ gt := gt_of (in_t3 (List.mem_of_getElem? (i := 102) rfl)) rfl
theorem lk_X_259 : LkV "MovieBoxes" 259 q_X_find 1 := ⟨(List.forall_mem_cons.mpr ⟨w_579, (List.forall_mem_cons.mpr ⟨w_581, (List.forall_mem_cons.mpr ⟨ws_X_find, (List.forall_mem_cons.mpr ⟨w_1, (fun _ h => absurd h List.not_mem_nil)⟩)⟩)⟩)⟩), w_582, by decide +kernel⟩
theorem d_X_samples_5 : decode prog_1_method_23_code 5 = .ok (.astore_n 2, 1) := by decide +kernel
theorem d_X_samples_6 : decode prog_1_method_23_code 6 = .ok (.aload_n 2, 1) := by decide +kernel
theorem d_X_samples_7 : decode prog_1_method_23_code 7 = .ok (.ifnonnull 9, 3) := by decide +kernel
theorem d_X_samples_16 : decode prog_1_method_23_code 16 = .ok (.aload_n 2, 1) := by decide +kernel
theorem d_X_samples_17 : decode prog_1_method_23_code 17 = .ok (.invokevirtual 263, 3) := by decide +kernel
set_option maxRecDepth 20000 in
theorem w_583 : Cond.methodLink "MovieBoxes" 263 ⟨"MovieBoxes$Track", "sampleCount", "()I"⟩ ∈ gt := gt_of (in_t3 (List.mem_of_getElem? (i := 103) rfl)) rfl
theorem lk_X_263 : LkV "MovieBoxes" 263 q_K_sampleCount 0 := ⟨(List.forall_mem_cons.mpr ⟨w_583, (List.forall_mem_cons.mpr ⟨w_532, (List.forall_mem_cons.mpr ⟨w_533, (List.forall_mem_cons.mpr ⟨w_7, (fun _ h => absurd h List.not_mem_nil)⟩)⟩)⟩)⟩), w_534, by decide +kernel⟩
theorem d_X_samples_20 : decode prog_1_method_23_code 20 = .ok (.ireturn, 1) := by decide +kernel
theorem d_X_samples_10 : decode prog_1_method_23_code 10 = .ok (.sipush (-1000), 3) := by decide +kernel
theorem d_X_samples_13 : decode prog_1_method_23_code 13 = .ok (.goto 7, 3) := by decide +kernel
/-! ===== the component: what it answers, against the model ===== -/
def xPre (G : gG) (y : xP) (z s0 : mS) : Prop := xI G y z ∧ mI s0 ∧ s0 0 0 = z 0 0 ∧ s0 1 = z 1 ∧ (z 0 5 = 1 → ∃ f v, ckR s0 f v ∧ jQ G y z f v)
def xPo (G : gG) (y : xP) (z s0 : mS) (y' : xP) (z' : mS) (f : Int) (v : mS) : Prop := ckR s0 f v ∧ jQ G y' z' f v ∧ xI G y' z' ∧ z' 0 0 = z 0 0 ∧ z' 1 = z 1 ∧ z' 0 5 = 1 ∧ yc y' = yc y
theorem ckR_b6 {s0 : mS} (hm : mI s0) {f : Int} {v : mS} (h : ckR s0 f v) : 0 ≤ f ∧ f ≤ 6 := by
  have := (rd_ok s0 hm).1
  unfold ckR at h
  rcases h with ⟨a, b, -⟩ | ⟨-, ⟨-, b, -⟩ | ⟨-, ⟨-, b, -⟩ | ⟨-, ⟨-, b, -⟩ | ⟨-, -, ⟨-, b⟩ | ⟨-, b⟩⟩⟩⟩⟩ <;> omega
theorem ckR_rd {s0 : mS} (hm : mI s0) {f : Int} {v : mS} (h : ckR s0 f v) : (0 < (rdL 100 (rd0 s0) 0 0).1 ↔ f = 1 ∨ f = 2) ∧ (f ≠ 1 → f ≠ 2 → (∀ c, c ≤ 9 → c ≠ 0 → v c = (rdL 100 (rd0 s0) 0 0).2 c) ∧ v 0 1 = (rdL 100 (rd0 s0) 0 0).2 0 1) := by
  obtain ⟨m1, m2, m3, -, -⟩ := rd_ok s0 hm
  have key : ∀ v', v' = (kdF (rdL 100 (rd0 s0) 0 0).2 ((rdL 100 (rd0 s0) 0 0).2 0 1).toNat).1 ∨ v' = stT (kdF (rdL 100 (rd0 s0) 0 0).2 ((rdL 100 (rd0 s0) 0 0).2 0 1).toNat).1 ((kdF (rdL 100 (rd0 s0) 0 0).2 ((rdL 100 (rd0 s0) 0 0).2 0 1).toNat).1 0 3).toNat → (∀ c, c ≤ 9 → c ≠ 0 → v' c = (rdL 100 (rd0 s0) 0 0).2 c) ∧ v' 0 1 = (rdL 100 (rd0 s0) 0 0).2 0 1 := by
    intro v' hv
    have a := kc_u m2 m3 (u := (kdF (rdL 100 (rd0 s0) 0 0).2 ((rdL 100 (rd0 s0) 0 0).2 0 1).toNat).1) rfl
    have b := (kdF_I (rdL 100 (rd0 s0) 0 0).2 m2 m3 ((rdL 100 (rd0 s0) 0 0).2 0 1).toNat (by have := m2.1.1; omega)).1.2.2.1
    rcases hv with rfl | rfl
    · exact ⟨fun c h1 h2 => a c h2 (by omega) (by omega), b⟩
    · have c := agr_stT (kdF (rdL 100 (rd0 s0) 0 0).2 ((rdL 100 (rd0 s0) 0 0).2 0 1).toNat).1 ((kdF (rdL 100 (rd0 s0) 0 0).2 ((rdL 100 (rd0 s0) 0 0).2 0 1).toNat).1 0 3).toNat
      exact ⟨fun c' h1 h2 => by rw [c c' (by omega)]; exact a c' h2 (by omega) (by omega), by rw [c 0 (by omega)]; exact b⟩
  unfold ckR at h
  rcases h with ⟨a, b, -⟩ | ⟨a, ⟨-, b, c⟩ | ⟨-, ⟨-, b, c⟩ | ⟨-, ⟨-, b, c⟩ | ⟨-, c, ⟨-, b⟩ | ⟨-, b⟩⟩⟩⟩⟩
  · exact ⟨by omega, fun h1 h2 => by omega⟩
  · exact ⟨by omega, fun _ _ => key v (Or.inl c)⟩
  · exact ⟨by omega, fun _ _ => key v (Or.inl c)⟩
  · exact ⟨by omega, fun _ _ => key v (Or.inl c)⟩
  · exact ⟨by omega, fun _ _ => key v (Or.inr c)⟩
  · exact ⟨by omega, fun _ _ => key v (Or.inr c)⟩
section XAPI
variable (G : gG) (l : Launch) (y : xP)
theorem c_X_rd (z s0 : mS) (h : xPre G y z s0) : Ct G l q_X_read 11 61 1134 [.ref (yc y 0)] (xW G y z) (fun r w => ∃ (f : Int) (v : mS) (y' : xP) (z' : mS), r = some (vI f) ∧ w = xW G y' z' ∧ xPo G y z s0 y' z' f v) :=
  (c_X_read G l y z s0 h.1 h.2.1 h.2.2.1 h.2.2.2.1 h.2.2.2.2).post (fun _ _ ⟨f, v, y', z', h1, h2, h3⟩ => ⟨f, v, y', z', h1, h2, h3⟩)
theorem c_X_check (z s0 : mS) (h : xPre G y z s0) : Ct G l q_X_check 12 61 1134 [.ref (yc y 0)] (xW G y z) (fun r w => ∃ (f : Int) (v : mS) (y' : xP) (z' : mS), r = some (vI f) ∧ w = xW G y' z' ∧ xPo G y z s0 y' z' f v) := by
  refine Ct.intro [some (.ref (yc y 0))] (by decide) (Nat.le_of_ble_eq_true rfl) rfl (fun sz => ?_)
  generalize hQ : (fun r w => ∃ (f : Int) (v : mS) (y' : xP) (z' : mS), r = some (vI f) ∧ w = xW G y' z' ∧ xPo G y z s0 y' z' f v) = Q
  refine r_aload_n d_X_check_0 rfl rfl ?_
  refine r_kV0 d_X_check_1 lk_X_253 (c_X_rd G l y z s0 h) 0 rfl rfl (Nat.le_of_ble_eq_true rfl) (rok rfl rfl) ⟨(Nat.le_of_ble_eq_true rfl), (Nat.le_of_ble_eq_true rfl)⟩ (fun r ws2 hq => ?_)
  obtain ⟨f, v, y', z', rfl, rfl, hp⟩ := hq
  show WP _ _ _ _ _ _ (_ :: _)
  refine r_iret d_X_check_4 rfl (Nat.le_of_ble_eq_true rfl) (Nat.le_of_ble_eq_true rfl) ?_
  rw [← hQ]; exact ⟨f, v, y', z', rfl, rfl, hp⟩
theorem c_X_boxes (z s0 : mS) (h : xPre G y z s0) : Ct G l q_X_boxes 12 61 1134 [.ref (yc y 0)] (xW G y z) (fun r w => ∃ (f : Int) (v : mS) (y' : xP) (z' : mS), r = some (vI (if 0 < (rdL 100 (rd0 s0) 0 0).1 then -1000 else (rdL 100 (rd0 s0) 0 0).2 0 1)) ∧ w = xW G y' z' ∧ xPo G y z s0 y' z' f v) := by
  refine Ct.intro [some (.ref (yc y 0)), none] (by decide) (Nat.le_of_ble_eq_true rfl) rfl (fun sz => ?_)
  generalize hQ : (fun r w => ∃ (f : Int) (v : mS) (y' : xP) (z' : mS), r = some (vI (if 0 < (rdL 100 (rd0 s0) 0 0).1 then -1000 else (rdL 100 (rd0 s0) 0 0).2 0 1)) ∧ w = xW G y' z' ∧ xPo G y z s0 y' z' f v) = Q
  refine r_aload_n d_X_boxes_0 rfl rfl ?_
  refine r_kV0 d_X_boxes_1 lk_X_253 (c_X_rd G l y z s0 h) 0 rfl rfl (Nat.le_of_ble_eq_true rfl) (rok rfl rfl) ⟨(Nat.le_of_ble_eq_true rfl), (Nat.le_of_ble_eq_true rfl)⟩ (fun r ws2 hq => ?_)
  obtain ⟨f, v, y', z', rfl, rfl, hp⟩ := hq
  show WP _ _ _ _ _ _ (_ :: _)
  have hf := ckR_b6 h.2.1 hp.1
  have hr := ckR_rd h.2.1 hp.1
  rw [show yc y = yc y' from hp.2.2.2.2.2.2.symm]
  have f15 : ∀ lv, (f = 1 ∨ f = 2) → WP (mth G l q_X_boxes 12 61 1134 (xW G y z) sz Q) (0 + 61) (0 + 1134) (xW G y' z') 15 lv [] := by
    intro lv hc
    refine r_sipush d_X_boxes_15 (by decide) ?_
    refine r_goto 28 d_X_boxes_18 (by decide) ?_
    refine r_iret d_X_boxes_28 rfl (Nat.le_of_ble_eq_true rfl) (Nat.le_of_ble_eq_true rfl) ?_
    rw [← hQ]; exact ⟨f, v, y', z', by rw [if_pos (hr.1.mpr hc)], rfl, hp⟩
  refine r_istore_n d_X_boxes_4 (Nat.le_of_ble_eq_true rfl) rfl ?_
  show WP _ _ _ _ _ [_, _] _
  refine r_iload_n d_X_boxes_5 rfl ?_
  refine r_iconst d_X_boxes_6 ?_
  refine r_icmp_eq 15 d_X_boxes_7 (by decide) (by unfold i32; omega) (by unfold i32; omega) (fun h1 => ?_) (fun h1 => ?_)
  · exact f15 _ (Or.inl h1)
  · refine r_iload_n d_X_boxes_10 rfl ?_
    refine r_iconst d_X_boxes_11 ?_
    refine r_icmp_ne 21 d_X_boxes_12 (by decide) (by unfold i32; omega) (by unfold i32; omega) (fun h2 => ?_) (fun h2 => ?_)
    · have hq := hp.2.1.2.1 (by omega) (by omega)
      refine r_aload_n d_X_boxes_21 rfl rfl ?_
      refine r_get d_X_boxes_22 fl_X_26_0 0 rfl rfl ?_
      refine r_cV0 d_X_boxes_25 lk_X_157 (c_A_size G l _ 3 (yc y' 3) (z' 0 7) (z' 0 1) (.ref (ye y')) rfl) 3 rfl rfl (Nat.le_of_ble_eq_true rfl) (rok rfl rfl) ⟨(Nat.le_of_ble_eq_true rfl), (Nat.le_of_ble_eq_true rfl)⟩ (fun r ws2 hq => ?_)
      obtain ⟨rfl, hw⟩ := hq; rw [hw]; clear hw
      show WP _ _ _ _ _ _ (_ :: _)
      refine r_iret d_X_boxes_28 rfl (Nat.le_of_ble_eq_true rfl) (Nat.le_of_ble_eq_true rfl) ?_
      have hq := hp.2.1.2.1 (by omega) (by omega)
      rw [← hQ]; exact ⟨f, v, y', z', by rw [if_neg (fun q => by have := hr.1.mp q; omega), ← (hr.2 (by omega) (by omega)).2, hq.1.2.2.1, hq.1.2.1], rfl, hp⟩
    · exact f15 _ (Or.inr (Classical.not_not.mp h2))
set_option maxRecDepth 8000 in
theorem c_X_box (z s0 : mS) (h : xPre G y z s0) (k what : Int) (hk : i32 k) (hw' : i32 what) : Ct G l q_X_box 13 61 1134 [.ref (yc y 0), vI k, vI what] (xW G y z) (fun r w => ∃ (f : Int) (v : mS) (y' : xP) (z' : mS), r = some (vI (if 0 < (rdL 100 (rd0 s0) 0 0).1 ∨ k < 0 ∨ (rdL 100 (rd0 s0) 0 0).2 0 1 ≤ k then -1000 else if 0 ≤ what ∧ what ≤ 5 then (rdL 100 (rd0 s0) 0 0).2 (what.toNat + 2) k else -1000)) ∧ w = xW G y' z' ∧ xPo G y z s0 y' z' f v) := by
  have mm := rd_ok s0 h.2.1
  refine Ct.intro [some (.ref (yc y 0)), some (vI k), some (vI what), none] (by decide) (Nat.le_of_ble_eq_true rfl) rfl (fun sz => ?_)
  generalize hQ : (fun r w => ∃ (f : Int) (v : mS) (y' : xP) (z' : mS), r = some (vI (if 0 < (rdL 100 (rd0 s0) 0 0).1 ∨ k < 0 ∨ (rdL 100 (rd0 s0) 0 0).2 0 1 ≤ k then -1000 else if 0 ≤ what ∧ what ≤ 5 then (rdL 100 (rd0 s0) 0 0).2 (what.toNat + 2) k else -1000)) ∧ w = xW G y' z' ∧ xPo G y z s0 y' z' f v) = Q
  refine r_aload_n d_X_box_0 rfl rfl ?_
  refine r_kV0 d_X_box_1 lk_X_256 (c_X_boxes G l y z s0 h) 0 rfl rfl (Nat.le_of_ble_eq_true rfl) (rok rfl rfl) ⟨(Nat.le_of_ble_eq_true rfl), (Nat.le_of_ble_eq_true rfl)⟩ (fun r ws2 hq => ?_)
  obtain ⟨f, v, y', z', rfl, rfl, hp⟩ := hq
  show WP _ _ _ _ _ _ (_ :: _)
  have hf := ckR_b6 h.2.1 hp.1
  have hr := ckR_rd h.2.1 hp.1
  have hn := mm.2.1.1
  rw [show yc y = yc y' from hp.2.2.2.2.2.2.symm]
  generalize hS : (rdL 100 (rd0 s0) 0 0).2 = S at *
  generalize hF : (rdL 100 (rd0 s0) 0 0).1 = F at *
  have f25 : ∀ lv, (0 < F ∨ k < 0 ∨ S 0 1 ≤ k) → WP (mth G l q_X_box 13 61 1134 (xW G y z) sz Q) (0 + 61) (0 + 1134) (xW G y' z') 25 lv [] := by
    intro lv hc
    refine r_sipush d_X_box_25 (by decide) ?_
    refine r_iret d_X_box_28 rfl (Nat.le_of_ble_eq_true rfl) (Nat.le_of_ble_eq_true rfl) ?_
    rw [← hQ]; exact ⟨f, v, y', z', by rw [if_pos hc], rfl, hp⟩
  refine r_sipush d_X_box_4 (by decide) ?_
  refine r_icmp_eq 25 d_X_box_7 (by decide) (by unfold i32; split <;> omega) (by unfold i32; omega) (fun h1 => ?_) (fun h1 => ?_)
  · refine f25 _ (Or.inl (Classical.byContradiction fun q => ?_))
    rw [if_neg q] at h1
    omega
  · have hF0 : ¬ 0 < F := fun q => h1 (by rw [if_pos q])
    have hfne : f ≠ 1 ∧ f ≠ 2 := ⟨fun q => hF0 (hr.1.mpr (Or.inl q)), fun q => hF0 (hr.1.mpr (Or.inr q))⟩
    have hqq := hp.2.1.2.1 hfne.1 hfne.2
    obtain ⟨vc, v01⟩ := hr.2 hfne.1 hfne.2
    have e01 : z' 0 1 = S 0 1 := by rw [← v01, hqq.1.2.1, hqq.1.2.2.1]
    refine r_iload_n d_X_box_10 rfl ?_
    refine r_if_lt 25 d_X_box_11 (by decide) hk (fun h2 => ?_) (fun h2 => ?_)
    · exact f25 _ (Or.inr (Or.inl h2))
    · refine r_iload_n d_X_box_14 rfl ?_
      refine r_aload_n d_X_box_15 rfl rfl ?_
      refine r_get d_X_box_16 fl_X_26_0 0 rfl rfl ?_
      refine r_cV0 d_X_box_19 lk_X_157 (c_A_size G l _ 3 (yc y' 3) (z' 0 7) (z' 0 1) (.ref (ye y')) rfl) 3 rfl rfl (Nat.le_of_ble_eq_true rfl) (rok rfl rfl) ⟨(Nat.le_of_ble_eq_true rfl), (Nat.le_of_ble_eq_true rfl)⟩ (fun r ws2 hq => ?_)
      obtain ⟨rfl, hw⟩ := hq; rw [hw]; clear hw
      show WP _ _ _ _ _ _ (_ :: _)
      rw [e01]
      refine r_icmp_lt 29 d_X_box_22 (by decide) hk (by unfold i32; omega) (fun h3 => ?_) (fun h3 => ?_)
      · have hkb : 0 ≤ k ∧ k < yn y' := by have := hqq.1.2.1; omega
        have hkb' : -1 ≤ k ∧ k < yn y' := by omega
        have hcb := qI_cl hqq hkb'.1 hkb'.2
        obtain ⟨g2, g3, g4, g5, g6, g7⟩ := (hqq.2.2.2.2.2 k hkb.1 hkb.2).1
        have fin : ∀ x : Int, x = (if 0 ≤ what ∧ what ≤ 5 then S (what.toNat + 2) k else -1000) → Q (some (vI x)) (xW G y' z') := by
          intro x hx
          rw [← hQ]
          exact ⟨f, v, y', z', by rw [if_neg (by omega), hx], rfl, hp⟩
        refine r_aload_n d_X_box_29 rfl rfl ?_
        refine r_get d_X_box_30 fl_X_26_0 0 rfl rfl ?_
        refine r_iload_n d_X_box_33 rfl ?_
        refine r_cV1 d_X_box_34 lk_X_204 (c_X_get G l y' z' v hqq k hkb) 3 rfl rfl (Nat.le_of_ble_eq_true rfl) (rok rfl rfl) ⟨(Nat.le_of_ble_eq_true rfl), (Nat.le_of_ble_eq_true rfl)⟩ (fun r ws2 hq => ?_)
        obtain ⟨rfl, hw⟩ := hq; rw [hw]; clear hw
        show WP _ _ _ _ _ _ (_ :: _)
        refine r_castX d_X_box_37 w_145 k hkb' hcb ?_
        refine r_astore_n d_X_box_40 (Nat.le_of_ble_eq_true rfl) rfl rfl ?_
        show WP _ _ _ _ _ [_, _, _, _] _
        refine r_iload_n d_X_box_41 rfl ?_
        by_cases hwd : 0 ≤ what ∧ what ≤ 5
        · rw [if_pos hwd] at fin
          rcases (by omega : what = 0 ∨ what = 1 ∨ what = 2 ∨ what = 3 ∨ what = 4 ∨ what = 5) with rfl | rfl | rfl | rfl | rfl | rfl
          · refine r_tableIn 80 d_X_box_42 hw' (by omega) (by omega) rfl (by decide) ?_
            refine r_aload_n d_X_box_80 rfl rfl ?_
            refine r_getB d_X_box_81 fb_X_139 (k) hkb' hcb rfl ?_
            refine r_iret d_X_box_84 rfl (Nat.le_of_ble_eq_true rfl) (Nat.le_of_ble_eq_true rfl) ?_
            exact fin _ (by rw [g2]; exact congrFun (vc 2 (by omega) (by omega)) k)
          · refine r_tableIn 85 d_X_box_42 hw' (by omega) (by omega) rfl (by decide) ?_
            refine r_aload_n d_X_box_85 rfl rfl ?_
            refine r_getB d_X_box_86 fb_X_145 (k) hkb' hcb rfl ?_
            refine r_iret d_X_box_89 rfl (Nat.le_of_ble_eq_true rfl) (Nat.le_of_ble_eq_true rfl) ?_
            exact fin _ (by rw [g3]; exact congrFun (vc 3 (by omega) (by omega)) k)
          · refine r_tableIn 90 d_X_box_42 hw' (by omega) (by omega) rfl (by decide) ?_
            refine r_aload_n d_X_box_90 rfl rfl ?_
            refine r_getB d_X_box_91 fb_X_136 (k) hkb' hcb rfl ?_
            refine r_iret d_X_box_94 rfl (Nat.le_of_ble_eq_true rfl) (Nat.le_of_ble_eq_true rfl) ?_
            exact fin _ (by rw [g4]; exact congrFun (vc 4 (by omega) (by omega)) k)
          · refine r_tableIn 95 d_X_box_42 hw' (by omega) (by omega) rfl (by decide) ?_
            refine r_aload_n d_X_box_95 rfl rfl ?_
            refine r_getB d_X_box_96 fb_X_142 (k) hkb' hcb rfl ?_
            refine r_iret d_X_box_99 rfl (Nat.le_of_ble_eq_true rfl) (Nat.le_of_ble_eq_true rfl) ?_
            exact fin _ (by rw [g5]; exact congrFun (vc 5 (by omega) (by omega)) k)
          · refine r_tableIn 100 d_X_box_42 hw' (by omega) (by omega) rfl (by decide) ?_
            refine r_aload_n d_X_box_100 rfl rfl ?_
            refine r_getB d_X_box_101 fb_X_148 (k) hkb' hcb rfl ?_
            refine r_iret d_X_box_104 rfl (Nat.le_of_ble_eq_true rfl) (Nat.le_of_ble_eq_true rfl) ?_
            exact fin _ (by rw [g6]; exact congrFun (vc 6 (by omega) (by omega)) k)
          · refine r_tableIn 105 d_X_box_42 hw' (by omega) (by omega) rfl (by decide) ?_
            refine r_aload_n d_X_box_105 rfl rfl ?_
            refine r_getB d_X_box_106 fb_X_167 (k) hkb' hcb rfl ?_
            refine r_iret d_X_box_109 rfl (Nat.le_of_ble_eq_true rfl) (Nat.le_of_ble_eq_true rfl) ?_
            exact fin _ (by rw [g7]; exact congrFun (vc 7 (by omega) (by omega)) k)
        · refine r_tableOut 110 d_X_box_42 hw' (by omega) (by decide) ?_
          refine r_sipush d_X_box_110 (by decide) ?_
          refine r_iret d_X_box_113 rfl (Nat.le_of_ble_eq_true rfl) (Nat.le_of_ble_eq_true rfl) ?_
          exact fin _ (by rw [if_neg hwd])
      · exact f25 _ (Or.inr (Or.inr (by omega)))
theorem c_X_tracks (z s0 : mS) (h : xPre G y z s0) : Ct G l q_X_tracks 12 61 1134 [.ref (yc y 0)] (xW G y z) (fun r w => ∃ (f : Int) (v : mS) (y' : xP) (z' : mS), r = some (vI (if 0 < f then -1000 else v 0 3)) ∧ w = xW G y' z' ∧ xPo G y z s0 y' z' f v) := by
  refine Ct.intro [some (.ref (yc y 0))] (by decide) (Nat.le_of_ble_eq_true rfl) rfl (fun sz => ?_)
  generalize hQ : (fun r w => ∃ (f : Int) (v : mS) (y' : xP) (z' : mS), r = some (vI (if 0 < f then -1000 else v 0 3)) ∧ w = xW G y' z' ∧ xPo G y z s0 y' z' f v) = Q
  refine r_aload_n d_X_tracks_0 rfl rfl ?_
  refine r_kV0 d_X_tracks_1 lk_X_253 (c_X_rd G l y z s0 h) 0 rfl rfl (Nat.le_of_ble_eq_true rfl) (rok rfl rfl) ⟨(Nat.le_of_ble_eq_true rfl), (Nat.le_of_ble_eq_true rfl)⟩ (fun r ws2 hq => ?_)
  obtain ⟨f, v, y', z', rfl, rfl, hp⟩ := hq
  show WP _ _ _ _ _ _ (_ :: _)
  have hf := ckR_b6 h.2.1 hp.1
  rw [show yc y = yc y' from hp.2.2.2.2.2.2.symm]
  refine r_if_eq 13 d_X_tracks_4 (by decide) (by unfold i32; omega) (fun h1 => ?_) (fun h1 => ?_)
  · refine r_aload_n d_X_tracks_13 rfl rfl ?_
    refine r_get d_X_tracks_14 fl_X_189_0 0 rfl rfl ?_
    refine r_iret d_X_tracks_17 rfl (Nat.le_of_ble_eq_true rfl) (Nat.le_of_ble_eq_true rfl) ?_
    rw [← hQ]; exact ⟨f, v, y', z', by rw [if_neg (by omega), ← (hp.2.1.2.2 h1).2.1], rfl, hp⟩
  · refine r_sipush d_X_tracks_7 (by decide) ?_
    refine r_goto 17 d_X_tracks_10 (by decide) ?_
    refine r_iret d_X_tracks_17 rfl (Nat.le_of_ble_eq_true rfl) (Nat.le_of_ble_eq_true rfl) ?_
    rw [← hQ]; exact ⟨f, v, y', z', by rw [if_pos (by omega)], rfl, hp⟩
theorem c_X_find (z s0 : mS) (h : xPre G y z s0) (t : Int) (ht : i32 t) : Ct G l q_X_find 12 61 1134 [.ref (yc y 0), vI t] (xW G y z) (fun r w => ∃ (f : Int) (v : mS) (y' : xP) (z' : mS), r = some (va_rf (if f = 0 ∧ 0 ≤ t ∧ t < v 0 3 then some (yc y' (7 + t.toNat)) else none)) ∧ w = xW G y' z' ∧ xPo G y z s0 y' z' f v) := by
  refine Ct.intro [some (.ref (yc y 0)), some (vI t)] (by decide) (Nat.le_of_ble_eq_true rfl) rfl (fun sz => ?_)
  generalize hQ : (fun r w => ∃ (f : Int) (v : mS) (y' : xP) (z' : mS), r = some (va_rf (if f = 0 ∧ 0 ≤ t ∧ t < v 0 3 then some (yc y' (7 + t.toNat)) else none)) ∧ w = xW G y' z' ∧ xPo G y z s0 y' z' f v) = Q
  refine r_aload_n d_X_find_0 rfl rfl ?_
  refine r_kV0 d_X_find_1 lk_X_253 (c_X_rd G l y z s0 h) 0 rfl rfl (Nat.le_of_ble_eq_true rfl) (rok rfl rfl) ⟨(Nat.le_of_ble_eq_true rfl), (Nat.le_of_ble_eq_true rfl)⟩ (fun r ws2 hq => ?_)
  obtain ⟨f, v, y', z', rfl, rfl, hp⟩ := hq
  show WP _ _ _ _ _ _ (_ :: _)
  have hf := ckR_b6 h.2.1 hp.1
  rw [show yc y = yc y' from hp.2.2.2.2.2.2.symm]
  have f19 : ∀ lv, ¬ (f = 0 ∧ 0 ≤ t ∧ t < v 0 3) → WP (mth G l q_X_find 12 61 1134 (xW G y z) sz Q) (0 + 61) (0 + 1134) (xW G y' z') 19 lv [] := by
    intro lv hc
    refine r_null d_X_find_19 ?_
    refine r_goto 29 d_X_find_20 (by decide) ?_
    refine r_aret d_X_find_29 rfl (by first | exact Or.inl ⟨_, rfl⟩ | exact Or.inr ⟨_, rfl⟩) rfl (Nat.le_of_ble_eq_true rfl) (Nat.le_of_ble_eq_true rfl) ?_
    rw [← hQ]; exact ⟨f, v, y', z', by rw [if_neg hc]; rfl, rfl, hp⟩
  refine r_if_ne 19 d_X_find_4 (by decide) (by unfold i32; omega) (fun h1 => ?_) (fun h1 => ?_)
  · exact f19 _ (fun q => by omega)
  · have hf0 : f = 0 := by omega
    have e3 := (hp.2.1.2.2 hf0).2.1
    have hck := ckR_h h.2.1 (show ckR s0 0 v by rw [← hf0]; exact hp.1)
    have h3 := hck.1.2.2.2.1
    refine r_iload_n d_X_find_7 rfl ?_
    refine r_if_lt 19 d_X_find_8 (by decide) ht (fun h2 => ?_) (fun h2 => ?_)
    · exact f19 _ (fun q => by omega)
    · refine r_iload_n d_X_find_11 rfl ?_
      refine r_aload_n d_X_find_12 rfl rfl ?_
      refine r_get d_X_find_13 fl_X_189_0 0 rfl rfl ?_
      rw [e3]
      refine r_icmp_lt 23 d_X_find_16 (by decide) ht (by unfold i32; omega) (fun h4 => ?_) (fun h4 => ?_)
      · have hc : f = 0 ∧ 0 ≤ t ∧ t < v 0 3 := ⟨hf0, by omega, h4⟩
        refine r_aload_n d_X_find_23 rfl rfl ?_
        refine r_get d_X_find_24 fl_X_43_0 0 rfl rfl ?_
        refine r_iload_n d_X_find_27 rfl ?_
        refine r_aald d_X_find_28 6 rfl rfl ⟨by omega, by omega, by omega⟩ ?_
        show WP _ _ _ _ _ _ (va_rf (some (yc y' (7 + t.toNat))) :: _)
        refine r_aret d_X_find_29 rfl (by first | exact Or.inl ⟨_, rfl⟩ | exact Or.inr ⟨_, rfl⟩) (isRf_rf _) (Nat.le_of_ble_eq_true rfl) (Nat.le_of_ble_eq_true rfl) ?_
        rw [← hQ]; exact ⟨f, v, y', z', by rw [if_pos hc], rfl, hp⟩
      · exact f19 _ (fun q => by omega)
theorem c_X_samples (z s0 : mS) (h : xPre G y z s0) (t : Int) (ht : i32 t) : Ct G l q_X_samples 13 61 1134 [.ref (yc y 0), vI t] (xW G y z) (fun r w => ∃ (f : Int) (v : mS) (y' : xP) (z' : mS), r = some (vI (if f = 0 ∧ 0 ≤ t ∧ t < v 0 3 then pv v (tb v t 3) 1 else -1000)) ∧ w = xW G y' z' ∧ xPo G y z s0 y' z' f v) := by
  refine Ct.intro [some (.ref (yc y 0)), some (vI t), none] (by decide) (Nat.le_of_ble_eq_true rfl) rfl (fun sz => ?_)
  generalize hQ : (fun r w => ∃ (f : Int) (v : mS) (y' : xP) (z' : mS), r = some (vI (if f = 0 ∧ 0 ≤ t ∧ t < v 0 3 then pv v (tb v t 3) 1 else -1000)) ∧ w = xW G y' z' ∧ xPo G y z s0 y' z' f v) = Q
  refine r_aload_n d_X_samples_0 rfl rfl ?_
  refine r_iload_n d_X_samples_1 rfl ?_
  refine r_kV1 d_X_samples_2 lk_X_259 (c_X_find G l y z s0 h t ht) 0 rfl rfl (Nat.le_of_ble_eq_true rfl) (rok rfl rfl) ⟨(Nat.le_of_ble_eq_true rfl), (Nat.le_of_ble_eq_true rfl)⟩ (fun r ws2 hq => ?_)
  obtain ⟨f, v, y', z', rfl, rfl, hp⟩ := hq
  show WP _ _ _ _ _ _ (_ :: _)
  rw [show yc y = yc y' from hp.2.2.2.2.2.2.symm]
  by_cases hc : f = 0 ∧ 0 ≤ t ∧ t < v 0 3
  · rw [if_pos hc]
    obtain ⟨n, hn⟩ : ∃ n : Nat, t = n := ⟨t.toNat, by omega⟩
    subst hn
    have hK := ((hp.2.1.2.2 hc.1).2.2.2 n hc.2.2).1
    show WP _ _ _ _ _ _ (.ref (yc y' (7 + n)) :: _)
    refine r_astore_n d_X_samples_5 (Nat.le_of_ble_eq_true rfl) rfl rfl ?_
    show WP _ _ _ _ _ [_, _, _] _
    refine r_aload_n d_X_samples_6 rfl rfl ?_
    refine r_ifnonnull (r := some (yc y' (7 + n))) 16 d_X_samples_7 (by decide) (fun q => by cases q) (fun _ _ => ?_)
    refine r_aload_n d_X_samples_16 rfl rfl ?_
    refine r_cV0 d_X_samples_17 lk_X_263 (c_K_sampleCount G l y' z' v n hK) (7+n) rfl (xw_k hK.1.1) (Nat.le_of_ble_eq_true rfl) (rok rfl rfl) ⟨(Nat.le_of_ble_eq_true rfl), (Nat.le_of_ble_eq_true rfl)⟩ (fun r ws2 hq => ?_)
    obtain ⟨rfl, hw⟩ := hq; rw [hw]; clear hw
    show WP _ _ _ _ _ _ (_ :: _)
    refine r_iret d_X_samples_20 rfl (Nat.le_of_ble_eq_true rfl) (Nat.le_of_ble_eq_true rfl) ?_
    rw [← hQ]; exact ⟨f, v, y', z', by rw [if_pos hc], rfl, hp⟩
  · rw [if_neg hc]
    refine r_astore_n d_X_samples_5 (Nat.le_of_ble_eq_true rfl) rfl rfl ?_
    show WP _ _ _ _ _ [_, _, _] _
    refine r_aload_n d_X_samples_6 rfl rfl ?_
    refine r_ifnonnull (r := none) 16 d_X_samples_7 (by decide) (fun _ => ?_) (fun _ q => by cases q)
    refine r_sipush d_X_samples_10 (by decide) ?_
    refine r_goto 20 d_X_samples_13 (by decide) ?_
    refine r_iret d_X_samples_20 rfl (Nat.le_of_ble_eq_true rfl) (Nat.le_of_ble_eq_true rfl) ?_
    rw [← hQ]; exact ⟨f, v, y', z', by rw [if_neg hc], rfl, hp⟩
end XAPI
