abbrev q_X_newBox : Mi := (⟨"MovieBoxes", "newBox", "(I)LMovieBoxes$Box;"⟩, prog_1_method_9_code, 1, (some (.object "MovieBoxes$Box")))
theorem d_X_newBox_0 : decode prog_1_method_9_code 0 = .ok (.iload_n 0, 1) := by decide +kernel
theorem d_X_newBox_1 : decode prog_1_method_9_code 1 = .ok (.tableswitch 63 0 3 #[31, 39, 47, 55], 31) := by decide +kernel
theorem d_X_newBox_32 : decode prog_1_method_9_code 32 = .ok (.new 16, 3) := by decide +kernel
set_option maxRecDepth 20000 in
theorem w_29 : Cond.classLink "MovieBoxes" 16 "MovieBoxes$Holder" ∈ gt := gt_of (in_t1 (List.mem_of_getElem? (i := 29) rfl)) rfl
set_option maxRecDepth 20000 in
theorem w_30 : Cond.instantiable "MovieBoxes$Holder" 13 ∈ gt := gt_of (in_t1 (List.mem_of_getElem? (i := 30) rfl)) rfl
set_option maxRecDepth 20000 in
theorem w_3 : Cond.initialized "MovieBoxes$Holder" ∈ gt := gt_of (in_t1 (List.mem_of_getElem? (i := 3) rfl)) rfl
theorem d_X_newBox_35 : decode prog_1_method_9_code 35 = .ok (.dup, 1) := by decide +kernel
theorem d_X_newBox_36 : decode prog_1_method_9_code 36 = .ok (.invokespecial 18, 3) := by decide +kernel
set_option maxRecDepth 20000 in
theorem nw_31 : Cond.methodLinkNest "MovieBoxes" 18 ⟨"MovieBoxes$Holder", "<init>", "()V"⟩ "MovieBoxes" ∈ nwl := nw_of (in_t1 (List.mem_of_getElem? (i := 31) rfl)) rfl
set_option maxRecDepth 20000 in
theorem w_32 : Cond.instanceMethod ⟨"MovieBoxes$Holder", "<init>", "()V"⟩ ∈ gt := gt_of (in_t1 (List.mem_of_getElem? (i := 32) rfl)) rfl
set_option maxRecDepth 20000 in
theorem w_33 : Cond.code ⟨"MovieBoxes$Holder", "<init>", "()V"⟩ prog_3_method_1_code 1 (none : Option Jvm.ClassFile.FieldType) ∈ gt := gt_of (in_t1 (List.mem_of_getElem? (i := 33) rfl)) rfl
theorem li_X_18 : LkI "MovieBoxes" 18 q_H_init 0 := ⟨Or.inr ⟨_, nw_31⟩, w_32, w_3, w_33, rfl, rfl, by decide +kernel⟩
theorem d_X_newBox_39 : decode prog_1_method_9_code 39 = .ok (.areturn, 1) := by decide +kernel
theorem d_X_newBox_40 : decode prog_1_method_9_code 40 = .ok (.new 104, 3) := by decide +kernel
set_option maxRecDepth 20000 in
theorem w_307 : Cond.classLink "MovieBoxes" 104 "MovieBoxes$PlaceTable" ∈ gt := gt_of (in_t2 (List.mem_of_getElem? (i := 67) rfl)) rfl
set_option maxRecDepth 20000 in
theorem w_308 : Cond.instantiable "MovieBoxes$PlaceTable" 14 ∈ gt := gt_of (in_t2 (List.mem_of_getElem? (i := 68) rfl)) rfl
set_option maxRecDepth 20000 in
theorem w_13 : Cond.initialized "MovieBoxes$PlaceTable" ∈ gt := gt_of (in_t1 (List.mem_of_getElem? (i := 13) rfl)) rfl
theorem d_X_newBox_43 : decode prog_1_method_9_code 43 = .ok (.dup, 1) := by decide +kernel
theorem d_X_newBox_44 : decode prog_1_method_9_code 44 = .ok (.invokespecial 106, 3) := by decide +kernel
set_option maxRecDepth 20000 in
theorem nw_309 : Cond.methodLinkNest "MovieBoxes" 106 ⟨"MovieBoxes$PlaceTable", "<init>", "()V"⟩ "MovieBoxes" ∈ nwl := nw_of (in_t2 (List.mem_of_getElem? (i := 69) rfl)) rfl
set_option maxRecDepth 20000 in
theorem w_310 : Cond.instanceMethod ⟨"MovieBoxes$PlaceTable", "<init>", "()V"⟩ ∈ gt := gt_of (in_t2 (List.mem_of_getElem? (i := 70) rfl)) rfl
set_option maxRecDepth 20000 in
theorem w_311 : Cond.code ⟨"MovieBoxes$PlaceTable", "<init>", "()V"⟩ prog_6_method_1_code 1 (none : Option Jvm.ClassFile.FieldType) ∈ gt := gt_of (in_t2 (List.mem_of_getElem? (i := 71) rfl)) rfl
theorem li_X_106 : LkI "MovieBoxes" 106 q_P_init 0 := ⟨Or.inr ⟨_, nw_309⟩, w_310, w_13, w_311, rfl, rfl, by decide +kernel⟩
theorem d_X_newBox_47 : decode prog_1_method_9_code 47 = .ok (.areturn, 1) := by decide +kernel
theorem d_X_newBox_48 : decode prog_1_method_9_code 48 = .ok (.new 107, 3) := by decide +kernel
set_option maxRecDepth 20000 in
theorem w_349 : Cond.classLink "MovieBoxes" 107 "MovieBoxes$SizeTable" ∈ gt := gt_of (in_t2 (List.mem_of_getElem? (i := 109) rfl)) rfl
set_option maxRecDepth 20000 in
theorem w_350 : Cond.instantiable "MovieBoxes$SizeTable" 12 ∈ gt := gt_of (in_t2 (List.mem_of_getElem? (i := 110) rfl)) rfl
set_option maxRecDepth 20000 in
theorem w_14 : Cond.initialized "MovieBoxes$SizeTable" ∈ gt := gt_of (in_t1 (List.mem_of_getElem? (i := 14) rfl)) rfl
theorem d_X_newBox_51 : decode prog_1_method_9_code 51 = .ok (.dup, 1) := by decide +kernel
theorem d_X_newBox_52 : decode prog_1_method_9_code 52 = .ok (.invokespecial 109, 3) := by decide +kernel
set_option maxRecDepth 20000 in
theorem nw_351 : Cond.methodLinkNest "MovieBoxes" 109 ⟨"MovieBoxes$SizeTable", "<init>", "()V"⟩ "MovieBoxes" ∈ nwl := nw_of (in_t2 (List.mem_of_getElem? (i := 111) rfl)) rfl
set_option maxRecDepth 20000 in
theorem w_352 : Cond.instanceMethod ⟨"MovieBoxes$SizeTable", "<init>", "()V"⟩ ∈ gt := gt_of (in_t2 (List.mem_of_getElem? (i := 112) rfl)) rfl
set_option maxRecDepth 20000 in
theorem w_353 : Cond.code ⟨"MovieBoxes$SizeTable", "<init>", "()V"⟩ prog_7_method_1_code 1 (none : Option Jvm.ClassFile.FieldType) ∈ gt := gt_of (in_t2 (List.mem_of_getElem? (i := 113) rfl)) rfl
theorem li_X_109 : LkI "MovieBoxes" 109 q_S_init 0 := ⟨Or.inr ⟨_, nw_351⟩, w_352, w_14, w_353, rfl, rfl, by decide +kernel⟩
theorem d_X_newBox_55 : decode prog_1_method_9_code 55 = .ok (.areturn, 1) := by decide +kernel
theorem d_X_newBox_56 : decode prog_1_method_9_code 56 = .ok (.new 110, 3) := by decide +kernel
set_option maxRecDepth 20000 in
theorem w_368 : Cond.classLink "MovieBoxes" 110 "MovieBoxes$Table" ∈ gt := gt_of (in_t2 (List.mem_of_getElem? (i := 128) rfl)) rfl
set_option maxRecDepth 20000 in
theorem w_369 : Cond.instantiable "MovieBoxes$Table" 12 ∈ gt := gt_of (in_t2 (List.mem_of_getElem? (i := 129) rfl)) rfl
theorem d_X_newBox_59 : decode prog_1_method_9_code 59 = .ok (.dup, 1) := by decide +kernel
theorem d_X_newBox_60 : decode prog_1_method_9_code 60 = .ok (.invokespecial 112, 3) := by decide +kernel
set_option maxRecDepth 20000 in
theorem nw_370 : Cond.methodLinkNest "MovieBoxes" 112 ⟨"MovieBoxes$Table", "<init>", "()V"⟩ "MovieBoxes" ∈ nwl := nw_of (in_t2 (List.mem_of_getElem? (i := 130) rfl)) rfl
theorem li_X_112 : LkI "MovieBoxes" 112 q_T_init 0 := ⟨Or.inr ⟨_, nw_370⟩, w_313, w_12, w_314, rfl, rfl, by decide +kernel⟩
theorem d_X_newBox_63 : decode prog_1_method_9_code 63 = .ok (.areturn, 1) := by decide +kernel
theorem d_X_newBox_64 : decode prog_1_method_9_code 64 = .ok (.new 113, 3) := by decide +kernel
set_option maxRecDepth 20000 in
theorem w_384 : Cond.classLink "MovieBoxes" 113 "MovieBoxes$Leaf" ∈ gt := gt_of (in_t2 (List.mem_of_getElem? (i := 144) rfl)) rfl
set_option maxRecDepth 20000 in
theorem w_385 : Cond.instantiable "MovieBoxes$Leaf" 11 ∈ gt := gt_of (in_t2 (List.mem_of_getElem? (i := 145) rfl)) rfl
theorem d_X_newBox_67 : decode prog_1_method_9_code 67 = .ok (.dup, 1) := by decide +kernel
theorem d_X_newBox_68 : decode prog_1_method_9_code 68 = .ok (.invokespecial 115, 3) := by decide +kernel
set_option maxRecDepth 20000 in
theorem nw_386 : Cond.methodLinkNest "MovieBoxes" 115 ⟨"MovieBoxes$Leaf", "<init>", "()V"⟩ "MovieBoxes" ∈ nwl := nw_of (in_t2 (List.mem_of_getElem? (i := 146) rfl)) rfl
theorem li_X_115 : LkI "MovieBoxes" 115 q_L_init 0 := ⟨Or.inr ⟨_, nw_386⟩, w_316, w_11, w_317, rfl, rfl, by decide +kernel⟩
theorem d_X_newBox_71 : decode prog_1_method_9_code 71 = .ok (.areturn, 1) := by decide +kernel
abbrev q_B_reset : Mi := (⟨"MovieBoxes$Box", "reset", "(LMovieBoxes$Kind;)V"⟩, prog_2_method_2_code, 2, none)
theorem d_B_reset_0 : decode prog_2_method_2_code 0 = .ok (.aload_n 0, 1) := by decide +kernel
theorem d_B_reset_1 : decode prog_2_method_2_code 1 = .ok (.aload_n 1, 1) := by decide +kernel
theorem d_B_reset_2 : decode prog_2_method_2_code 2 = .ok (.putfield 7, 3) := by decide +kernel
set_option maxRecDepth 20000 in
theorem w_42 : Cond.fieldLink "MovieBoxes$Box" 7 "MovieBoxes$Box" "kind" "LMovieBoxes$Kind;" ∈ gt := gt_of (in_t1 (List.mem_of_getElem? (i := 42) rfl)) rfl
theorem fl_B_7_1 : FL "MovieBoxes$Box" 7 1 0 false := ⟨_, _, _, "MovieBoxes$Box", rfl, by decide, rfl, Or.inl w_42, Or.inl rfl⟩
theorem fl_B_7_2 : FL "MovieBoxes$Box" 7 2 0 false := ⟨_, _, _, "MovieBoxes$Box", rfl, by decide, rfl, Or.inl w_42, Or.inl rfl⟩
theorem fl_B_7_3 : FL "MovieBoxes$Box" 7 3 0 false := ⟨_, _, _, "MovieBoxes$Box", rfl, by decide, rfl, Or.inl w_42, Or.inl rfl⟩
theorem fl_B_7_4 : FL "MovieBoxes$Box" 7 4 0 false := ⟨_, _, _, "MovieBoxes$Box", rfl, by decide, rfl, Or.inl w_42, Or.inl rfl⟩
theorem fl_B_7_5 : FL "MovieBoxes$Box" 7 5 0 false := ⟨_, _, _, "MovieBoxes$Box", rfl, by decide, rfl, Or.inl w_42, Or.inl rfl⟩
theorem fb_B_7 : FB "MovieBoxes$Box" 7 0 (.object "MovieBoxes$Kind") := fb5 fl_B_7_1 fl_B_7_2 fl_B_7_3 fl_B_7_4 fl_B_7_5 rfl rfl rfl rfl rfl
set_option maxRecDepth 20000 in
theorem w_83 : Cond.fieldLink "MovieBoxes$Box" 13 "MovieBoxes$Box" "next" "LMovieBoxes$Box;" ∈ gt := gt_of (in_t1 (List.mem_of_getElem? (i := 83) rfl)) rfl
theorem fl_B_13_1 : FL "MovieBoxes$Box" 13 1 8 false := ⟨_, _, _, "MovieBoxes$Box", rfl, by decide, rfl, Or.inl w_83, Or.inl rfl⟩
theorem fl_B_13_2 : FL "MovieBoxes$Box" 13 2 8 false := ⟨_, _, _, "MovieBoxes$Box", rfl, by decide, rfl, Or.inl w_83, Or.inl rfl⟩
theorem fl_B_13_3 : FL "MovieBoxes$Box" 13 3 8 false := ⟨_, _, _, "MovieBoxes$Box", rfl, by decide, rfl, Or.inl w_83, Or.inl rfl⟩
theorem fl_B_13_4 : FL "MovieBoxes$Box" 13 4 8 false := ⟨_, _, _, "MovieBoxes$Box", rfl, by decide, rfl, Or.inl w_83, Or.inl rfl⟩
theorem fl_B_13_5 : FL "MovieBoxes$Box" 13 5 8 false := ⟨_, _, _, "MovieBoxes$Box", rfl, by decide, rfl, Or.inl w_83, Or.inl rfl⟩
theorem fb_B_13 : FB "MovieBoxes$Box" 13 8 (.object "MovieBoxes$Box") := fb5 fl_B_13_1 fl_B_13_2 fl_B_13_3 fl_B_13_4 fl_B_13_5 rfl rfl rfl rfl rfl
theorem d_B_reset_5 : decode prog_2_method_2_code 5 = .ok (.aload_n 0, 1) := by decide +kernel
theorem d_B_reset_6 : decode prog_2_method_2_code 6 = .ok (.aconst_null, 1) := by decide +kernel
theorem d_B_reset_7 : decode prog_2_method_2_code 7 = .ok (.putfield 13, 3) := by decide +kernel
theorem d_B_reset_10 : decode prog_2_method_2_code 10 = .ok (.return_, 1) := by decide +kernel
abbrev q_H_reset : Mi := (⟨"MovieBoxes$Holder", "reset", "(LMovieBoxes$Kind;)V"⟩, prog_3_method_2_code, 2, none)
theorem d_H_reset_0 : decode prog_3_method_2_code 0 = .ok (.aload_n 0, 1) := by decide +kernel
theorem d_H_reset_1 : decode prog_3_method_2_code 1 = .ok (.aload_n 1, 1) := by decide +kernel
theorem d_H_reset_2 : decode prog_3_method_2_code 2 = .ok (.invokespecial 7, 3) := by decide +kernel
set_option maxRecDepth 20000 in
theorem w_240 : Cond.methodLink "MovieBoxes$Holder" 7 ⟨"MovieBoxes$Box", "reset", "(LMovieBoxes$Kind;)V"⟩ ∈ gt := gt_of (in_t2 (List.mem_of_getElem? (i := 0) rfl)) rfl
set_option maxRecDepth 20000 in
theorem w_966 : Cond.sameMethod "MovieBoxes$Box" "MovieBoxes$Box" "reset" "(LMovieBoxes$Kind;)V" ∈ gt := gt_of (in_t5 (List.mem_of_getElem? (i := 6) rfl)) rfl
set_option maxRecDepth 20000 in
theorem w_117 : Cond.superclass "MovieBoxes$Holder" "MovieBoxes$Box" ∈ gt := gt_of (in_t1 (List.mem_of_getElem? (i := 117) rfl)) rfl
set_option maxRecDepth 20000 in
theorem w_241 : Cond.instanceMethod ⟨"MovieBoxes$Box", "reset", "(LMovieBoxes$Kind;)V"⟩ ∈ gt := gt_of (in_t2 (List.mem_of_getElem? (i := 1) rfl)) rfl
set_option maxRecDepth 20000 in
theorem w_242 : Cond.code ⟨"MovieBoxes$Box", "reset", "(LMovieBoxes$Kind;)V"⟩ prog_2_method_2_code 2 (none : Option Jvm.ClassFile.FieldType) ∈ gt := gt_of (in_t2 (List.mem_of_getElem? (i := 2) rfl)) rfl
theorem lp_H_7 : LkP "MovieBoxes$Holder" 7 q_B_reset 1 := ⟨(List.forall_mem_cons.mpr ⟨w_240, (List.forall_mem_cons.mpr ⟨w_966, (List.forall_mem_cons.mpr ⟨w_117, (List.forall_mem_cons.mpr ⟨w_241, (List.forall_mem_cons.mpr ⟨w_2, (fun _ h => absurd h List.not_mem_nil)⟩)⟩)⟩)⟩)⟩), w_242, by decide +kernel⟩
theorem d_H_reset_5 : decode prog_3_method_2_code 5 = .ok (.aload_n 0, 1) := by decide +kernel
theorem d_H_reset_6 : decode prog_3_method_2_code 6 = .ok (.aconst_null, 1) := by decide +kernel
theorem d_H_reset_7 : decode prog_3_method_2_code 7 = .ok (.putfield 11, 3) := by decide +kernel
set_option maxRecDepth 20000 in
theorem w_38 : Cond.fieldLink "MovieBoxes$Holder" 11 "MovieBoxes$Holder" "first" "LMovieBoxes$Box;" ∈ gt := gt_of (in_t1 (List.mem_of_getElem? (i := 38) rfl)) rfl
theorem fl_H_11_1 : FL "MovieBoxes$Holder" 11 1 11 false := ⟨_, _, _, "MovieBoxes$Holder", rfl, by decide, rfl, Or.inl w_38, Or.inl rfl⟩
theorem d_H_reset_10 : decode prog_3_method_2_code 10 = .ok (.aload_n 0, 1) := by decide +kernel
theorem d_H_reset_11 : decode prog_3_method_2_code 11 = .ok (.aconst_null, 1) := by decide +kernel
theorem d_H_reset_12 : decode prog_3_method_2_code 12 = .ok (.putfield 17, 3) := by decide +kernel
set_option maxRecDepth 20000 in
theorem w_41 : Cond.fieldLink "MovieBoxes$Holder" 17 "MovieBoxes$Holder" "last" "LMovieBoxes$Box;" ∈ gt := gt_of (in_t1 (List.mem_of_getElem? (i := 41) rfl)) rfl
theorem fl_H_17_1 : FL "MovieBoxes$Holder" 17 1 12 false := ⟨_, _, _, "MovieBoxes$Holder", rfl, by decide, rfl, Or.inl w_41, Or.inl rfl⟩
theorem d_H_reset_15 : decode prog_3_method_2_code 15 = .ok (.return_, 1) := by decide +kernel
abbrev q_P_reset : Mi := (⟨"MovieBoxes$PlaceTable", "reset", "(LMovieBoxes$Kind;)V"⟩, prog_6_method_2_code, 2, none)
theorem d_P_reset_0 : decode prog_6_method_2_code 0 = .ok (.aload_n 0, 1) := by decide +kernel
theorem d_P_reset_1 : decode prog_6_method_2_code 1 = .ok (.aload_n 1, 1) := by decide +kernel
theorem d_P_reset_2 : decode prog_6_method_2_code 2 = .ok (.invokespecial 7, 3) := by decide +kernel
set_option maxRecDepth 20000 in
theorem w_402 : Cond.methodLink "MovieBoxes$PlaceTable" 7 ⟨"MovieBoxes$Table", "reset", "(LMovieBoxes$Kind;)V"⟩ ∈ gt := gt_of (in_t2 (List.mem_of_getElem? (i := 162) rfl)) rfl
set_option maxRecDepth 20000 in
theorem w_403 : Cond.sameMethod "MovieBoxes$Table" "MovieBoxes$Box" "reset" "(LMovieBoxes$Kind;)V" ∈ gt := gt_of (in_t2 (List.mem_of_getElem? (i := 163) rfl)) rfl
set_option maxRecDepth 20000 in
theorem w_348 : Cond.superclass "MovieBoxes$PlaceTable" "MovieBoxes$Table" ∈ gt := gt_of (in_t2 (List.mem_of_getElem? (i := 108) rfl)) rfl
set_option maxRecDepth 20000 in
theorem w_383 : Cond.superclass "MovieBoxes$Table" "MovieBoxes$Leaf" ∈ gt := gt_of (in_t2 (List.mem_of_getElem? (i := 143) rfl)) rfl
set_option maxRecDepth 20000 in
theorem w_398 : Cond.superclass "MovieBoxes$Leaf" "MovieBoxes$Box" ∈ gt := gt_of (in_t2 (List.mem_of_getElem? (i := 158) rfl)) rfl
theorem lx_P_7 : LkX "MovieBoxes$PlaceTable" 7 "MovieBoxes$Leaf" ⟨"MovieBoxes$Table", "reset", "(LMovieBoxes$Kind;)V"⟩ q_B_reset 1 := ⟨(List.forall_mem_cons.mpr ⟨w_402, (List.forall_mem_cons.mpr ⟨w_403, (List.forall_mem_cons.mpr ⟨w_348, (List.forall_mem_cons.mpr ⟨w_383, (List.forall_mem_cons.mpr ⟨w_398, (List.forall_mem_cons.mpr ⟨w_241, (List.forall_mem_cons.mpr ⟨w_2, (fun _ h => absurd h List.not_mem_nil)⟩)⟩)⟩)⟩)⟩)⟩)⟩), w_242, by decide +kernel⟩
theorem d_P_reset_5 : decode prog_6_method_2_code 5 = .ok (.aload_n 0, 1) := by decide +kernel
theorem d_P_reset_6 : decode prog_6_method_2_code 6 = .ok (.iconst 0, 1) := by decide +kernel
theorem d_P_reset_7 : decode prog_6_method_2_code 7 = .ok (.putfield 11, 3) := by decide +kernel
set_option maxRecDepth 20000 in
theorem w_319 : Cond.fieldLink "MovieBoxes$PlaceTable" 11 "MovieBoxes$PlaceTable" "grown" "Z" ∈ gt := gt_of (in_t2 (List.mem_of_getElem? (i := 79) rfl)) rfl
theorem fl_P_11_4 : FL "MovieBoxes$PlaceTable" 11 4 12 false := ⟨_, _, _, "MovieBoxes$PlaceTable", rfl, by decide, rfl, Or.inl w_319, Or.inl rfl⟩
theorem d_P_reset_10 : decode prog_6_method_2_code 10 = .ok (.return_, 1) := by decide +kernel
/-! ===== the component: new boxes, reset ===== -/
/-- a new box's fields -/
def zD : mS := fun c _ => if c = 26 ∨ c = 23 ∨ c = 24 ∨ c = 25 then -1 else 0
section XNEW
variable (G : gG) (l : Launch)
theorem c_X_newBox (ws : va_W) (k : Int) (hk : 0 ≤ k ∧ k ≤ 4) : Ct G l q_X_newBox 5 1 14 [vI k] ws (fun r w => ∃ q : Nat, r = some (.ref q) ∧ w = ws ++ [(q, .inr ((clN k).toNat, bF G (fun _ => 0) zD 0 (clN k).toNat))]) := by
  refine Ct.intro [some (vI k)] (by decide) (Nat.le_of_ble_eq_true rfl) rfl (fun sz => ?_)
  refine r_iload_n d_X_newBox_0 rfl ?_
  rcases (by omega : k = 0 ∨ k = 1 ∨ k = 2 ∨ k = 3 ∨ k = 4) with rfl | rfl | rfl | rfl | rfl
  · refine r_tableIn 32 d_X_newBox_1 (by unfold i32; omega) (by omega) (by omega) rfl (by decide) ?_
    refine r_new (ci := 1) (bF G (fun _ => 0) zD 0 1) d_X_newBox_32 rfl w_29 w_30 w_3 (fun j hj => by rcases (by omega : j = 0 ∨ j = 1 ∨ j = 2 ∨ j = 3 ∨ j = 4 ∨ j = 5 ∨ j = 6 ∨ j = 7 ∨ j = 8 ∨ j = 9 ∨ j = 10 ∨ j = 11 ∨ j = 12) with rfl | rfl | rfl | rfl | rfl | rfl | rfl | rfl | rfl | rfl | rfl | rfl | rfl <;> rfl) (Nat.le_of_ble_eq_true rfl) (Nat.le_of_ble_eq_true rfl) (fun q => ?_)
    refine r_dup d_X_newBox_35 rfl ?_
    refine r_kI0 d_X_newBox_36 li_X_18 (c_H_init G l _ q) (Nat.le_of_ble_eq_true rfl) (rok rfl rfl) ⟨(Nat.le_of_ble_eq_true rfl), (Nat.le_of_ble_eq_true rfl)⟩ (fun r ws2 hq => ?_)
    obtain ⟨rfl, hw⟩ := hq; rw [hw]; clear hw
    show WP _ _ _ _ _ _ _
    refine r_aret d_X_newBox_39 rfl (by first | exact Or.inl ⟨_, rfl⟩ | exact Or.inr ⟨_, rfl⟩) rfl (Nat.le_of_ble_eq_true rfl) (Nat.le_of_ble_eq_true rfl) ?_
    exact ⟨q, rfl, rfl⟩
  · refine r_tableIn 40 d_X_newBox_1 (by unfold i32; omega) (by omega) (by omega) rfl (by decide) ?_
    refine r_new (ci := 4) (bF G (fun _ => 0) zD 0 4) d_X_newBox_40 rfl w_307 w_308 w_13 (fun j hj => by rcases (by omega : j = 0 ∨ j = 1 ∨ j = 2 ∨ j = 3 ∨ j = 4 ∨ j = 5 ∨ j = 6 ∨ j = 7 ∨ j = 8 ∨ j = 9 ∨ j = 10 ∨ j = 11 ∨ j = 12 ∨ j = 13) with rfl | rfl | rfl | rfl | rfl | rfl | rfl | rfl | rfl | rfl | rfl | rfl | rfl | rfl <;> rfl) (Nat.le_of_ble_eq_true rfl) (Nat.le_of_ble_eq_true rfl) (fun q => ?_)
    refine r_dup d_X_newBox_43 rfl ?_
    refine r_kI0 d_X_newBox_44 li_X_106 (c_P_init G l _ q) (Nat.le_of_ble_eq_true rfl) (rok rfl rfl) ⟨(Nat.le_of_ble_eq_true rfl), (Nat.le_of_ble_eq_true rfl)⟩ (fun r ws2 hq => ?_)
    obtain ⟨rfl, hw⟩ := hq; rw [hw]; clear hw
    show WP _ _ _ _ _ _ _
    refine r_aret d_X_newBox_47 rfl (by first | exact Or.inl ⟨_, rfl⟩ | exact Or.inr ⟨_, rfl⟩) rfl (Nat.le_of_ble_eq_true rfl) (Nat.le_of_ble_eq_true rfl) ?_
    exact ⟨q, rfl, rfl⟩
  · refine r_tableIn 48 d_X_newBox_1 (by unfold i32; omega) (by omega) (by omega) rfl (by decide) ?_
    refine r_new (ci := 5) (bF G (fun _ => 0) zD 0 5) d_X_newBox_48 rfl w_349 w_350 w_14 (fun j hj => by rcases (by omega : j = 0 ∨ j = 1 ∨ j = 2 ∨ j = 3 ∨ j = 4 ∨ j = 5 ∨ j = 6 ∨ j = 7 ∨ j = 8 ∨ j = 9 ∨ j = 10 ∨ j = 11) with rfl | rfl | rfl | rfl | rfl | rfl | rfl | rfl | rfl | rfl | rfl | rfl <;> rfl) (Nat.le_of_ble_eq_true rfl) (Nat.le_of_ble_eq_true rfl) (fun q => ?_)
    refine r_dup d_X_newBox_51 rfl ?_
    refine r_kI0 d_X_newBox_52 li_X_109 (c_S_init G l _ q) (Nat.le_of_ble_eq_true rfl) (rok rfl rfl) ⟨(Nat.le_of_ble_eq_true rfl), (Nat.le_of_ble_eq_true rfl)⟩ (fun r ws2 hq => ?_)
    obtain ⟨rfl, hw⟩ := hq; rw [hw]; clear hw
    show WP _ _ _ _ _ _ _
    refine r_aret d_X_newBox_55 rfl (by first | exact Or.inl ⟨_, rfl⟩ | exact Or.inr ⟨_, rfl⟩) rfl (Nat.le_of_ble_eq_true rfl) (Nat.le_of_ble_eq_true rfl) ?_
    exact ⟨q, rfl, rfl⟩
  · refine r_tableIn 56 d_X_newBox_1 (by unfold i32; omega) (by omega) (by omega) rfl (by decide) ?_
    refine r_new (ci := 3) (bF G (fun _ => 0) zD 0 3) d_X_newBox_56 rfl w_368 w_369 w_12 (fun j hj => by rcases (by omega : j = 0 ∨ j = 1 ∨ j = 2 ∨ j = 3 ∨ j = 4 ∨ j = 5 ∨ j = 6 ∨ j = 7 ∨ j = 8 ∨ j = 9 ∨ j = 10 ∨ j = 11) with rfl | rfl | rfl | rfl | rfl | rfl | rfl | rfl | rfl | rfl | rfl | rfl <;> rfl) (Nat.le_of_ble_eq_true rfl) (Nat.le_of_ble_eq_true rfl) (fun q => ?_)
    refine r_dup d_X_newBox_59 rfl ?_
    refine r_kI0 d_X_newBox_60 li_X_112 (c_T_init G l _ q) (Nat.le_of_ble_eq_true rfl) (rok rfl rfl) ⟨(Nat.le_of_ble_eq_true rfl), (Nat.le_of_ble_eq_true rfl)⟩ (fun r ws2 hq => ?_)
    obtain ⟨rfl, hw⟩ := hq; rw [hw]; clear hw
    show WP _ _ _ _ _ _ _
    refine r_aret d_X_newBox_63 rfl (by first | exact Or.inl ⟨_, rfl⟩ | exact Or.inr ⟨_, rfl⟩) rfl (Nat.le_of_ble_eq_true rfl) (Nat.le_of_ble_eq_true rfl) ?_
    exact ⟨q, rfl, rfl⟩
  · refine r_tableOut 64 d_X_newBox_1 (by unfold i32; omega) (by omega) (by decide) ?_
    refine r_new (ci := 2) (bF G (fun _ => 0) zD 0 2) d_X_newBox_64 rfl w_384 w_385 w_11 (fun j hj => by rcases (by omega : j = 0 ∨ j = 1 ∨ j = 2 ∨ j = 3 ∨ j = 4 ∨ j = 5 ∨ j = 6 ∨ j = 7 ∨ j = 8 ∨ j = 9 ∨ j = 10) with rfl | rfl | rfl | rfl | rfl | rfl | rfl | rfl | rfl | rfl | rfl <;> rfl) (Nat.le_of_ble_eq_true rfl) (Nat.le_of_ble_eq_true rfl) (fun q => ?_)
    refine r_dup d_X_newBox_67 rfl ?_
    refine r_kI0 d_X_newBox_68 li_X_115 (c_L_init G l _ q) (Nat.le_of_ble_eq_true rfl) (rok rfl rfl) ⟨(Nat.le_of_ble_eq_true rfl), (Nat.le_of_ble_eq_true rfl)⟩ (fun r ws2 hq => ?_)
    obtain ⟨rfl, hw⟩ := hq; rw [hw]; clear hw
    show WP _ _ _ _ _ _ _
    refine r_aret d_X_newBox_71 rfl (by first | exact Or.inl ⟨_, rfl⟩ | exact Or.inr ⟨_, rfl⟩) rfl (Nat.le_of_ble_eq_true rfl) (Nat.le_of_ble_eq_true rfl) ?_
    exact ⟨q, rfl, rfl⟩
theorem c_B_reset (ws : va_W) (q b c o : Nat) (fs : List Value) (he : ws[q]? = some (b, .inr (c, fs))) (hc : 1 ≤ c ∧ c ≤ 5) (hl : 11 ≤ fs.length) : Ct G l q_B_reset 0 0 0 [.ref b, .ref (gE G o)] ws (fun r w => r = none ∧ w = ws.set q (b, .inr (c, (fs.set 0 (.ref (gE G o))).set 8 .null))) := by
  refine Ct.intro [some (.ref b), some (.ref (gE G o))] (by decide) (Nat.le_of_ble_eq_true rfl) rfl (fun sz => ?_)
  refine r_aload_n d_B_reset_0 rfl rfl ?_
  refine r_aload_n d_B_reset_1 rfl rfl ?_
  have f1 := fb_B_7 c hc
  have f2 := fb_B_13 c hc
  refine r_put _ d_B_reset_2 f1.1 q he (by rw [f1.2]; rfl) (by rw [f1.2]; rfl) (by omega) rfl ?_
  refine r_aload_n d_B_reset_5 rfl rfl ?_
  refine r_null d_B_reset_6 ?_
  refine r_put _ d_B_reset_7 f2.1 q (set_at he) (by rw [f2.2]; rfl) (by rw [f2.2]; rfl) (by rw [List.length_set]; omega) set2 ?_
  refine r_vret d_B_reset_10 rfl (Nat.le_of_ble_eq_true rfl) (Nat.le_of_ble_eq_true rfl) ?_
  exact ⟨rfl, rfl⟩
theorem c_H_reset (ws : va_W) (q b o : Nat) (fs : List Value) (he : ws[q]? = some (b, .inr (1, fs))) (hl : 13 ≤ fs.length) : Ct G l q_H_reset 1 0 0 [.ref b, .ref (gE G o)] ws (fun r w => r = none ∧ w = ws.set q (b, .inr (1, (((fs.set 0 (.ref (gE G o))).set 8 .null).set 11 .null).set 12 .null))) := by
  refine Ct.intro [some (.ref b), some (.ref (gE G o))] (by decide) (Nat.le_of_ble_eq_true rfl) rfl (fun sz => ?_)
  refine r_aload_n d_H_reset_0 rfl rfl ?_
  refine r_aload_n d_H_reset_1 rfl rfl ?_
  refine r_kP1 d_H_reset_2 lp_H_7 (c_B_reset G l ws q b 1 o fs he (by omega) (by omega)) q rfl he (Nat.le_of_ble_eq_true rfl) (rok rfl rfl) ⟨(Nat.le_of_ble_eq_true rfl), (Nat.le_of_ble_eq_true rfl)⟩ (fun r ws2 hq => ?_)
  obtain ⟨rfl, hw⟩ := hq; rw [hw]; clear hw
  show WP _ _ _ _ _ _ _
  refine r_aload_n d_H_reset_5 rfl rfl ?_
  refine r_null d_H_reset_6 ?_
  refine r_put _ d_H_reset_7 fl_H_11_1 q (set_at he) rfl rfl (by simp only [List.length_set]; omega) set2 ?_
  refine r_aload_n d_H_reset_10 rfl rfl ?_
  refine r_null d_H_reset_11 ?_
  refine r_put _ d_H_reset_12 fl_H_17_1 q (set_at he) rfl rfl (by simp only [List.length_set]; omega) set2 ?_
  refine r_vret d_H_reset_15 rfl (Nat.le_of_ble_eq_true rfl) (Nat.le_of_ble_eq_true rfl) ?_
  exact ⟨rfl, rfl⟩
theorem c_P_reset (ws : va_W) (q b o : Nat) (fs : List Value) (he : ws[q]? = some (b, .inr (4, fs))) (hl : 14 ≤ fs.length) : Ct G l q_P_reset 1 0 0 [.ref b, .ref (gE G o)] ws (fun r w => r = none ∧ w = ws.set q (b, .inr (4, ((fs.set 0 (.ref (gE G o))).set 8 .null).set 12 (vI 0)))) := by
  refine Ct.intro [some (.ref b), some (.ref (gE G o))] (by decide) (Nat.le_of_ble_eq_true rfl) rfl (fun sz => ?_)
  refine r_aload_n d_P_reset_0 rfl rfl ?_
  refine r_aload_n d_P_reset_1 rfl rfl ?_
  refine r_callX (As := [.ref (gE G o)]) d_P_reset_2 lx_P_7 (c_B_reset G l ws q b 4 o fs he (by omega) (by omega)) (ci := 4) (q0 := q) rfl he rfl (Nat.le_of_ble_eq_true rfl) (rok rfl rfl) ⟨(Nat.le_of_ble_eq_true rfl), (Nat.le_of_ble_eq_true rfl)⟩ (fun r ws2 hq => ?_)
  obtain ⟨rfl, hw⟩ := hq; rw [hw]; clear hw
  show WP _ _ _ _ _ _ _
  refine r_aload_n d_P_reset_5 rfl rfl ?_
  refine r_iconst d_P_reset_6 ?_
  refine r_put _ d_P_reset_7 fl_P_11_4 q (set_at he) rfl rfl (by simp only [List.length_set]; omega) set2 ?_
  refine r_vret d_P_reset_10 rfl (Nat.le_of_ble_eq_true rfl) (Nat.le_of_ble_eq_true rfl) ?_
  exact ⟨rfl, rfl⟩
end XNEW
