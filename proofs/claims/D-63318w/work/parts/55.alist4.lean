abbrev q_A_clear : Mi := (⟨"java/util/ArrayList", "clear", "()V"⟩, prog_21_method_40_code, 4, none)
theorem d_A_clear_0 : decode prog_21_method_40_code 0 = .ok (.aload_n 0, 1) := by decide +kernel
theorem d_A_clear_1 : decode prog_21_method_40_code 1 = .ok (.dup, 1) := by decide +kernel
theorem d_A_clear_2 : decode prog_21_method_40_code 2 = .ok (.getfield 63, 3) := by decide +kernel
theorem d_A_clear_5 : decode prog_21_method_40_code 5 = .ok (.iconst 1, 1) := by decide +kernel
theorem d_A_clear_6 : decode prog_21_method_40_code 6 = .ok (.iadd, 1) := by decide +kernel
theorem d_A_clear_7 : decode prog_21_method_40_code 7 = .ok (.putfield 63, 3) := by decide +kernel
theorem d_A_clear_10 : decode prog_21_method_40_code 10 = .ok (.aload_n 0, 1) := by decide +kernel
theorem d_A_clear_11 : decode prog_21_method_40_code 11 = .ok (.getfield 9, 3) := by decide +kernel
theorem d_A_clear_14 : decode prog_21_method_40_code 14 = .ok (.astore_n 1, 1) := by decide +kernel
theorem d_A_clear_15 : decode prog_21_method_40_code 15 = .ok (.aload_n 0, 1) := by decide +kernel
theorem d_A_clear_16 : decode prog_21_method_40_code 16 = .ok (.getfield 48, 3) := by decide +kernel
theorem d_A_clear_19 : decode prog_21_method_40_code 19 = .ok (.istore_n 2, 1) := by decide +kernel
theorem d_A_clear_20 : decode prog_21_method_40_code 20 = .ok (.aload_n 0, 1) := by decide +kernel
theorem d_A_clear_21 : decode prog_21_method_40_code 21 = .ok (.iconst 0, 1) := by decide +kernel
theorem d_A_clear_22 : decode prog_21_method_40_code 22 = .ok (.dup_x1, 1) := by decide +kernel
theorem d_A_clear_23 : decode prog_21_method_40_code 23 = .ok (.putfield 48, 3) := by decide +kernel
theorem d_A_clear_26 : decode prog_21_method_40_code 26 = .ok (.istore_n 3, 1) := by decide +kernel
theorem d_A_clear_42 : decode prog_21_method_40_code 42 = .ok (.return_, 1) := by decide +kernel
theorem d_A_clear_27 : decode prog_21_method_40_code 27 = .ok (.iload_n 3, 1) := by decide +kernel
theorem d_A_clear_28 : decode prog_21_method_40_code 28 = .ok (.iload_n 2, 1) := by decide +kernel
theorem d_A_clear_29 : decode prog_21_method_40_code 29 = .ok (.if_icmp .ge 13, 3) := by decide +kernel
theorem d_A_clear_32 : decode prog_21_method_40_code 32 = .ok (.aload_n 1, 1) := by decide +kernel
theorem d_A_clear_33 : decode prog_21_method_40_code 33 = .ok (.iload_n 3, 1) := by decide +kernel
theorem d_A_clear_34 : decode prog_21_method_40_code 34 = .ok (.aconst_null, 1) := by decide +kernel
theorem d_A_clear_35 : decode prog_21_method_40_code 35 = .ok (.aastore, 1) := by decide +kernel
theorem d_A_clear_36 : decode prog_21_method_40_code 36 = .ok (.iinc 3 1, 3) := by decide +kernel
theorem d_A_clear_39 : decode prog_21_method_40_code 39 = .ok (.goto (-12), 3) := by decide +kernel
abbrev q_AC_init : Mi := (⟨"java/util/AbstractCollection", "<init>", "()V"⟩, prog_19_method_1_code, 1, none)
theorem d_AC_init_0 : decode prog_19_method_1_code 0 = .ok (.aload_n 0, 1) := by decide +kernel
theorem d_AC_init_1 : decode prog_19_method_1_code 1 = .ok (.invokespecial 1, 3) := by decide +kernel
set_option maxRecDepth 20000 in
theorem w_130 : Cond.methodLink "java/util/AbstractCollection" 1 ⟨"java/lang/Object", "<init>", "()V"⟩ ∈ gt := gt_of (in_t1 (List.mem_of_getElem? (i := 130) rfl)) rfl
theorem d_AC_init_4 : decode prog_19_method_1_code 4 = .ok (.return_, 1) := by decide +kernel
abbrev q_B_init : Mi := (⟨"MovieBoxes$Box", "<init>", "()V"⟩, prog_2_method_1_code, 1, none)
theorem d_B_init_0 : decode prog_2_method_1_code 0 = .ok (.aload_n 0, 1) := by decide +kernel
theorem d_B_init_1 : decode prog_2_method_1_code 1 = .ok (.invokespecial 1, 3) := by decide +kernel
set_option maxRecDepth 20000 in
theorem w_37 : Cond.methodLink "MovieBoxes$Box" 1 ⟨"java/lang/Object", "<init>", "()V"⟩ ∈ gt := gt_of (in_t1 (List.mem_of_getElem? (i := 37) rfl)) rfl
theorem d_B_init_4 : decode prog_2_method_1_code 4 = .ok (.return_, 1) := by decide +kernel
abbrev q_AL_init : Mi := (⟨"java/util/AbstractList", "<init>", "()V"⟩, prog_20_method_1_code, 1, none)
theorem d_AL_init_0 : decode prog_20_method_1_code 0 = .ok (.aload_n 0, 1) := by decide +kernel
theorem d_AL_init_1 : decode prog_20_method_1_code 1 = .ok (.invokespecial 1, 3) := by decide +kernel
set_option maxRecDepth 20000 in
theorem w_127 : Cond.methodLink "java/util/AbstractList" 1 ⟨"java/util/AbstractCollection", "<init>", "()V"⟩ ∈ gt := gt_of (in_t1 (List.mem_of_getElem? (i := 127) rfl)) rfl
set_option maxRecDepth 20000 in
theorem w_128 : Cond.instanceMethod ⟨"java/util/AbstractCollection", "<init>", "()V"⟩ ∈ gt := gt_of (in_t1 (List.mem_of_getElem? (i := 128) rfl)) rfl
set_option maxRecDepth 20000 in
theorem w_4 : Cond.initialized "java/util/AbstractCollection" ∈ gt := gt_of (in_t1 (List.mem_of_getElem? (i := 4) rfl)) rfl
set_option maxRecDepth 20000 in
theorem w_129 : Cond.code ⟨"java/util/AbstractCollection", "<init>", "()V"⟩ prog_19_method_1_code 1 (none : Option Jvm.ClassFile.FieldType) ∈ gt := gt_of (in_t1 (List.mem_of_getElem? (i := 129) rfl)) rfl
theorem li_AL_1 : LkI "java/util/AbstractList" 1 q_AC_init 0 := ⟨Or.inl w_127, w_128, w_4, w_129, rfl, rfl, by decide +kernel⟩
theorem d_AL_init_4 : decode prog_20_method_1_code 4 = .ok (.aload_n 0, 1) := by decide +kernel
theorem d_AL_init_5 : decode prog_20_method_1_code 5 = .ok (.iconst 0, 1) := by decide +kernel
theorem d_AL_init_6 : decode prog_20_method_1_code 6 = .ok (.putfield 7, 3) := by decide +kernel
set_option maxRecDepth 20000 in
theorem w_135 : Cond.fieldLink "java/util/AbstractList" 7 "java/util/AbstractList" "modCount" "I" ∈ gt := gt_of (in_t1 (List.mem_of_getElem? (i := 135) rfl)) rfl
theorem fl_AL_7_8 : FL "java/util/AbstractList" 7 8 0 false := ⟨_, _, _, "java/util/AbstractList", rfl, by decide, rfl, Or.inl w_135, Or.inl rfl⟩
theorem d_AL_init_9 : decode prog_20_method_1_code 9 = .ok (.return_, 1) := by decide +kernel
abbrev q_A_init : Mi := (⟨"java/util/ArrayList", "<init>", "()V"⟩, prog_21_method_2_code, 1, none)
theorem d_A_init_0 : decode prog_21_method_2_code 0 = .ok (.aload_n 0, 1) := by decide +kernel
theorem d_A_init_1 : decode prog_21_method_2_code 1 = .ok (.invokespecial 1, 3) := by decide +kernel
set_option maxRecDepth 20000 in
theorem w_124 : Cond.methodLink "java/util/ArrayList" 1 ⟨"java/util/AbstractList", "<init>", "()V"⟩ ∈ gt := gt_of (in_t1 (List.mem_of_getElem? (i := 124) rfl)) rfl
set_option maxRecDepth 20000 in
theorem w_125 : Cond.instanceMethod ⟨"java/util/AbstractList", "<init>", "()V"⟩ ∈ gt := gt_of (in_t1 (List.mem_of_getElem? (i := 125) rfl)) rfl
set_option maxRecDepth 20000 in
theorem w_5 : Cond.initialized "java/util/AbstractList" ∈ gt := gt_of (in_t1 (List.mem_of_getElem? (i := 5) rfl)) rfl
set_option maxRecDepth 20000 in
theorem w_126 : Cond.code ⟨"java/util/AbstractList", "<init>", "()V"⟩ prog_20_method_1_code 1 (none : Option Jvm.ClassFile.FieldType) ∈ gt := gt_of (in_t1 (List.mem_of_getElem? (i := 126) rfl)) rfl
theorem li_A_1 : LkI "java/util/ArrayList" 1 q_AL_init 0 := ⟨Or.inl w_124, w_125, w_5, w_126, rfl, rfl, by decide +kernel⟩
theorem d_A_init_4 : decode prog_21_method_2_code 4 = .ok (.aload_n 0, 1) := by decide +kernel
theorem d_A_init_5 : decode prog_21_method_2_code 5 = .ok (.getstatic 39, 3) := by decide +kernel
theorem d_A_init_8 : decode prog_21_method_2_code 8 = .ok (.putfield 9, 3) := by decide +kernel
theorem d_A_init_11 : decode prog_21_method_2_code 11 = .ok (.return_, 1) := by decide +kernel
abbrev q_H_init : Mi := (⟨"MovieBoxes$Holder", "<init>", "()V"⟩, prog_3_method_1_code, 1, none)
theorem d_H_init_0 : decode prog_3_method_1_code 0 = .ok (.aload_n 0, 1) := by decide +kernel
theorem d_H_init_1 : decode prog_3_method_1_code 1 = .ok (.invokespecial 1, 3) := by decide +kernel
set_option maxRecDepth 20000 in
theorem nw_34 : Cond.methodLinkNest "MovieBoxes$Holder" 1 ⟨"MovieBoxes$Box", "<init>", "()V"⟩ "MovieBoxes" ∈ nwl := nw_of (in_t1 (List.mem_of_getElem? (i := 34) rfl)) rfl
set_option maxRecDepth 20000 in
theorem w_35 : Cond.instanceMethod ⟨"MovieBoxes$Box", "<init>", "()V"⟩ ∈ gt := gt_of (in_t1 (List.mem_of_getElem? (i := 35) rfl)) rfl
set_option maxRecDepth 20000 in
theorem w_2 : Cond.initialized "MovieBoxes$Box" ∈ gt := gt_of (in_t1 (List.mem_of_getElem? (i := 2) rfl)) rfl
set_option maxRecDepth 20000 in
theorem w_36 : Cond.code ⟨"MovieBoxes$Box", "<init>", "()V"⟩ prog_2_method_1_code 1 (none : Option Jvm.ClassFile.FieldType) ∈ gt := gt_of (in_t1 (List.mem_of_getElem? (i := 36) rfl)) rfl
theorem li_H_1 : LkI "MovieBoxes$Holder" 1 q_B_init 0 := ⟨Or.inr ⟨_, nw_34⟩, w_35, w_2, w_36, rfl, rfl, by decide +kernel⟩
theorem d_H_init_4 : decode prog_3_method_1_code 4 = .ok (.return_, 1) := by decide +kernel
abbrev q_L_init : Mi := (⟨"MovieBoxes$Leaf", "<init>", "()V"⟩, prog_5_method_1_code, 1, none)
theorem d_L_init_0 : decode prog_5_method_1_code 0 = .ok (.aload_n 0, 1) := by decide +kernel
theorem d_L_init_1 : decode prog_5_method_1_code 1 = .ok (.invokespecial 1, 3) := by decide +kernel
set_option maxRecDepth 20000 in
theorem nw_318 : Cond.methodLinkNest "MovieBoxes$Leaf" 1 ⟨"MovieBoxes$Box", "<init>", "()V"⟩ "MovieBoxes" ∈ nwl := nw_of (in_t2 (List.mem_of_getElem? (i := 78) rfl)) rfl
theorem li_L_1 : LkI "MovieBoxes$Leaf" 1 q_B_init 0 := ⟨Or.inr ⟨_, nw_318⟩, w_35, w_2, w_36, rfl, rfl, by decide +kernel⟩
theorem d_L_init_4 : decode prog_5_method_1_code 4 = .ok (.return_, 1) := by decide +kernel
abbrev q_T_init : Mi := (⟨"MovieBoxes$Table", "<init>", "()V"⟩, prog_8_method_1_code, 1, none)
theorem d_T_init_0 : decode prog_8_method_1_code 0 = .ok (.aload_n 0, 1) := by decide +kernel
theorem d_T_init_1 : decode prog_8_method_1_code 1 = .ok (.invokespecial 1, 3) := by decide +kernel
set_option maxRecDepth 20000 in
theorem nw_315 : Cond.methodLinkNest "MovieBoxes$Table" 1 ⟨"MovieBoxes$Leaf", "<init>", "()V"⟩ "MovieBoxes" ∈ nwl := nw_of (in_t2 (List.mem_of_getElem? (i := 75) rfl)) rfl
set_option maxRecDepth 20000 in
theorem w_316 : Cond.instanceMethod ⟨"MovieBoxes$Leaf", "<init>", "()V"⟩ ∈ gt := gt_of (in_t2 (List.mem_of_getElem? (i := 76) rfl)) rfl
set_option maxRecDepth 20000 in
theorem w_11 : Cond.initialized "MovieBoxes$Leaf" ∈ gt := gt_of (in_t1 (List.mem_of_getElem? (i := 11) rfl)) rfl
set_option maxRecDepth 20000 in
theorem w_317 : Cond.code ⟨"MovieBoxes$Leaf", "<init>", "()V"⟩ prog_5_method_1_code 1 (none : Option Jvm.ClassFile.FieldType) ∈ gt := gt_of (in_t2 (List.mem_of_getElem? (i := 77) rfl)) rfl
theorem li_T_1 : LkI "MovieBoxes$Table" 1 q_L_init 0 := ⟨Or.inr ⟨_, nw_315⟩, w_316, w_11, w_317, rfl, rfl, by decide +kernel⟩
theorem d_T_init_4 : decode prog_8_method_1_code 4 = .ok (.return_, 1) := by decide +kernel
abbrev q_P_init : Mi := (⟨"MovieBoxes$PlaceTable", "<init>", "()V"⟩, prog_6_method_1_code, 1, none)
theorem d_P_init_0 : decode prog_6_method_1_code 0 = .ok (.aload_n 0, 1) := by decide +kernel
theorem d_P_init_1 : decode prog_6_method_1_code 1 = .ok (.invokespecial 1, 3) := by decide +kernel
set_option maxRecDepth 20000 in
theorem nw_312 : Cond.methodLinkNest "MovieBoxes$PlaceTable" 1 ⟨"MovieBoxes$Table", "<init>", "()V"⟩ "MovieBoxes" ∈ nwl := nw_of (in_t2 (List.mem_of_getElem? (i := 72) rfl)) rfl
set_option maxRecDepth 20000 in
theorem w_313 : Cond.instanceMethod ⟨"MovieBoxes$Table", "<init>", "()V"⟩ ∈ gt := gt_of (in_t2 (List.mem_of_getElem? (i := 73) rfl)) rfl
set_option maxRecDepth 20000 in
theorem w_12 : Cond.initialized "MovieBoxes$Table" ∈ gt := gt_of (in_t1 (List.mem_of_getElem? (i := 12) rfl)) rfl
set_option maxRecDepth 20000 in
theorem w_314 : Cond.code ⟨"MovieBoxes$Table", "<init>", "()V"⟩ prog_8_method_1_code 1 (none : Option Jvm.ClassFile.FieldType) ∈ gt := gt_of (in_t2 (List.mem_of_getElem? (i := 74) rfl)) rfl
theorem li_P_1 : LkI "MovieBoxes$PlaceTable" 1 q_T_init 0 := ⟨Or.inr ⟨_, nw_312⟩, w_313, w_12, w_314, rfl, rfl, by decide +kernel⟩
theorem d_P_init_4 : decode prog_6_method_1_code 4 = .ok (.return_, 1) := by decide +kernel
abbrev q_S_init : Mi := (⟨"MovieBoxes$SizeTable", "<init>", "()V"⟩, prog_7_method_1_code, 1, none)
theorem d_S_init_0 : decode prog_7_method_1_code 0 = .ok (.aload_n 0, 1) := by decide +kernel
theorem d_S_init_1 : decode prog_7_method_1_code 1 = .ok (.invokespecial 1, 3) := by decide +kernel
set_option maxRecDepth 20000 in
theorem nw_354 : Cond.methodLinkNest "MovieBoxes$SizeTable" 1 ⟨"MovieBoxes$Table", "<init>", "()V"⟩ "MovieBoxes" ∈ nwl := nw_of (in_t2 (List.mem_of_getElem? (i := 114) rfl)) rfl
theorem li_S_1 : LkI "MovieBoxes$SizeTable" 1 q_T_init 0 := ⟨Or.inr ⟨_, nw_354⟩, w_313, w_12, w_314, rfl, rfl, by decide +kernel⟩
theorem d_S_init_4 : decode prog_7_method_1_code 4 = .ok (.return_, 1) := by decide +kernel
abbrev q_K_init : Mi := (⟨"MovieBoxes$Track", "<init>", "()V"⟩, prog_9_method_1_code, 1, none)
theorem d_K_init_0 : decode prog_9_method_1_code 0 = .ok (.aload_n 0, 1) := by decide +kernel
theorem d_K_init_1 : decode prog_9_method_1_code 1 = .ok (.invokespecial 3, 3) := by decide +kernel
set_option maxRecDepth 20000 in
theorem w_153 : Cond.methodLink "MovieBoxes$Track" 3 ⟨"java/lang/Object", "<init>", "()V"⟩ ∈ gt := gt_of (in_t1 (List.mem_of_getElem? (i := 153) rfl)) rfl
theorem d_K_init_4 : decode prog_9_method_1_code 4 = .ok (.aload_n 0, 1) := by decide +kernel
theorem d_K_init_5 : decode prog_9_method_1_code 5 = .ok (.bipush 7, 2) := by decide +kernel
theorem d_K_init_7 : decode prog_9_method_1_code 7 = .ok (.anewarray 9, 3) := by decide +kernel
set_option maxRecDepth 20000 in
theorem w_154 : Cond.classLink "MovieBoxes$Track" 9 "MovieBoxes$Table" ∈ gt := gt_of (in_t1 (List.mem_of_getElem? (i := 154) rfl)) rfl
theorem d_K_init_10 : decode prog_9_method_1_code 10 = .ok (.putfield 11, 3) := by decide +kernel
set_option maxRecDepth 20000 in
theorem w_156 : Cond.fieldLink "MovieBoxes$Track" 11 "MovieBoxes$Track" "tables" "[LMovieBoxes$Table;" ∈ gt := gt_of (in_t1 (List.mem_of_getElem? (i := 156) rfl)) rfl
theorem d_K_init_13 : decode prog_9_method_1_code 13 = .ok (.return_, 1) := by decide +kernel
/-! ===== java.util.ArrayList: clear; constructors ===== -/
section ALIST4
variable (G : gG) (l : Launch)
theorem c_A_clear (ws E : va_W) (q0 a ea : Nat) (m n : Int) (g : Int → Option Nat) (he : ws[q0]? = some (a, .inr (8, [vI m, .ref ea, vI n]))) (hE : elE G ws E ea n g) (hg0 : ∀ i y, g i = some y → 0 ≤ i ∧ i < n) : Ct G l q_A_clear 0 0 0 [.ref a] (ws ++ E) (fun r w => r = none ∧ ∃ E', w = ws.set q0 (a, .inr (8, [vI (m + 1), .ref ea, vI 0])) ++ E' ∧ ((E' = [] ∧ E = [] ∧ ea = gS G 0) ∨ ∃ N : Nat, E' = [(ea, aQ G 5 N (fun _ => none))] ∧ E = [(ea, aQ G 5 N g)] ∧ 10 ≤ N ∧ N ≤ 28)) := by
  refine Ct.intro [some (.ref a), none, none, none] (by decide) (Nat.le_of_ble_eq_true rfl) rfl (fun sz => ?_)
  generalize hQ : (fun r w => r = none ∧ ∃ E', w = ws.set q0 (a, .inr (8, [vI (m + 1), .ref ea, vI 0])) ++ E' ∧ ((E' = [] ∧ E = [] ∧ ea = gS G 0) ∨ ∃ N : Nat, E' = [(ea, aQ G 5 N (fun _ => none))] ∧ E = [(ea, aQ G 5 N g)] ∧ 10 ≤ N ∧ N ≤ 28)) = Q
  refine r_aload_n d_A_clear_0 rfl rfl ?_
  refine r_dup d_A_clear_1 rfl ?_
  refine r_get d_A_clear_2 fl_A_63_8 q0 (app_l he) rfl ?_
  refine r_iconst d_A_clear_5 ?_
  refine r_iadd d_A_clear_6 ?_
  refine r_put _ d_A_clear_7 fl_A_63_8 q0 (app_l he) rfl rfl (Nat.le_of_ble_eq_true rfl) rfl ?_
  rw [set_l he]
  show WP _ _ _ (ws.set q0 (a, .inr (8, [vI (m + 1), .ref ea, vI n])) ++ E) _ _ _
  refine r_aload_n d_A_clear_10 rfl rfl ?_
  refine r_get d_A_clear_11 fl_A_9_8 q0 (app_l (set_at he)) rfl ?_
  refine r_astore_n d_A_clear_14 (Nat.le_of_ble_eq_true rfl) rfl rfl ?_
  show WP _ _ _ _ _ [_, _, _, _] _
  refine r_aload_n d_A_clear_15 rfl rfl ?_
  refine r_get d_A_clear_16 fl_A_48_8 q0 (app_l (set_at he)) rfl ?_
  refine r_istore_n d_A_clear_19 (Nat.le_of_ble_eq_true rfl) rfl ?_
  show WP _ _ _ _ _ [_, _, _, _] _
  refine r_aload_n d_A_clear_20 rfl rfl ?_
  refine r_iconst d_A_clear_21 ?_
  refine r_dup_x1 d_A_clear_22 rfl rfl ?_
  refine r_put _ d_A_clear_23 fl_A_48_8 q0 (app_l (set_at he)) rfl rfl (Nat.le_of_ble_eq_true rfl) rfl ?_
  rw [set_l (set_at he), set2]
  show WP _ _ _ (ws.set q0 (a, .inr (8, [vI (m + 1), .ref ea, vI 0])) ++ E) _ _ _
  refine r_istore_n d_A_clear_26 (Nat.le_of_ble_eq_true rfl) rfl ?_
  show WP _ _ _ _ _ [_, _, _, _] _
  have fin : ∀ E' (i : Int), (∀ g', (∀ j, g' j = if j < n then none else g j) → g' = fun _ => none) → (E' = [] ∧ E = [] ∧ ea = gS G 0) ∨ (∃ N : Nat, E' = [(ea, aQ G 5 N (fun _ => none))] ∧ E = [(ea, aQ G 5 N g)] ∧ 10 ≤ N ∧ N ≤ 28) → WP (mth G l q_A_clear 0 0 0 (ws ++ E) sz Q) 0 0 (ws.set q0 (a, .inr (8, [vI (m + 1), .ref ea, vI 0])) ++ E') 42 [some (.ref a), some (.ref ea), some (vI n), some (vI i)] [] := by
    intro E' i _ h
    refine r_vret d_A_clear_42 rfl (Nat.le_of_ble_eq_true rfl) (Nat.le_of_ble_eq_true rfl) ?_
    rw [← hQ]; exact ⟨rfl, E', rfl, h⟩
  have hnone : ∀ g', (∀ j, g' j = if j < n then none else g j) → g' = fun _ => none := by
    intro g' h
    funext j
    rw [h j]
    split
    · rfl
    · cases h2 : g j with
      | none => rfl
      | some y => have := hg0 j y h2; omega
  rcases hE with ⟨hE1, hE2, hE3⟩ | ⟨N, hE1, hN1, hN2, hN3, hN4, hg⟩
  · refine wp_ws (ws' := ws.set q0 (a, .inr (8, [vI (m + 1), .ref ea, vI 0])) ++ []) (by rw [hE1]) ?_
    refine r_iload_n d_A_clear_27 rfl ?_
    refine r_iload_n d_A_clear_28 rfl ?_
    refine r_icmp_ge 42 d_A_clear_29 (by decide) (by unfold i32; omega) (by unfold i32; omega) (fun h1 => ?_) (fun h1 => ?_)
    · exact fin [] 0 hnone (Or.inl ⟨rfl, hE1, hE2⟩)
    · omega
  · have lp : ∀ (f : Nat) (i : Int) (g' : Int → Option Nat), 0 ≤ i → i ≤ n → (n - i).toNat = f → (∀ j, g' j = if j < i then none else g j) → WP (mth G l q_A_clear 0 0 0 (ws ++ E) sz Q) 0 0 (ws.set q0 (a, .inr (8, [vI (m + 1), .ref ea, vI 0])) ++ [(ea, aQ G 5 N g')]) 27 [some (.ref a), some (.ref ea), some (vI n), some (vI i)] [] := by
      intro f
      induction f with
      | zero =>
        intro i g' h0 h1 h2 h3
        have hi : i = n := by omega
        subst hi
        refine r_iload_n d_A_clear_27 rfl ?_
        refine r_iload_n d_A_clear_28 rfl ?_
        refine r_icmp_ge 42 d_A_clear_29 (by decide) (by unfold i32; omega) (by unfold i32; omega) (fun h4 => ?_) (fun h4 => ?_)
        · rw [hnone g' h3]
          exact fin _ i hnone (Or.inr ⟨N, rfl, hE1, hN1, hN2⟩)
        · omega
      | succ f ih =>
        intro i g' h0 h1 h2 h3
        refine r_iload_n d_A_clear_27 rfl ?_
        refine r_iload_n d_A_clear_28 rfl ?_
        refine r_icmp_ge 42 d_A_clear_29 (by decide) (by unfold i32; omega) (by unfold i32; omega) (fun h4 => ?_) (fun h4 => ?_)
        · omega
        refine r_aload_n d_A_clear_32 rfl rfl ?_
        refine r_iload_n d_A_clear_33 rfl ?_
        refine r_null d_A_clear_34 ?_
        refine r_aastN _ d_A_clear_35 (ws.set q0 (a, .inr (8, [vI (m + 1), .ref ea, vI 0]))).length app_e rfl (by omega) set_e ?_
        refine r_iinc d_A_clear_36 rfl (Nat.le_of_ble_eq_true rfl) rfl ?_
        show WP _ _ _ _ _ [_, _, _, _] _
        refine r_goto 27 d_A_clear_39 (by decide) ?_
        exact ih (i + 1) _ (by omega) (by omega) (by omega) (fun j => by
          rw [updI_at, h3 j]
          by_cases h5 : j = i
          · rw [if_pos h5, if_pos (by omega)]
          · rw [if_neg h5]
            by_cases h6 : j < i
            · rw [if_pos h6, if_pos (by omega)]
            · rw [if_neg h6, if_neg (by omega)])
    refine wp_ws (ws' := ws.set q0 (a, .inr (8, [vI (m + 1), .ref ea, vI 0])) ++ [(ea, aQ G 5 N g)]) (by rw [hE1]) ?_
    refine lp _ 0 g (by omega) hN3 rfl (fun j => ?_)
    split
    · cases h2 : g j with
      | none => rfl
      | some y => have := hg0 j y h2; omega
    · rfl
theorem c_AC_init (ws : va_W) (a : Nat) : Ct G l q_AC_init 1 0 0 [.ref a] ws (fun r w => r = none ∧ w = ws) := by
  refine Ct.intro [some (.ref a)] (by decide) (Nat.le_of_ble_eq_true rfl) rfl (fun sz => ?_)
  refine r_aload_n d_AC_init_0 rfl rfl ?_
  refine r_objInit d_AC_init_1 w_130 rfl rfl ?_
  refine r_vret d_AC_init_4 rfl (Nat.le_of_ble_eq_true rfl) (Nat.le_of_ble_eq_true rfl) ?_
  exact ⟨rfl, rfl⟩
theorem c_B_init (ws : va_W) (a : Nat) : Ct G l q_B_init 1 0 0 [.ref a] ws (fun r w => r = none ∧ w = ws) := by
  refine Ct.intro [some (.ref a)] (by decide) (Nat.le_of_ble_eq_true rfl) rfl (fun sz => ?_)
  refine r_aload_n d_B_init_0 rfl rfl ?_
  refine r_objInit d_B_init_1 w_37 rfl rfl ?_
  refine r_vret d_B_init_4 rfl (Nat.le_of_ble_eq_true rfl) (Nat.le_of_ble_eq_true rfl) ?_
  exact ⟨rfl, rfl⟩
theorem c_AL_init (ws : va_W) (q0 a : Nat) (fs : List Value) (he : ws[q0]? = some (a, .inr (8, fs))) (hf : 0 < fs.length) : Ct G l q_AL_init 2 0 0 [.ref a] ws (fun r w => r = none ∧ w = ws.set q0 (a, .inr (8, fs.set 0 (vI 0)))) := by
  refine Ct.intro [some (.ref a)] (by decide) (Nat.le_of_ble_eq_true rfl) rfl (fun sz => ?_)
  refine r_aload_n d_AL_init_0 rfl rfl ?_
  refine r_kI0 d_AL_init_1 li_AL_1 (c_AC_init G l ws a) (Nat.le_of_ble_eq_true rfl) (rok rfl rfl) ⟨(Nat.le_of_ble_eq_true rfl), (Nat.le_of_ble_eq_true rfl)⟩ (fun r ws2 hq => ?_)
  obtain ⟨rfl, hw⟩ := hq; rw [hw]; clear hw
  show WP _ _ _ _ _ _ _
  refine r_aload_n d_AL_init_4 rfl rfl ?_
  refine r_iconst d_AL_init_5 ?_
  refine r_put _ d_AL_init_6 fl_AL_7_8 q0 he rfl rfl hf rfl ?_
  refine r_vret d_AL_init_9 rfl (Nat.le_of_ble_eq_true rfl) (Nat.le_of_ble_eq_true rfl) ?_
  exact ⟨rfl, rfl⟩
theorem c_A_init (ws : va_W) (q0 a : Nat) (he : ws[q0]? = some (a, .inr (8, [vI 0, .null, vI 0]))) : Ct G l q_A_init 3 0 0 [.ref a] ws (fun r w => r = none ∧ w = ws.set q0 (a, .inr (8, [vI 0, .ref (gS G 0), vI 0]))) := by
  refine Ct.intro [some (.ref a)] (by decide) (Nat.le_of_ble_eq_true rfl) rfl (fun sz => ?_)
  refine r_aload_n d_A_init_0 rfl rfl ?_
  refine r_kI0 d_A_init_1 li_A_1 (c_AL_init G l ws q0 a _ he (Nat.le_of_ble_eq_true rfl)) (Nat.le_of_ble_eq_true rfl) (rok rfl rfl) ⟨(Nat.le_of_ble_eq_true rfl), (Nat.le_of_ble_eq_true rfl)⟩ (fun r ws2 hq => ?_)
  obtain ⟨rfl, hw⟩ := hq; rw [hw]; clear hw
  show WP _ _ _ _ _ _ _
  refine r_aload_n d_A_init_4 rfl rfl ?_
  refine r_getsL d_A_init_5 w_131 ?_
  refine r_put _ d_A_init_8 fl_A_9_8 q0 (set_at he) rfl rfl (Nat.le_of_ble_eq_true rfl) set2 ?_
  refine r_vret d_A_init_11 rfl (Nat.le_of_ble_eq_true rfl) (Nat.le_of_ble_eq_true rfl) ?_
  exact ⟨rfl, rfl⟩
theorem c_H_init (ws : va_W) (a : Nat) : Ct G l q_H_init 2 0 0 [.ref a] ws (fun r w => r = none ∧ w = ws) := by
  refine Ct.intro [some (.ref a)] (by decide) (Nat.le_of_ble_eq_true rfl) rfl (fun sz => ?_)
  refine r_aload_n d_H_init_0 rfl rfl ?_
  refine r_kI0 d_H_init_1 li_H_1 (c_B_init G l ws a) (Nat.le_of_ble_eq_true rfl) (rok rfl rfl) ⟨(Nat.le_of_ble_eq_true rfl), (Nat.le_of_ble_eq_true rfl)⟩ (fun r ws2 hq => ?_)
  obtain ⟨rfl, hw⟩ := hq; rw [hw]; clear hw
  show WP _ _ _ _ _ _ _
  refine r_vret d_H_init_4 rfl (Nat.le_of_ble_eq_true rfl) (Nat.le_of_ble_eq_true rfl) ?_
  exact ⟨rfl, rfl⟩
theorem c_L_init (ws : va_W) (a : Nat) : Ct G l q_L_init 2 0 0 [.ref a] ws (fun r w => r = none ∧ w = ws) := by
  refine Ct.intro [some (.ref a)] (by decide) (Nat.le_of_ble_eq_true rfl) rfl (fun sz => ?_)
  refine r_aload_n d_L_init_0 rfl rfl ?_
  refine r_kI0 d_L_init_1 li_L_1 (c_B_init G l ws a) (Nat.le_of_ble_eq_true rfl) (rok rfl rfl) ⟨(Nat.le_of_ble_eq_true rfl), (Nat.le_of_ble_eq_true rfl)⟩ (fun r ws2 hq => ?_)
  obtain ⟨rfl, hw⟩ := hq; rw [hw]; clear hw
  show WP _ _ _ _ _ _ _
  refine r_vret d_L_init_4 rfl (Nat.le_of_ble_eq_true rfl) (Nat.le_of_ble_eq_true rfl) ?_
  exact ⟨rfl, rfl⟩
theorem c_T_init (ws : va_W) (a : Nat) : Ct G l q_T_init 3 0 0 [.ref a] ws (fun r w => r = none ∧ w = ws) := by
  refine Ct.intro [some (.ref a)] (by decide) (Nat.le_of_ble_eq_true rfl) rfl (fun sz => ?_)
  refine r_aload_n d_T_init_0 rfl rfl ?_
  refine r_kI0 d_T_init_1 li_T_1 (c_L_init G l ws a) (Nat.le_of_ble_eq_true rfl) (rok rfl rfl) ⟨(Nat.le_of_ble_eq_true rfl), (Nat.le_of_ble_eq_true rfl)⟩ (fun r ws2 hq => ?_)
  obtain ⟨rfl, hw⟩ := hq; rw [hw]; clear hw
  show WP _ _ _ _ _ _ _
  refine r_vret d_T_init_4 rfl (Nat.le_of_ble_eq_true rfl) (Nat.le_of_ble_eq_true rfl) ?_
  exact ⟨rfl, rfl⟩
theorem c_P_init (ws : va_W) (a : Nat) : Ct G l q_P_init 4 0 0 [.ref a] ws (fun r w => r = none ∧ w = ws) := by
  refine Ct.intro [some (.ref a)] (by decide) (Nat.le_of_ble_eq_true rfl) rfl (fun sz => ?_)
  refine r_aload_n d_P_init_0 rfl rfl ?_
  refine r_kI0 d_P_init_1 li_P_1 (c_T_init G l ws a) (Nat.le_of_ble_eq_true rfl) (rok rfl rfl) ⟨(Nat.le_of_ble_eq_true rfl), (Nat.le_of_ble_eq_true rfl)⟩ (fun r ws2 hq => ?_)
  obtain ⟨rfl, hw⟩ := hq; rw [hw]; clear hw
  show WP _ _ _ _ _ _ _
  refine r_vret d_P_init_4 rfl (Nat.le_of_ble_eq_true rfl) (Nat.le_of_ble_eq_true rfl) ?_
  exact ⟨rfl, rfl⟩
theorem c_S_init (ws : va_W) (a : Nat) : Ct G l q_S_init 4 0 0 [.ref a] ws (fun r w => r = none ∧ w = ws) := by
  refine Ct.intro [some (.ref a)] (by decide) (Nat.le_of_ble_eq_true rfl) rfl (fun sz => ?_)
  refine r_aload_n d_S_init_0 rfl rfl ?_
  refine r_kI0 d_S_init_1 li_S_1 (c_T_init G l ws a) (Nat.le_of_ble_eq_true rfl) (rok rfl rfl) ⟨(Nat.le_of_ble_eq_true rfl), (Nat.le_of_ble_eq_true rfl)⟩ (fun r ws2 hq => ?_)
  obtain ⟨rfl, hw⟩ := hq; rw [hw]; clear hw
  show WP _ _ _ _ _ _ _
  refine r_vret d_S_init_4 rfl (Nat.le_of_ble_eq_true rfl) (Nat.le_of_ble_eq_true rfl) ?_
  exact ⟨rfl, rfl⟩
theorem c_K_init (ws : va_W) (q0 a : Nat) (he : ws[q0]? = some (a, .inr (6, [.null]))) : Ct G l q_K_init 1 1 7 [.ref a] ws (fun r w => r = none ∧ ∃ q, w = ws.set q0 (a, .inr (6, [.ref q])) ++ [(q, aQ G 4 7 (fun _ => none))]) := by
  refine Ct.intro [some (.ref a)] (by decide) (Nat.le_of_ble_eq_true rfl) rfl (fun sz => ?_)
  generalize hQ : (fun r w => r = none ∧ ∃ q, w = ws.set q0 (a, .inr (6, [.ref q])) ++ [(q, aQ G 4 7 (fun _ => none))]) = Q
  refine r_aload_n d_K_init_0 rfl rfl ?_
  refine r_objInit d_K_init_1 w_153 rfl rfl ?_
  refine r_aload_n d_K_init_4 rfl rfl ?_
  refine r_bipush d_K_init_5 (by decide) ?_
  refine r_newQ (t := 4) (E := "MovieBoxes$Table") (N := 7) d_K_init_7 w_154 (by decide) rfl (by omega) (Nat.le_of_ble_eq_true rfl) (Nat.le_of_ble_eq_true rfl) (fun q => ?_)
  refine r_putF (T := fd_K) (C0 := "MovieBoxes$Track") (N := 1) (ci := 6) (j := 0) _ d_K_init_10 rfl (by decide) rfl w_156 rfl (fun _ _ _ h => h) q0 (app_l he) rfl rfl (Nat.le_of_ble_eq_true rfl) (set_l he) ?_
  refine r_vret d_K_init_13 rfl (Nat.le_of_ble_eq_true rfl) (Nat.le_of_ble_eq_true rfl) ?_
  rw [← hQ]; exact ⟨rfl, q, rfl⟩
end ALIST4
