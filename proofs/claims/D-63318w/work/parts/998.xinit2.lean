abbrev q_X_init : Mi := (⟨"MovieBoxes", "<init>", "()V"⟩, prog_1_method_1_code, 1, none)
theorem d_X_init_0 : decode prog_1_method_1_code 0 = .ok (.aload_n 0, 1) := by decide +kernel
theorem d_X_init_1 : decode prog_1_method_1_code 1 = .ok (.invokespecial 1, 3) := by decide +kernel
set_option maxRecDepth 20000 in
theorem w_26 : Cond.methodLink "MovieBoxes" 1 ⟨"java/lang/Object", "<init>", "()V"⟩ ∈ gt := gt_of (in_t1 (List.mem_of_getElem? (i := 26) rfl)) rfl
theorem d_X_init_4 : decode prog_1_method_1_code 4 = .ok (.aload_n 0, 1) := by decide +kernel
theorem d_X_init_5 : decode prog_1_method_1_code 5 = .ok (.sipush 1000, 3) := by decide +kernel
theorem d_X_init_8 : decode prog_1_method_1_code 8 = .ok (.newarray .byte, 2) := by decide +kernel
theorem d_X_init_10 : decode prog_1_method_1_code 10 = .ok (.putfield 7, 3) := by decide +kernel
theorem d_X_init_13 : decode prog_1_method_1_code 13 = .ok (.aload_n 0, 1) := by decide +kernel
theorem d_X_init_14 : decode prog_1_method_1_code 14 = .ok (.sipush 1000, 3) := by decide +kernel
theorem d_X_init_17 : decode prog_1_method_1_code 17 = .ok (.newarray .byte, 2) := by decide +kernel
theorem d_X_init_19 : decode prog_1_method_1_code 19 = .ok (.putfield 13, 3) := by decide +kernel
theorem d_X_init_22 : decode prog_1_method_1_code 22 = .ok (.aload_n 0, 1) := by decide +kernel
theorem d_X_init_23 : decode prog_1_method_1_code 23 = .ok (.new 16, 3) := by decide +kernel
theorem d_X_init_26 : decode prog_1_method_1_code 26 = .ok (.dup, 1) := by decide +kernel
theorem d_X_init_27 : decode prog_1_method_1_code 27 = .ok (.invokespecial 18, 3) := by decide +kernel
theorem d_X_init_30 : decode prog_1_method_1_code 30 = .ok (.putfield 19, 3) := by decide +kernel
theorem d_X_init_33 : decode prog_1_method_1_code 33 = .ok (.aload_n 0, 1) := by decide +kernel
theorem d_X_init_34 : decode prog_1_method_1_code 34 = .ok (.new 23, 3) := by decide +kernel
set_option maxRecDepth 20000 in
theorem w_119 : Cond.classLink "MovieBoxes" 23 "java/util/ArrayList" ∈ gt := gt_of (in_t1 (List.mem_of_getElem? (i := 119) rfl)) rfl
set_option maxRecDepth 20000 in
theorem w_120 : Cond.instantiable "java/util/ArrayList" 3 ∈ gt := gt_of (in_t1 (List.mem_of_getElem? (i := 120) rfl)) rfl
theorem d_X_init_37 : decode prog_1_method_1_code 37 = .ok (.dup, 1) := by decide +kernel
theorem d_X_init_38 : decode prog_1_method_1_code 38 = .ok (.invokespecial 25, 3) := by decide +kernel
set_option maxRecDepth 20000 in
theorem w_121 : Cond.methodLink "MovieBoxes" 25 ⟨"java/util/ArrayList", "<init>", "()V"⟩ ∈ gt := gt_of (in_t1 (List.mem_of_getElem? (i := 121) rfl)) rfl
set_option maxRecDepth 20000 in
theorem w_122 : Cond.instanceMethod ⟨"java/util/ArrayList", "<init>", "()V"⟩ ∈ gt := gt_of (in_t1 (List.mem_of_getElem? (i := 122) rfl)) rfl
set_option maxRecDepth 20000 in
theorem w_123 : Cond.code ⟨"java/util/ArrayList", "<init>", "()V"⟩ prog_21_method_2_code 1 (none : Option Jvm.ClassFile.FieldType) ∈ gt := gt_of (in_t1 (List.mem_of_getElem? (i := 123) rfl)) rfl
theorem li_X_25 : LkI "MovieBoxes" 25 q_A_init 0 := ⟨Or.inl w_121, w_122, w_6, w_123, rfl, rfl, by decide +kernel⟩
theorem d_X_init_41 : decode prog_1_method_1_code 41 = .ok (.putfield 26, 3) := by decide +kernel
theorem d_X_init_44 : decode prog_1_method_1_code 44 = .ok (.aload_n 0, 1) := by decide +kernel
theorem d_X_init_45 : decode prog_1_method_1_code 45 = .ok (.bipush 100, 2) := by decide +kernel
theorem d_X_init_47 : decode prog_1_method_1_code 47 = .ok (.anewarray 30, 3) := by decide +kernel
theorem d_X_init_50 : decode prog_1_method_1_code 50 = .ok (.putfield 32, 3) := by decide +kernel
theorem d_X_init_53 : decode prog_1_method_1_code 53 = .ok (.aload_n 0, 1) := by decide +kernel
theorem d_X_init_54 : decode prog_1_method_1_code 54 = .ok (.iconst 5, 1) := by decide +kernel
theorem d_X_init_55 : decode prog_1_method_1_code 55 = .ok (.newarray .int, 2) := by decide +kernel
theorem d_X_init_57 : decode prog_1_method_1_code 57 = .ok (.putfield 36, 3) := by decide +kernel
theorem d_X_init_60 : decode prog_1_method_1_code 60 = .ok (.aload_n 0, 1) := by decide +kernel
theorem d_X_init_61 : decode prog_1_method_1_code 61 = .ok (.iconst 2, 1) := by decide +kernel
theorem d_X_init_62 : decode prog_1_method_1_code 62 = .ok (.anewarray 40, 3) := by decide +kernel
set_option maxRecDepth 20000 in
theorem w_147 : Cond.classLink "MovieBoxes" 40 "MovieBoxes$Track" ∈ gt := gt_of (in_t1 (List.mem_of_getElem? (i := 147) rfl)) rfl
theorem d_X_init_65 : decode prog_1_method_1_code 65 = .ok (.dup, 1) := by decide +kernel
theorem d_X_init_66 : decode prog_1_method_1_code 66 = .ok (.iconst 0, 1) := by decide +kernel
theorem d_X_init_67 : decode prog_1_method_1_code 67 = .ok (.new 40, 3) := by decide +kernel
set_option maxRecDepth 20000 in
theorem w_149 : Cond.instantiable "MovieBoxes$Track" 1 ∈ gt := gt_of (in_t1 (List.mem_of_getElem? (i := 149) rfl)) rfl
theorem d_X_init_70 : decode prog_1_method_1_code 70 = .ok (.dup, 1) := by decide +kernel
theorem d_X_init_71 : decode prog_1_method_1_code 71 = .ok (.invokespecial 42, 3) := by decide +kernel
set_option maxRecDepth 20000 in
theorem nw_150 : Cond.methodLinkNest "MovieBoxes" 42 ⟨"MovieBoxes$Track", "<init>", "()V"⟩ "MovieBoxes" ∈ nwl := nw_of (in_t1 (List.mem_of_getElem? (i := 150) rfl)) rfl
set_option maxRecDepth 20000 in
theorem w_151 : Cond.instanceMethod ⟨"MovieBoxes$Track", "<init>", "()V"⟩ ∈ gt := gt_of (in_t1 (List.mem_of_getElem? (i := 151) rfl)) rfl
set_option maxRecDepth 20000 in
theorem w_152 : Cond.code ⟨"MovieBoxes$Track", "<init>", "()V"⟩ prog_9_method_1_code 1 (none : Option Jvm.ClassFile.FieldType) ∈ gt := gt_of (in_t1 (List.mem_of_getElem? (i := 152) rfl)) rfl
theorem li_X_42 : LkI "MovieBoxes" 42 q_K_init 0 := ⟨Or.inr ⟨_, nw_150⟩, w_151, w_7, w_152, rfl, rfl, by decide +kernel⟩
theorem d_X_init_74 : decode prog_1_method_1_code 74 = .ok (.aastore, 1) := by decide +kernel
theorem d_X_init_75 : decode prog_1_method_1_code 75 = .ok (.dup, 1) := by decide +kernel
theorem d_X_init_76 : decode prog_1_method_1_code 76 = .ok (.iconst 1, 1) := by decide +kernel
theorem d_X_init_77 : decode prog_1_method_1_code 77 = .ok (.new 40, 3) := by decide +kernel
theorem d_X_init_80 : decode prog_1_method_1_code 80 = .ok (.dup, 1) := by decide +kernel
theorem d_X_init_81 : decode prog_1_method_1_code 81 = .ok (.invokespecial 42, 3) := by decide +kernel
theorem d_X_init_84 : decode prog_1_method_1_code 84 = .ok (.aastore, 1) := by decide +kernel
theorem d_X_init_85 : decode prog_1_method_1_code 85 = .ok (.putfield 43, 3) := by decide +kernel
theorem d_X_init_88 : decode prog_1_method_1_code 88 = .ok (.aload_n 0, 1) := by decide +kernel
theorem d_X_init_89 : decode prog_1_method_1_code 89 = .ok (.sipush 512, 3) := by decide +kernel
theorem d_X_init_92 : decode prog_1_method_1_code 92 = .ok (.newarray .int, 2) := by decide +kernel
theorem d_X_init_94 : decode prog_1_method_1_code 94 = .ok (.putfield 47, 3) := by decide +kernel
theorem d_X_init_97 : decode prog_1_method_1_code 97 = .ok (.return_, 1) := by decide +kernel
/-! ===== the component: its constructor, the walk ===== -/
def xD0 : List Value := [.null, .null, vI 0, vI 0, vI 0, .null, .null, .null, .null, .null, .null, vI 0, .null]
def xZ0 : mS := fun c j => if c = 0 then (if j = 2 then -1 else 0) else if c = 26 ∨ c = 23 ∨ c = 24 ∨ c = 25 then -1 else if c = 27 then 1 else 0
def ycL (l : List Nat) (k : Nat) : Nat := l.getD k 0
section XINIT
variable (G : gG) (l : Launch)
set_option maxRecDepth 8000 in
theorem c_X_init (a : Nat) : Ct G l q_X_init 4 12 2651 [.ref a] [(a, .inr (0, xD0))] (fun r w => r = none ∧ ∃ y : xP, w = xW G y xZ0 ∧ yc y 0 = a ∧ yn y = 0 ∧ yR y = [] ∧ yE y = [] ∧ ye y = gS G 0 ∧ yk y = fun _ => none) := by
  refine Ct.intro [some (.ref a)] (by decide) (Nat.le_of_ble_eq_true rfl) rfl (fun sz => ?_)
  generalize hQ : (fun r w => r = none ∧ ∃ y : xP, w = xW G y xZ0 ∧ yc y 0 = a ∧ yn y = 0 ∧ yR y = [] ∧ yE y = [] ∧ ye y = gS G 0 ∧ yk y = fun _ => none) = Q
  refine r_aload_n d_X_init_0 rfl rfl ?_
  refine r_objInit d_X_init_1 w_26 rfl rfl ?_
  refine r_aload_n d_X_init_4 rfl rfl ?_
  refine r_sipush d_X_init_5 (by decide) ?_
  refine r_newB (N := 1000) d_X_init_8 rfl (Nat.le_of_ble_eq_true rfl) (Nat.le_of_ble_eq_true rfl) (fun q1 => ?_)
  refine r_putF (T := fd_X) (C0 := "MovieBoxes") (N := 13) (ci := 0) (j := 0) ([(a, .inr (0, [.ref q1, .null, vI 0, vI 0, vI 0, .null, .null, .null, .null, .null, .null, vI 0, .null])), (q1, aB G 1000 (fun _ => 0))]) d_X_init_10 rfl (by decide) rfl w_162 rfl (fun _ _ _ h => h) 0 rfl rfl rfl (Nat.le_of_ble_eq_true rfl) rfl ?_
  show WP _ 1 1000 _ _ _ _
  refine r_aload_n d_X_init_13 rfl rfl ?_
  refine r_sipush d_X_init_14 (by decide) ?_
  refine r_newB (N := 1000) d_X_init_17 rfl (Nat.le_of_ble_eq_true rfl) (Nat.le_of_ble_eq_true rfl) (fun q2 => ?_)
  refine r_putF (T := fd_X) (C0 := "MovieBoxes") (N := 13) (ci := 0) (j := 1) ([(a, .inr (0, [.ref q1, .ref q2, vI 0, vI 0, vI 0, .null, .null, .null, .null, .null, .null, vI 0, .null])), (q1, aB G 1000 (fun _ => 0)), (q2, aB G 1000 (fun _ => 0))]) d_X_init_19 rfl (by decide) rfl w_163 rfl (fun _ _ _ h => h) 0 rfl rfl rfl (Nat.le_of_ble_eq_true rfl) rfl ?_
  show WP _ 2 2000 _ _ _ _
  refine r_aload_n d_X_init_22 rfl rfl ?_
  refine r_new (ci := 1) (bF G (fun _ => 0) zD 0 1) d_X_init_23 rfl w_29 w_30 w_3 (fun j hj => by rcases (by omega : j = 0 ∨ j = 1 ∨ j = 2 ∨ j = 3 ∨ j = 4 ∨ j = 5 ∨ j = 6 ∨ j = 7 ∨ j = 8 ∨ j = 9 ∨ j = 10 ∨ j = 11 ∨ j = 12) with rfl | rfl | rfl | rfl | rfl | rfl | rfl | rfl | rfl | rfl | rfl | rfl | rfl <;> rfl) (Nat.le_of_ble_eq_true rfl) (Nat.le_of_ble_eq_true rfl) (fun q3 => ?_)
  refine r_dup d_X_init_26 rfl ?_
  refine r_kI0 d_X_init_27 li_X_18 (c_H_init G l _ q3) (Nat.le_of_ble_eq_true rfl) (rok rfl rfl) ⟨(Nat.le_of_ble_eq_true rfl), (Nat.le_of_ble_eq_true rfl)⟩ (fun r ws2 hq => ?_)
  obtain ⟨rfl, hw⟩ := hq; rw [hw]; clear hw
  show WP _ _ _ _ _ _ _
  refine r_putF (T := fd_X) (C0 := "MovieBoxes") (N := 13) (ci := 0) (j := 5) ([(a, .inr (0, [.ref q1, .ref q2, vI 0, vI 0, vI 0, .ref q3, .null, .null, .null, .null, .null, vI 0, .null])), (q1, aB G 1000 (fun _ => 0)), (q2, aB G 1000 (fun _ => 0)), (q3, .inr (1, bF G (fun _ => 0) zD 0 1))]) d_X_init_30 rfl (by decide) rfl w_167 rfl (fun _ _ _ h => h) 0 rfl rfl rfl (Nat.le_of_ble_eq_true rfl) rfl ?_
  show WP _ 3 2013 _ _ _ _
  refine r_aload_n d_X_init_33 rfl rfl ?_
  refine r_new (ci := 8) [vI 0, .null, vI 0] d_X_init_34 rfl w_119 w_120 w_6 (fun j hj => by rcases (by omega : j = 0 ∨ j = 1 ∨ j = 2) with rfl | rfl | rfl <;> rfl) (Nat.le_of_ble_eq_true rfl) (Nat.le_of_ble_eq_true rfl) (fun q4 => ?_)
  refine r_dup d_X_init_37 rfl ?_
  refine r_kI0 d_X_init_38 li_X_25 (c_A_init G l _ 4 q4 rfl) (Nat.le_of_ble_eq_true rfl) (rok rfl rfl) ⟨(Nat.le_of_ble_eq_true rfl), (Nat.le_of_ble_eq_true rfl)⟩ (fun r ws2 hq => ?_)
  obtain ⟨rfl, hw⟩ := hq; rw [hw]; clear hw
  show WP _ _ _ _ _ _ _
  refine r_putF (T := fd_X) (C0 := "MovieBoxes") (N := 13) (ci := 0) (j := 7) ([(a, .inr (0, [.ref q1, .ref q2, vI 0, vI 0, vI 0, .ref q3, .null, .ref q4, .null, .null, .null, vI 0, .null])), (q1, aB G 1000 (fun _ => 0)), (q2, aB G 1000 (fun _ => 0)), (q3, .inr (1, bF G (fun _ => 0) zD 0 1)), (q4, .inr (8, [vI 0, .ref (gS G 0), vI 0]))]) d_X_init_41 rfl (by decide) rfl w_169 rfl (fun _ _ _ h => h) 0 rfl rfl rfl (Nat.le_of_ble_eq_true rfl) rfl ?_
  show WP _ 4 2016 _ _ _ _
  refine r_aload_n d_X_init_44 rfl rfl ?_
  refine r_bipush d_X_init_45 (by decide) ?_
  refine r_newQ (t := 2) (E := "MovieBoxes$Box") (N := 100) d_X_init_47 w_145 (by decide) rfl (by omega) (Nat.le_of_ble_eq_true rfl) (Nat.le_of_ble_eq_true rfl) (fun q5 => ?_)
  refine r_putF (T := fd_X) (C0 := "MovieBoxes") (N := 13) (ci := 0) (j := 8) ([(a, .inr (0, [.ref q1, .ref q2, vI 0, vI 0, vI 0, .ref q3, .null, .ref q4, .ref q5, .null, .null, vI 0, .null])), (q1, aB G 1000 (fun _ => 0)), (q2, aB G 1000 (fun _ => 0)), (q3, .inr (1, bF G (fun _ => 0) zD 0 1)), (q4, .inr (8, [vI 0, .ref (gS G 0), vI 0])), (q5, aQ G 2 100 (fun _ => none))]) d_X_init_50 rfl (by decide) rfl w_170 rfl (fun _ _ _ h => h) 0 rfl rfl rfl (Nat.le_of_ble_eq_true rfl) rfl ?_
  show WP _ 5 2116 _ _ _ _
  refine r_aload_n d_X_init_53 rfl rfl ?_
  refine r_iconst d_X_init_54 ?_
  refine r_newI (N := 5) d_X_init_55 rfl (Nat.le_of_ble_eq_true rfl) (Nat.le_of_ble_eq_true rfl) (fun q6 => ?_)
  refine r_putF (T := fd_X) (C0 := "MovieBoxes") (N := 13) (ci := 0) (j := 9) ([(a, .inr (0, [.ref q1, .ref q2, vI 0, vI 0, vI 0, .ref q3, .null, .ref q4, .ref q5, .ref q6, .null, vI 0, .null])), (q1, aB G 1000 (fun _ => 0)), (q2, aB G 1000 (fun _ => 0)), (q3, .inr (1, bF G (fun _ => 0) zD 0 1)), (q4, .inr (8, [vI 0, .ref (gS G 0), vI 0])), (q5, aQ G 2 100 (fun _ => none)), (q6, aI G 5 (fun _ => 0))]) d_X_init_57 rfl (by decide) rfl w_171 rfl (fun _ _ _ h => h) 0 rfl rfl rfl (Nat.le_of_ble_eq_true rfl) rfl ?_
  show WP _ 6 2121 _ _ _ _
  refine r_aload_n d_X_init_60 rfl rfl ?_
  refine r_iconst d_X_init_61 ?_
  refine r_newQ (t := 3) (E := "MovieBoxes$Track") (N := 2) d_X_init_62 w_147 (by decide) rfl (by omega) (Nat.le_of_ble_eq_true rfl) (Nat.le_of_ble_eq_true rfl) (fun q7 => ?_)
  refine r_dup d_X_init_65 rfl ?_
  refine r_iconst d_X_init_66 ?_
  refine r_new (ci := 6) [.null] d_X_init_67 rfl w_147 w_149 w_7 (fun j hj => by rcases (by omega : j = 0) with rfl; rfl) (Nat.le_of_ble_eq_true rfl) (Nat.le_of_ble_eq_true rfl) (fun q8 => ?_)
  refine r_dup d_X_init_70 rfl ?_
  refine r_kI0 d_X_init_71 li_X_42 (c_K_init G l _ 8 q8 rfl) (Nat.le_of_ble_eq_true rfl) (rok rfl rfl) ⟨(Nat.le_of_ble_eq_true rfl), (Nat.le_of_ble_eq_true rfl)⟩ (fun r ws2 hq => ?_)
  obtain ⟨rfl, q9, hw⟩ := hq; rw [hw]; clear hw
  show WP _ _ _ _ _ _ _
  refine r_aastS (t := 3) (ci := 6) (q1 := 8) ([(a, .inr (0, [.ref q1, .ref q2, vI 0, vI 0, vI 0, .ref q3, .null, .ref q4, .ref q5, .ref q6, .null, vI 0, .null])), (q1, aB G 1000 (fun _ => 0)), (q2, aB G 1000 (fun _ => 0)), (q3, .inr (1, bF G (fun _ => 0) zD 0 1)), (q4, .inr (8, [vI 0, .ref (gS G 0), vI 0])), (q5, aQ G 2 100 (fun _ => none)), (q6, aI G 5 (fun _ => 0)), (q7, aQ G 3 2 (updI (fun _ => none) 0 (some q8))), (q8, .inr (6, [.ref q9])), (q9, aQ G 4 7 (fun _ => none))]) d_X_init_74 7 rfl rfl rfl rfl ⟨by omega, by omega, by omega⟩ rfl ?_
  show WP _ 9 2131 _ _ _ _
  refine r_dup d_X_init_75 rfl ?_
  refine r_iconst d_X_init_76 ?_
  refine r_new (ci := 6) [.null] d_X_init_77 rfl w_147 w_149 w_7 (fun j hj => by rcases (by omega : j = 0) with rfl; rfl) (Nat.le_of_ble_eq_true rfl) (Nat.le_of_ble_eq_true rfl) (fun q10 => ?_)
  refine r_dup d_X_init_80 rfl ?_
  refine r_kI0 d_X_init_81 li_X_42 (c_K_init G l _ 10 q10 rfl) (Nat.le_of_ble_eq_true rfl) (rok rfl rfl) ⟨(Nat.le_of_ble_eq_true rfl), (Nat.le_of_ble_eq_true rfl)⟩ (fun r ws2 hq => ?_)
  obtain ⟨rfl, q11, hw⟩ := hq; rw [hw]; clear hw
  show WP _ _ _ _ _ _ _
  refine r_aastS (t := 3) (ci := 6) (q1 := 10) ([(a, .inr (0, [.ref q1, .ref q2, vI 0, vI 0, vI 0, .ref q3, .null, .ref q4, .ref q5, .ref q6, .null, vI 0, .null])), (q1, aB G 1000 (fun _ => 0)), (q2, aB G 1000 (fun _ => 0)), (q3, .inr (1, bF G (fun _ => 0) zD 0 1)), (q4, .inr (8, [vI 0, .ref (gS G 0), vI 0])), (q5, aQ G 2 100 (fun _ => none)), (q6, aI G 5 (fun _ => 0)), (q7, aQ G 3 2 (updI (updI (fun _ => none) 0 (some q8)) 1 (some q10))), (q8, .inr (6, [.ref q9])), (q9, aQ G 4 7 (fun _ => none)), (q10, .inr (6, [.ref q11])), (q11, aQ G 4 7 (fun _ => none))]) d_X_init_84 7 rfl rfl rfl rfl ⟨by omega, by omega, by omega⟩ rfl ?_
  show WP _ 11 2139 _ _ _ _
  refine r_putF (T := fd_X) (C0 := "MovieBoxes") (N := 13) (ci := 0) (j := 10) ([(a, .inr (0, [.ref q1, .ref q2, vI 0, vI 0, vI 0, .ref q3, .null, .ref q4, .ref q5, .ref q6, .ref q7, vI 0, .null])), (q1, aB G 1000 (fun _ => 0)), (q2, aB G 1000 (fun _ => 0)), (q3, .inr (1, bF G (fun _ => 0) zD 0 1)), (q4, .inr (8, [vI 0, .ref (gS G 0), vI 0])), (q5, aQ G 2 100 (fun _ => none)), (q6, aI G 5 (fun _ => 0)), (q7, aQ G 3 2 (updI (updI (fun _ => none) 0 (some q8)) 1 (some q10))), (q8, .inr (6, [.ref q9])), (q9, aQ G 4 7 (fun _ => none)), (q10, .inr (6, [.ref q11])), (q11, aQ G 4 7 (fun _ => none))]) d_X_init_85 rfl (by decide) rfl w_172 rfl (fun _ _ _ h => h) 0 rfl rfl rfl (Nat.le_of_ble_eq_true rfl) rfl ?_
  refine r_aload_n d_X_init_88 rfl rfl ?_
  refine r_sipush d_X_init_89 (by decide) ?_
  refine r_newI (N := 512) d_X_init_92 rfl (Nat.le_of_ble_eq_true rfl) (Nat.le_of_ble_eq_true rfl) (fun q12 => ?_)
  refine r_putF (T := fd_X) (C0 := "MovieBoxes") (N := 13) (ci := 0) (j := 12) ([(a, .inr (0, [.ref q1, .ref q2, vI 0, vI 0, vI 0, .ref q3, .null, .ref q4, .ref q5, .ref q6, .ref q7, vI 0, .ref q12])), (q1, aB G 1000 (fun _ => 0)), (q2, aB G 1000 (fun _ => 0)), (q3, .inr (1, bF G (fun _ => 0) zD 0 1)), (q4, .inr (8, [vI 0, .ref (gS G 0), vI 0])), (q5, aQ G 2 100 (fun _ => none)), (q6, aI G 5 (fun _ => 0)), (q7, aQ G 3 2 (updI (updI (fun _ => none) 0 (some q8)) 1 (some q10))), (q8, .inr (6, [.ref q9])), (q9, aQ G 4 7 (fun _ => none)), (q10, .inr (6, [.ref q11])), (q11, aQ G 4 7 (fun _ => none)), (q12, aI G 512 (fun _ => 0))]) d_X_init_94 rfl (by decide) rfl w_174 rfl (fun _ _ _ h => h) 0 rfl rfl rfl (Nat.le_of_ble_eq_true rfl) rfl ?_
  refine wp_aQ (q0 := 7) (g := fun i => some (ycL [a, q1, q2, q4, q5, q6, q7, q8, q10, q9, q11, q12] (7 + i.toNat))) rfl (fun j hj => by rcases (by omega : j = 0 ∨ j = 1) with rfl | rfl <;> rfl) ?_
  refine wp_perm (ws' := xW G (ycL [a, q1, q2, q4, q5, q6, q7, q8, q10, q9, q11, q12], fun _ => q3, fun _ => none, 0, [], gS G 0, [], fun _ => none) xZ0) ?_ ?_
  · have hp : List.Perm ([(a, .inr (0, [.ref q1, .ref q2, vI 0, vI 0, vI 0, .ref q3, .null, .ref q4, .ref q5, .ref q6, .ref q7, vI 0, .ref q12])), (q1, aB G 1000 (fun _ => 0)), (q2, aB G 1000 (fun _ => 0)), (q3, .inr (1, bF G (fun _ => 0) zD 0 1)), (q4, .inr (8, [vI 0, .ref (gS G 0), vI 0])), (q5, aQ G 2 100 (fun _ => none)), (q6, aI G 5 (fun _ => 0)), (q7, aQ G 3 2 (fun i => some (ycL [a, q1, q2, q4, q5, q6, q7, q8, q10, q9, q11, q12] (7 + i.toNat)))), (q8, .inr (6, [.ref q9])), (q9, aQ G 4 7 (fun _ => none)), (q10, .inr (6, [.ref q11])), (q11, aQ G 4 7 (fun _ => none)), (q12, aI G 512 (fun _ => 0))] : va_W) ((a, .inr (0, [.ref q1, .ref q2, vI 0, vI 0, vI 0, .ref q3, .null, .ref q4, .ref q5, .ref q6, .ref q7, vI 0, .ref q12])) :: (q1, aB G 1000 (fun _ => 0)) :: (q2, aB G 1000 (fun _ => 0)) :: ([(q4, .inr (8, [vI 0, .ref (gS G 0), vI 0])), (q5, aQ G 2 100 (fun _ => none)), (q6, aI G 5 (fun _ => 0)), (q7, aQ G 3 2 (fun i => some (ycL [a, q1, q2, q4, q5, q6, q7, q8, q10, q9, q11, q12] (7 + i.toNat)))), (q8, .inr (6, [.ref q9])), (q10, .inr (6, [.ref q11])), (q9, aQ G 4 7 (fun _ => none)), (q11, aQ G 4 7 (fun _ => none)), (q12, aI G 512 (fun _ => 0))] ++ [(q3, .inr (1, bF G (fun _ => 0) zD 0 1))])) := by
      refine List.Perm.cons _ (List.Perm.cons _ (List.Perm.cons _ ?_))
      refine ((List.perm_append_singleton _ _).symm).trans (List.Perm.append_right _ ?_)
      refine List.Perm.cons _ (List.Perm.cons _ (List.Perm.cons _ (List.Perm.cons _ (List.Perm.cons _ ?_))))
      exact List.Perm.swap _ _ _
    exact hp
  refine r_vret d_X_init_97 rfl (Nat.le_of_ble_eq_true rfl) (Nat.le_of_ble_eq_true rfl) ?_
  rw [← hQ]; exact ⟨rfl, _, rfl, rfl, rfl, rfl, rfl, rfl, rfl⟩
end XINIT
