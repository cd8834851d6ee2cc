abbrev q_M_init : Mi := (⟨"MovieBoxesModel", "<init>", "()V"⟩, prog_12_method_1_code, 1, none)
theorem d_M_init_0 : decode prog_12_method_1_code 0 = .ok (.aload_n 0, 1) := by decide +kernel
theorem d_M_init_1 : decode prog_12_method_1_code 1 = .ok (.invokespecial 1, 3) := by decide +kernel
set_option maxRecDepth 20000 in
theorem w_711 : Cond.methodLink "MovieBoxesModel" 1 ⟨"java/lang/Object", "<init>", "()V"⟩ ∈ gt := gt_of (in_t3 (List.mem_of_getElem? (i := 231) rfl)) rfl
theorem d_M_init_4 : decode prog_12_method_1_code 4 = .ok (.aload_n 0, 1) := by decide +kernel
theorem d_M_init_5 : decode prog_12_method_1_code 5 = .ok (.sipush 1000, 3) := by decide +kernel
theorem d_M_init_8 : decode prog_12_method_1_code 8 = .ok (.newarray .int, 2) := by decide +kernel
theorem d_M_init_10 : decode prog_12_method_1_code 10 = .ok (.putfield 7, 3) := by decide +kernel
theorem d_M_init_13 : decode prog_12_method_1_code 13 = .ok (.aload_n 0, 1) := by decide +kernel
theorem d_M_init_14 : decode prog_12_method_1_code 14 = .ok (.bipush 20, 2) := by decide +kernel
theorem d_M_init_16 : decode prog_12_method_1_code 16 = .ok (.newarray .int, 2) := by decide +kernel
theorem d_M_init_18 : decode prog_12_method_1_code 18 = .ok (.putfield 13, 3) := by decide +kernel
theorem d_M_init_21 : decode prog_12_method_1_code 21 = .ok (.aload_n 0, 1) := by decide +kernel
theorem d_M_init_22 : decode prog_12_method_1_code 22 = .ok (.bipush 20, 2) := by decide +kernel
theorem d_M_init_24 : decode prog_12_method_1_code 24 = .ok (.newarray .int, 2) := by decide +kernel
theorem d_M_init_26 : decode prog_12_method_1_code 26 = .ok (.putfield 16, 3) := by decide +kernel
theorem d_M_init_29 : decode prog_12_method_1_code 29 = .ok (.aload_n 0, 1) := by decide +kernel
theorem d_M_init_30 : decode prog_12_method_1_code 30 = .ok (.bipush 20, 2) := by decide +kernel
theorem d_M_init_32 : decode prog_12_method_1_code 32 = .ok (.newarray .int, 2) := by decide +kernel
theorem d_M_init_34 : decode prog_12_method_1_code 34 = .ok (.putfield 19, 3) := by decide +kernel
theorem d_M_init_37 : decode prog_12_method_1_code 37 = .ok (.aload_n 0, 1) := by decide +kernel
theorem d_M_init_38 : decode prog_12_method_1_code 38 = .ok (.bipush 20, 2) := by decide +kernel
theorem d_M_init_40 : decode prog_12_method_1_code 40 = .ok (.newarray .int, 2) := by decide +kernel
theorem d_M_init_42 : decode prog_12_method_1_code 42 = .ok (.putfield 22, 3) := by decide +kernel
theorem d_M_init_45 : decode prog_12_method_1_code 45 = .ok (.aload_n 0, 1) := by decide +kernel
theorem d_M_init_46 : decode prog_12_method_1_code 46 = .ok (.bipush 20, 2) := by decide +kernel
theorem d_M_init_48 : decode prog_12_method_1_code 48 = .ok (.newarray .int, 2) := by decide +kernel
theorem d_M_init_50 : decode prog_12_method_1_code 50 = .ok (.putfield 25, 3) := by decide +kernel
theorem d_M_init_53 : decode prog_12_method_1_code 53 = .ok (.aload_n 0, 1) := by decide +kernel
theorem d_M_init_54 : decode prog_12_method_1_code 54 = .ok (.bipush 20, 2) := by decide +kernel
theorem d_M_init_56 : decode prog_12_method_1_code 56 = .ok (.newarray .int, 2) := by decide +kernel
theorem d_M_init_58 : decode prog_12_method_1_code 58 = .ok (.putfield 28, 3) := by decide +kernel
theorem d_M_init_61 : decode prog_12_method_1_code 61 = .ok (.aload_n 0, 1) := by decide +kernel
theorem d_M_init_62 : decode prog_12_method_1_code 62 = .ok (.iconst 3, 1) := by decide +kernel
theorem d_M_init_63 : decode prog_12_method_1_code 63 = .ok (.newarray .int, 2) := by decide +kernel
theorem d_M_init_65 : decode prog_12_method_1_code 65 = .ok (.putfield 31, 3) := by decide +kernel
theorem d_M_init_68 : decode prog_12_method_1_code 68 = .ok (.aload_n 0, 1) := by decide +kernel
theorem d_M_init_69 : decode prog_12_method_1_code 69 = .ok (.iconst 3, 1) := by decide +kernel
theorem d_M_init_70 : decode prog_12_method_1_code 70 = .ok (.newarray .int, 2) := by decide +kernel
theorem d_M_init_72 : decode prog_12_method_1_code 72 = .ok (.putfield 34, 3) := by decide +kernel
theorem d_M_init_75 : decode prog_12_method_1_code 75 = .ok (.aload_n 0, 1) := by decide +kernel
theorem d_M_init_76 : decode prog_12_method_1_code 76 = .ok (.iconst 2, 1) := by decide +kernel
theorem d_M_init_77 : decode prog_12_method_1_code 77 = .ok (.newarray .int, 2) := by decide +kernel
theorem d_M_init_79 : decode prog_12_method_1_code 79 = .ok (.putfield 37, 3) := by decide +kernel
theorem d_M_init_82 : decode prog_12_method_1_code 82 = .ok (.aload_n 0, 1) := by decide +kernel
theorem d_M_init_83 : decode prog_12_method_1_code 83 = .ok (.bipush 16, 2) := by decide +kernel
theorem d_M_init_85 : decode prog_12_method_1_code 85 = .ok (.newarray .int, 2) := by decide +kernel
theorem d_M_init_87 : decode prog_12_method_1_code 87 = .ok (.putfield 40, 3) := by decide +kernel
theorem d_M_init_90 : decode prog_12_method_1_code 90 = .ok (.aload_n 0, 1) := by decide +kernel
theorem d_M_init_91 : decode prog_12_method_1_code 91 = .ok (.sipush 512, 3) := by decide +kernel
theorem d_M_init_94 : decode prog_12_method_1_code 94 = .ok (.newarray .int, 2) := by decide +kernel
theorem d_M_init_96 : decode prog_12_method_1_code 96 = .ok (.putfield 43, 3) := by decide +kernel
theorem d_M_init_99 : decode prog_12_method_1_code 99 = .ok (.aload_n 0, 1) := by decide +kernel
theorem d_M_init_100 : decode prog_12_method_1_code 100 = .ok (.bipush 20, 2) := by decide +kernel
theorem d_M_init_102 : decode prog_12_method_1_code 102 = .ok (.newarray .int, 2) := by decide +kernel
theorem d_M_init_104 : decode prog_12_method_1_code 104 = .ok (.putfield 46, 3) := by decide +kernel
theorem d_M_init_107 : decode prog_12_method_1_code 107 = .ok (.aload_n 0, 1) := by decide +kernel
theorem d_M_init_108 : decode prog_12_method_1_code 108 = .ok (.bipush 20, 2) := by decide +kernel
theorem d_M_init_110 : decode prog_12_method_1_code 110 = .ok (.newarray .int, 2) := by decide +kernel
theorem d_M_init_112 : decode prog_12_method_1_code 112 = .ok (.putfield 49, 3) := by decide +kernel
theorem d_M_init_115 : decode prog_12_method_1_code 115 = .ok (.aload_n 0, 1) := by decide +kernel
theorem d_M_init_116 : decode prog_12_method_1_code 116 = .ok (.bipush 20, 2) := by decide +kernel
theorem d_M_init_118 : decode prog_12_method_1_code 118 = .ok (.newarray .int, 2) := by decide +kernel
theorem d_M_init_120 : decode prog_12_method_1_code 120 = .ok (.putfield 52, 3) := by decide +kernel
theorem d_M_init_123 : decode prog_12_method_1_code 123 = .ok (.aload_n 0, 1) := by decide +kernel
theorem d_M_init_124 : decode prog_12_method_1_code 124 = .ok (.sipush 1000, 3) := by decide +kernel
theorem d_M_init_127 : decode prog_12_method_1_code 127 = .ok (.newarray .int, 2) := by decide +kernel
theorem d_M_init_129 : decode prog_12_method_1_code 129 = .ok (.putfield 55, 3) := by decide +kernel
theorem d_M_init_132 : decode prog_12_method_1_code 132 = .ok (.return_, 1) := by decide +kernel
/-! ===== the model: its constructor ===== -/
def mZ0 : mS := fun _ _ => 0
def mD0 : List Value := [.null, vI 0, vI 0, .null, .null, .null, .null, .null, .null, .null, .null, vI 0, vI 0, .null, .null, .null, .null, .null, .null, .null, vI 0]
def adL (l : List Nat) (k : Nat) : Nat := l.getD k 0
section MINIT
variable (G : gG) (l : Launch)
theorem c_M_init (a : Nat) : Ct G l q_M_init 1 16 2716 [.ref a] [(a, .inr (7, mD0))] (fun r w => r = none ∧ ∃ ad : Nat → Nat, w = mW G ad mZ0 ∧ ad 0 = a) := by
  refine Ct.intro [some (.ref a)] (by decide) (Nat.le_of_ble_eq_true rfl) rfl (fun sz => ?_)
  generalize hQ : (fun r w => r = none ∧ ∃ ad : Nat → Nat, w = mW G ad mZ0 ∧ ad 0 = a) = Q
  refine r_aload_n d_M_init_0 rfl rfl ?_
  refine r_objInit d_M_init_1 w_711 rfl rfl ?_
  refine r_aload_n d_M_init_4 rfl rfl ?_
  refine r_sipush d_M_init_5 (by decide) ?_
  refine r_newI (N := 1000) d_M_init_8 rfl (Nat.le_of_ble_eq_true rfl) (Nat.le_of_ble_eq_true rfl) (fun q1 => ?_)
  refine r_putF (T := fd_M) (C0 := "MovieBoxesModel") (N := 21) (ci := 7) (j := 0) ([(a, .inr (7, [.ref q1, vI 0, vI 0, .null, .null, .null, .null, .null, .null, .null, .null, vI 0, vI 0, .null, .null, .null, .null, .null, .null, .null, vI 0])), (q1, aI G 1000 (fun _ => 0))]) d_M_init_10 rfl (by decide) rfl w_712 rfl (fun _ _ _ h => h) 0 rfl rfl rfl (Nat.le_of_ble_eq_true rfl) rfl ?_
  show WP _ 1 1000 _ _ _ _
  refine r_aload_n d_M_init_13 rfl rfl ?_
  refine r_bipush d_M_init_14 (by decide) ?_
  refine r_newI (N := 20) d_M_init_16 rfl (Nat.le_of_ble_eq_true rfl) (Nat.le_of_ble_eq_true rfl) (fun q2 => ?_)
  refine r_putF (T := fd_M) (C0 := "MovieBoxesModel") (N := 21) (ci := 7) (j := 3) ([(a, .inr (7, [.ref q1, vI 0, vI 0, .ref q2, .null, .null, .null, .null, .null, .null, .null, vI 0, vI 0, .null, .null, .null, .null, .null, .null, .null, vI 0])), (q1, aI G 1000 (fun _ => 0)), (q2, aI G 20 (fun _ => 0))]) d_M_init_18 rfl (by decide) rfl w_715 rfl (fun _ _ _ h => h) 0 rfl rfl rfl (Nat.le_of_ble_eq_true rfl) rfl ?_
  show WP _ 2 1020 _ _ _ _
  refine r_aload_n d_M_init_21 rfl rfl ?_
  refine r_bipush d_M_init_22 (by decide) ?_
  refine r_newI (N := 20) d_M_init_24 rfl (Nat.le_of_ble_eq_true rfl) (Nat.le_of_ble_eq_true rfl) (fun q3 => ?_)
  refine r_putF (T := fd_M) (C0 := "MovieBoxesModel") (N := 21) (ci := 7) (j := 4) ([(a, .inr (7, [.ref q1, vI 0, vI 0, .ref q2, .ref q3, .null, .null, .null, .null, .null, .null, vI 0, vI 0, .null, .null, .null, .null, .null, .null, .null, vI 0])), (q1, aI G 1000 (fun _ => 0)), (q2, aI G 20 (fun _ => 0)), (q3, aI G 20 (fun _ => 0))]) d_M_init_26 rfl (by decide) rfl w_716 rfl (fun _ _ _ h => h) 0 rfl rfl rfl (Nat.le_of_ble_eq_true rfl) rfl ?_
  show WP _ 3 1040 _ _ _ _
  refine r_aload_n d_M_init_29 rfl rfl ?_
  refine r_bipush d_M_init_30 (by decide) ?_
  refine r_newI (N := 20) d_M_init_32 rfl (Nat.le_of_ble_eq_true rfl) (Nat.le_of_ble_eq_true rfl) (fun q4 => ?_)
  refine r_putF (T := fd_M) (C0 := "MovieBoxesModel") (N := 21) (ci := 7) (j := 5) ([(a, .inr (7, [.ref q1, vI 0, vI 0, .ref q2, .ref q3, .ref q4, .null, .null, .null, .null, .null, vI 0, vI 0, .null, .null, .null, .null, .null, .null, .null, vI 0])), (q1, aI G 1000 (fun _ => 0)), (q2, aI G 20 (fun _ => 0)), (q3, aI G 20 (fun _ => 0)), (q4, aI G 20 (fun _ => 0))]) d_M_init_34 rfl (by decide) rfl w_717 rfl (fun _ _ _ h => h) 0 rfl rfl rfl (Nat.le_of_ble_eq_true rfl) rfl ?_
  show WP _ 4 1060 _ _ _ _
  refine r_aload_n d_M_init_37 rfl rfl ?_
  refine r_bipush d_M_init_38 (by decide) ?_
  refine r_newI (N := 20) d_M_init_40 rfl (Nat.le_of_ble_eq_true rfl) (Nat.le_of_ble_eq_true rfl) (fun q5 => ?_)
  refine r_putF (T := fd_M) (C0 := "MovieBoxesModel") (N := 21) (ci := 7) (j := 6) ([(a, .inr (7, [.ref q1, vI 0, vI 0, .ref q2, .ref q3, .ref q4, .ref q5, .null, .null, .null, .null, vI 0, vI 0, .null, .null, .null, .null, .null, .null, .null, vI 0])), (q1, aI G 1000 (fun _ => 0)), (q2, aI G 20 (fun _ => 0)), (q3, aI G 20 (fun _ => 0)), (q4, aI G 20 (fun _ => 0)), (q5, aI G 20 (fun _ => 0))]) d_M_init_42 rfl (by decide) rfl w_718 rfl (fun _ _ _ h => h) 0 rfl rfl rfl (Nat.le_of_ble_eq_true rfl) rfl ?_
  show WP _ 5 1080 _ _ _ _
  refine r_aload_n d_M_init_45 rfl rfl ?_
  refine r_bipush d_M_init_46 (by decide) ?_
  refine r_newI (N := 20) d_M_init_48 rfl (Nat.le_of_ble_eq_true rfl) (Nat.le_of_ble_eq_true rfl) (fun q6 => ?_)
  refine r_putF (T := fd_M) (C0 := "MovieBoxesModel") (N := 21) (ci := 7) (j := 7) ([(a, .inr (7, [.ref q1, vI 0, vI 0, .ref q2, .ref q3, .ref q4, .ref q5, .ref q6, .null, .null, .null, vI 0, vI 0, .null, .null, .null, .null, .null, .null, .null, vI 0])), (q1, aI G 1000 (fun _ => 0)), (q2, aI G 20 (fun _ => 0)), (q3, aI G 20 (fun _ => 0)), (q4, aI G 20 (fun _ => 0)), (q5, aI G 20 (fun _ => 0)), (q6, aI G 20 (fun _ => 0))]) d_M_init_50 rfl (by decide) rfl w_719 rfl (fun _ _ _ h => h) 0 rfl rfl rfl (Nat.le_of_ble_eq_true rfl) rfl ?_
  show WP _ 6 1100 _ _ _ _
  refine r_aload_n d_M_init_53 rfl rfl ?_
  refine r_bipush d_M_init_54 (by decide) ?_
  refine r_newI (N := 20) d_M_init_56 rfl (Nat.le_of_ble_eq_true rfl) (Nat.le_of_ble_eq_true rfl) (fun q7 => ?_)
  refine r_putF (T := fd_M) (C0 := "MovieBoxesModel") (N := 21) (ci := 7) (j := 8) ([(a, .inr (7, [.ref q1, vI 0, vI 0, .ref q2, .ref q3, .ref q4, .ref q5, .ref q6, .ref q7, .null, .null, vI 0, vI 0, .null, .null, .null, .null, .null, .null, .null, vI 0])), (q1, aI G 1000 (fun _ => 0)), (q2, aI G 20 (fun _ => 0)), (q3, aI G 20 (fun _ => 0)), (q4, aI G 20 (fun _ => 0)), (q5, aI G 20 (fun _ => 0)), (q6, aI G 20 (fun _ => 0)), (q7, aI G 20 (fun _ => 0))]) d_M_init_58 rfl (by decide) rfl w_720 rfl (fun _ _ _ h => h) 0 rfl rfl rfl (Nat.le_of_ble_eq_true rfl) rfl ?_
  show WP _ 7 1120 _ _ _ _
  refine r_aload_n d_M_init_61 rfl rfl ?_
  refine r_iconst d_M_init_62 ?_
  refine r_newI (N := 3) d_M_init_63 rfl (Nat.le_of_ble_eq_true rfl) (Nat.le_of_ble_eq_true rfl) (fun q8 => ?_)
  refine r_putF (T := fd_M) (C0 := "MovieBoxesModel") (N := 21) (ci := 7) (j := 9) ([(a, .inr (7, [.ref q1, vI 0, vI 0, .ref q2, .ref q3, .ref q4, .ref q5, .ref q6, .ref q7, .ref q8, .null, vI 0, vI 0, .null, .null, .null, .null, .null, .null, .null, vI 0])), (q1, aI G 1000 (fun _ => 0)), (q2, aI G 20 (fun _ => 0)), (q3, aI G 20 (fun _ => 0)), (q4, aI G 20 (fun _ => 0)), (q5, aI G 20 (fun _ => 0)), (q6, aI G 20 (fun _ => 0)), (q7, aI G 20 (fun _ => 0)), (q8, aI G 3 (fun _ => 0))]) d_M_init_65 rfl (by decide) rfl w_721 rfl (fun _ _ _ h => h) 0 rfl rfl rfl (Nat.le_of_ble_eq_true rfl) rfl ?_
  show WP _ 8 1123 _ _ _ _
  refine r_aload_n d_M_init_68 rfl rfl ?_
  refine r_iconst d_M_init_69 ?_
  refine r_newI (N := 3) d_M_init_70 rfl (Nat.le_of_ble_eq_true rfl) (Nat.le_of_ble_eq_true rfl) (fun q9 => ?_)
  refine r_putF (T := fd_M) (C0 := "MovieBoxesModel") (N := 21) (ci := 7) (j := 10) ([(a, .inr (7, [.ref q1, vI 0, vI 0, .ref q2, .ref q3, .ref q4, .ref q5, .ref q6, .ref q7, .ref q8, .ref q9, vI 0, vI 0, .null, .null, .null, .null, .null, .null, .null, vI 0])), (q1, aI G 1000 (fun _ => 0)), (q2, aI G 20 (fun _ => 0)), (q3, aI G 20 (fun _ => 0)), (q4, aI G 20 (fun _ => 0)), (q5, aI G 20 (fun _ => 0)), (q6, aI G 20 (fun _ => 0)), (q7, aI G 20 (fun _ => 0)), (q8, aI G 3 (fun _ => 0)), (q9, aI G 3 (fun _ => 0))]) d_M_init_72 rfl (by decide) rfl w_722 rfl (fun _ _ _ h => h) 0 rfl rfl rfl (Nat.le_of_ble_eq_true rfl) rfl ?_
  show WP _ 9 1126 _ _ _ _
  refine r_aload_n d_M_init_75 rfl rfl ?_
  refine r_iconst d_M_init_76 ?_
  refine r_newI (N := 2) d_M_init_77 rfl (Nat.le_of_ble_eq_true rfl) (Nat.le_of_ble_eq_true rfl) (fun q10 => ?_)
  refine r_putF (T := fd_M) (C0 := "MovieBoxesModel") (N := 21) (ci := 7) (j := 13) ([(a, .inr (7, [.ref q1, vI 0, vI 0, .ref q2, .ref q3, .ref q4, .ref q5, .ref q6, .ref q7, .ref q8, .ref q9, vI 0, vI 0, .ref q10, .null, .null, .null, .null, .null, .null, vI 0])), (q1, aI G 1000 (fun _ => 0)), (q2, aI G 20 (fun _ => 0)), (q3, aI G 20 (fun _ => 0)), (q4, aI G 20 (fun _ => 0)), (q5, aI G 20 (fun _ => 0)), (q6, aI G 20 (fun _ => 0)), (q7, aI G 20 (fun _ => 0)), (q8, aI G 3 (fun _ => 0)), (q9, aI G 3 (fun _ => 0)), (q10, aI G 2 (fun _ => 0))]) d_M_init_79 rfl (by decide) rfl w_725 rfl (fun _ _ _ h => h) 0 rfl rfl rfl (Nat.le_of_ble_eq_true rfl) rfl ?_
  show WP _ 10 1128 _ _ _ _
  refine r_aload_n d_M_init_82 rfl rfl ?_
  refine r_bipush d_M_init_83 (by decide) ?_
  refine r_newI (N := 16) d_M_init_85 rfl (Nat.le_of_ble_eq_true rfl) (Nat.le_of_ble_eq_true rfl) (fun q11 => ?_)
  refine r_putF (T := fd_M) (C0 := "MovieBoxesModel") (N := 21) (ci := 7) (j := 14) ([(a, .inr (7, [.ref q1, vI 0, vI 0, .ref q2, .ref q3, .ref q4, .ref q5, .ref q6, .ref q7, .ref q8, .ref q9, vI 0, vI 0, .ref q10, .ref q11, .null, .null, .null, .null, .null, vI 0])), (q1, aI G 1000 (fun _ => 0)), (q2, aI G 20 (fun _ => 0)), (q3, aI G 20 (fun _ => 0)), (q4, aI G 20 (fun _ => 0)), (q5, aI G 20 (fun _ => 0)), (q6, aI G 20 (fun _ => 0)), (q7, aI G 20 (fun _ => 0)), (q8, aI G 3 (fun _ => 0)), (q9, aI G 3 (fun _ => 0)), (q10, aI G 2 (fun _ => 0)), (q11, aI G 16 (fun _ => 0))]) d_M_init_87 rfl (by decide) rfl w_726 rfl (fun _ _ _ h => h) 0 rfl rfl rfl (Nat.le_of_ble_eq_true rfl) rfl ?_
  show WP _ 11 1144 _ _ _ _
  refine r_aload_n d_M_init_90 rfl rfl ?_
  refine r_sipush d_M_init_91 (by decide) ?_
  refine r_newI (N := 512) d_M_init_94 rfl (Nat.le_of_ble_eq_true rfl) (Nat.le_of_ble_eq_true rfl) (fun q12 => ?_)
  refine r_putF (T := fd_M) (C0 := "MovieBoxesModel") (N := 21) (ci := 7) (j := 15) ([(a, .inr (7, [.ref q1, vI 0, vI 0, .ref q2, .ref q3, .ref q4, .ref q5, .ref q6, .ref q7, .ref q8, .ref q9, vI 0, vI 0, .ref q10, .ref q11, .ref q12, .null, .null, .null, .null, vI 0])), (q1, aI G 1000 (fun _ => 0)), (q2, aI G 20 (fun _ => 0)), (q3, aI G 20 (fun _ => 0)), (q4, aI G 20 (fun _ => 0)), (q5, aI G 20 (fun _ => 0)), (q6, aI G 20 (fun _ => 0)), (q7, aI G 20 (fun _ => 0)), (q8, aI G 3 (fun _ => 0)), (q9, aI G 3 (fun _ => 0)), (q10, aI G 2 (fun _ => 0)), (q11, aI G 16 (fun _ => 0)), (q12, aI G 512 (fun _ => 0))]) d_M_init_96 rfl (by decide) rfl w_727 rfl (fun _ _ _ h => h) 0 rfl rfl rfl (Nat.le_of_ble_eq_true rfl) rfl ?_
  show WP _ 12 1656 _ _ _ _
  refine r_aload_n d_M_init_99 rfl rfl ?_
  refine r_bipush d_M_init_100 (by decide) ?_
  refine r_newI (N := 20) d_M_init_102 rfl (Nat.le_of_ble_eq_true rfl) (Nat.le_of_ble_eq_true rfl) (fun q13 => ?_)
  refine r_putF (T := fd_M) (C0 := "MovieBoxesModel") (N := 21) (ci := 7) (j := 16) ([(a, .inr (7, [.ref q1, vI 0, vI 0, .ref q2, .ref q3, .ref q4, .ref q5, .ref q6, .ref q7, .ref q8, .ref q9, vI 0, vI 0, .ref q10, .ref q11, .ref q12, .ref q13, .null, .null, .null, vI 0])), (q1, aI G 1000 (fun _ => 0)), (q2, aI G 20 (fun _ => 0)), (q3, aI G 20 (fun _ => 0)), (q4, aI G 20 (fun _ => 0)), (q5, aI G 20 (fun _ => 0)), (q6, aI G 20 (fun _ => 0)), (q7, aI G 20 (fun _ => 0)), (q8, aI G 3 (fun _ => 0)), (q9, aI G 3 (fun _ => 0)), (q10, aI G 2 (fun _ => 0)), (q11, aI G 16 (fun _ => 0)), (q12, aI G 512 (fun _ => 0)), (q13, aI G 20 (fun _ => 0))]) d_M_init_104 rfl (by decide) rfl w_728 rfl (fun _ _ _ h => h) 0 rfl rfl rfl (Nat.le_of_ble_eq_true rfl) rfl ?_
  show WP _ 13 1676 _ _ _ _
  refine r_aload_n d_M_init_107 rfl rfl ?_
  refine r_bipush d_M_init_108 (by decide) ?_
  refine r_newI (N := 20) d_M_init_110 rfl (Nat.le_of_ble_eq_true rfl) (Nat.le_of_ble_eq_true rfl) (fun q14 => ?_)
  refine r_putF (T := fd_M) (C0 := "MovieBoxesModel") (N := 21) (ci := 7) (j := 17) ([(a, .inr (7, [.ref q1, vI 0, vI 0, .ref q2, .ref q3, .ref q4, .ref q5, .ref q6, .ref q7, .ref q8, .ref q9, vI 0, vI 0, .ref q10, .ref q11, .ref q12, .ref q13, .ref q14, .null, .null, vI 0])), (q1, aI G 1000 (fun _ => 0)), (q2, aI G 20 (fun _ => 0)), (q3, aI G 20 (fun _ => 0)), (q4, aI G 20 (fun _ => 0)), (q5, aI G 20 (fun _ => 0)), (q6, aI G 20 (fun _ => 0)), (q7, aI G 20 (fun _ => 0)), (q8, aI G 3 (fun _ => 0)), (q9, aI G 3 (fun _ => 0)), (q10, aI G 2 (fun _ => 0)), (q11, aI G 16 (fun _ => 0)), (q12, aI G 512 (fun _ => 0)), (q13, aI G 20 (fun _ => 0)), (q14, aI G 20 (fun _ => 0))]) d_M_init_112 rfl (by decide) rfl w_729 rfl (fun _ _ _ h => h) 0 rfl rfl rfl (Nat.le_of_ble_eq_true rfl) rfl ?_
  show WP _ 14 1696 _ _ _ _
  refine r_aload_n d_M_init_115 rfl rfl ?_
  refine r_bipush d_M_init_116 (by decide) ?_
  refine r_newI (N := 20) d_M_init_118 rfl (Nat.le_of_ble_eq_true rfl) (Nat.le_of_ble_eq_true rfl) (fun q15 => ?_)
  refine r_putF (T := fd_M) (C0 := "MovieBoxesModel") (N := 21) (ci := 7) (j := 18) ([(a, .inr (7, [.ref q1, vI 0, vI 0, .ref q2, .ref q3, .ref q4, .ref q5, .ref q6, .ref q7, .ref q8, .ref q9, vI 0, vI 0, .ref q10, .ref q11, .ref q12, .ref q13, .ref q14, .ref q15, .null, vI 0])), (q1, aI G 1000 (fun _ => 0)), (q2, aI G 20 (fun _ => 0)), (q3, aI G 20 (fun _ => 0)), (q4, aI G 20 (fun _ => 0)), (q5, aI G 20 (fun _ => 0)), (q6, aI G 20 (fun _ => 0)), (q7, aI G 20 (fun _ => 0)), (q8, aI G 3 (fun _ => 0)), (q9, aI G 3 (fun _ => 0)), (q10, aI G 2 (fun _ => 0)), (q11, aI G 16 (fun _ => 0)), (q12, aI G 512 (fun _ => 0)), (q13, aI G 20 (fun _ => 0)), (q14, aI G 20 (fun _ => 0)), (q15, aI G 20 (fun _ => 0))]) d_M_init_120 rfl (by decide) rfl w_730 rfl (fun _ _ _ h => h) 0 rfl rfl rfl (Nat.le_of_ble_eq_true rfl) rfl ?_
  show WP _ 15 1716 _ _ _ _
  refine r_aload_n d_M_init_123 rfl rfl ?_
  refine r_sipush d_M_init_124 (by decide) ?_
  refine r_newI (N := 1000) d_M_init_127 rfl (Nat.le_of_ble_eq_true rfl) (Nat.le_of_ble_eq_true rfl) (fun q16 => ?_)
  refine r_putF (T := fd_M) (C0 := "MovieBoxesModel") (N := 21) (ci := 7) (j := 19) ([(a, .inr (7, [.ref q1, vI 0, vI 0, .ref q2, .ref q3, .ref q4, .ref q5, .ref q6, .ref q7, .ref q8, .ref q9, vI 0, vI 0, .ref q10, .ref q11, .ref q12, .ref q13, .ref q14, .ref q15, .ref q16, vI 0])), (q1, aI G 1000 (fun _ => 0)), (q2, aI G 20 (fun _ => 0)), (q3, aI G 20 (fun _ => 0)), (q4, aI G 20 (fun _ => 0)), (q5, aI G 20 (fun _ => 0)), (q6, aI G 20 (fun _ => 0)), (q7, aI G 20 (fun _ => 0)), (q8, aI G 3 (fun _ => 0)), (q9, aI G 3 (fun _ => 0)), (q10, aI G 2 (fun _ => 0)), (q11, aI G 16 (fun _ => 0)), (q12, aI G 512 (fun _ => 0)), (q13, aI G 20 (fun _ => 0)), (q14, aI G 20 (fun _ => 0)), (q15, aI G 20 (fun _ => 0)), (q16, aI G 1000 (fun _ => 0))]) d_M_init_129 rfl (by decide) rfl w_731 rfl (fun _ _ _ h => h) 0 rfl rfl rfl (Nat.le_of_ble_eq_true rfl) rfl ?_
  show WP _ 16 2716 _ _ _ _
  refine r_vret d_M_init_132 rfl (Nat.le_of_ble_eq_true rfl) (Nat.le_of_ble_eq_true rfl) ?_
  rw [← hQ]
  exact ⟨rfl, adL [a, q1, q2, q3, q4, q5, q6, q7, q8, q9, q10, q11, q12, q13, q14, q15, q16], rfl, rfl⟩
end MINIT
