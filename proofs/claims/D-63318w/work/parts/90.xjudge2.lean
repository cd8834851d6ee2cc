abbrev q_X_judge : Mi := (⟨"MovieBoxes", "judge", "()I"⟩, prog_1_method_14_code, 3, (some .int))
theorem d_X_judge_0 : decode prog_1_method_14_code 0 = .ok (.aload_n 0, 1) := by decide +kernel
theorem d_X_judge_1 : decode prog_1_method_14_code 1 = .ok (.invokevirtual 200, 3) := by decide +kernel
set_option maxRecDepth 20000 in
theorem w_471 : Cond.methodLink "MovieBoxes" 200 ⟨"MovieBoxes", "sorted", "()Z"⟩ ∈ gt := gt_of (in_t2 (List.mem_of_getElem? (i := 231) rfl)) rfl
set_option maxRecDepth 20000 in
theorem w_473 : Cond.instanceMethod ⟨"MovieBoxes", "sorted", "()Z"⟩ ∈ gt := gt_of (in_t2 (List.mem_of_getElem? (i := 233) rfl)) rfl
set_option maxRecDepth 20000 in
theorem ws_X_sorted : Cond.selects "MovieBoxes" ⟨"MovieBoxes", "sorted", "()Z"⟩ ⟨"MovieBoxes", "sorted", "()Z"⟩ ∈ gt := gt_of (in_p1 (List.mem_of_getElem? (i := 7) rfl)) rfl
set_option maxRecDepth 20000 in
theorem w_474 : Cond.code ⟨"MovieBoxes", "sorted", "()Z"⟩ prog_1_method_15_code 2 (some .boolean) ∈ gt := gt_of (in_t2 (List.mem_of_getElem? (i := 234) rfl)) rfl
theorem lk_X_200 : LkV "MovieBoxes" 200 q_X_sorted 0 := ⟨(List.forall_mem_cons.mpr ⟨w_471, (List.forall_mem_cons.mpr ⟨w_473, (List.forall_mem_cons.mpr ⟨ws_X_sorted, (List.forall_mem_cons.mpr ⟨w_1, (fun _ h => absurd h List.not_mem_nil)⟩)⟩)⟩)⟩), w_474, by decide +kernel⟩
theorem d_X_judge_4 : decode prog_1_method_14_code 4 = .ok (.ifCond .ne 5, 3) := by decide +kernel
theorem d_X_judge_99 : decode prog_1_method_14_code 99 = .ok (.iload_n 1, 1) := by decide +kernel
theorem d_X_judge_100 : decode prog_1_method_14_code 100 = .ok (.aload_n 0, 1) := by decide +kernel
theorem d_X_judge_101 : decode prog_1_method_14_code 101 = .ok (.getfield 189, 3) := by decide +kernel
theorem d_X_judge_104 : decode prog_1_method_14_code 104 = .ok (.if_icmp .ge 25, 3) := by decide +kernel
theorem d_X_judge_129 : decode prog_1_method_14_code 129 = .ok (.iconst 0, 1) := by decide +kernel
theorem d_X_judge_130 : decode prog_1_method_14_code 130 = .ok (.ireturn, 1) := by decide +kernel
theorem d_X_judge_107 : decode prog_1_method_14_code 107 = .ok (.aload_n 0, 1) := by decide +kernel
theorem d_X_judge_108 : decode prog_1_method_14_code 108 = .ok (.aload_n 0, 1) := by decide +kernel
theorem d_X_judge_109 : decode prog_1_method_14_code 109 = .ok (.getfield 43, 3) := by decide +kernel
theorem d_X_judge_112 : decode prog_1_method_14_code 112 = .ok (.iload_n 1, 1) := by decide +kernel
theorem d_X_judge_113 : decode prog_1_method_14_code 113 = .ok (.aaload, 1) := by decide +kernel
theorem d_X_judge_114 : decode prog_1_method_14_code 114 = .ok (.invokevirtual 215, 3) := by decide +kernel
set_option maxRecDepth 20000 in
theorem w_551 : Cond.methodLink "MovieBoxes" 215 ⟨"MovieBoxes", "lies", "(LMovieBoxes$Track;)Z"⟩ ∈ gt := gt_of (in_t3 (List.mem_of_getElem? (i := 71) rfl)) rfl
set_option maxRecDepth 20000 in
theorem w_553 : Cond.instanceMethod ⟨"MovieBoxes", "lies", "(LMovieBoxes$Track;)Z"⟩ ∈ gt := gt_of (in_t3 (List.mem_of_getElem? (i := 73) rfl)) rfl
set_option maxRecDepth 20000 in
theorem ws_X_lies : Cond.selects "MovieBoxes" ⟨"MovieBoxes", "lies", "(LMovieBoxes$Track;)Z"⟩ ⟨"MovieBoxes", "lies", "(LMovieBoxes$Track;)Z"⟩ ∈ gt := gt_of (in_p1 (List.mem_of_getElem? (i := 8) rfl)) rfl
set_option maxRecDepth 20000 in
theorem w_554 : Cond.code ⟨"MovieBoxes", "lies", "(LMovieBoxes$Track;)Z"⟩ prog_1_method_17_code 8 (some .boolean) ∈ gt := gt_of (in_t3 (List.mem_of_getElem? (i := 74) rfl)) rfl
theorem lk_X_215 : LkV "MovieBoxes" 215 q_X_lies 1 := ⟨(List.forall_mem_cons.mpr ⟨w_551, (List.forall_mem_cons.mpr ⟨w_553, (List.forall_mem_cons.mpr ⟨ws_X_lies, (List.forall_mem_cons.mpr ⟨w_1, (fun _ h => absurd h List.not_mem_nil)⟩)⟩)⟩)⟩), w_554, by decide +kernel⟩
theorem d_X_judge_117 : decode prog_1_method_14_code 117 = .ok (.ifCond .ne 6, 3) := by decide +kernel
theorem d_X_judge_123 : decode prog_1_method_14_code 123 = .ok (.iinc 1 1, 3) := by decide +kernel
theorem d_X_judge_126 : decode prog_1_method_14_code 126 = .ok (.goto (-27), 3) := by decide +kernel
theorem d_X_judge_120 : decode prog_1_method_14_code 120 = .ok (.bipush 6, 2) := by decide +kernel
theorem d_X_judge_122 : decode prog_1_method_14_code 122 = .ok (.ireturn, 1) := by decide +kernel
theorem d_X_judge_65 : decode prog_1_method_14_code 65 = .ok (.iload_n 1, 1) := by decide +kernel
theorem d_X_judge_66 : decode prog_1_method_14_code 66 = .ok (.aload_n 0, 1) := by decide +kernel
theorem d_X_judge_67 : decode prog_1_method_14_code 67 = .ok (.getfield 189, 3) := by decide +kernel
theorem d_X_judge_70 : decode prog_1_method_14_code 70 = .ok (.if_icmp .ge 27, 3) := by decide +kernel
theorem d_X_judge_97 : decode prog_1_method_14_code 97 = .ok (.iconst 0, 1) := by decide +kernel
theorem d_X_judge_98 : decode prog_1_method_14_code 98 = .ok (.istore_n 1, 1) := by decide +kernel
theorem d_X_judge_73 : decode prog_1_method_14_code 73 = .ok (.aload_n 0, 1) := by decide +kernel
theorem d_X_judge_74 : decode prog_1_method_14_code 74 = .ok (.getfield 43, 3) := by decide +kernel
theorem d_X_judge_77 : decode prog_1_method_14_code 77 = .ok (.iload_n 1, 1) := by decide +kernel
theorem d_X_judge_78 : decode prog_1_method_14_code 78 = .ok (.aaload, 1) := by decide +kernel
theorem d_X_judge_79 : decode prog_1_method_14_code 79 = .ok (.aload_n 0, 1) := by decide +kernel
theorem d_X_judge_80 : decode prog_1_method_14_code 80 = .ok (.getfield 7, 3) := by decide +kernel
theorem d_X_judge_83 : decode prog_1_method_14_code 83 = .ok (.invokevirtual 212, 3) := by decide +kernel
set_option maxRecDepth 20000 in
theorem w_527 : Cond.methodLink "MovieBoxes" 212 ⟨"MovieBoxes$Track", "agree", "([B)Z"⟩ ∈ gt := gt_of (in_t3 (List.mem_of_getElem? (i := 47) rfl)) rfl
set_option maxRecDepth 20000 in
theorem w_528 : Cond.instanceMethod ⟨"MovieBoxes$Track", "agree", "([B)Z"⟩ ∈ gt := gt_of (in_t3 (List.mem_of_getElem? (i := 48) rfl)) rfl
set_option maxRecDepth 20000 in
theorem w_529 : Cond.selects "MovieBoxes$Track" ⟨"MovieBoxes$Track", "agree", "([B)Z"⟩ ⟨"MovieBoxes$Track", "agree", "([B)Z"⟩ ∈ gt := gt_of (in_t3 (List.mem_of_getElem? (i := 49) rfl)) rfl
set_option maxRecDepth 20000 in
theorem w_530 : Cond.code ⟨"MovieBoxes$Track", "agree", "([B)Z"⟩ prog_9_method_6_code 6 (some .boolean) ∈ gt := gt_of (in_t3 (List.mem_of_getElem? (i := 50) rfl)) rfl
theorem lk_X_212 : LkV "MovieBoxes" 212 q_K_agree 1 := ⟨(List.forall_mem_cons.mpr ⟨w_527, (List.forall_mem_cons.mpr ⟨w_528, (List.forall_mem_cons.mpr ⟨w_529, (List.forall_mem_cons.mpr ⟨w_7, (fun _ h => absurd h List.not_mem_nil)⟩)⟩)⟩)⟩), w_530, by decide +kernel⟩
theorem d_X_judge_86 : decode prog_1_method_14_code 86 = .ok (.ifCond .ne 5, 3) := by decide +kernel
theorem d_X_judge_91 : decode prog_1_method_14_code 91 = .ok (.iinc 1 1, 3) := by decide +kernel
theorem d_X_judge_94 : decode prog_1_method_14_code 94 = .ok (.goto (-29), 3) := by decide +kernel
theorem d_X_judge_89 : decode prog_1_method_14_code 89 = .ok (.iconst 5, 1) := by decide +kernel
theorem d_X_judge_90 : decode prog_1_method_14_code 90 = .ok (.ireturn, 1) := by decide +kernel
theorem d_X_judge_63 : decode prog_1_method_14_code 63 = .ok (.iconst 0, 1) := by decide +kernel
theorem d_X_judge_64 : decode prog_1_method_14_code 64 = .ok (.istore_n 1, 1) := by decide +kernel
theorem d_X_judge_11 : decode prog_1_method_14_code 11 = .ok (.iload_n 1, 1) := by decide +kernel
theorem d_X_judge_12 : decode prog_1_method_14_code 12 = .ok (.aload_n 0, 1) := by decide +kernel
theorem d_X_judge_13 : decode prog_1_method_14_code 13 = .ok (.getfield 26, 3) := by decide +kernel
theorem d_X_judge_16 : decode prog_1_method_14_code 16 = .ok (.invokevirtual 157, 3) := by decide +kernel
theorem d_X_judge_19 : decode prog_1_method_14_code 19 = .ok (.if_icmp .ge 44, 3) := by decide +kernel
theorem d_X_judge_57 : decode prog_1_method_14_code 57 = .ok (.iinc 1 1, 3) := by decide +kernel
theorem d_X_judge_60 : decode prog_1_method_14_code 60 = .ok (.goto (-49), 3) := by decide +kernel
theorem d_X_judge_52 : decode prog_1_method_14_code 52 = .ok (.ifCond .ne 5, 3) := by decide +kernel
theorem d_X_judge_55 : decode prog_1_method_14_code 55 = .ok (.iconst 4, 1) := by decide +kernel
theorem d_X_judge_56 : decode prog_1_method_14_code 56 = .ok (.ireturn, 1) := by decide +kernel
theorem d_X_judge_22 : decode prog_1_method_14_code 22 = .ok (.aload_n 0, 1) := by decide +kernel
theorem d_X_judge_23 : decode prog_1_method_14_code 23 = .ok (.getfield 26, 3) := by decide +kernel
theorem d_X_judge_26 : decode prog_1_method_14_code 26 = .ok (.iload_n 1, 1) := by decide +kernel
theorem d_X_judge_27 : decode prog_1_method_14_code 27 = .ok (.invokevirtual 204, 3) := by decide +kernel
set_option maxRecDepth 20000 in
theorem w_479 : Cond.methodLink "MovieBoxes" 204 ⟨"java/util/ArrayList", "get", "(I)Ljava/lang/Object;"⟩ ∈ gt := gt_of (in_t2 (List.mem_of_getElem? (i := 239) rfl)) rfl
set_option maxRecDepth 20000 in
theorem w_480 : Cond.instanceMethod ⟨"java/util/ArrayList", "get", "(I)Ljava/lang/Object;"⟩ ∈ gt := gt_of (in_t3 (List.mem_of_getElem? (i := 0) rfl)) rfl
set_option maxRecDepth 20000 in
theorem w_481 : Cond.selects "java/util/ArrayList" ⟨"java/util/ArrayList", "get", "(I)Ljava/lang/Object;"⟩ ⟨"java/util/ArrayList", "get", "(I)Ljava/lang/Object;"⟩ ∈ gt := gt_of (in_t3 (List.mem_of_getElem? (i := 1) rfl)) rfl
set_option maxRecDepth 20000 in
theorem w_482 : Cond.code ⟨"java/util/ArrayList", "get", "(I)Ljava/lang/Object;"⟩ prog_21_method_20_code 2 (some (.object "java/lang/Object")) ∈ gt := gt_of (in_t3 (List.mem_of_getElem? (i := 2) rfl)) rfl
theorem lk_X_204 : LkV "MovieBoxes" 204 q_A_get 1 := ⟨(List.forall_mem_cons.mpr ⟨w_479, (List.forall_mem_cons.mpr ⟨w_480, (List.forall_mem_cons.mpr ⟨w_481, (List.forall_mem_cons.mpr ⟨w_6, (fun _ h => absurd h List.not_mem_nil)⟩)⟩)⟩)⟩), w_482, by decide +kernel⟩
theorem d_X_judge_30 : decode prog_1_method_14_code 30 = .ok (.checkcast 30, 3) := by decide +kernel
set_option maxRecDepth 20000 in
theorem w_145 : Cond.classLink "MovieBoxes" 30 "MovieBoxes$Box" ∈ gt := gt_of (in_t1 (List.mem_of_getElem? (i := 145) rfl)) rfl
theorem d_X_judge_33 : decode prog_1_method_14_code 33 = .ok (.astore_n 2, 1) := by decide +kernel
theorem d_X_judge_34 : decode prog_1_method_14_code 34 = .ok (.aload_n 2, 1) := by decide +kernel
theorem d_X_judge_35 : decode prog_1_method_14_code 35 = .ok (.instanceof 110, 3) := by decide +kernel
theorem d_X_judge_38 : decode prog_1_method_14_code 38 = .ok (.ifCond .eq 19, 3) := by decide +kernel
theorem d_X_judge_41 : decode prog_1_method_14_code 41 = .ok (.aload_n 2, 1) := by decide +kernel
theorem d_X_judge_42 : decode prog_1_method_14_code 42 = .ok (.checkcast 110, 3) := by decide +kernel
theorem d_X_judge_45 : decode prog_1_method_14_code 45 = .ok (.aload_n 0, 1) := by decide +kernel
theorem d_X_judge_46 : decode prog_1_method_14_code 46 = .ok (.getfield 7, 3) := by decide +kernel
theorem d_X_judge_49 : decode prog_1_method_14_code 49 = .ok (.invokevirtual 208, 3) := by decide +kernel
set_option maxRecDepth 20000 in
theorem w_493 : Cond.methodLink "MovieBoxes" 208 ⟨"MovieBoxes$Table", "sound", "([B)Z"⟩ ∈ gt := gt_of (in_t3 (List.mem_of_getElem? (i := 13) rfl)) rfl
set_option maxRecDepth 20000 in
theorem w_494 : Cond.instanceMethod ⟨"MovieBoxes$Table", "sound", "([B)Z"⟩ ∈ gt := gt_of (in_t3 (List.mem_of_getElem? (i := 14) rfl)) rfl
set_option maxRecDepth 20000 in
theorem w_495 : Cond.selects "MovieBoxes$Table" ⟨"MovieBoxes$Table", "sound", "([B)Z"⟩ ⟨"MovieBoxes$Table", "sound", "([B)Z"⟩ ∈ gt := gt_of (in_t3 (List.mem_of_getElem? (i := 15) rfl)) rfl
set_option maxRecDepth 20000 in
theorem w_504 : Cond.code ⟨"MovieBoxes$Table", "sound", "([B)Z"⟩ prog_8_method_2_code 7 (some .boolean) ∈ gt := gt_of (in_t3 (List.mem_of_getElem? (i := 24) rfl)) rfl
theorem lk_X_208 : LkV "MovieBoxes" 208 q_T_sound 1 := ⟨(List.forall_mem_cons.mpr ⟨w_493, (List.forall_mem_cons.mpr ⟨w_494, (List.forall_mem_cons.mpr ⟨w_495, (List.forall_mem_cons.mpr ⟨w_12, (fun _ h => absurd h List.not_mem_nil)⟩)⟩)⟩)⟩), w_504, by decide +kernel⟩
set_option maxRecDepth 20000 in
theorem w_496 : Cond.sameMethod "MovieBoxes$Table" "MovieBoxes$Table" "sound" "([B)Z" ∈ gt := gt_of (in_t3 (List.mem_of_getElem? (i := 16) rfl)) rfl
set_option maxRecDepth 20000 in
theorem w_497 : Cond.selects "MovieBoxes$PlaceTable" ⟨"MovieBoxes$Table", "sound", "([B)Z"⟩ ⟨"MovieBoxes$Table", "sound", "([B)Z"⟩ ∈ gt := gt_of (in_t3 (List.mem_of_getElem? (i := 17) rfl)) rfl
theorem lu_X_208_P : LkU "MovieBoxes" 208 "MovieBoxes$PlaceTable" "MovieBoxes$Table" ⟨"MovieBoxes$Table", "sound", "([B)Z"⟩ q_T_sound 1 := ⟨(List.forall_mem_cons.mpr ⟨w_493, (List.forall_mem_cons.mpr ⟨w_496, (List.forall_mem_cons.mpr ⟨w_497, (List.forall_mem_cons.mpr ⟨w_494, (List.forall_mem_cons.mpr ⟨w_12, (fun _ h => absurd h List.not_mem_nil)⟩)⟩)⟩)⟩)⟩), w_504, Or.inr ⟨_, _, _, w_504, w_494⟩, by decide +kernel⟩
set_option maxRecDepth 20000 in
theorem w_498 : Cond.selects "MovieBoxes$SizeTable" ⟨"MovieBoxes$Table", "sound", "([B)Z"⟩ ⟨"MovieBoxes$SizeTable", "sound", "([B)Z"⟩ ∈ gt := gt_of (in_t3 (List.mem_of_getElem? (i := 18) rfl)) rfl
set_option maxRecDepth 20000 in
theorem w_499 : Cond.instanceMethod ⟨"MovieBoxes$SizeTable", "sound", "([B)Z"⟩ ∈ gt := gt_of (in_t3 (List.mem_of_getElem? (i := 19) rfl)) rfl
set_option maxRecDepth 20000 in
theorem w_500 : Cond.code ⟨"MovieBoxes$SizeTable", "sound", "([B)Z"⟩ prog_7_method_2_code 3 (some .boolean) ∈ gt := gt_of (in_t3 (List.mem_of_getElem? (i := 20) rfl)) rfl
theorem lu_X_208_S : LkU "MovieBoxes" 208 "MovieBoxes$SizeTable" "MovieBoxes$Table" ⟨"MovieBoxes$Table", "sound", "([B)Z"⟩ q_S_sound 1 := ⟨(List.forall_mem_cons.mpr ⟨w_493, (List.forall_mem_cons.mpr ⟨w_496, (List.forall_mem_cons.mpr ⟨w_498, (List.forall_mem_cons.mpr ⟨w_499, (List.forall_mem_cons.mpr ⟨w_14, (fun _ h => absurd h List.not_mem_nil)⟩)⟩)⟩)⟩)⟩), w_500, Or.inr ⟨_, _, _, w_504, w_494⟩, by decide +kernel⟩
theorem d_X_judge_9 : decode prog_1_method_14_code 9 = .ok (.iconst 0, 1) := by decide +kernel
theorem d_X_judge_10 : decode prog_1_method_14_code 10 = .ok (.istore_n 1, 1) := by decide +kernel
theorem d_X_judge_7 : decode prog_1_method_14_code 7 = .ok (.iconst 3, 1) := by decide +kernel
theorem d_X_judge_8 : decode prog_1_method_14_code 8 = .ok (.ireturn, 1) := by decide +kernel
/-! ===== the component: judge, the walk ===== -/
def jR (s u : mS) (f : Int) : Prop := (kdR s = 1 ∧ f = 3) ∨ (kdR s = 0 ∧ ((rowsAny u ∧ f = 4) ∨ (¬ rowsAny u ∧ ((cntAny u ∧ f = 5) ∨ (¬ cntAny u ∧ ((datAny u ∧ f = 6) ∨ (¬ datAny u ∧ f = 0)))))))
theorem qI_u {G : gG} {y : xP} {z s u : mS} (h : qI G y z s) (huc : ∀ c, c ≠ 0 → c ≠ 10 → c ≠ 11 → u c = s c) (h1 : u 0 1 = s 0 1) : qI G y z u := by
  obtain ⟨⟨a1, a2, a3, a4, a5⟩, b2, b3, b4, b5, b6⟩ := h
  refine ⟨⟨a1, a2, by rw [h1]; exact a3, by rw [huc 1 (by omega) (by omega) (by omega)]; exact a4, a5⟩, b2, b3, b4, b5, fun k k0 k1 => ?_⟩
  rw [huc 2 (by omega) (by omega) (by omega), huc 3 (by omega) (by omega) (by omega), huc 4 (by omega) (by omega) (by omega), huc 5 (by omega) (by omega) (by omega), huc 6 (by omega) (by omega) (by omega), huc 7 (by omega) (by omega) (by omega)]
  exact b6 k k0 k1
section XJUDGE
variable (G : gG) (l : Launch) (y : xP)
set_option maxRecDepth 8000 in
set_option maxHeartbeats 8000000 in
theorem c_X_judge (z s u : mS) (hP : qI G y z s) (hr : rdOk s) (ho : hoOk s) (h2 : o2Ok s) (h02 : z 0 2 = -1) (h03 : z 0 3 = 0) (hu : u = (kdF s (s 0 1).toNat).1) : Ct G l q_X_judge 4 0 0 [.ref (yc y 0)] (xW G y z) (fun r w => ∃ (f : Int) (tb' : Int → Option Nat) (z' : mS), r = some (vI f) ∧ w = xW G (yT y tb') z' ∧ jR s u f ∧ (∀ c, c ≠ 0 → c ≠ 17 → z' c = z c) ∧ (∀ j, j ≠ 2 → j ≠ 3 → z' 0 j = z 0 j) ∧ z' 0 2 < yn y ∧ (f = 0 → z' 0 2 = u 0 2 ∧ z' 0 3 = u 0 3 ∧ ∀ t : Nat, (t : Int) < u 0 3 → tK (yT y tb') z' u t ∧ chA u t ∧ (0 ≤ tb u t 6 → syA u t))) := by
  have hB := qI_bI hP
  have hkc := kc_all hP hr ho h2
  rw [← hu] at hkc
  have huc := kc_u hr ho hu
  have hu01 : u 0 1 = s 0 1 := by rw [hu]; exact (kdF_I s hr ho (s 0 1).toNat (by have := hr.1.1; omega)).1.2.2.1
  have hby : byOk u := by unfold byOk; rw [huc 1 (by omega) (by omega) (by omega), hP.1.2.2.2.1]; exact hP.1.2.2.2.2
  have hn20 := hP.1.1
  refine Ct.intro [some (.ref (yc y 0)), none, none] (by decide) (Nat.le_of_ble_eq_true rfl) rfl (fun sz => ?_)
  generalize hQ : (fun r w => ∃ (f : Int) (tb' : Int → Option Nat) (z' : mS), r = some (vI f) ∧ w = xW G (yT y tb') z' ∧ jR s u f ∧ (∀ c, c ≠ 0 → c ≠ 17 → z' c = z c) ∧ (∀ j, j ≠ 2 → j ≠ 3 → z' 0 j = z 0 j) ∧ z' 0 2 < yn y ∧ (f = 0 → z' 0 2 = u 0 2 ∧ z' 0 3 = u 0 3 ∧ ∀ t : Nat, (t : Int) < u 0 3 → tK (yT y tb') z' u t ∧ chA u t ∧ (0 ≤ tb u t 6 → syA u t))) = Q
  refine r_aload_n d_X_judge_0 rfl rfl ?_
  refine r_cV0 d_X_judge_1 lk_X_200 (c_X_sorted G l y z hB h02 h03) 0 rfl rfl (Nat.le_of_ble_eq_true rfl) (rok rfl rfl) ⟨(Nat.le_of_ble_eq_true rfl), (Nat.le_of_ble_eq_true rfl)⟩ (fun r ws2 hq => ?_)
  obtain ⟨tb', m', c', rfl, rfl, hm, hsd⟩ := hq
  show WP _ _ _ _ _ _ (_ :: _)
  rw [b2_c hkc.1]
  rw [hkc.1] at hsd
  have q3 := kdR_b hr ho
  refine r_if_ne 9 d_X_judge_4 (by decide) (by have := b2_b (kdR s = 0); unfold i32; omega) (fun h1 => ?_) (fun h1 => ?_)
  · have hk0 : kdR s = 0 := b2_1.mp (by have := b2_b (kdR s = 0); omega)
    obtain ⟨s1, s2, s3⟩ := hsd hk0
    obtain ⟨t1, t2, t3⟩ := hkc.2 hk0
    rw [t1] at s1
    rw [t2] at s2
    have hc12 := kdR_0 hr ho hk0
    rw [← hu] at hc12
    obtain ⟨-, c1, c2, -, -⟩ := hc12
    have htb : ∀ i : Nat, (i : Int) < u 0 3 → ∀ sl, 0 ≤ sl → sl < 7 → tb' (tix i sl) = rN (yo y) (ts u i sl) := by
      intro i hi sl a b
      obtain ⟨j, j0, j1, j2, j3, j4⟩ := t3 i hi
      have := s3 j j0 j1 j2 sl a b
      rw [j3, j4 sl a b] at this
      exact this
    have e1 : ∀ c, c ≠ 0 → sset (sset z 0 2 m') 0 3 c' c = z c := fun c hc => by rw [sset_ne hc, sset_ne hc]
    have e2 : sset (sset z 0 2 m') 0 3 c' 0 2 = u 0 2 := by rw [sset_nj (by omega), sset_eq, s1]
    have e3 : sset (sset z 0 2 m') 0 3 c' 0 3 = u 0 3 := by rw [sset_eq, s2]
    have e4 : ∀ j, j ≠ 2 → j ≠ 3 → sset (sset z 0 2 m') 0 3 c' 0 j = z 0 j := fun j a b => by rw [sset_nj b, sset_nj a]
    generalize sset (sset z 0 2 m') 0 3 c' = z1 at e1 e2 e3 e4 ⊢
    clear s3 t3 hsd
    have e02 : u 0 2 < yn y := by rw [← s1]; exact hm.2
    -- the end
    have fin : ∀ (f : Int) (z' : mS), (∀ c, c ≠ 17 → z' c = z1 c) → jR s u f → (f = 0 → ∀ t : Nat, (t : Int) < u 0 3 → tK (yT y tb') z' u t ∧ chA u t ∧ (0 ≤ tb u t 6 → syA u t)) → Q (some (vI f)) (xW G (yT y tb') z') := by
      intro f z' hz hj ht
      rw [← hQ]
      refine ⟨f, tb', z', rfl, rfl, hj, fun c a b => by rw [hz c b, e1 c a], fun j a b => by rw [hz 0 (by omega), e4 j a b], by rw [hz 0 (by omega), e2]; exact e02, fun e => ⟨by rw [hz 0 (by omega), e2], by rw [hz 0 (by omega), e3], ht e⟩⟩
    have qz : ∀ z' : mS, (∀ c, c ≠ 17 → z' c = z1 c) → qI G (yT y tb') z' s := by
      intro z' hz
      have hzz : ∀ c, c ≠ 0 → c ≠ 17 → z' c = z c := fun c a b => by rw [hz c b, e1 c a]
      refine qI_cg ⟨rfl, rfl, rfl, rfl, rfl, rfl⟩ (by rw [hz 0 (by omega), e4 1 (by omega) (by omega)]) (fun c hc => hzz c ?_ ?_) hP
      · rintro rfl; revert hc; decide
      · rintro rfl; revert hc; decide
    -- the third loop and the second
    have c63 : ∀ (z2 : mS) (x1 x2 : Option Value), (∀ c, c ≠ 17 → z2 c = z1 c) → (∀ k : Int, 0 ≤ k → k < yn y → 3 ≤ z 27 k → ¬ rowsBad z k (z 26 k - 3) ∧ z2 17 k = pv z k (if slO (z 26 k) = 3 then 1 else 0)) → WP (mth G l q_X_judge 4 0 0 (xW G y z) sz Q) 0 0 (xW G (yT y tb') z2) 63 [some (.ref (yc y 0)), x1, x2] [] := by
      intro z2 x1 x2 hz hrow
      have hnr : ¬ rowsAny u := fun q => by
        obtain ⟨k, k0, k1, k2, k3⟩ := (kc_rows hP hr ho h2 hk0 hu).mp q
        exact (hrow k k0 k1 k2).1 k3
      have hT : ∀ t : Nat, (t : Int) < u 0 3 → tK (yT y tb') z2 u t ∧ chA u t ∧ (0 ≤ tb u t 6 → syA u t) := fun t ht => kc_tK hP hr ho h2 hk0 hu (fun c a b => by rw [hz c b, e1 c a]) hrow ht (htb t ht)
      have e03 : z2 0 3 = u 0 3 := by rw [hz 0 (by omega), e3]
      have hq2 : qI G (yT y tb') z2 u := qI_u (qz z2 hz) huc hu01
      obtain ⟨hru, hou, -⟩ := trOk_of hr ho hk0 hu hby hnr
      clear qz hrow
      have lp3 : (∀ t : Nat, (t : Int) < u 0 3 → ¬ cntBad u t) → ∀ (f t : Nat) (x2 : Option Value), (t : Int) + f = u 0 3 → (∀ i : Nat, i < t → ¬ datBad u i) → WP (mth G l q_X_judge 4 0 0 (xW G y z) sz Q) 0 0 (xW G (yT y tb') z2) 99 [some (.ref (yc y 0)), some (vI t), x2] [] := by
        intro hcnt
        have hnc : ¬ cntAny u := fun ⟨i, i1, i2⟩ => hcnt i (by omega) i2
        intro f
        induction f with
        | zero =>
          intro t x2 ht hd
          refine r_iload_n d_X_judge_99 rfl ?_
          refine r_aload_n d_X_judge_100 rfl rfl ?_
          refine r_get d_X_judge_101 fl_X_189_0 0 rfl rfl ?_
          rw [e03]
          refine r_icmp_ge 129 d_X_judge_104 (by decide) (by unfold i32; omega) (by unfold i32; omega) (fun h3 => ?_) (fun h3 => ?_)
          · refine r_iconst d_X_judge_129 ?_
            refine r_iret d_X_judge_130 rfl (Nat.le_of_ble_eq_true rfl) (Nat.le_of_ble_eq_true rfl) ?_
            exact fin 0 z2 hz (Or.inr ⟨hk0, Or.inr ⟨hnr, Or.inr ⟨hnc, Or.inr ⟨fun ⟨i, i1, i2⟩ => hd i (by omega) i2, rfl⟩⟩⟩⟩) (fun _ => hT)
          · omega
        | succ f ih =>
          intro t x2 ht hd
          have htu : (t : Int) < u 0 3 := by omega
          refine r_iload_n d_X_judge_99 rfl ?_
          refine r_aload_n d_X_judge_100 rfl rfl ?_
          refine r_get d_X_judge_101 fl_X_189_0 0 rfl rfl ?_
          rw [e03]
          refine r_icmp_ge 129 d_X_judge_104 (by decide) (by unfold i32; omega) (by unfold i32; omega) (fun h3 => ?_) (fun h3 => ?_)
          · omega
          · refine r_aload_n d_X_judge_107 rfl rfl ?_
            refine r_aload_n d_X_judge_108 rfl rfl ?_
            refine r_get d_X_judge_109 fl_X_43_0 0 rfl rfl ?_
            refine r_iload_n d_X_judge_112 rfl ?_
            refine r_aald d_X_judge_113 6 rfl rfl (by omega) ?_
            show WP _ _ _ _ _ _ (.ref (yc y (7 + t)) :: _)
            refine r_cV1 d_X_judge_114 lk_X_215 (c_X_lies G l (yT y tb') z2 u t hq2 hou hru (hT t htu).1 (hT t htu).2.1 (hcnt t htu)) 0 rfl rfl (Nat.le_of_ble_eq_true rfl) (rok rfl rfl) ⟨(Nat.le_of_ble_eq_true rfl), (Nat.le_of_ble_eq_true rfl)⟩ (fun r ws2 hq => ?_)
            obtain ⟨rfl, rfl⟩ := hq
            show WP _ _ _ _ _ _ (_ :: _)
            refine r_if_ne 123 d_X_judge_117 (by decide) (by have := b2_b (¬ datBad u t); unfold i32; omega) (fun h4 => ?_) (fun h4 => ?_)
            · have hg : ¬ datBad u t := b2_1.mp (by have := b2_b (¬ datBad u t); omega)
              refine r_iinc d_X_judge_123 rfl (Nat.le_of_ble_eq_true rfl) rfl ?_
              show WP _ _ _ _ _ [_, _, _] _
              refine r_goto 99 d_X_judge_126 (by decide) ?_
              refine ih (t + 1) _ (by omega) (fun i hi => ?_)
              by_cases e : i = t
              · subst e; exact hg
              · exact hd i (by omega)
            · have hg : datBad u t := Classical.not_not.mp (b2_0.mp (Classical.not_not.mp h4))
              refine r_bipush d_X_judge_120 (by decide) ?_
              refine r_iret d_X_judge_122 rfl (Nat.le_of_ble_eq_true rfl) (Nat.le_of_ble_eq_true rfl) ?_
              exact fin 6 z2 hz (Or.inr ⟨hk0, Or.inr ⟨hnr, Or.inr ⟨hnc, Or.inl ⟨⟨t, by omega, hg⟩, rfl⟩⟩⟩⟩) (fun e => by omega)
      have lp2 : ∀ (f t : Nat) (x2 : Option Value), (t : Int) + f = u 0 3 → (∀ i : Nat, i < t → ¬ cntBad u i) → WP (mth G l q_X_judge 4 0 0 (xW G y z) sz Q) 0 0 (xW G (yT y tb') z2) 65 [some (.ref (yc y 0)), some (vI t), x2] [] := by
        intro f
        induction f with
        | zero =>
          intro t x2 ht hd
          refine r_iload_n d_X_judge_65 rfl ?_
          refine r_aload_n d_X_judge_66 rfl rfl ?_
          refine r_get d_X_judge_67 fl_X_189_0 0 rfl rfl ?_
          rw [e03]
          refine r_icmp_ge 97 d_X_judge_70 (by decide) (by unfold i32; omega) (by unfold i32; omega) (fun h3 => ?_) (fun h3 => ?_)
          · refine r_iconst d_X_judge_97 ?_
            refine r_istore_n d_X_judge_98 (Nat.le_of_ble_eq_true rfl) rfl ?_
            show WP _ _ _ _ _ [_, _, _] _
            exact lp3 (fun i hi => hd i (by omega)) (u 0 3).toNat 0 _ (by omega) (fun i hi => by omega)
          · omega
        | succ f ih =>
          intro t x2 ht hd
          have htu : (t : Int) < u 0 3 := by omega
          refine r_iload_n d_X_judge_65 rfl ?_
          refine r_aload_n d_X_judge_66 rfl rfl ?_
          refine r_get d_X_judge_67 fl_X_189_0 0 rfl rfl ?_
          rw [e03]
          refine r_icmp_ge 97 d_X_judge_70 (by decide) (by unfold i32; omega) (by unfold i32; omega) (fun h3 => ?_) (fun h3 => ?_)
          · omega
          · refine r_aload_n d_X_judge_73 rfl rfl ?_
            refine r_get d_X_judge_74 fl_X_43_0 0 rfl rfl ?_
            refine r_iload_n d_X_judge_77 rfl ?_
            refine r_aald d_X_judge_78 6 rfl rfl (by omega) ?_
            refine r_aload_n d_X_judge_79 rfl rfl ?_
            refine r_get d_X_judge_80 fl_X_7_0 0 rfl rfl ?_
            show WP _ _ _ _ _ _ (_ :: .ref (yc y (7 + t)) :: _)
            refine r_cV1 d_X_judge_83 lk_X_212 (c_K_agree G l (yT y tb') z2 u t (hT t htu).1 (hT t htu).2.1 (hT t htu).2.2) (7+t) rfl (xw_k (hT t htu).1.1.1) (Nat.le_of_ble_eq_true rfl) (rok rfl rfl) ⟨(Nat.le_of_ble_eq_true rfl), (Nat.le_of_ble_eq_true rfl)⟩ (fun r ws2 hq => ?_)
            obtain ⟨rfl, rfl⟩ := hq
            show WP _ _ _ _ _ _ (_ :: _)
            refine r_if_ne 91 d_X_judge_86 (by decide) (by have := b2_b (¬ cntBad u t); unfold i32; omega) (fun h4 => ?_) (fun h4 => ?_)
            · have hg : ¬ cntBad u t := b2_1.mp (by have := b2_b (¬ cntBad u t); omega)
              refine r_iinc d_X_judge_91 rfl (Nat.le_of_ble_eq_true rfl) rfl ?_
              show WP _ _ _ _ _ [_, _, _] _
              refine r_goto 65 d_X_judge_94 (by decide) ?_
              refine ih (t + 1) _ (by omega) (fun i hi => ?_)
              by_cases e : i = t
              · subst e; exact hg
              · exact hd i (by omega)
            · have hg : cntBad u t := Classical.not_not.mp (b2_0.mp (Classical.not_not.mp h4))
              refine r_iconst d_X_judge_89 ?_
              refine r_iret d_X_judge_90 rfl (Nat.le_of_ble_eq_true rfl) (Nat.le_of_ble_eq_true rfl) ?_
              exact fin 5 z2 hz (Or.inr ⟨hk0, Or.inr ⟨hnr, Or.inl ⟨⟨t, by omega, hg⟩, rfl⟩⟩⟩) (fun e => by omega)
      refine r_iconst d_X_judge_63 ?_
      refine r_istore_n d_X_judge_64 (Nat.le_of_ble_eq_true rfl) rfl ?_
      show WP _ _ _ _ _ [_, _, _] _
      exact lp2 (u 0 3).toNat 0 _ (by omega) (fun i hi => by omega)
    -- the first loop
    have lp1 : ∀ (f k : Nat) (x2 : Option Value) (z2 : mS), k + f = yn y → (∀ c, c ≠ 17 → z2 c = z1 c) → (∀ j : Int, 0 ≤ j → j < k → 3 ≤ z 27 j → ¬ rowsBad z j (z 26 j - 3) ∧ z2 17 j = pv z j (if slO (z 26 j) = 3 then 1 else 0)) → WP (mth G l q_X_judge 4 0 0 (xW G y z) sz Q) 0 0 (xW G (yT y tb') z2) 11 [some (.ref (yc y 0)), some (vI k), x2] [] := by
      intro f
      induction f with
      | zero =>
        intro k x2 z2 hk hz hrow
        have e01 : z2 0 1 = yn y := (qz z2 hz).1.2.1
        refine r_iload_n d_X_judge_11 rfl ?_
        refine r_aload_n d_X_judge_12 rfl rfl ?_
        refine r_get d_X_judge_13 fl_X_26_0 0 rfl rfl ?_
        refine r_cV0 d_X_judge_16 lk_X_157 (c_A_size G l _ 3 (yc y 3) (z2 0 7) (z2 0 1) (.ref (ye y)) rfl) 3 rfl rfl (Nat.le_of_ble_eq_true rfl) (rok rfl rfl) ⟨(Nat.le_of_ble_eq_true rfl), (Nat.le_of_ble_eq_true rfl)⟩ (fun r ws2 hq => ?_)
        obtain ⟨rfl, rfl⟩ := hq
        show WP _ _ _ _ _ _ (_ :: _)
        rw [e01]
        refine r_icmp_ge 63 d_X_judge_19 (by decide) (by unfold i32; omega) (by unfold i32; omega) (fun h3 => ?_) (fun h3 => ?_)
        · exact c63 z2 _ _ hz (fun j a b => hrow j a (by omega))
        · omega
      | succ f ih =>
        intro k x2 z2 hk hz hrow
        have hq2 := qz z2 hz
        have e01 : z2 0 1 = yn y := hq2.1.2.1
        have hkb : -1 ≤ (k : Int) ∧ (k : Int) < yn y := by omega
        have zc : ∀ c, c ≠ 0 → c ≠ 17 → z2 c = z c := fun c a b => by rw [hz c b, e1 c a]
        have hcb : 1 ≤ z2 27 k ∧ z2 27 k ≤ 5 := qI_cl hq2 hkb.1 hkb.2
        have z27 : z2 27 k = z 27 k := by rw [zc 27 (by omega) (by omega)]
        have z26 : z2 26 k = z 26 k := by rw [zc 26 (by omega) (by omega)]
        obtain ⟨o0, o1, o2⟩ := hB.2.2 k (by omega) (by omega)
        have hrk := hr.2 k (by omega) (by rw [hP.1.2.2.1]; omega)
        obtain ⟨⟨g2, g3, -, g5, -, -⟩, -⟩ := hP.2.2.2.2.2 k (by omega) (by omega)
        have epv : pv z2 = pv z := by funext a b; unfold pv; rw [zc 1 (by omega) (by omega), zc 2 (by omega) (by omega), zc 5 (by omega) (by omega)]
        have erb : ∀ kd, rowsBad z2 k kd ↔ rowsBad z k kd := fun kd => rowsBad_at (by rw [zc 3 (by omega) (by omega)]) (by rw [zc 5 (by omega) (by omega)]) (by rw [epv]) kd
        have hx2 : 0 ≤ z2 2 k ∧ 0 ≤ z2 5 k ∧ z2 5 k ≤ z2 3 k ∧ z2 2 k + z2 3 k ≤ 1000 := by
          rw [zc 2 (by omega) (by omega), zc 3 (by omega) (by omega), zc 5 (by omega) (by omega), g2, g3, g5]; omega
        have hb2 : byOk z2 := hq2.1.2.2.2.2
        have nx : ∀ x : Int, (3 ≤ z 27 k → ¬ rowsBad z k (z 26 k - 3) ∧ x = pv z k (if slO (z 26 k) = 3 then 1 else 0)) → WP (mth G l q_X_judge 4 0 0 (xW G y z) sz Q) 0 0 (xW G (yT y tb') (sset z2 17 k x)) 57 [some (.ref (yc y 0)), some (vI k), some (.ref (yo y k))] [] := by
          intro x hx
          refine r_iinc d_X_judge_57 rfl (Nat.le_of_ble_eq_true rfl) rfl ?_
          show WP _ _ _ _ _ [_, _, _] _
          refine r_goto 11 d_X_judge_60 (by decide) ?_
          refine ih (k + 1) _ _ (by omega) (fun c hc => by rw [sset_ne hc, hz c hc]) (fun j a b c => ?_)
          by_cases e : j = k
          · subst e; rw [sset_eq]; exact hx c
          · rw [sset_nj e]; exact hrow j a (by omega) c
        have c52 : ∀ x : Int, 3 ≤ z 27 k → (¬ rowsBad z k (z 26 k - 3) → x = pv z k (if slO (z 26 k) = 3 then 1 else 0)) → WP (mth G l q_X_judge 4 0 0 (xW G y z) sz Q) 0 0 (xW G (yT y tb') (sset z2 17 k x)) 52 [some (.ref (yc y 0)), some (vI k), some (.ref (yo y k))] [vI (b2 (¬ rowsBad z k (z 26 k - 3)))] := by
          intro x h3 hx
          refine r_if_ne 57 d_X_judge_52 (by decide) (by have := b2_b (¬ rowsBad z k (z 26 k - 3)); unfold i32; omega) (fun h4 => ?_) (fun h4 => ?_)
          · have hg : ¬ rowsBad z k (z 26 k - 3) := b2_1.mp (by have := b2_b (¬ rowsBad z k (z 26 k - 3)); omega)
            exact nx x (fun _ => ⟨hg, hx hg⟩)
          · have hg : rowsBad z k (z 26 k - 3) := Classical.not_not.mp (b2_0.mp (Classical.not_not.mp h4))
            refine r_iconst d_X_judge_55 ?_
            refine r_iret d_X_judge_56 rfl (Nat.le_of_ble_eq_true rfl) (Nat.le_of_ble_eq_true rfl) ?_
            exact fin 4 _ (fun c hc => by rw [sset_ne hc, hz c hc]) (Or.inr ⟨hk0, Or.inl ⟨(kc_rows hP hr ho h2 hk0 hu).mpr ⟨k, by omega, by omega, h3, hg⟩, rfl⟩⟩) (fun e => by omega)
        refine r_iload_n d_X_judge_11 rfl ?_
        refine r_aload_n d_X_judge_12 rfl rfl ?_
        refine r_get d_X_judge_13 fl_X_26_0 0 rfl rfl ?_
        refine r_cV0 d_X_judge_16 lk_X_157 (c_A_size G l _ 3 (yc y 3) (z2 0 7) (z2 0 1) (.ref (ye y)) rfl) 3 rfl rfl (Nat.le_of_ble_eq_true rfl) (rok rfl rfl) ⟨(Nat.le_of_ble_eq_true rfl), (Nat.le_of_ble_eq_true rfl)⟩ (fun r ws2 hq => ?_)
        obtain ⟨rfl, rfl⟩ := hq
        show WP _ _ _ _ _ _ (_ :: _)
        rw [e01]
        refine r_icmp_ge 63 d_X_judge_19 (by decide) (by unfold i32; omega) (by unfold i32; omega) (fun h3 => ?_) (fun h3 => ?_)
        · omega
        · refine r_aload_n d_X_judge_22 rfl rfl ?_
          refine r_get d_X_judge_23 fl_X_26_0 0 rfl rfl ?_
          refine r_iload_n d_X_judge_26 rfl ?_
          refine r_cV1 d_X_judge_27 lk_X_204 (c_X_get G l (yT y tb') z2 s hq2 k ⟨by omega, hkb.2⟩) 3 rfl rfl (Nat.le_of_ble_eq_true rfl) (rok rfl rfl) ⟨(Nat.le_of_ble_eq_true rfl), (Nat.le_of_ble_eq_true rfl)⟩ (fun r ws2 hq => ?_)
          obtain ⟨rfl, rfl⟩ := hq
          show WP _ _ _ _ _ _ (_ :: _)
          refine r_castX d_X_judge_30 w_145 k hkb hcb ?_
          refine r_astore_n d_X_judge_33 (Nat.le_of_ble_eq_true rfl) rfl rfl ?_
          show WP _ _ _ _ _ [_, _, _] _
          refine r_aload_n d_X_judge_34 rfl rfl ?_
          refine r_instT d_X_judge_35 w_368 k hkb hcb (fun h4 => ?_) (fun h4 => ?_)
          · have h3z : 3 ≤ z 27 k := by rw [← z27]; exact h4
            have h35 : 3 ≤ z2 27 k ∧ z2 27 k ≤ 5 := ⟨h4, hcb.2⟩
            have hs := (sl_cl ⟨o0, o1⟩).mp (by rw [← o2]; exact h3z)
            have hsl := slO_inv (o := z 26 k) rfl
            refine r_if_eq 57 d_X_judge_38 (by decide) (by unfold i32; omega) (fun h5 => ?_) (fun h5 => ?_)
            · omega
            · refine r_aload_n d_X_judge_41 rfl rfl ?_
              refine r_castT d_X_judge_42 w_368 k hkb h35 ?_
              refine r_aload_n d_X_judge_45 rfl rfl ?_
              refine r_get d_X_judge_46 fl_X_7_0 0 rfl rfl ?_
              have h10 : 3 ≤ z 26 k ∧ z 26 k ≤ 10 := by unfold slO at hs; repeat' split at hs; all_goals omega
              rcases (by omega : z2 27 k = 3 ∨ z2 27 k = 4 ∨ z2 27 k = 5) with h | h | h
              · have n6 : z 26 k ≠ 6 ∧ z 26 k ≠ 7 ∧ z 26 k ≠ 8 := by
                  refine ⟨fun q => ?_, fun q => ?_, fun q => ?_⟩ <;> (rw [z27, o2, q] at h; revert h; decide)
                refine r_cV1 d_X_judge_49 lk_X_208 (c_T_sound G l (yT y tb') z2 k hkb (Or.inl h) (by rw [z26]; omega) (fun _ _ => h) hb2 hx2) (13 + (k : Int)).toNat rfl (xw_bc hkb h) (Nat.le_of_ble_eq_true rfl) (rok rfl rfl) ⟨(Nat.le_of_ble_eq_true rfl), (Nat.le_of_ble_eq_true rfl)⟩ (fun r ws2 hq => ?_)
                obtain ⟨x, rfl, rfl, hx⟩ := hq
                show WP _ _ _ _ _ _ (_ :: _)
                rw [z26, b2_c (not_congr (erb _))]
                rw [z26, erb, epv] at hx
                exact c52 x h3z (fun q => by rw [hx q, if_neg]; intro e; have := hsl.2.2.2.1 e; omega)
              · have n6 : z 26 k = 7 ∨ z 26 k = 8 := by
                  rcases (by omega : z 26 k = 3 ∨ z 26 k = 4 ∨ z 26 k = 5 ∨ z 26 k = 6 ∨ z 26 k = 9 ∨ z 26 k = 10 ∨ (z 26 k = 7 ∨ z 26 k = 8)) with q | q | q | q | q | q | q
                  · exfalso; rw [z27, o2, q] at h; revert h; decide
                  · exfalso; rw [z27, o2, q] at h; revert h; decide
                  · exfalso; rw [z27, o2, q] at h; revert h; decide
                  · exfalso; rw [z27, o2, q] at h; revert h; decide
                  · exfalso; rw [z27, o2, q] at h; revert h; decide
                  · exfalso; rw [z27, o2, q] at h; revert h; decide
                  · exact q
                refine r_kU1 d_X_judge_49 lu_X_208_P (c_T_sound G l (yT y tb') z2 k hkb (Or.inr h) (by rw [z26]; omega) (fun a b => by rw [z26] at a b; omega) hb2 hx2) (13 + (k : Int)).toNat rfl (xw_bc hkb h) (Nat.le_of_ble_eq_true rfl) (rok rfl rfl) ⟨(Nat.le_of_ble_eq_true rfl), (Nat.le_of_ble_eq_true rfl)⟩ (fun r ws2 hq => ?_)
                obtain ⟨x, rfl, rfl, hx⟩ := hq
                show WP _ _ _ _ _ _ (_ :: _)
                rw [z26, b2_c (not_congr (erb _))]
                rw [z26, erb, epv] at hx
                exact c52 x h3z (fun q => by rw [hx q, if_neg]; intro e; have := hsl.2.2.2.1 e; omega)
              · have n6 : z 26 k = 6 := by
                  rcases (by omega : z 26 k = 3 ∨ z 26 k = 4 ∨ z 26 k = 5 ∨ z 26 k = 7 ∨ z 26 k = 8 ∨ z 26 k = 9 ∨ z 26 k = 10 ∨ z 26 k = 6) with q | q | q | q | q | q | q | q
                  · exfalso; rw [z27, o2, q] at h; revert h; decide
                  · exfalso; rw [z27, o2, q] at h; revert h; decide
                  · exfalso; rw [z27, o2, q] at h; revert h; decide
                  · exfalso; rw [z27, o2, q] at h; revert h; decide
                  · exfalso; rw [z27, o2, q] at h; revert h; decide
                  · exfalso; rw [z27, o2, q] at h; revert h; decide
                  · exfalso; rw [z27, o2, q] at h; revert h; decide
                  · exact q
                refine r_kU1 d_X_judge_49 lu_X_208_S (c_S_sound G l (yT y tb') z2 k hkb h hb2 hx2) (13 + (k : Int)).toNat rfl (xw_bc hkb h) (Nat.le_of_ble_eq_true rfl) (rok rfl rfl) ⟨(Nat.le_of_ble_eq_true rfl), (Nat.le_of_ble_eq_true rfl)⟩ (fun r ws2 hq => ?_)
                obtain ⟨x, rfl, rfl, hx⟩ := hq
                show WP _ _ _ _ _ _ (_ :: _)
                have e3' : z 26 k - 3 = 3 := by omega
                rw [erb, epv] at hx
                rw [b2_c (not_congr (erb _))]
                have := c52 x h3z (fun q => by rw [e3'] at q; rw [hx q, n6]; rfl)
                rw [e3'] at this
                exact this
          · refine r_if_eq 57 d_X_judge_38 (by decide) (by unfold i32; omega) (fun h5 => ?_) (fun h5 => ?_)
            · have := nx (z2 17 k) (fun q => by rw [← z27] at q; omega)
              rw [sset_self] at this
              exact this
            · omega
    refine r_iconst d_X_judge_9 ?_
    refine r_istore_n d_X_judge_10 (Nat.le_of_ble_eq_true rfl) rfl ?_
    show WP _ _ _ _ _ [_, _, _] _
    exact lp1 (yn y) 0 none z1 (by omega) (fun _ _ => rfl) (fun j a b => by omega)
  · have hk1 : kdR s = 1 := by
      have : ¬ kdR s = 0 := b2_0.mp (Classical.not_not.mp h1)
      omega
    refine r_iconst d_X_judge_7 ?_
    refine r_iret d_X_judge_8 rfl (Nat.le_of_ble_eq_true rfl) (Nat.le_of_ble_eq_true rfl) ?_
    rw [← hQ]
    refine ⟨3, tb', _, rfl, rfl, Or.inl ⟨hk1, rfl⟩, fun c a b => by rw [sset_ne a, sset_ne a], fun j a b => by rw [sset_nj b, sset_nj a], ?_, fun e => by omega⟩
    rw [sset_nj (by omega), sset_eq]
    exact hm.2
end XJUDGE
