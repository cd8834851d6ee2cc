abbrev q_A_grow2 : Mi := (⟨"java/util/ArrayList", "grow", "(I)[Ljava/lang/Object;"⟩, prog_21_method_6_code, 4, (some (.array (.object "java/lang/Object"))))
theorem d_A_grow2_0 : decode prog_21_method_6_code 0 = .ok (.aload_n 0, 1) := by decide +kernel
theorem d_A_grow2_1 : decode prog_21_method_6_code 1 = .ok (.getfield 9, 3) := by decide +kernel
theorem d_A_grow2_4 : decode prog_21_method_6_code 4 = .ok (.arraylength, 1) := by decide +kernel
theorem d_A_grow2_5 : decode prog_21_method_6_code 5 = .ok (.istore_n 2, 1) := by decide +kernel
theorem d_A_grow2_6 : decode prog_21_method_6_code 6 = .ok (.iload_n 2, 1) := by decide +kernel
theorem d_A_grow2_7 : decode prog_21_method_6_code 7 = .ok (.ifCond .gt 13, 3) := by decide +kernel
theorem d_A_grow2_10 : decode prog_21_method_6_code 10 = .ok (.aload_n 0, 1) := by decide +kernel
theorem d_A_grow2_11 : decode prog_21_method_6_code 11 = .ok (.getfield 9, 3) := by decide +kernel
theorem d_A_grow2_14 : decode prog_21_method_6_code 14 = .ok (.getstatic 39, 3) := by decide +kernel
set_option maxRecDepth 20000 in
theorem w_131 : Cond.fieldLink "java/util/ArrayList" 39 "java/util/ArrayList" "DEFAULTCAPACITY_EMPTY_ELEMENTDATA" "[Ljava/lang/Object;" ∈ gt := gt_of (in_t1 (List.mem_of_getElem? (i := 131) rfl)) rfl
theorem d_A_grow2_17 : decode prog_21_method_6_code 17 = .ok (.if_acmp .eq 28, 3) := by decide +kernel
theorem d_A_grow2_45 : decode prog_21_method_6_code 45 = .ok (.aload_n 0, 1) := by decide +kernel
theorem d_A_grow2_46 : decode prog_21_method_6_code 46 = .ok (.bipush 10, 2) := by decide +kernel
theorem d_A_grow2_48 : decode prog_21_method_6_code 48 = .ok (.iload_n 1, 1) := by decide +kernel
theorem d_A_grow2_49 : decode prog_21_method_6_code 49 = .ok (.invokestatic 79, 3) := by decide +kernel
set_option maxRecDepth 20000 in
theorem w_460 : Cond.methodLink "java/util/ArrayList" 79 ⟨"java/lang/Math", "max", "(II)I"⟩ ∈ gt := gt_of (in_t2 (List.mem_of_getElem? (i := 220) rfl)) rfl
theorem d_A_grow2_52 : decode prog_21_method_6_code 52 = .ok (.anewarray 7, 3) := by decide +kernel
set_option maxRecDepth 20000 in
theorem w_461 : Cond.classLink "java/util/ArrayList" 7 "java/lang/Object" ∈ gt := gt_of (in_t2 (List.mem_of_getElem? (i := 221) rfl)) rfl
theorem d_A_grow2_55 : decode prog_21_method_6_code 55 = .ok (.dup_x1, 1) := by decide +kernel
theorem d_A_grow2_56 : decode prog_21_method_6_code 56 = .ok (.putfield 9, 3) := by decide +kernel
theorem d_A_grow2_59 : decode prog_21_method_6_code 59 = .ok (.areturn, 1) := by decide +kernel
theorem d_A_grow2_20 : decode prog_21_method_6_code 20 = .ok (.iload_n 2, 1) := by decide +kernel
theorem d_A_grow2_21 : decode prog_21_method_6_code 21 = .ok (.iload_n 1, 1) := by decide +kernel
theorem d_A_grow2_22 : decode prog_21_method_6_code 22 = .ok (.iload_n 2, 1) := by decide +kernel
theorem d_A_grow2_23 : decode prog_21_method_6_code 23 = .ok (.isub, 1) := by decide +kernel
theorem d_A_grow2_24 : decode prog_21_method_6_code 24 = .ok (.iload_n 2, 1) := by decide +kernel
theorem d_A_grow2_25 : decode prog_21_method_6_code 25 = .ok (.iconst 1, 1) := by decide +kernel
theorem d_A_grow2_26 : decode prog_21_method_6_code 26 = .ok (.ishr, 1) := by decide +kernel
theorem d_A_grow2_27 : decode prog_21_method_6_code 27 = .ok (.invokestatic 73, 3) := by decide +kernel
set_option maxRecDepth 20000 in
theorem w_421 : Cond.methodLink "java/util/ArrayList" 73 ⟨"jdk/internal/util/ArraysSupport", "newLength", "(III)I"⟩ ∈ gt := gt_of (in_t2 (List.mem_of_getElem? (i := 181) rfl)) rfl
set_option maxRecDepth 20000 in
theorem w_422 : Cond.static ⟨"jdk/internal/util/ArraysSupport", "newLength", "(III)I"⟩ ∈ gt := gt_of (in_t2 (List.mem_of_getElem? (i := 182) rfl)) rfl
set_option maxRecDepth 20000 in
theorem w_15 : Cond.initialized "jdk/internal/util/ArraysSupport" ∈ gt := gt_of (in_t1 (List.mem_of_getElem? (i := 15) rfl)) rfl
set_option maxRecDepth 20000 in
theorem w_423 : Cond.code ⟨"jdk/internal/util/ArraysSupport", "newLength", "(III)I"⟩ prog_28_method_27_code 4 (some .int) ∈ gt := gt_of (in_t2 (List.mem_of_getElem? (i := 183) rfl)) rfl
theorem lk_A_73 : LkS "java/util/ArrayList" 73 q_AS_newLength 3 := ⟨(List.forall_mem_cons.mpr ⟨w_421, (List.forall_mem_cons.mpr ⟨w_422, (List.forall_mem_cons.mpr ⟨w_15, (fun _ h => absurd h List.not_mem_nil)⟩)⟩)⟩), w_423, by decide +kernel⟩
theorem d_A_grow2_30 : decode prog_21_method_6_code 30 = .ok (.istore_n 3, 1) := by decide +kernel
theorem d_A_grow2_31 : decode prog_21_method_6_code 31 = .ok (.aload_n 0, 1) := by decide +kernel
theorem d_A_grow2_32 : decode prog_21_method_6_code 32 = .ok (.aload_n 0, 1) := by decide +kernel
theorem d_A_grow2_33 : decode prog_21_method_6_code 33 = .ok (.getfield 9, 3) := by decide +kernel
theorem d_A_grow2_36 : decode prog_21_method_6_code 36 = .ok (.iload_n 3, 1) := by decide +kernel
theorem d_A_grow2_37 : decode prog_21_method_6_code 37 = .ok (.invokestatic 66, 3) := by decide +kernel
set_option maxRecDepth 20000 in
theorem w_431 : Cond.methodLink "java/util/ArrayList" 66 ⟨"java/util/Arrays", "copyOf", "([Ljava/lang/Object;I)[Ljava/lang/Object;"⟩ ∈ gt := gt_of (in_t2 (List.mem_of_getElem? (i := 191) rfl)) rfl
set_option maxRecDepth 20000 in
theorem w_432 : Cond.static ⟨"java/util/Arrays", "copyOf", "([Ljava/lang/Object;I)[Ljava/lang/Object;"⟩ ∈ gt := gt_of (in_t2 (List.mem_of_getElem? (i := 192) rfl)) rfl
set_option maxRecDepth 20000 in
theorem w_433 : Cond.code ⟨"java/util/Arrays", "copyOf", "([Ljava/lang/Object;I)[Ljava/lang/Object;"⟩ prog_22_method_119_code 2 (Option.some (.array (.object "java/lang/Object"))) ∈ gt := gt_of (in_t2 (List.mem_of_getElem? (i := 193) rfl)) rfl
theorem lk_A_66 : LkS "java/util/ArrayList" 66 q_Ar_copyOf1 2 := ⟨(List.forall_mem_cons.mpr ⟨w_431, (List.forall_mem_cons.mpr ⟨w_432, (List.forall_mem_cons.mpr ⟨w_17, (fun _ h => absurd h List.not_mem_nil)⟩)⟩)⟩), w_433, by decide +kernel⟩
theorem d_A_grow2_40 : decode prog_21_method_6_code 40 = .ok (.dup_x1, 1) := by decide +kernel
theorem d_A_grow2_41 : decode prog_21_method_6_code 41 = .ok (.putfield 9, 3) := by decide +kernel
theorem d_A_grow2_44 : decode prog_21_method_6_code 44 = .ok (.areturn, 1) := by decide +kernel
abbrev q_A_grow1 : Mi := (⟨"java/util/ArrayList", "grow", "()[Ljava/lang/Object;"⟩, prog_21_method_7_code, 1, (some (.array (.object "java/lang/Object"))))
theorem d_A_grow1_0 : decode prog_21_method_7_code 0 = .ok (.aload_n 0, 1) := by decide +kernel
theorem d_A_grow1_1 : decode prog_21_method_7_code 1 = .ok (.aload_n 0, 1) := by decide +kernel
theorem d_A_grow1_2 : decode prog_21_method_7_code 2 = .ok (.getfield 48, 3) := by decide +kernel
theorem d_A_grow1_5 : decode prog_21_method_7_code 5 = .ok (.iconst 1, 1) := by decide +kernel
theorem d_A_grow1_6 : decode prog_21_method_7_code 6 = .ok (.iadd, 1) := by decide +kernel
theorem d_A_grow1_7 : decode prog_21_method_7_code 7 = .ok (.invokevirtual 69, 3) := by decide +kernel
set_option maxRecDepth 20000 in
theorem w_417 : Cond.methodLink "java/util/ArrayList" 69 ⟨"java/util/ArrayList", "grow", "(I)[Ljava/lang/Object;"⟩ ∈ gt := gt_of (in_t2 (List.mem_of_getElem? (i := 177) rfl)) rfl
set_option maxRecDepth 20000 in
theorem w_419 : Cond.instanceMethod ⟨"java/util/ArrayList", "grow", "(I)[Ljava/lang/Object;"⟩ ∈ gt := gt_of (in_t2 (List.mem_of_getElem? (i := 179) rfl)) rfl
set_option maxRecDepth 20000 in
theorem ws_A_grow2 : Cond.selects "java/util/ArrayList" ⟨"java/util/ArrayList", "grow", "(I)[Ljava/lang/Object;"⟩ ⟨"java/util/ArrayList", "grow", "(I)[Ljava/lang/Object;"⟩ ∈ gt := gt_of (in_p1 (List.mem_of_getElem? (i := 5) rfl)) rfl
set_option maxRecDepth 20000 in
theorem w_420 : Cond.code ⟨"java/util/ArrayList", "grow", "(I)[Ljava/lang/Object;"⟩ prog_21_method_6_code 4 (Option.some (.array (.object "java/lang/Object"))) ∈ gt := gt_of (in_t2 (List.mem_of_getElem? (i := 180) rfl)) rfl
theorem lk_A_69 : LkV "java/util/ArrayList" 69 q_A_grow2 1 := ⟨(List.forall_mem_cons.mpr ⟨w_417, (List.forall_mem_cons.mpr ⟨w_419, (List.forall_mem_cons.mpr ⟨ws_A_grow2, (List.forall_mem_cons.mpr ⟨w_6, (fun _ h => absurd h List.not_mem_nil)⟩)⟩)⟩)⟩), w_420, by decide +kernel⟩
theorem d_A_grow1_10 : decode prog_21_method_7_code 10 = .ok (.areturn, 1) := by decide +kernel
/-! ===== java.util.ArrayList: what grows ===== -/
theorem zI_shr1 {x : Int} (h : i32 x) : zI x >>> (zI 1 &&& 31) = zI (x / 2) := by
  have h1 := pk_shr (zI x) (zI 1 &&& 31) 1 (by decide)
  rw [zI_toInt h] at h1
  have h2 : x >>> (1 : Nat) = x / 2 := Int.shiftRight_eq_div_pow x 1
  rw [h2] at h1
  rw [← zI_of (zI x >>> (zI 1 &&& 31)), h1]
section ALIST2
variable (G : gG) (l : Launch)
theorem c_A_grow2s (ws : va_W) (q0 a : Nat) (m n : Int) (he : ws[q0]? = some (a, .inr (8, [vI m, .ref (gS G 0), vI n]))) : Ct G l q_A_grow2 3 1 28 [.ref a, vI 1] ws (fun r w => ∃ q : Nat, r = some (.ref q) ∧ w = ws.set q0 (a, .inr (8, [vI m, .ref q, vI n])) ++ [(q, aQ G 5 10 (fun _ => none))]) := by
  refine Ct.intro [some (.ref a), some (vI 1), none, none] (by decide) (Nat.le_of_ble_eq_true rfl) rfl (fun sz => ?_)
  refine r_aload_n d_A_grow2_0 rfl rfl ?_
  refine r_get d_A_grow2_1 fl_A_9_8 q0 he rfl ?_
  refine r_tlen d_A_grow2_4 ?_
  refine r_istore_n d_A_grow2_5 (Nat.le_of_ble_eq_true rfl) rfl ?_
  show WP _ _ _ _ _ [_, _, _, _] _
  refine r_iload_n d_A_grow2_6 rfl ?_
  refine r_if_gt 20 d_A_grow2_7 (by decide) (by unfold i32; omega) (fun h1 => ?_) (fun h1 => ?_)
  · omega
  refine r_aload_n d_A_grow2_10 rfl rfl ?_
  refine r_get d_A_grow2_11 fl_A_9_8 q0 he rfl ?_
  refine r_getsL d_A_grow2_14 w_131 ?_
  refine r_acmp_eq (ra := some (gS G 0)) (rb := some (gS G 0)) 45 d_A_grow2_17 (by decide) (fun _ => ?_) (fun h => absurd rfl h)
  refine r_aload_n d_A_grow2_45 rfl rfl ?_
  refine r_bipush d_A_grow2_46 (by decide) ?_
  refine r_iload_n d_A_grow2_48 rfl ?_
  refine r_mmax d_A_grow2_49 w_460 (by unfold i32; omega) (by unfold i32; omega) rfl rfl (Nat.le_of_ble_eq_true rfl) (Nat.le_of_ble_eq_true rfl) ?_
  rw [if_neg (by omega)]
  refine r_newQ (t := 5) (E := "java/lang/Object") (N := 10) d_A_grow2_52 w_461 (by decide) rfl (by omega) (Nat.le_of_ble_eq_true rfl) (Nat.le_of_ble_eq_true rfl) (fun q => ?_)
  refine r_dup_x1 d_A_grow2_55 rfl rfl ?_
  refine r_put _ d_A_grow2_56 fl_A_9_8 q0 (app_l he) rfl rfl (Nat.le_of_ble_eq_true rfl) (set_l he) ?_
  refine r_aret d_A_grow2_59 rfl (Or.inr ⟨_, rfl⟩) rfl (Nat.le_of_ble_eq_true rfl) (Nat.le_of_ble_eq_true rfl) ?_
  exact ⟨q, rfl, rfl⟩
theorem c_A_grow2f (ws : va_W) (q0 a ea N : Nat) (m n : Int) (g : Int → Option Nat) (he : ws[q0]? = some (a, .inr (8, [vI m, .ref ea, vI n]))) (hg : elB ws g) (hN : 10 ≤ N ∧ N ≤ 19) : Ct G l q_A_grow2 3 1 28 [.ref a, vI ((N : Int) + 1)] (ws ++ [(ea, aQ G 5 N g)]) (fun r w => ∃ q : Nat, r = some (.ref q) ∧ w = ws.set q0 (a, .inr (8, [vI m, .ref q, vI n])) ++ [(q, aQ G 5 (N + N / 2) (cpyI g (fun _ => none) 0 0 N))]) := by
  refine Ct.intro [some (.ref a), some (vI ((N : Int) + 1)), none, none] (by decide) (Nat.le_of_ble_eq_true rfl) rfl (fun sz => ?_)
  refine r_aload_n d_A_grow2_0 rfl rfl ?_
  refine r_get d_A_grow2_1 fl_A_9_8 q0 (app_l he) rfl ?_
  refine r_alenQ d_A_grow2_4 ws.length app_e rfl ?_
  refine r_istore_n d_A_grow2_5 (Nat.le_of_ble_eq_true rfl) rfl ?_
  show WP _ _ _ _ _ [_, _, _, _] _
  refine r_iload_n d_A_grow2_6 rfl ?_
  refine r_if_gt 20 d_A_grow2_7 (by decide) (by unfold i32; omega) (fun h1 => ?_) (fun h1 => ?_)
  · refine r_iload_n d_A_grow2_20 rfl ?_
    refine r_iload_n d_A_grow2_21 rfl ?_
    refine r_iload_n d_A_grow2_22 rfl ?_
    refine r_isub d_A_grow2_23 ?_
    refine r_iload_n d_A_grow2_24 rfl ?_
    refine r_iconst d_A_grow2_25 ?_
    refine r_ishrR d_A_grow2_26 ?_
    rw [zI_shr1 (by unfold i32; omega)]
    refine r_cS3 d_A_grow2_27 lk_A_73 (c_AS_newLength G l _ (N : Int) ((N : Int) + 1 - N) ((N : Int) / 2) (by omega) (by omega) (by omega)) (Nat.le_of_ble_eq_true rfl) (rok rfl rfl) ⟨(Nat.le_of_ble_eq_true rfl), (Nat.le_of_ble_eq_true rfl)⟩ (fun r ws2 hq => ?_)
    obtain ⟨rfl, hw⟩ := hq; rw [hw]; clear hw
    show WP _ _ _ _ _ _ (_ :: _)
    rw [show (N : Int) + (if (N : Int) + 1 - N < (N : Int) / 2 then (N : Int) / 2 else (N : Int) + 1 - N) = ((N + N / 2 : Nat) : Int) by rw [if_pos (by omega)]; omega]
    refine r_istore_n d_A_grow2_30 (Nat.le_of_ble_eq_true rfl) rfl ?_
    show WP _ _ _ _ _ [_, _, _, _] _
    refine r_aload_n d_A_grow2_31 rfl rfl ?_
    refine r_aload_n d_A_grow2_32 rfl rfl ?_
    refine r_get d_A_grow2_33 fl_A_9_8 q0 (app_l he) rfl ?_
    refine r_iload_n d_A_grow2_36 rfl ?_
    refine r_kS2 d_A_grow2_37 lk_A_66 (c_Ar_copyOf1 G l _ ws.length ea N (N + N / 2) g app_e (fun i y hy => by obtain ⟨q', c, fs, h1, h2⟩ := hg i y hy; exact ⟨q', c, fs, app_l h1, h2⟩) (by omega)) (Nat.le_of_ble_eq_true rfl) (rok rfl rfl) ⟨Nat.le_of_ble_eq_true rfl, show 0 + (N + N / 2) ≤ 28 by omega⟩ (fun r ws2 hq => ?_)
    obtain ⟨q, rfl, rfl⟩ := hq
    show WP _ _ _ _ _ _ (_ :: _)
    refine r_dup_x1 d_A_grow2_40 rfl rfl ?_
    refine r_put _ d_A_grow2_41 fl_A_9_8 q0 (app_l (app_l he)) rfl rfl (Nat.le_of_ble_eq_true rfl) rfl ?_
    rw [set_l (app_l he), set_l he]
    refine wp_drop (ws' := ws.set q0 (a, .inr (8, [vI m, .ref q, vI n])) ++ [(q, aQ G 5 (N + N / 2) (cpyI g (fun _ => none) 0 0 N))]) ?_ ?_
    · rw [List.append_assoc]
      exact List.Sublist.append (List.Sublist.refl _) (List.Sublist.cons _ (List.Sublist.refl _))
    refine r_aret d_A_grow2_44 rfl (Or.inr ⟨_, rfl⟩) rfl (Nat.le_of_ble_eq_true rfl) (show 0 + (N + N / 2) ≤ 28 by omega) ?_
    exact ⟨q, rfl, rfl⟩
  · omega
theorem c_A_grow1s (ws : va_W) (q0 a : Nat) (m : Int) (he : ws[q0]? = some (a, .inr (8, [vI m, .ref (gS G 0), vI 0]))) : Ct G l q_A_grow1 4 1 28 [.ref a] ws (fun r w => ∃ q : Nat, r = some (.ref q) ∧ w = ws.set q0 (a, .inr (8, [vI m, .ref q, vI 0])) ++ [(q, aQ G 5 10 (fun _ => none))]) := by
  refine Ct.intro [some (.ref a)] (by decide) (Nat.le_of_ble_eq_true rfl) rfl (fun sz => ?_)
  refine r_aload_n d_A_grow1_0 rfl rfl ?_
  refine r_aload_n d_A_grow1_1 rfl rfl ?_
  refine r_get d_A_grow1_2 fl_A_48_8 q0 he rfl ?_
  refine r_iconst d_A_grow1_5 ?_
  refine r_iadd d_A_grow1_6 ?_
  refine r_kV1 d_A_grow1_7 lk_A_69 (c_A_grow2s G l ws q0 a m 0 he) q0 rfl he (Nat.le_of_ble_eq_true rfl) (rok rfl rfl) ⟨(Nat.le_of_ble_eq_true rfl), (Nat.le_of_ble_eq_true rfl)⟩ (fun r ws2 hq => ?_)
  obtain ⟨q, rfl, rfl⟩ := hq
  show WP _ _ _ _ _ _ (_ :: _)
  refine r_aret d_A_grow1_10 rfl (Or.inr ⟨_, rfl⟩) rfl (Nat.le_of_ble_eq_true rfl) (Nat.le_of_ble_eq_true rfl) ?_
  exact ⟨q, rfl, rfl⟩
theorem c_A_grow1f (ws : va_W) (q0 a ea N : Nat) (m : Int) (g : Int → Option Nat) (he : ws[q0]? = some (a, .inr (8, [vI m, .ref ea, vI N]))) (hg : elB ws g) (hN : 10 ≤ N ∧ N ≤ 19) : Ct G l q_A_grow1 4 1 28 [.ref a] (ws ++ [(ea, aQ G 5 N g)]) (fun r w => ∃ q : Nat, r = some (.ref q) ∧ w = ws.set q0 (a, .inr (8, [vI m, .ref q, vI N])) ++ [(q, aQ G 5 (N + N / 2) (cpyI g (fun _ => none) 0 0 N))]) := by
  refine Ct.intro [some (.ref a)] (by decide) (Nat.le_of_ble_eq_true rfl) rfl (fun sz => ?_)
  refine r_aload_n d_A_grow1_0 rfl rfl ?_
  refine r_aload_n d_A_grow1_1 rfl rfl ?_
  refine r_get d_A_grow1_2 fl_A_48_8 q0 (app_l he) rfl ?_
  refine r_iconst d_A_grow1_5 ?_
  refine r_iadd d_A_grow1_6 ?_
  refine r_kV1 d_A_grow1_7 lk_A_69 (c_A_grow2f G l ws q0 a ea N m N g he hg hN) q0 rfl (app_l he) (Nat.le_of_ble_eq_true rfl) (rok rfl rfl) ⟨(Nat.le_of_ble_eq_true rfl), (Nat.le_of_ble_eq_true rfl)⟩ (fun r ws2 hq => ?_)
  obtain ⟨q, rfl, rfl⟩ := hq
  show WP _ _ _ _ _ _ (_ :: _)
  refine r_aret d_A_grow1_10 rfl (Or.inr ⟨_, rfl⟩) rfl (Nat.le_of_ble_eq_true rfl) (Nat.le_of_ble_eq_true rfl) ?_
  exact ⟨q, rfl, rfl⟩
end ALIST2
