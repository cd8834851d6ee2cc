abbrev q_A_size : Mi := (⟨"java/util/ArrayList", "size", "()I"⟩, prog_21_method_8_code, 1, (some .int))
theorem d_A_size_0 : decode prog_21_method_8_code 0 = .ok (.aload_n 0, 1) := by decide +kernel
theorem d_A_size_1 : decode prog_21_method_8_code 1 = .ok (.getfield 48, 3) := by decide +kernel
set_option maxRecDepth 20000 in
theorem w_134 : Cond.fieldLink "java/util/ArrayList" 48 "java/util/ArrayList" "size" "I" ∈ gt := gt_of (in_t1 (List.mem_of_getElem? (i := 134) rfl)) rfl
theorem fl_A_48_8 : FL "java/util/ArrayList" 48 8 2 false := ⟨_, _, _, "java/util/ArrayList", rfl, by decide, rfl, Or.inl w_134, Or.inl rfl⟩
theorem d_A_size_4 : decode prog_21_method_8_code 4 = .ok (.ireturn, 1) := by decide +kernel
abbrev q_A_elementData : Mi := (⟨"java/util/ArrayList", "elementData", "(I)Ljava/lang/Object;"⟩, prog_21_method_18_code, 2, (some (.object "java/lang/Object")))
theorem d_A_elementData_0 : decode prog_21_method_18_code 0 = .ok (.aload_n 0, 1) := by decide +kernel
theorem d_A_elementData_1 : decode prog_21_method_18_code 1 = .ok (.getfield 9, 3) := by decide +kernel
set_option maxRecDepth 20000 in
theorem w_133 : Cond.fieldLink "java/util/ArrayList" 9 "java/util/ArrayList" "elementData" "[Ljava/lang/Object;" ∈ gt := gt_of (in_t1 (List.mem_of_getElem? (i := 133) rfl)) rfl
theorem fl_A_9_8 : FL "java/util/ArrayList" 9 8 1 false := ⟨_, _, _, "java/util/ArrayList", rfl, by decide, rfl, Or.inl w_133, Or.inl rfl⟩
theorem d_A_elementData_4 : decode prog_21_method_18_code 4 = .ok (.iload_n 1, 1) := by decide +kernel
theorem d_A_elementData_5 : decode prog_21_method_18_code 5 = .ok (.aaload, 1) := by decide +kernel
theorem d_A_elementData_6 : decode prog_21_method_18_code 6 = .ok (.areturn, 1) := by decide +kernel
abbrev q_A_get : Mi := (⟨"java/util/ArrayList", "get", "(I)Ljava/lang/Object;"⟩, prog_21_method_20_code, 2, (some (.object "java/lang/Object")))
theorem d_A_get_0 : decode prog_21_method_20_code 0 = .ok (.iload_n 1, 1) := by decide +kernel
theorem d_A_get_1 : decode prog_21_method_20_code 1 = .ok (.aload_n 0, 1) := by decide +kernel
theorem d_A_get_2 : decode prog_21_method_20_code 2 = .ok (.getfield 48, 3) := by decide +kernel
theorem d_A_get_5 : decode prog_21_method_20_code 5 = .ok (.invokestatic 118, 3) := by decide +kernel
set_option maxRecDepth 20000 in
theorem w_483 : Cond.methodLink "java/util/ArrayList" 118 ⟨"java/util/Objects", "checkIndex", "(II)I"⟩ ∈ gt := gt_of (in_t3 (List.mem_of_getElem? (i := 3) rfl)) rfl
set_option maxRecDepth 20000 in
theorem w_484 : Cond.static ⟨"java/util/Objects", "checkIndex", "(II)I"⟩ ∈ gt := gt_of (in_t3 (List.mem_of_getElem? (i := 4) rfl)) rfl
set_option maxRecDepth 20000 in
theorem w_19 : Cond.initialized "java/util/Objects" ∈ gt := gt_of (in_t1 (List.mem_of_getElem? (i := 19) rfl)) rfl
set_option maxRecDepth 20000 in
theorem w_485 : Cond.code ⟨"java/util/Objects", "checkIndex", "(II)I"⟩ prog_25_method_17_code 2 (some .int) ∈ gt := gt_of (in_t3 (List.mem_of_getElem? (i := 5) rfl)) rfl
theorem lk_A_118 : LkS "java/util/ArrayList" 118 q_Ob_checkIndex 2 := ⟨(List.forall_mem_cons.mpr ⟨w_483, (List.forall_mem_cons.mpr ⟨w_484, (List.forall_mem_cons.mpr ⟨w_19, (fun _ h => absurd h List.not_mem_nil)⟩)⟩)⟩), w_485, by decide +kernel⟩
theorem d_A_get_8 : decode prog_21_method_20_code 8 = .ok (.pop, 1) := by decide +kernel
theorem d_A_get_9 : decode prog_21_method_20_code 9 = .ok (.aload_n 0, 1) := by decide +kernel
theorem d_A_get_10 : decode prog_21_method_20_code 10 = .ok (.iload_n 1, 1) := by decide +kernel
theorem d_A_get_11 : decode prog_21_method_20_code 11 = .ok (.invokevirtual 123, 3) := by decide +kernel
set_option maxRecDepth 20000 in
theorem w_489 : Cond.methodLink "java/util/ArrayList" 123 ⟨"java/util/ArrayList", "elementData", "(I)Ljava/lang/Object;"⟩ ∈ gt := gt_of (in_t3 (List.mem_of_getElem? (i := 9) rfl)) rfl
set_option maxRecDepth 20000 in
theorem w_490 : Cond.instanceMethod ⟨"java/util/ArrayList", "elementData", "(I)Ljava/lang/Object;"⟩ ∈ gt := gt_of (in_t3 (List.mem_of_getElem? (i := 10) rfl)) rfl
set_option maxRecDepth 20000 in
theorem w_491 : Cond.selects "java/util/ArrayList" ⟨"java/util/ArrayList", "elementData", "(I)Ljava/lang/Object;"⟩ ⟨"java/util/ArrayList", "elementData", "(I)Ljava/lang/Object;"⟩ ∈ gt := gt_of (in_t3 (List.mem_of_getElem? (i := 11) rfl)) rfl
set_option maxRecDepth 20000 in
theorem w_6 : Cond.initialized "java/util/ArrayList" ∈ gt := gt_of (in_t1 (List.mem_of_getElem? (i := 6) rfl)) rfl
set_option maxRecDepth 20000 in
theorem w_492 : Cond.code ⟨"java/util/ArrayList", "elementData", "(I)Ljava/lang/Object;"⟩ prog_21_method_18_code 2 (some (.object "java/lang/Object")) ∈ gt := gt_of (in_t3 (List.mem_of_getElem? (i := 12) rfl)) rfl
theorem lk_A_123 : LkV "java/util/ArrayList" 123 q_A_elementData 1 := ⟨(List.forall_mem_cons.mpr ⟨w_489, (List.forall_mem_cons.mpr ⟨w_490, (List.forall_mem_cons.mpr ⟨w_491, (List.forall_mem_cons.mpr ⟨w_6, (fun _ h => absurd h List.not_mem_nil)⟩)⟩)⟩)⟩), w_492, by decide +kernel⟩
theorem d_A_get_14 : decode prog_21_method_20_code 14 = .ok (.areturn, 1) := by decide +kernel
abbrev q_Ar_copyOf2 : Mi := (⟨"java/util/Arrays", "copyOf", "([Ljava/lang/Object;ILjava/lang/Class;)[Ljava/lang/Object;"⟩, prog_22_method_120_code, 4, (some (.array (.object "java/lang/Object"))))
theorem d_Ar_copyOf2_0 : decode prog_22_method_120_code 0 = .ok (.aload_n 2, 1) := by decide +kernel
theorem d_Ar_copyOf2_1 : decode prog_22_method_120_code 1 = .ok (.ldc 110, 2) := by decide +kernel
set_option maxRecDepth 20000 in
theorem w_451 : Cond.classLink "java/util/Arrays" 110 "[Ljava/lang/Object;" ∈ gt := gt_of (in_t2 (List.mem_of_getElem? (i := 211) rfl)) rfl
theorem d_Ar_copyOf2_3 : decode prog_22_method_120_code 3 = .ok (.if_acmp .ne 10, 3) := by decide +kernel
theorem d_Ar_copyOf2_6 : decode prog_22_method_120_code 6 = .ok (.iload_n 1, 1) := by decide +kernel
theorem d_Ar_copyOf2_7 : decode prog_22_method_120_code 7 = .ok (.anewarray 2, 3) := by decide +kernel
set_option maxRecDepth 20000 in
theorem w_453 : Cond.classLink "java/util/Arrays" 2 "java/lang/Object" ∈ gt := gt_of (in_t2 (List.mem_of_getElem? (i := 213) rfl)) rfl
theorem d_Ar_copyOf2_10 : decode prog_22_method_120_code 10 = .ok (.goto 14, 3) := by decide +kernel
theorem d_Ar_copyOf2_24 : decode prog_22_method_120_code 24 = .ok (.astore_n 3, 1) := by decide +kernel
theorem d_Ar_copyOf2_25 : decode prog_22_method_120_code 25 = .ok (.aload_n 0, 1) := by decide +kernel
theorem d_Ar_copyOf2_26 : decode prog_22_method_120_code 26 = .ok (.iconst 0, 1) := by decide +kernel
theorem d_Ar_copyOf2_27 : decode prog_22_method_120_code 27 = .ok (.aload_n 3, 1) := by decide +kernel
theorem d_Ar_copyOf2_28 : decode prog_22_method_120_code 28 = .ok (.iconst 0, 1) := by decide +kernel
theorem d_Ar_copyOf2_29 : decode prog_22_method_120_code 29 = .ok (.aload_n 0, 1) := by decide +kernel
theorem d_Ar_copyOf2_30 : decode prog_22_method_120_code 30 = .ok (.arraylength, 1) := by decide +kernel
theorem d_Ar_copyOf2_31 : decode prog_22_method_120_code 31 = .ok (.iload_n 1, 1) := by decide +kernel
theorem d_Ar_copyOf2_32 : decode prog_22_method_120_code 32 = .ok (.invokestatic 304, 3) := by decide +kernel
set_option maxRecDepth 20000 in
theorem w_454 : Cond.methodLink "java/util/Arrays" 304 ⟨"java/lang/Math", "min", "(II)I"⟩ ∈ gt := gt_of (in_t2 (List.mem_of_getElem? (i := 214) rfl)) rfl
theorem d_Ar_copyOf2_35 : decode prog_22_method_120_code 35 = .ok (.invokestatic 150, 3) := by decide +kernel
set_option maxRecDepth 20000 in
theorem w_457 : Cond.methodLink "java/util/Arrays" 150 ⟨"java/lang/System", "arraycopy", "(Ljava/lang/Object;ILjava/lang/Object;II)V"⟩ ∈ gt := gt_of (in_t2 (List.mem_of_getElem? (i := 217) rfl)) rfl
theorem d_Ar_copyOf2_38 : decode prog_22_method_120_code 38 = .ok (.aload_n 3, 1) := by decide +kernel
theorem d_Ar_copyOf2_39 : decode prog_22_method_120_code 39 = .ok (.areturn, 1) := by decide +kernel
abbrev q_Ar_copyOf1 : Mi := (⟨"java/util/Arrays", "copyOf", "([Ljava/lang/Object;I)[Ljava/lang/Object;"⟩, prog_22_method_119_code, 2, (some (.array (.object "java/lang/Object"))))
theorem d_Ar_copyOf1_0 : decode prog_22_method_119_code 0 = .ok (.aload_n 0, 1) := by decide +kernel
theorem d_Ar_copyOf1_1 : decode prog_22_method_119_code 1 = .ok (.iload_n 1, 1) := by decide +kernel
theorem d_Ar_copyOf1_2 : decode prog_22_method_119_code 2 = .ok (.aload_n 0, 1) := by decide +kernel
theorem d_Ar_copyOf1_3 : decode prog_22_method_119_code 3 = .ok (.invokevirtual 86, 3) := by decide +kernel
set_option maxRecDepth 20000 in
theorem w_434 : Cond.methodLink "java/util/Arrays" 86 ⟨"java/lang/Object", "getClass", "()Ljava/lang/Class;"⟩ ∈ gt := gt_of (in_t2 (List.mem_of_getElem? (i := 194) rfl)) rfl
theorem d_Ar_copyOf1_6 : decode prog_22_method_119_code 6 = .ok (.invokestatic 300, 3) := by decide +kernel
set_option maxRecDepth 20000 in
theorem w_448 : Cond.methodLink "java/util/Arrays" 300 ⟨"java/util/Arrays", "copyOf", "([Ljava/lang/Object;ILjava/lang/Class;)[Ljava/lang/Object;"⟩ ∈ gt := gt_of (in_t2 (List.mem_of_getElem? (i := 208) rfl)) rfl
set_option maxRecDepth 20000 in
theorem w_449 : Cond.static ⟨"java/util/Arrays", "copyOf", "([Ljava/lang/Object;ILjava/lang/Class;)[Ljava/lang/Object;"⟩ ∈ gt := gt_of (in_t2 (List.mem_of_getElem? (i := 209) rfl)) rfl
set_option maxRecDepth 20000 in
theorem w_17 : Cond.initialized "java/util/Arrays" ∈ gt := gt_of (in_t1 (List.mem_of_getElem? (i := 17) rfl)) rfl
set_option maxRecDepth 20000 in
theorem w_450 : Cond.code ⟨"java/util/Arrays", "copyOf", "([Ljava/lang/Object;ILjava/lang/Class;)[Ljava/lang/Object;"⟩ prog_22_method_120_code 4 (Option.some (.array (.object "java/lang/Object"))) ∈ gt := gt_of (in_t2 (List.mem_of_getElem? (i := 210) rfl)) rfl
theorem lk_Ar_300 : LkS "java/util/Arrays" 300 q_Ar_copyOf2 3 := ⟨(List.forall_mem_cons.mpr ⟨w_448, (List.forall_mem_cons.mpr ⟨w_449, (List.forall_mem_cons.mpr ⟨w_17, (fun _ h => absurd h List.not_mem_nil)⟩)⟩)⟩), w_450, by decide +kernel⟩
theorem d_Ar_copyOf1_9 : decode prog_22_method_119_code 9 = .ok (.areturn, 1) := by decide +kernel
/-! ===== java.util.ArrayList ===== -/
theorem set_at {α : Type} {l : List α} {i : Nat} {x y : α} (h : l[i]? = some y) : (l.set i x)[i]? = some x := List.getElem?_set_self (List.getElem?_eq_some_iff.mp h).1
theorem set_no {α : Type} {l : List α} {i j : Nat} {x y : α} (h : l[j]? = some y) (hne : i ≠ j) : (l.set i x)[j]? = some y := by rw [List.getElem?_set_ne hne]; exact h
theorem app_l {α : Type} {l m : List α} {i : Nat} {y : α} (h : l[i]? = some y) : (l ++ m)[i]? = some y := by rw [List.getElem?_append_left (List.getElem?_eq_some_iff.mp h).1]; exact h
theorem app_e {α : Type} {l : List α} {y : α} : (l ++ [y])[l.length]? = some y := by rw [List.getElem?_append_right (Nat.le_refl _), Nat.sub_self]; rfl
theorem set_l {α : Type} {l m : List α} {i : Nat} {x y : α} (h : l[i]? = some y) : (l ++ m).set i x = l.set i x ++ m := List.set_append_left i x (List.getElem?_eq_some_iff.mp h).1
theorem set_e {α : Type} {l : List α} {x y : α} : (l ++ [y]).set l.length x = l ++ [x] := by rw [List.set_append_right _ _ (Nat.le_refl _), Nat.sub_self]; rfl
theorem set2 {α : Type} {l : List α} {i : Nat} {x y : α} : (l.set i x).set i y = l.set i y := List.set_set x
section ALIST
variable (G : gG) (l : Launch)
theorem c_A_size (ws : va_W) (q0 a : Nat) (m n : Int) (e : Value) (he : ws[q0]? = some (a, .inr (8, [vI m, e, vI n]))) : Ct G l q_A_size 0 0 0 [.ref a] ws (fun r w => r = some (vI n) ∧ w = ws) := by
  refine Ct.intro [some (.ref a)] (by decide) (Nat.le_of_ble_eq_true rfl) rfl (fun sz => ?_)
  refine r_aload_n d_A_size_0 rfl rfl ?_
  refine r_get d_A_size_1 fl_A_48_8 q0 he rfl ?_
  refine r_iret d_A_size_4 rfl (Nat.le_of_ble_eq_true rfl) (Nat.le_of_ble_eq_true rfl) ?_
  exact ⟨rfl, rfl⟩
theorem c_A_elementData (ws : va_W) (q0 q1 a ea N : Nat) (m n : Int) (g : Int → Option Nat) (he : ws[q0]? = some (a, .inr (8, [vI m, .ref ea, vI n]))) (ha : ws[q1]? = some (ea, aQ G 5 N g)) (hN : N < 1000) (i : Int) (hi : 0 ≤ i ∧ i < N) : Ct G l q_A_elementData 0 0 0 [.ref a, vI i] ws (fun r w => r = some (va_rf (g i)) ∧ w = ws) := by
  refine Ct.intro [some (.ref a), some (vI i)] (by decide) (Nat.le_of_ble_eq_true rfl) rfl (fun sz => ?_)
  refine r_aload_n d_A_elementData_0 rfl rfl ?_
  refine r_get d_A_elementData_1 fl_A_9_8 q0 he rfl ?_
  refine r_iload_n d_A_elementData_4 rfl ?_
  refine r_aald d_A_elementData_5 q1 ha rfl (by omega) ?_
  refine r_aret d_A_elementData_6 rfl (by first | exact Or.inl ⟨_, rfl⟩ | exact Or.inr ⟨_, rfl⟩) (isRf_rf _) (Nat.le_of_ble_eq_true rfl) (Nat.le_of_ble_eq_true rfl) ?_
  exact ⟨rfl, rfl⟩
theorem c_A_get (ws : va_W) (q0 q1 a ea N : Nat) (m n : Int) (g : Int → Option Nat) (he : ws[q0]? = some (a, .inr (8, [vI m, .ref ea, vI n]))) (ha : ws[q1]? = some (ea, aQ G 5 N g)) (hN : N < 1000) (i : Int) (hi : 0 ≤ i ∧ i < n ∧ n ≤ N) : Ct G l q_A_get 2 0 0 [.ref a, vI i] ws (fun r w => r = some (va_rf (g i)) ∧ w = ws) := by
  refine Ct.intro [some (.ref a), some (vI i)] (by decide) (Nat.le_of_ble_eq_true rfl) rfl (fun sz => ?_)
  refine r_iload_n d_A_get_0 rfl ?_
  refine r_aload_n d_A_get_1 rfl rfl ?_
  refine r_get d_A_get_2 fl_A_48_8 q0 he rfl ?_
  refine r_cS2 d_A_get_5 lk_A_118 (c_Ob_checkIndex G l ws i n ⟨hi.1, hi.2.1⟩ (by omega)) (Nat.le_of_ble_eq_true rfl) (rok rfl rfl) ⟨(Nat.le_of_ble_eq_true rfl), (Nat.le_of_ble_eq_true rfl)⟩ (fun r ws2 hq => ?_)
  obtain ⟨rfl, hw⟩ := hq; rw [hw]; clear hw
  show WP _ _ _ _ _ _ (_ :: _)
  refine r_pop d_A_get_8 rfl ?_
  refine r_aload_n d_A_get_9 rfl rfl ?_
  refine r_iload_n d_A_get_10 rfl ?_
  refine r_cV1 d_A_get_11 lk_A_123 (c_A_elementData G l ws q0 q1 a ea N m n g he ha hN i (by omega)) q0 rfl he (Nat.le_of_ble_eq_true rfl) (rok rfl rfl) ⟨(Nat.le_of_ble_eq_true rfl), (Nat.le_of_ble_eq_true rfl)⟩ (fun r ws2 hq => ?_)
  obtain ⟨rfl, hw⟩ := hq; rw [hw]; clear hw
  show WP _ _ _ _ _ _ (_ :: _)
  refine r_aret d_A_get_14 rfl (by first | exact Or.inl ⟨_, rfl⟩ | exact Or.inr ⟨_, rfl⟩) (isRf_rf _) (Nat.le_of_ble_eq_true rfl) (Nat.le_of_ble_eq_true rfl) ?_
  exact ⟨rfl, rfl⟩
theorem c_Ar_copyOf2 (ws : va_W) (q1 a N L : Nat) (g : Int → Option Nat) (ha : ws[q1]? = some (a, aQ G 5 N g)) (hg : elB ws g) (hN : N ≤ L ∧ L ≤ 1000) : Ct G l q_Ar_copyOf2 1 1 L [.ref a, vI L, .ref (gS G 1)] ws (fun r w => ∃ q : Nat, r = some (.ref q) ∧ w = ws ++ [(q, aQ G 5 L (cpyI g (fun _ => none) 0 0 N))]) := by
  refine Ct.intro [some (.ref a), some (vI L), some (.ref (gS G 1)), none] (by decide) (Nat.le_of_ble_eq_true rfl) rfl (fun sz => ?_)
  refine r_aload_n d_Ar_copyOf2_0 rfl rfl ?_
  refine r_ldcM d_Ar_copyOf2_1 w_451 ?_
  refine r_acmp_ne (ra := some (gS G 1)) (rb := some (gS G 1)) 13 d_Ar_copyOf2_3 (by decide) (fun h => absurd rfl h) (fun _ => ?_)
  refine r_iload_n d_Ar_copyOf2_6 rfl ?_
  refine r_newQ (t := 5) (E := "java/lang/Object") d_Ar_copyOf2_7 w_453 (by decide) rfl (by omega) (Nat.le_of_ble_eq_true rfl) (show 0 + L ≤ L by omega) (fun q => ?_)
  have hx : (ws ++ [(q, aQ G 5 L (fun _ => none))])[q1]? = some (a, aQ G 5 N g) := app_l ha
  refine r_goto 24 d_Ar_copyOf2_10 (by decide) ?_
  refine r_astore_n d_Ar_copyOf2_24 (Nat.le_of_ble_eq_true rfl) rfl rfl ?_
  show WP _ _ _ _ _ [_, _, _, _] _
  refine r_aload_n d_Ar_copyOf2_25 rfl rfl ?_
  refine r_iconst d_Ar_copyOf2_26 ?_
  refine r_aload_n d_Ar_copyOf2_27 rfl rfl ?_
  refine r_iconst d_Ar_copyOf2_28 ?_
  refine r_aload_n d_Ar_copyOf2_29 rfl rfl ?_
  refine r_alenQ d_Ar_copyOf2_30 q1 hx rfl ?_
  refine r_iload_n d_Ar_copyOf2_31 rfl ?_
  refine r_mmin d_Ar_copyOf2_32 w_454 (by unfold i32; omega) (by unfold i32; omega) rfl rfl (Nat.le_of_ble_eq_true rfl) (show 0 + L ≤ L by omega) ?_
  rw [if_neg (by omega)]
  refine r_copyQ _ d_Ar_copyOf2_35 w_457 q1 ws.length hx app_e (by omega) (by omega) (fun i y hy => ?_) set_e rfl rfl ?_
  · obtain ⟨q', c, fs, h1, h2⟩ := hg i y hy
    exact ⟨q', c, fs, app_l h1, h2⟩
  refine r_aload_n d_Ar_copyOf2_38 rfl rfl ?_
  refine r_aret d_Ar_copyOf2_39 rfl (Or.inr ⟨_, rfl⟩) rfl (Nat.le_of_ble_eq_true rfl) (show 0 + L ≤ L by omega) ?_
  exact ⟨q, rfl, rfl⟩
theorem c_Ar_copyOf1 (ws : va_W) (q1 a N L : Nat) (g : Int → Option Nat) (ha : ws[q1]? = some (a, aQ G 5 N g)) (hg : elB ws g) (hN : N ≤ L ∧ L ≤ 1000) : Ct G l q_Ar_copyOf1 2 1 L [.ref a, vI L] ws (fun r w => ∃ q : Nat, r = some (.ref q) ∧ w = ws ++ [(q, aQ G 5 L (cpyI g (fun _ => none) 0 0 N))]) := by
  refine Ct.intro [some (.ref a), some (vI L)] (by decide) (Nat.le_of_ble_eq_true rfl) rfl (fun sz => ?_)
  refine r_aload_n d_Ar_copyOf1_0 rfl rfl ?_
  refine r_iload_n d_Ar_copyOf1_1 rfl ?_
  refine r_aload_n d_Ar_copyOf1_2 rfl rfl ?_
  refine r_getC d_Ar_copyOf1_3 w_434 q1 ha rfl rfl ?_
  refine r_kS3 d_Ar_copyOf1_6 lk_Ar_300 (c_Ar_copyOf2 G l ws q1 a N L g ha hg hN) (Nat.le_of_ble_eq_true rfl) (rok rfl rfl) ⟨Nat.le_of_ble_eq_true rfl, show 0 + L ≤ L by omega⟩ (fun r ws2 hq => ?_)
  obtain ⟨q, rfl, rfl⟩ := hq
  show WP _ _ _ _ _ _ (_ :: _)
  refine r_aret d_Ar_copyOf1_9 rfl (Or.inr ⟨_, rfl⟩) rfl (Nat.le_of_ble_eq_true rfl) (show 0 + L ≤ L by omega) ?_
  exact ⟨q, rfl, rfl⟩
end ALIST
