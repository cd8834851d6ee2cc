abbrev q_A_add2 : Mi := (⟨"java/util/ArrayList", "add", "(Ljava/lang/Object;[Ljava/lang/Object;I)V"⟩, prog_21_method_24_code, 4, none)
theorem d_A_add2_11 : decode prog_21_method_24_code 11 = .ok (.aload_n 2, 1) := by decide +kernel
theorem d_A_add2_12 : decode prog_21_method_24_code 12 = .ok (.iload_n 3, 1) := by decide +kernel
theorem d_A_add2_13 : decode prog_21_method_24_code 13 = .ok (.aload_n 1, 1) := by decide +kernel
theorem d_A_add2_14 : decode prog_21_method_24_code 14 = .ok (.aastore, 1) := by decide +kernel
theorem d_A_add2_15 : decode prog_21_method_24_code 15 = .ok (.aload_n 0, 1) := by decide +kernel
theorem d_A_add2_16 : decode prog_21_method_24_code 16 = .ok (.iload_n 3, 1) := by decide +kernel
theorem d_A_add2_17 : decode prog_21_method_24_code 17 = .ok (.iconst 1, 1) := by decide +kernel
theorem d_A_add2_18 : decode prog_21_method_24_code 18 = .ok (.iadd, 1) := by decide +kernel
theorem d_A_add2_19 : decode prog_21_method_24_code 19 = .ok (.putfield 48, 3) := by decide +kernel
theorem d_A_add2_22 : decode prog_21_method_24_code 22 = .ok (.return_, 1) := by decide +kernel
theorem d_A_add2_0 : decode prog_21_method_24_code 0 = .ok (.iload_n 3, 1) := by decide +kernel
theorem d_A_add2_1 : decode prog_21_method_24_code 1 = .ok (.aload_n 2, 1) := by decide +kernel
theorem d_A_add2_2 : decode prog_21_method_24_code 2 = .ok (.arraylength, 1) := by decide +kernel
theorem d_A_add2_3 : decode prog_21_method_24_code 3 = .ok (.if_icmp .ne 8, 3) := by decide +kernel
theorem d_A_add2_6 : decode prog_21_method_24_code 6 = .ok (.aload_n 0, 1) := by decide +kernel
theorem d_A_add2_7 : decode prog_21_method_24_code 7 = .ok (.invokevirtual 129, 3) := by decide +kernel
set_option maxRecDepth 20000 in
theorem w_413 : Cond.methodLink "java/util/ArrayList" 129 ⟨"java/util/ArrayList", "grow", "()[Ljava/lang/Object;"⟩ ∈ gt := gt_of (in_t2 (List.mem_of_getElem? (i := 173) rfl)) rfl
set_option maxRecDepth 20000 in
theorem w_415 : Cond.instanceMethod ⟨"java/util/ArrayList", "grow", "()[Ljava/lang/Object;"⟩ ∈ gt := gt_of (in_t2 (List.mem_of_getElem? (i := 175) rfl)) rfl
set_option maxRecDepth 20000 in
theorem ws_A_grow1 : Cond.selects "java/util/ArrayList" ⟨"java/util/ArrayList", "grow", "()[Ljava/lang/Object;"⟩ ⟨"java/util/ArrayList", "grow", "()[Ljava/lang/Object;"⟩ ∈ gt := gt_of (in_p1 (List.mem_of_getElem? (i := 4) rfl)) rfl
set_option maxRecDepth 20000 in
theorem w_416 : Cond.code ⟨"java/util/ArrayList", "grow", "()[Ljava/lang/Object;"⟩ prog_21_method_7_code 1 (Option.some (.array (.object "java/lang/Object"))) ∈ gt := gt_of (in_t2 (List.mem_of_getElem? (i := 176) rfl)) rfl
theorem lk_A_129 : LkV "java/util/ArrayList" 129 q_A_grow1 0 := ⟨(List.forall_mem_cons.mpr ⟨w_413, (List.forall_mem_cons.mpr ⟨w_415, (List.forall_mem_cons.mpr ⟨ws_A_grow1, (List.forall_mem_cons.mpr ⟨w_6, (fun _ h => absurd h List.not_mem_nil)⟩)⟩)⟩)⟩), w_416, by decide +kernel⟩
theorem d_A_add2_10 : decode prog_21_method_24_code 10 = .ok (.astore_n 2, 1) := by decide +kernel
abbrev q_A_add1 : Mi := (⟨"java/util/ArrayList", "add", "(Ljava/lang/Object;)Z"⟩, prog_21_method_25_code, 2, (some .boolean))
theorem d_A_add1_0 : decode prog_21_method_25_code 0 = .ok (.aload_n 0, 1) := by decide +kernel
theorem d_A_add1_1 : decode prog_21_method_25_code 1 = .ok (.dup, 1) := by decide +kernel
theorem d_A_add1_2 : decode prog_21_method_25_code 2 = .ok (.getfield 63, 3) := by decide +kernel
set_option maxRecDepth 20000 in
theorem w_136 : Cond.fieldLink "java/util/ArrayList" 63 "java/util/ArrayList" "modCount" "I" ∈ gt := gt_of (in_t1 (List.mem_of_getElem? (i := 136) rfl)) rfl
set_option maxRecDepth 20000 in
theorem w_137 : Cond.sameField "java/util/ArrayList" "java/util/AbstractList" "modCount" "I" ∈ gt := gt_of (in_t1 (List.mem_of_getElem? (i := 137) rfl)) rfl
theorem fl_A_63_8 : FL "java/util/ArrayList" 63 8 0 false := ⟨_, _, _, "java/util/ArrayList", rfl, by decide, rfl, Or.inl w_136, Or.inr w_137⟩
theorem d_A_add1_5 : decode prog_21_method_25_code 5 = .ok (.iconst 1, 1) := by decide +kernel
theorem d_A_add1_6 : decode prog_21_method_25_code 6 = .ok (.iadd, 1) := by decide +kernel
theorem d_A_add1_7 : decode prog_21_method_25_code 7 = .ok (.putfield 63, 3) := by decide +kernel
theorem d_A_add1_10 : decode prog_21_method_25_code 10 = .ok (.aload_n 0, 1) := by decide +kernel
theorem d_A_add1_11 : decode prog_21_method_25_code 11 = .ok (.aload_n 1, 1) := by decide +kernel
theorem d_A_add1_12 : decode prog_21_method_25_code 12 = .ok (.aload_n 0, 1) := by decide +kernel
theorem d_A_add1_13 : decode prog_21_method_25_code 13 = .ok (.getfield 9, 3) := by decide +kernel
theorem d_A_add1_16 : decode prog_21_method_25_code 16 = .ok (.aload_n 0, 1) := by decide +kernel
theorem d_A_add1_17 : decode prog_21_method_25_code 17 = .ok (.getfield 48, 3) := by decide +kernel
theorem d_A_add1_20 : decode prog_21_method_25_code 20 = .ok (.invokevirtual 131, 3) := by decide +kernel
set_option maxRecDepth 20000 in
theorem w_409 : Cond.methodLink "java/util/ArrayList" 131 ⟨"java/util/ArrayList", "add", "(Ljava/lang/Object;[Ljava/lang/Object;I)V"⟩ ∈ gt := gt_of (in_t2 (List.mem_of_getElem? (i := 169) rfl)) rfl
set_option maxRecDepth 20000 in
theorem w_411 : Cond.instanceMethod ⟨"java/util/ArrayList", "add", "(Ljava/lang/Object;[Ljava/lang/Object;I)V"⟩ ∈ gt := gt_of (in_t2 (List.mem_of_getElem? (i := 171) rfl)) rfl
set_option maxRecDepth 20000 in
theorem ws_A_add2 : Cond.selects "java/util/ArrayList" ⟨"java/util/ArrayList", "add", "(Ljava/lang/Object;[Ljava/lang/Object;I)V"⟩ ⟨"java/util/ArrayList", "add", "(Ljava/lang/Object;[Ljava/lang/Object;I)V"⟩ ∈ gt := gt_of (in_p1 (List.mem_of_getElem? (i := 3) rfl)) rfl
set_option maxRecDepth 20000 in
theorem w_412 : Cond.code ⟨"java/util/ArrayList", "add", "(Ljava/lang/Object;[Ljava/lang/Object;I)V"⟩ prog_21_method_24_code 4 (none : Option Jvm.ClassFile.FieldType) ∈ gt := gt_of (in_t2 (List.mem_of_getElem? (i := 172) rfl)) rfl
theorem lk_A_131 : LkV "java/util/ArrayList" 131 q_A_add2 3 := ⟨(List.forall_mem_cons.mpr ⟨w_409, (List.forall_mem_cons.mpr ⟨w_411, (List.forall_mem_cons.mpr ⟨ws_A_add2, (List.forall_mem_cons.mpr ⟨w_6, (fun _ h => absurd h List.not_mem_nil)⟩)⟩)⟩)⟩), w_412, by decide +kernel⟩
theorem d_A_add1_23 : decode prog_21_method_25_code 23 = .ok (.iconst 1, 1) := by decide +kernel
theorem d_A_add1_24 : decode prog_21_method_25_code 24 = .ok (.ireturn, 1) := by decide +kernel
/-! ===== java.util.ArrayList: add, clear, its constructor ===== -/
/-- the list's array: none yet, or its cell -/
def elE (G : gG) (ws E : va_W) (ea : Nat) (n : Int) (g : Int → Option Nat) : Prop := (E = [] ∧ ea = gS G 0 ∧ n = 0) ∨ ∃ N : Nat, E = [(ea, aQ G 5 N g)] ∧ 10 ≤ N ∧ N ≤ 28 ∧ 0 ≤ n ∧ n ≤ N ∧ elB ws g
theorem set_id {α : Type} {l : List α} {i : Nat} {x : α} (h : l[i]? = some x) : l.set i x = l := by
  refine List.ext_getElem? (fun j => ?_)
  rw [List.getElem?_set]
  split
  · rename_i e; subst e; rw [if_pos (List.getElem?_eq_some_iff.mp h).1, h]
  · rfl
theorem cpy_in {g : Int → Option Nat} {N i : Int} (h0 : 0 ≤ i) (h1 : i < N) : cpyI g (fun _ => none) 0 0 N i = g i := by
  unfold cpyI; rw [if_pos (by omega), show (0 : Int) + (i - 0) = i by omega]
theorem cpy_some {g : Int → Option Nat} {N i : Int} {y : Nat} (h : cpyI g (fun _ => none) 0 0 N i = some y) : g i = some y := by
  unfold cpyI at h
  split at h
  · rw [show (0 : Int) + (i - 0) = i by omega] at h; exact h
  · cases h
section ALIST3
variable (G : gG) (l : Launch)
theorem c_A_add2 (ws E : va_W) (q0 a ea b qb c : Nat) (m n : Int) (g : Int → Option Nat) (fs : List Value) (he : ws[q0]? = some (a, .inr (8, [vI m, .ref ea, vI n]))) (hE : elE G ws E ea n g) (hg0 : ∀ i y, g i = some y → 0 ≤ i ∧ i < n) (hb : ws[qb]? = some (b, .inr (c, fs))) (hc : 1 ≤ c ∧ c ≤ 5) (hn : n ≤ 19) (hqb : qb ≠ q0) : Ct G l q_A_add2 5 1 28 [.ref a, .ref b, .ref ea, vI n] (ws ++ E) (fun r w => r = none ∧ ∃ (ea' N' : Nat), w = ws.set q0 (a, .inr (8, [vI m, .ref ea', vI (n + 1)])) ++ [(ea', aQ G 5 N' (updI g n (some b)))] ∧ 10 ≤ N' ∧ N' ≤ 28 ∧ n + 1 ≤ N' ∧ 0 ≤ n) := by
  refine Ct.intro [some (.ref a), some (.ref b), some (.ref ea), some (vI n)] (by decide) (Nat.le_of_ble_eq_true rfl) rfl (fun sz => ?_)
  generalize hQ : (fun r w => r = none ∧ ∃ (ea' N' : Nat), w = ws.set q0 (a, .inr (8, [vI m, .ref ea', vI (n + 1)])) ++ [(ea', aQ G 5 N' (updI g n (some b)))] ∧ 10 ≤ N' ∧ N' ≤ 28 ∧ n + 1 ≤ N' ∧ 0 ≤ n) = Q
  obtain ⟨Cn, T, N0, hcc, -, hcast⟩ := bxC hc
  have fin : ∀ (k s : Nat) (ea' N' : Nat), k ≤ 1 → s ≤ 28 → 10 ≤ N' → N' ≤ 28 → 0 ≤ n → n + 1 ≤ N' → WP (mth G l q_A_add2 5 1 28 (ws ++ E) sz Q) k s (ws.set q0 (a, .inr (8, [vI m, .ref ea', vI n])) ++ [(ea', aQ G 5 N' g)]) 11 [some (.ref a), some (.ref b), some (.ref ea'), some (vI n)] [] := by
    intro k s ea' N' h1 h2 h3 h4 h5 h6
    refine r_aload_n d_A_add2_11 rfl rfl ?_
    refine r_iload_n d_A_add2_12 rfl ?_
    refine r_aload_n d_A_add2_13 rfl rfl ?_
    refine r_aast _ d_A_add2_14 (ws.set q0 (a, .inr (8, [vI m, .ref ea', vI n]))).length app_e rfl hcc (app_l (set_no hb (fun h => hqb h.symm))) hcast (by omega) set_e ?_
    refine r_aload_n d_A_add2_15 rfl rfl ?_
    refine r_iload_n d_A_add2_16 rfl ?_
    refine r_iconst d_A_add2_17 ?_
    refine r_iadd d_A_add2_18 ?_
    refine r_put _ d_A_add2_19 fl_A_48_8 q0 (app_l (set_at he)) rfl rfl (Nat.le_of_ble_eq_true rfl) rfl ?_
    rw [set_l (set_at he), set2]
    refine r_vret d_A_add2_22 rfl h1 h2 ?_
    rw [← hQ]; exact ⟨rfl, ea', N', rfl, h3, h4, h6, h5⟩
  rcases hE with ⟨rfl, rfl, rfl⟩ | ⟨N, rfl, hN1, hN2, hN3, hN4, hg⟩
  · have hgn : (fun _ => none) = g := by
      funext i
      cases h : g i with
      | none => rfl
      | some y => have := hg0 i y h; omega
    refine r_iload_n d_A_add2_0 rfl ?_
    refine r_aload_n d_A_add2_1 rfl rfl ?_
    refine r_tlen d_A_add2_2 ?_
    refine r_icmp_ne 11 d_A_add2_3 (by decide) (by unfold i32; omega) (by unfold i32; omega) (fun h1 => ?_) (fun h1 => ?_)
    · omega
    refine wp_ws (List.append_nil ws) ?_
    refine r_aload_n d_A_add2_6 rfl rfl ?_
    refine r_kV0 d_A_add2_7 lk_A_129 (c_A_grow1s G l ws q0 a m he) q0 rfl he (Nat.le_of_ble_eq_true rfl) (rok rfl rfl) ⟨(Nat.le_of_ble_eq_true rfl), (Nat.le_of_ble_eq_true rfl)⟩ (fun r ws2 hq => ?_)
    obtain ⟨q, rfl, rfl⟩ := hq
    show WP _ _ _ _ _ _ (_ :: _)
    refine r_astore_n d_A_add2_10 (Nat.le_of_ble_eq_true rfl) rfl rfl ?_
    show WP _ _ _ _ _ [_, _, _, _] _
    rw [hgn]
    exact fin _ _ q 10 (Nat.le_refl _) (Nat.le_refl _) (by omega) (by omega) (by omega) (by omega)
  · refine r_iload_n d_A_add2_0 rfl ?_
    refine r_aload_n d_A_add2_1 rfl rfl ?_
    refine r_alenQ d_A_add2_2 ws.length app_e rfl ?_
    have hw0 : ws = ws.set q0 (a, .inr (8, [vI m, .ref ea, vI n])) := (set_id he).symm
    refine r_icmp_ne 11 d_A_add2_3 (by decide) (by unfold i32; omega) (by unfold i32; omega) (fun h1 => ?_) (fun h1 => ?_)
    · refine wp_ws (congrArg (· ++ _) hw0) ?_
      exact fin 0 0 ea N (by omega) (by omega) hN1 hN2 hN3 (by omega)
    have hnN : n = (N : Int) := by omega
    subst hnN
    refine r_aload_n d_A_add2_6 rfl rfl ?_
    refine r_kV0 d_A_add2_7 lk_A_129 (c_A_grow1f G l ws q0 a ea N m g he hg (by omega)) q0 rfl (app_l he) (Nat.le_of_ble_eq_true rfl) (rok rfl rfl) ⟨(Nat.le_of_ble_eq_true rfl), (Nat.le_of_ble_eq_true rfl)⟩ (fun r ws2 hq => ?_)
    obtain ⟨q, rfl, rfl⟩ := hq
    show WP _ _ _ _ _ _ (_ :: _)
    refine r_astore_n d_A_add2_10 (Nat.le_of_ble_eq_true rfl) rfl rfl ?_
    show WP _ _ _ _ _ [_, _, _, _] _
    have hgn : cpyI g (fun _ => none) 0 0 (N : Int) = g := by
      funext i
      by_cases h : 0 ≤ i ∧ i < (N : Int)
      · exact cpy_in h.1 h.2
      · unfold cpyI; rw [if_neg (by omega)]
        cases h2 : g i with
        | none => rfl
        | some y => have := hg0 i y h2; omega
    rw [hgn]
    exact fin _ _ q _ (Nat.le_refl _) (Nat.le_refl _) (by omega) (by omega) (by omega) (by omega)
theorem c_A_add1 (ws E : va_W) (q0 a ea b qb c : Nat) (m n : Int) (g : Int → Option Nat) (fs : List Value) (he : ws[q0]? = some (a, .inr (8, [vI m, .ref ea, vI n]))) (hE : elE G ws E ea n g) (hg0 : ∀ i y, g i = some y → 0 ≤ i ∧ i < n) (hb : ws[qb]? = some (b, .inr (c, fs))) (hc : 1 ≤ c ∧ c ≤ 5) (hn : n ≤ 19) (hqb : qb ≠ q0) : Ct G l q_A_add1 6 1 28 [.ref a, .ref b] (ws ++ E) (fun r w => r = some (vI 1) ∧ ∃ (ea' N' : Nat), w = ws.set q0 (a, .inr (8, [vI (m + 1), .ref ea', vI (n + 1)])) ++ [(ea', aQ G 5 N' (updI g n (some b)))] ∧ 10 ≤ N' ∧ N' ≤ 28 ∧ n + 1 ≤ N' ∧ 0 ≤ n) := by
  refine Ct.intro [some (.ref a), some (.ref b)] (by decide) (Nat.le_of_ble_eq_true rfl) rfl (fun sz => ?_)
  generalize hQ : (fun r w => r = some (vI 1) ∧ ∃ (ea' N' : Nat), w = ws.set q0 (a, .inr (8, [vI (m + 1), .ref ea', vI (n + 1)])) ++ [(ea', aQ G 5 N' (updI g n (some b)))] ∧ 10 ≤ N' ∧ N' ≤ 28 ∧ n + 1 ≤ N' ∧ 0 ≤ n) = Q
  refine r_aload_n d_A_add1_0 rfl rfl ?_
  refine r_dup d_A_add1_1 rfl ?_
  refine r_get d_A_add1_2 fl_A_63_8 q0 (app_l he) rfl ?_
  refine r_iconst d_A_add1_5 ?_
  refine r_iadd d_A_add1_6 ?_
  refine r_put _ d_A_add1_7 fl_A_63_8 q0 (app_l he) rfl rfl (Nat.le_of_ble_eq_true rfl) rfl ?_
  rw [set_l he]
  show WP _ _ _ (ws.set q0 (a, .inr (8, [vI (m + 1), .ref ea, vI n])) ++ E) _ _ _
  refine r_aload_n d_A_add1_10 rfl rfl ?_
  refine r_aload_n d_A_add1_11 rfl rfl ?_
  refine r_aload_n d_A_add1_12 rfl rfl ?_
  refine r_get d_A_add1_13 fl_A_9_8 q0 (app_l (set_at he)) rfl ?_
  refine r_aload_n d_A_add1_16 rfl rfl ?_
  refine r_get d_A_add1_17 fl_A_48_8 q0 (app_l (set_at he)) rfl ?_
  have hE2 : elE G (ws.set q0 (a, .inr (8, [vI (m + 1), .ref ea, vI n]))) E ea n g := by
    rcases hE with h | ⟨N, h1, h2, h3, h4, h5, h6⟩
    · exact Or.inl h
    · refine Or.inr ⟨N, h1, h2, h3, h4, h5, fun i y hy => ?_⟩
      obtain ⟨q, c', fs', e1, e2⟩ := h6 i y hy
      by_cases hq : q0 = q
      · subst hq; rw [he] at e1; cases e1; omega
      · exact ⟨q, c', fs', set_no e1 hq, e2⟩
  refine r_kV3 d_A_add1_20 lk_A_131 (c_A_add2 G l _ E q0 a ea b qb c (m + 1) n g fs (set_at he) hE2 hg0 (set_no hb (fun h => hqb h.symm)) hc hn hqb) q0 rfl (app_l (set_at he)) (Nat.le_of_ble_eq_true rfl) (rok rfl rfl) ⟨(Nat.le_of_ble_eq_true rfl), (Nat.le_of_ble_eq_true rfl)⟩ (fun r ws2 hq => ?_)
  obtain ⟨rfl, ea', N', rfl, h1, h2, h3, h4⟩ := hq
  show WP _ _ _ _ _ _ _
  refine r_iconst d_A_add1_23 ?_
  refine r_zret d_A_add1_24 rfl (by first | exact Or.inl rfl | exact Or.inr rfl) (Nat.le_of_ble_eq_true rfl) (Nat.le_of_ble_eq_true rfl) ?_
  rw [← hQ]; exact ⟨rfl, ea', N', by rw [set2], h1, h2, h3, h4⟩
end ALIST3
