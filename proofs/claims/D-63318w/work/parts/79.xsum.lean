abbrev q_T_sum : Mi := (⟨"MovieBoxes$Table", "sum", "([B)I"⟩, prog_8_method_4_code, 4, (some .int))
theorem d_T_sum_4 : decode prog_8_method_4_code 4 = .ok (.iload_n 3, 1) := by decide +kernel
theorem d_T_sum_5 : decode prog_8_method_4_code 5 = .ok (.aload_n 0, 1) := by decide +kernel
theorem d_T_sum_6 : decode prog_8_method_4_code 6 = .ok (.getfield 20, 3) := by decide +kernel
set_option maxRecDepth 20000 in
theorem w_323 : Cond.fieldLink "MovieBoxes$Table" 20 "MovieBoxes$Table" "rows" "I" ∈ gt := gt_of (in_t2 (List.mem_of_getElem? (i := 83) rfl)) rfl
theorem fl_T_20_3 : FL "MovieBoxes$Table" 20 3 11 false := ⟨_, _, _, "MovieBoxes$Table", rfl, by decide, rfl, Or.inl w_323, Or.inl rfl⟩
theorem fl_T_20_4 : FL "MovieBoxes$Table" 20 4 11 false := ⟨_, _, _, "MovieBoxes$Table", rfl, by decide, rfl, Or.inl w_323, Or.inl rfl⟩
theorem fl_T_20_5 : FL "MovieBoxes$Table" 20 5 11 false := ⟨_, _, _, "MovieBoxes$Table", rfl, by decide, rfl, Or.inl w_323, Or.inl rfl⟩
theorem ft_T_20 : FT "MovieBoxes$Table" 20 := ft3 fl_T_20_3 fl_T_20_4 fl_T_20_5
theorem d_T_sum_9 : decode prog_8_method_4_code 9 = .ok (.if_icmp .ge 19, 3) := by decide +kernel
theorem d_T_sum_28 : decode prog_8_method_4_code 28 = .ok (.iload_n 2, 1) := by decide +kernel
theorem d_T_sum_29 : decode prog_8_method_4_code 29 = .ok (.ireturn, 1) := by decide +kernel
theorem d_T_sum_12 : decode prog_8_method_4_code 12 = .ok (.iload_n 2, 1) := by decide +kernel
theorem d_T_sum_13 : decode prog_8_method_4_code 13 = .ok (.aload_n 0, 1) := by decide +kernel
theorem d_T_sum_14 : decode prog_8_method_4_code 14 = .ok (.aload_n 1, 1) := by decide +kernel
theorem d_T_sum_15 : decode prog_8_method_4_code 15 = .ok (.iload_n 3, 1) := by decide +kernel
theorem d_T_sum_16 : decode prog_8_method_4_code 16 = .ok (.iconst 0, 1) := by decide +kernel
theorem d_T_sum_17 : decode prog_8_method_4_code 17 = .ok (.invokevirtual 38, 3) := by decide +kernel
set_option maxRecDepth 20000 in
theorem w_512 : Cond.methodLink "MovieBoxes$Table" 38 ⟨"MovieBoxes$Table", "cell", "([BII)I"⟩ ∈ gt := gt_of (in_t3 (List.mem_of_getElem? (i := 32) rfl)) rfl
set_option maxRecDepth 20000 in
theorem w_513 : Cond.instanceMethod ⟨"MovieBoxes$Table", "cell", "([BII)I"⟩ ∈ gt := gt_of (in_t3 (List.mem_of_getElem? (i := 33) rfl)) rfl
set_option maxRecDepth 20000 in
theorem w_514 : Cond.selects "MovieBoxes$Table" ⟨"MovieBoxes$Table", "cell", "([BII)I"⟩ ⟨"MovieBoxes$Table", "cell", "([BII)I"⟩ ∈ gt := gt_of (in_t3 (List.mem_of_getElem? (i := 34) rfl)) rfl
set_option maxRecDepth 20000 in
theorem w_526 : Cond.code ⟨"MovieBoxes$Table", "cell", "([BII)I"⟩ prog_8_method_3_code 4 (some .int) ∈ gt := gt_of (in_t3 (List.mem_of_getElem? (i := 46) rfl)) rfl
theorem lk_T_38 : LkV "MovieBoxes$Table" 38 q_T_cell 3 := ⟨(List.forall_mem_cons.mpr ⟨w_512, (List.forall_mem_cons.mpr ⟨w_513, (List.forall_mem_cons.mpr ⟨w_514, (List.forall_mem_cons.mpr ⟨w_12, (fun _ h => absurd h List.not_mem_nil)⟩)⟩)⟩)⟩), w_526, by decide +kernel⟩
theorem d_T_sum_20 : decode prog_8_method_4_code 20 = .ok (.iadd, 1) := by decide +kernel
theorem d_T_sum_21 : decode prog_8_method_4_code 21 = .ok (.istore_n 2, 1) := by decide +kernel
theorem d_T_sum_22 : decode prog_8_method_4_code 22 = .ok (.iinc 3 1, 3) := by decide +kernel
theorem d_T_sum_25 : decode prog_8_method_4_code 25 = .ok (.goto (-21), 3) := by decide +kernel
theorem d_T_sum_0 : decode prog_8_method_4_code 0 = .ok (.iconst 0, 1) := by decide +kernel
theorem d_T_sum_1 : decode prog_8_method_4_code 1 = .ok (.istore_n 2, 1) := by decide +kernel
theorem d_T_sum_2 : decode prog_8_method_4_code 2 = .ok (.iconst 0, 1) := by decide +kernel
theorem d_T_sum_3 : decode prog_8_method_4_code 3 = .ok (.istore_n 3, 1) := by decide +kernel
abbrev q_T_valueAt : Mi := (⟨"MovieBoxes$Table", "valueAt", "([BI)I"⟩, prog_8_method_5_code, 5, (some .int))
theorem d_T_valueAt_45 : decode prog_8_method_5_code 45 = .ok (.iload 4, 2) := by decide +kernel
theorem d_T_valueAt_47 : decode prog_8_method_5_code 47 = .ok (.aload_n 0, 1) := by decide +kernel
theorem d_T_valueAt_48 : decode prog_8_method_5_code 48 = .ok (.getfield 20, 3) := by decide +kernel
theorem d_T_valueAt_51 : decode prog_8_method_5_code 51 = .ok (.if_icmp .ge 14, 3) := by decide +kernel
theorem d_T_valueAt_65 : decode prog_8_method_5_code 65 = .ok (.iconst 0, 1) := by decide +kernel
theorem d_T_valueAt_66 : decode prog_8_method_5_code 66 = .ok (.ireturn, 1) := by decide +kernel
theorem d_T_valueAt_54 : decode prog_8_method_5_code 54 = .ok (.aload_n 0, 1) := by decide +kernel
theorem d_T_valueAt_55 : decode prog_8_method_5_code 55 = .ok (.aload_n 1, 1) := by decide +kernel
theorem d_T_valueAt_56 : decode prog_8_method_5_code 56 = .ok (.iload 4, 2) := by decide +kernel
theorem d_T_valueAt_58 : decode prog_8_method_5_code 58 = .ok (.iconst 1, 1) := by decide +kernel
theorem d_T_valueAt_59 : decode prog_8_method_5_code 59 = .ok (.invokevirtual 38, 3) := by decide +kernel
theorem d_T_valueAt_62 : decode prog_8_method_5_code 62 = .ok (.goto 4, 3) := by decide +kernel
theorem d_T_valueAt_5 : decode prog_8_method_5_code 5 = .ok (.iload 4, 2) := by decide +kernel
theorem d_T_valueAt_7 : decode prog_8_method_5_code 7 = .ok (.aload_n 0, 1) := by decide +kernel
theorem d_T_valueAt_8 : decode prog_8_method_5_code 8 = .ok (.getfield 20, 3) := by decide +kernel
theorem d_T_valueAt_11 : decode prog_8_method_5_code 11 = .ok (.iconst 1, 1) := by decide +kernel
theorem d_T_valueAt_12 : decode prog_8_method_5_code 12 = .ok (.isub, 1) := by decide +kernel
theorem d_T_valueAt_13 : decode prog_8_method_5_code 13 = .ok (.if_icmp .ge 32, 3) := by decide +kernel
theorem d_T_valueAt_16 : decode prog_8_method_5_code 16 = .ok (.iload_n 3, 1) := by decide +kernel
theorem d_T_valueAt_17 : decode prog_8_method_5_code 17 = .ok (.aload_n 0, 1) := by decide +kernel
theorem d_T_valueAt_18 : decode prog_8_method_5_code 18 = .ok (.aload_n 1, 1) := by decide +kernel
theorem d_T_valueAt_19 : decode prog_8_method_5_code 19 = .ok (.iload 4, 2) := by decide +kernel
theorem d_T_valueAt_21 : decode prog_8_method_5_code 21 = .ok (.iconst 0, 1) := by decide +kernel
theorem d_T_valueAt_22 : decode prog_8_method_5_code 22 = .ok (.invokevirtual 38, 3) := by decide +kernel
theorem d_T_valueAt_25 : decode prog_8_method_5_code 25 = .ok (.if_icmp .lt 20, 3) := by decide +kernel
theorem d_T_valueAt_28 : decode prog_8_method_5_code 28 = .ok (.iload_n 3, 1) := by decide +kernel
theorem d_T_valueAt_29 : decode prog_8_method_5_code 29 = .ok (.aload_n 0, 1) := by decide +kernel
theorem d_T_valueAt_30 : decode prog_8_method_5_code 30 = .ok (.aload_n 1, 1) := by decide +kernel
theorem d_T_valueAt_31 : decode prog_8_method_5_code 31 = .ok (.iload 4, 2) := by decide +kernel
theorem d_T_valueAt_33 : decode prog_8_method_5_code 33 = .ok (.iinc 4 1, 3) := by decide +kernel
theorem d_T_valueAt_36 : decode prog_8_method_5_code 36 = .ok (.iconst 0, 1) := by decide +kernel
theorem d_T_valueAt_37 : decode prog_8_method_5_code 37 = .ok (.invokevirtual 38, 3) := by decide +kernel
theorem d_T_valueAt_40 : decode prog_8_method_5_code 40 = .ok (.isub, 1) := by decide +kernel
theorem d_T_valueAt_41 : decode prog_8_method_5_code 41 = .ok (.istore_n 3, 1) := by decide +kernel
theorem d_T_valueAt_42 : decode prog_8_method_5_code 42 = .ok (.goto (-37), 3) := by decide +kernel
theorem d_T_valueAt_0 : decode prog_8_method_5_code 0 = .ok (.iload_n 2, 1) := by decide +kernel
theorem d_T_valueAt_1 : decode prog_8_method_5_code 1 = .ok (.istore_n 3, 1) := by decide +kernel
theorem d_T_valueAt_2 : decode prog_8_method_5_code 2 = .ok (.iconst 0, 1) := by decide +kernel
theorem d_T_valueAt_3 : decode prog_8_method_5_code 3 = .ok (.istore 4, 2) := by decide +kernel
/-! ===== the component: Table.sum, Table.valueAt ===== -/
/-- box k is a table of class Table that has been found sound, its rows w bytes wide -/
def tz (y : xP) (z : mS) (k w : Int) : Prop := (-1 ≤ k ∧ k < yn y) ∧ z 27 k = 3 ∧ (0 ≤ z 26 k ∧ z 26 k < 12 ∧ wdO (z 26 k) = w) ∧ 0 ≤ z 2 k ∧ 0 ≤ z 5 k ∧ z 2 k + z 3 k ≤ 1000 ∧ z 3 k - z 5 k = 1 + w * z 17 k ∧ 0 ≤ z 17 k ∧ z 17 k ≤ 255
theorem sumI_b {f : Int → Int} (h : ∀ i, 0 ≤ f i ∧ f i < 256) : ∀ n : Nat, 0 ≤ sumI f n ∧ sumI f n ≤ 256 * n
  | 0 => by unfold sumI; omega
  | n + 1 => by have := sumI_b h n; have := h n; unfold sumI; omega
/-- Table.valueAt: from row r on, so many samples left -/
def vaO (z : mS) (k : Int) : Nat → Int → Int → Int
  | 0, r, _ => if r < z 17 k then pv z k (2 + 2 * r) else 0
  | f + 1, r, left => if r < z 17 k - 1 ∧ pv z k (1 + 2 * r) ≤ left then vaO z k f (r + 1) (left - pv z k (1 + 2 * r)) else if r < z 17 k then pv z k (2 + 2 * r) else 0
section XSUM
variable (G : gG) (l : Launch) (y : xP)
theorem c_T_cell2 (z : mS) (k row col : Int) (hb : byOk z) (ht : tz y z k 2) (hr : 0 ≤ row ∧ row < z 17 k) (hc : col = 0 ∨ col = 1) : Ct G l q_T_cell 1 0 0 [.ref (yo y k), .ref (yc y 1), vI row, vI col] (xW G y z) (fun r w => r = some (vI (pv z k (1 + 2 * row + col))) ∧ w = xW G y z) := by
  obtain ⟨h1, h2, ⟨h3, h4, h5⟩, h6, h7, h8, h9, h10, h11⟩ := ht
  have := c_T_cell G l y z k row col h1 h2 ⟨h3, h4⟩ hb (by rw [h5]; omega)
  rw [h5, show 1 + row * 2 + col = 1 + 2 * row + col by omega] at this
  exact this
theorem c_T_sum (z : mS) (k : Int) (hb : byOk z) (ht : tz y z k 2) : Ct G l q_T_sum 2 0 0 [.ref (yo y k), .ref (yc y 1)] (xW G y z) (fun r w => r = some (vI (sumI (fun r => pv z k (1 + 2 * r)) (z 17 k).toNat)) ∧ w = xW G y z) := by
  have ht' := ht
  obtain ⟨hk, h27, ⟨ho0, ho1, hw⟩, h6, h7, h8, h9, h10, h11⟩ := ht'
  have h3 : 3 ≤ z 27 k ∧ z 27 k ≤ 5 := by omega
  refine Ct.intro [some (.ref (yo y k)), some (.ref (yc y 1)), none, none] (by decide) (Nat.le_of_ble_eq_true rfl) rfl (fun sz => ?_)
  generalize hQ : (fun r w => r = some (vI (sumI (fun r => pv z k (1 + 2 * r)) (z 17 k).toNat)) ∧ w = xW G y z) = Q
  have lp : ∀ (f r : Nat), (r : Int) ≤ z 17 k → (z 17 k).toNat - r = f → WP (mth G l q_T_sum 2 0 0 (xW G y z) sz Q) 0 0 (xW G y z) 4 [some (.ref (yo y k)), some (.ref (yc y 1)), some (vI (sumI (fun r => pv z k (1 + 2 * r)) r)), some (vI r)] [] := by
    intro f
    induction f with
    | zero =>
      intro r hr hf
      refine r_iload_n d_T_sum_4 rfl ?_
      refine r_aload_n d_T_sum_5 rfl rfl ?_
      refine r_getT d_T_sum_6 ft_T_20 (k) hk h3 ?_
      refine r_icmp_ge 28 d_T_sum_9 (by decide) (by unfold i32; omega) (by unfold i32; omega) (fun h1 => ?_) (fun h1 => ?_)
      · refine r_iload_n d_T_sum_28 rfl ?_
        refine r_iret d_T_sum_29 rfl (Nat.le_of_ble_eq_true rfl) (Nat.le_of_ble_eq_true rfl) ?_
        rw [← hQ, show r = (z 17 k).toNat by omega]
        exact ⟨rfl, rfl⟩
      · omega
    | succ f ih =>
      intro r hr hf
      have hs := sumI_b (f := fun r => pv z k (1 + 2 * r)) (fun i => hb _) r
      refine r_iload_n d_T_sum_4 rfl ?_
      refine r_aload_n d_T_sum_5 rfl rfl ?_
      refine r_getT d_T_sum_6 ft_T_20 (k) hk h3 ?_
      refine r_icmp_ge 28 d_T_sum_9 (by decide) (by unfold i32; omega) (by unfold i32; omega) (fun h1 => ?_) (fun h1 => ?_)
      · omega
      · refine r_iload_n d_T_sum_12 rfl ?_
        refine r_aload_n d_T_sum_13 rfl rfl ?_
        refine r_aload_n d_T_sum_14 rfl rfl ?_
        refine r_iload_n d_T_sum_15 rfl ?_
        refine r_iconst d_T_sum_16 ?_
        refine r_cV3 d_T_sum_17 lk_T_38 (c_T_cell2 G l y z k r 0 hb ht (by omega) (Or.inl rfl)) (13 + k).toNat rfl (xw_bc hk h27) (Nat.le_of_ble_eq_true rfl) (rok rfl rfl) ⟨(Nat.le_of_ble_eq_true rfl), (Nat.le_of_ble_eq_true rfl)⟩ (fun r ws2 hq => ?_)
        obtain ⟨rfl, rfl⟩ := hq
        show WP _ _ _ _ _ _ (_ :: _)
        refine r_iadd d_T_sum_20 ?_
        refine r_istore_n d_T_sum_21 (Nat.le_of_ble_eq_true rfl) rfl ?_
        show WP _ _ _ _ _ [_, _, _, _] _
        refine r_iinc d_T_sum_22 rfl (Nat.le_of_ble_eq_true rfl) rfl ?_
        show WP _ _ _ _ _ [_, _, _, _] _
        refine r_goto 4 d_T_sum_25 (by decide) ?_
        have e : sumI (fun r => pv z k (1 + 2 * r)) r + pv z k (1 + 2 * (r : Int) + 0) = sumI (fun r => pv z k (1 + 2 * r)) (r + 1) := by
          show _ = sumI _ r + pv z k (1 + 2 * (r : Int))
          rw [show 1 + 2 * (r : Int) + 0 = 1 + 2 * (r : Int) by omega]
        rw [e]
        exact ih (r + 1) (by omega) (by omega)
  refine r_iconst d_T_sum_0 ?_
  refine r_istore_n d_T_sum_1 (Nat.le_of_ble_eq_true rfl) rfl ?_
  show WP _ _ _ _ _ [_, _, _, _] _
  refine r_iconst d_T_sum_2 ?_
  refine r_istore_n d_T_sum_3 (Nat.le_of_ble_eq_true rfl) rfl ?_
  show WP _ _ _ _ _ [_, _, _, _] _
  exact lp _ 0 h10 rfl
theorem c_T_valueAt (z : mS) (k i : Int) (hb : byOk z) (ht : tz y z k 2) (hi : 0 ≤ i ∧ i ≤ 70000) : Ct G l q_T_valueAt 2 0 0 [.ref (yo y k), .ref (yc y 1), vI i] (xW G y z) (fun r w => r = some (vI (vaO z k (z 17 k).toNat 0 i)) ∧ w = xW G y z) := by
  have ht' := ht
  obtain ⟨hk, h27, ⟨ho0, ho1, hw⟩, h6, h7, h8, h9, h10, h11⟩ := ht'
  have h3 : 3 ≤ z 27 k ∧ z 27 k ≤ 5 := by omega
  refine Ct.intro [some (.ref (yo y k)), some (.ref (yc y 1)), some (vI i), none, none] (by decide) (Nat.le_of_ble_eq_true rfl) rfl (fun sz => ?_)
  generalize hQ : (fun r w => r = some (vI (vaO z k (z 17 k).toNat 0 i)) ∧ w = xW G y z) = Q
  have fin : ∀ (r left x : Int), 0 ≤ r → r ≤ 255 → x = (if r < z 17 k then pv z k (2 + 2 * r) else 0) → x = vaO z k (z 17 k).toNat 0 i → WP (mth G l q_T_valueAt 2 0 0 (xW G y z) sz Q) 0 0 (xW G y z) 45 [some (.ref (yo y k)), some (.ref (yc y 1)), some (vI i), some (vI left), some (vI r)] [] := by
    intro r left x hr hr2 hx hx2
    refine r_iload d_T_valueAt_45 rfl ?_
    refine r_aload_n d_T_valueAt_47 rfl rfl ?_
    refine r_getT d_T_valueAt_48 ft_T_20 (k) hk h3 ?_
    refine r_icmp_ge 65 d_T_valueAt_51 (by decide) (by unfold i32; omega) (by unfold i32; omega) (fun h1 => ?_) (fun h1 => ?_)
    · refine r_iconst d_T_valueAt_65 ?_
      refine r_iret d_T_valueAt_66 rfl (Nat.le_of_ble_eq_true rfl) (Nat.le_of_ble_eq_true rfl) ?_
      rw [if_neg (by omega)] at hx
      rw [← hQ, ← hx2, hx]
      exact ⟨rfl, rfl⟩
    · refine r_aload_n d_T_valueAt_54 rfl rfl ?_
      refine r_aload_n d_T_valueAt_55 rfl rfl ?_
      refine r_iload d_T_valueAt_56 rfl ?_
      refine r_iconst d_T_valueAt_58 ?_
      refine r_cV3 d_T_valueAt_59 lk_T_38 (c_T_cell2 G l y z k r 1 hb ht (by omega) (Or.inr rfl)) (13 + k).toNat rfl (xw_bc hk h27) (Nat.le_of_ble_eq_true rfl) (rok rfl rfl) ⟨(Nat.le_of_ble_eq_true rfl), (Nat.le_of_ble_eq_true rfl)⟩ (fun r ws2 hq => ?_)
      obtain ⟨rfl, rfl⟩ := hq
      show WP _ _ _ _ _ _ (_ :: _)
      refine r_goto 66 d_T_valueAt_62 (by decide) ?_
      refine r_iret d_T_valueAt_66 rfl (Nat.le_of_ble_eq_true rfl) (Nat.le_of_ble_eq_true rfl) ?_
      rw [if_pos (by omega)] at hx
      rw [← hQ, ← hx2, hx, show 1 + 2 * r + 1 = 2 + 2 * r by omega]
      exact ⟨rfl, rfl⟩
  have lp : ∀ (f : Nat) (r left : Int), 0 ≤ r → z 17 k - r ≤ f → 0 ≤ left → left ≤ 70000 → r ≤ 255 → vaO z k f r left = vaO z k (z 17 k).toNat 0 i → WP (mth G l q_T_valueAt 2 0 0 (xW G y z) sz Q) 0 0 (xW G y z) 5 [some (.ref (yo y k)), some (.ref (yc y 1)), some (vI i), some (vI left), some (vI r)] [] := by
    intro f
    induction f with
    | zero =>
      intro r left hr hf hl hl2 hr2 he
      refine r_iload d_T_valueAt_5 rfl ?_
      refine r_aload_n d_T_valueAt_7 rfl rfl ?_
      refine r_getT d_T_valueAt_8 ft_T_20 (k) hk h3 ?_
      refine r_iconst d_T_valueAt_11 ?_
      refine r_isub d_T_valueAt_12 ?_
      refine r_icmp_ge 45 d_T_valueAt_13 (by decide) (by unfold i32; omega) (by unfold i32; omega) (fun h1 => ?_) (fun h1 => ?_)
      · exact fin r left _ hr hr2 rfl he
      · omega
    | succ f ih =>
      intro r left hr hf hl hl2 hr2 he
      have hpb := hb (z 2 k + z 5 k + (1 + 2 * r))
      have hpe : pv z k (1 + 2 * r) = z 1 (z 2 k + z 5 k + (1 + 2 * r)) := rfl
      refine r_iload d_T_valueAt_5 rfl ?_
      refine r_aload_n d_T_valueAt_7 rfl rfl ?_
      refine r_getT d_T_valueAt_8 ft_T_20 (k) hk h3 ?_
      refine r_iconst d_T_valueAt_11 ?_
      refine r_isub d_T_valueAt_12 ?_
      refine r_icmp_ge 45 d_T_valueAt_13 (by decide) (by unfold i32; omega) (by unfold i32; omega) (fun h1 => ?_) (fun h1 => ?_)
      · refine fin r left _ hr hr2 rfl ?_
        rw [← he]; exact (if_neg (c := r < z 17 k - 1 ∧ pv z k (1 + 2 * r) ≤ left) (by omega)).symm
      · refine r_iload_n d_T_valueAt_16 rfl ?_
        refine r_aload_n d_T_valueAt_17 rfl rfl ?_
        refine r_aload_n d_T_valueAt_18 rfl rfl ?_
        refine r_iload d_T_valueAt_19 rfl ?_
        refine r_iconst d_T_valueAt_21 ?_
        refine r_cV3 d_T_valueAt_22 lk_T_38 (c_T_cell2 G l y z k r 0 hb ht (by omega) (Or.inl rfl)) (13 + k).toNat rfl (xw_bc hk h27) (Nat.le_of_ble_eq_true rfl) (rok rfl rfl) ⟨(Nat.le_of_ble_eq_true rfl), (Nat.le_of_ble_eq_true rfl)⟩ (fun r ws2 hq => ?_)
        obtain ⟨rfl, rfl⟩ := hq
        show WP _ _ _ _ _ _ (_ :: _)
        rw [show 1 + 2 * r + 0 = 1 + 2 * r by omega]
        refine r_icmp_lt 45 d_T_valueAt_25 (by decide) (by unfold i32; omega) (by unfold i32; omega) (fun h2 => ?_) (fun h2 => ?_)
        · refine fin r left _ hr hr2 rfl ?_
          rw [← he]; exact (if_neg (c := r < z 17 k - 1 ∧ pv z k (1 + 2 * r) ≤ left) (by omega)).symm
        · refine r_iload_n d_T_valueAt_28 rfl ?_
          refine r_aload_n d_T_valueAt_29 rfl rfl ?_
          refine r_aload_n d_T_valueAt_30 rfl rfl ?_
          refine r_iload d_T_valueAt_31 rfl ?_
          refine r_iinc d_T_valueAt_33 rfl (Nat.le_of_ble_eq_true rfl) rfl ?_
          show WP _ _ _ _ _ [_, _, _, _, _] _
          refine r_iconst d_T_valueAt_36 ?_
          refine r_cV3 d_T_valueAt_37 lk_T_38 (c_T_cell2 G l y z k r 0 hb ht (by omega) (Or.inl rfl)) (13 + k).toNat rfl (xw_bc hk h27) (Nat.le_of_ble_eq_true rfl) (rok rfl rfl) ⟨(Nat.le_of_ble_eq_true rfl), (Nat.le_of_ble_eq_true rfl)⟩ (fun r ws2 hq => ?_)
          obtain ⟨rfl, rfl⟩ := hq
          show WP _ _ _ _ _ _ (_ :: _)
          rw [show 1 + 2 * r + 0 = 1 + 2 * r by omega]
          refine r_isub d_T_valueAt_40 ?_
          refine r_istore_n d_T_valueAt_41 (Nat.le_of_ble_eq_true rfl) rfl ?_
          show WP _ _ _ _ _ [_, _, _, _, _] _
          refine r_goto 5 d_T_valueAt_42 (by decide) ?_
          refine ih (r + 1) _ (by omega) (by omega) (by omega) (by omega) (by omega) ?_
          rw [← he]
          conv => rhs; unfold vaO
          rw [if_pos (by omega)]
  refine r_iload_n d_T_valueAt_0 rfl ?_
  refine r_istore_n d_T_valueAt_1 (Nat.le_of_ble_eq_true rfl) rfl ?_
  show WP _ _ _ _ _ [_, _, _, _, _] _
  refine r_iconst d_T_valueAt_2 ?_
  refine r_istore d_T_valueAt_3 (Nat.le_of_ble_eq_true rfl) rfl ?_
  show WP _ _ _ _ _ [_, _, _, _, _] _
  exact lp _ 0 i (by omega) (by omega) hi.1 hi.2 (by omega) rfl
end XSUM
