abbrev q_M_append : Mi := (⟨"MovieBoxesModel", "append", "(JI)I"⟩, prog_12_method_2_code, 5, (some .int))
theorem d_M_append_11 : decode prog_12_method_2_code 11 = .ok (.iconst (-1), 1) := by decide +kernel
theorem d_M_append_12 : decode prog_12_method_2_code 12 = .ok (.ireturn, 1) := by decide +kernel
theorem d_M_append_33 : decode prog_12_method_2_code 33 = .ok (.iload 4, 2) := by decide +kernel
theorem d_M_append_35 : decode prog_12_method_2_code 35 = .ok (.ifCond .lt 40, 3) := by decide +kernel
theorem d_M_append_75 : decode prog_12_method_2_code 75 = .ok (.aload_n 0, 1) := by decide +kernel
theorem d_M_append_76 : decode prog_12_method_2_code 76 = .ok (.getfield 58, 3) := by decide +kernel
theorem d_M_append_79 : decode prog_12_method_2_code 79 = .ok (.ireturn, 1) := by decide +kernel
theorem d_M_append_38 : decode prog_12_method_2_code 38 = .ok (.aload_n 0, 1) := by decide +kernel
theorem d_M_append_39 : decode prog_12_method_2_code 39 = .ok (.getfield 7, 3) := by decide +kernel
theorem d_M_append_42 : decode prog_12_method_2_code 42 = .ok (.aload_n 0, 1) := by decide +kernel
theorem d_M_append_43 : decode prog_12_method_2_code 43 = .ok (.getfield 58, 3) := by decide +kernel
theorem d_M_append_46 : decode prog_12_method_2_code 46 = .ok (.lload_n 1, 1) := by decide +kernel
theorem d_M_append_47 : decode prog_12_method_2_code 47 = .ok (.bipush 8, 2) := by decide +kernel
theorem d_M_append_49 : decode prog_12_method_2_code 49 = .ok (.iload 4, 2) := by decide +kernel
theorem d_M_append_51 : decode prog_12_method_2_code 51 = .ok (.imul, 1) := by decide +kernel
theorem d_M_append_52 : decode prog_12_method_2_code 52 = .ok (.lshr, 1) := by decide +kernel
theorem d_M_append_53 : decode prog_12_method_2_code 53 = .ok (.ldc2_w 62, 3) := by decide +kernel
set_option maxRecDepth 20000 in
theorem w_780 : Cond.constantLong "MovieBoxesModel" 62 (255 : Int64) ∈ gt := gt_of (in_t4 (List.mem_of_getElem? (i := 60) rfl)) rfl
theorem d_M_append_56 : decode prog_12_method_2_code 56 = .ok (.land, 1) := by decide +kernel
theorem d_M_append_57 : decode prog_12_method_2_code 57 = .ok (.l2i, 1) := by decide +kernel
theorem d_M_append_58 : decode prog_12_method_2_code 58 = .ok (.iastore, 1) := by decide +kernel
theorem d_M_append_59 : decode prog_12_method_2_code 59 = .ok (.aload_n 0, 1) := by decide +kernel
theorem d_M_append_60 : decode prog_12_method_2_code 60 = .ok (.dup, 1) := by decide +kernel
theorem d_M_append_61 : decode prog_12_method_2_code 61 = .ok (.getfield 58, 3) := by decide +kernel
theorem d_M_append_64 : decode prog_12_method_2_code 64 = .ok (.iconst 1, 1) := by decide +kernel
theorem d_M_append_65 : decode prog_12_method_2_code 65 = .ok (.iadd, 1) := by decide +kernel
theorem d_M_append_66 : decode prog_12_method_2_code 66 = .ok (.putfield 58, 3) := by decide +kernel
theorem d_M_append_69 : decode prog_12_method_2_code 69 = .ok (.iinc 4 (-1), 3) := by decide +kernel
theorem d_M_append_72 : decode prog_12_method_2_code 72 = .ok (.goto (-39), 3) := by decide +kernel
theorem d_M_append_0 : decode prog_12_method_2_code 0 = .ok (.iload_n 3, 1) := by decide +kernel
theorem d_M_append_1 : decode prog_12_method_2_code 1 = .ok (.iconst 1, 1) := by decide +kernel
theorem d_M_append_2 : decode prog_12_method_2_code 2 = .ok (.if_icmp .lt 9, 3) := by decide +kernel
theorem d_M_append_5 : decode prog_12_method_2_code 5 = .ok (.iload_n 3, 1) := by decide +kernel
theorem d_M_append_6 : decode prog_12_method_2_code 6 = .ok (.bipush 8, 2) := by decide +kernel
theorem d_M_append_8 : decode prog_12_method_2_code 8 = .ok (.if_icmp .le 5, 3) := by decide +kernel
theorem d_M_append_13 : decode prog_12_method_2_code 13 = .ok (.aload_n 0, 1) := by decide +kernel
theorem d_M_append_14 : decode prog_12_method_2_code 14 = .ok (.getfield 58, 3) := by decide +kernel
theorem d_M_append_17 : decode prog_12_method_2_code 17 = .ok (.iload_n 3, 1) := by decide +kernel
theorem d_M_append_18 : decode prog_12_method_2_code 18 = .ok (.iadd, 1) := by decide +kernel
theorem d_M_append_19 : decode prog_12_method_2_code 19 = .ok (.sipush 1000, 3) := by decide +kernel
theorem d_M_append_22 : decode prog_12_method_2_code 22 = .ok (.if_icmp .le 6, 3) := by decide +kernel
theorem d_M_append_28 : decode prog_12_method_2_code 28 = .ok (.iload_n 3, 1) := by decide +kernel
theorem d_M_append_29 : decode prog_12_method_2_code 29 = .ok (.iconst 1, 1) := by decide +kernel
theorem d_M_append_30 : decode prog_12_method_2_code 30 = .ok (.isub, 1) := by decide +kernel
theorem d_M_append_31 : decode prog_12_method_2_code 31 = .ok (.istore 4, 2) := by decide +kernel
theorem d_M_append_25 : decode prog_12_method_2_code 25 = .ok (.bipush (-2), 2) := by decide +kernel
theorem d_M_append_27 : decode prog_12_method_2_code 27 = .ok (.ireturn, 1) := by decide +kernel
abbrev q_M_kindOf : Mi := (⟨"MovieBoxesModel", "kindOf", "(I)I"⟩, prog_12_method_12_code, 1, (some .int))
theorem d_M_kindOf_0 : decode prog_12_method_12_code 0 = .ok (.iload_n 0, 1) := by decide +kernel
theorem d_M_kindOf_1 : decode prog_12_method_12_code 1 = .ok (.lookupswitch 93 #[(79, 85), (99, 77), (101, 90), (107, 79), (111, 83), (115, 75), (121, 87), (122, 81)], 75) := by decide +kernel
theorem d_M_kindOf_76 : decode prog_12_method_12_code 76 = .ok (.iconst 0, 1) := by decide +kernel
theorem d_M_kindOf_77 : decode prog_12_method_12_code 77 = .ok (.ireturn, 1) := by decide +kernel
theorem d_M_kindOf_78 : decode prog_12_method_12_code 78 = .ok (.iconst 1, 1) := by decide +kernel
theorem d_M_kindOf_79 : decode prog_12_method_12_code 79 = .ok (.ireturn, 1) := by decide +kernel
theorem d_M_kindOf_80 : decode prog_12_method_12_code 80 = .ok (.iconst 2, 1) := by decide +kernel
theorem d_M_kindOf_81 : decode prog_12_method_12_code 81 = .ok (.ireturn, 1) := by decide +kernel
theorem d_M_kindOf_82 : decode prog_12_method_12_code 82 = .ok (.iconst 3, 1) := by decide +kernel
theorem d_M_kindOf_83 : decode prog_12_method_12_code 83 = .ok (.ireturn, 1) := by decide +kernel
theorem d_M_kindOf_84 : decode prog_12_method_12_code 84 = .ok (.iconst 4, 1) := by decide +kernel
theorem d_M_kindOf_85 : decode prog_12_method_12_code 85 = .ok (.ireturn, 1) := by decide +kernel
theorem d_M_kindOf_86 : decode prog_12_method_12_code 86 = .ok (.iconst 5, 1) := by decide +kernel
theorem d_M_kindOf_87 : decode prog_12_method_12_code 87 = .ok (.ireturn, 1) := by decide +kernel
theorem d_M_kindOf_88 : decode prog_12_method_12_code 88 = .ok (.bipush 6, 2) := by decide +kernel
theorem d_M_kindOf_90 : decode prog_12_method_12_code 90 = .ok (.ireturn, 1) := by decide +kernel
theorem d_M_kindOf_91 : decode prog_12_method_12_code 91 = .ok (.bipush 7, 2) := by decide +kernel
theorem d_M_kindOf_93 : decode prog_12_method_12_code 93 = .ok (.ireturn, 1) := by decide +kernel
theorem d_M_kindOf_94 : decode prog_12_method_12_code 94 = .ok (.iconst (-1), 1) := by decide +kernel
theorem d_M_kindOf_95 : decode prog_12_method_12_code 95 = .ok (.ireturn, 1) := by decide +kernel
/-! ===== the model: append, kindOf, readOne ===== -/
/-- byte k of a long -/
def by8 (v : Int64) (k : Int) : Int := ((v >>> ((zI (8 * k)).toInt64 &&& 63)) &&& 255).toInt32.toInt
def apS (v : Int64) : Nat → mS → mS
  | 0, s => s
  | m + 1, s => apS v m (sset (sset s 1 (s 0 0) (by8 v m)) 0 0 (s 0 0 + 1))
theorem wp_int {μ : Mx} {k n : Nat} {ws : va_W} {pc : Nat} {lv : List (Option Value)} {st : List Value} {v : Int32} (kk : WP μ k n ws pc lv (vI v.toInt :: st)) : WP μ k n ws pc lv (.int v :: st) := by
  rw [← zI_of v]
  exact kk
section MODEL2
variable (G : gG) (l : Launch) (ad : Nat → Nat)
theorem c_M_append (s : mS) (v : Int64) (n : Int) (hn : i32 n) (hs : 0 ≤ s 0 0 ∧ s 0 0 ≤ 1000) : Ct G l q_M_append 0 0 0 [.ref (ad 0), .long v, vI n] (mW G ad s) (fun r w => r = some (vI (if n < 1 ∨ 8 < n then -1 else if 1000 < s 0 0 + n then -2 else (apS v n.toNat s) 0 0)) ∧ w = mW G ad (if n < 1 ∨ 8 < n then s else if 1000 < s 0 0 + n then s else apS v n.toNat s)) := by
  refine Ct.intro [some (.ref (ad 0)), some (.long v), none, some (vI n), none] (by decide) (Nat.le_of_ble_eq_true rfl) rfl (fun sz => ?_)
  have bad : n < 1 ∨ 8 < n → WP (mth G l q_M_append 0 0 0 (mW G ad s) sz (fun r w => r = some (vI (if n < 1 ∨ 8 < n then -1 else if 1000 < s 0 0 + n then -2 else (apS v n.toNat s) 0 0)) ∧ w = mW G ad (if n < 1 ∨ 8 < n then s else if 1000 < s 0 0 + n then s else apS v n.toNat s))) 0 0 (mW G ad s) 11 [some (.ref (ad 0)), some (.long v), none, some (vI n), none] [] := by
    intro h
    refine r_iconst d_M_append_11 ?_
    refine r_iret d_M_append_12 rfl (Nat.le_of_ble_eq_true rfl) (Nat.le_of_ble_eq_true rfl) ?_
    exact ⟨by rw [if_pos h], by rw [if_pos h]⟩
  have loop : ∀ (m : Nat) (t : mS), ¬ (n < 1 ∨ 8 < n) → ¬ 1000 < s 0 0 + n → m ≤ 8 → 0 ≤ t 0 0 → t 0 0 + m ≤ 1000 → apS v m t = apS v n.toNat s → WP (mth G l q_M_append 0 0 0 (mW G ad s) sz (fun r w => r = some (vI (if n < 1 ∨ 8 < n then -1 else if 1000 < s 0 0 + n then -2 else (apS v n.toNat s) 0 0)) ∧ w = mW G ad (if n < 1 ∨ 8 < n then s else if 1000 < s 0 0 + n then s else apS v n.toNat s))) 0 0 (mW G ad t) 33 [some (.ref (ad 0)), some (.long v), none, some (vI n), some (vI ((m : Int) - 1))] [] := by
    intro m
    induction m with
    | zero =>
      intro t g1 g2 h0 h1 h2 h3
      refine r_iload d_M_append_33 rfl ?_
      refine r_if_lt 75 d_M_append_35 (by decide) (by unfold i32; omega) (fun h4 => ?_) (fun h4 => ?_)
      · refine r_aload_n d_M_append_75 rfl rfl ?_
        refine r_get d_M_append_76 fl_M_58_7 0 rfl rfl ?_
        refine r_iret d_M_append_79 rfl (Nat.le_of_ble_eq_true rfl) (Nat.le_of_ble_eq_true rfl) ?_
        refine ⟨?_, ?_⟩
        · rw [if_neg g1, if_neg g2, ← h3]; rfl
        · rw [if_neg g1, if_neg g2, ← h3]; rfl
      · exact absurd h4 (by omega)
    | succ m ih =>
      intro t g1 g2 h0 h1 h2 h3
      have e : ((m + 1 : Nat) : Int) - 1 = (m : Int) := by omega
      rw [e]
      refine r_iload d_M_append_33 rfl ?_
      refine r_if_lt 75 d_M_append_35 (by decide) (by unfold i32; omega) (fun h4 => ?_) (fun h4 => ?_)
      · exact absurd h4 (by omega)
      · refine r_aload_n d_M_append_38 rfl rfl ?_
        refine r_get d_M_append_39 fl_M_7_7 0 rfl rfl ?_
        refine r_aload_n d_M_append_42 rfl rfl ?_
        refine r_get d_M_append_43 fl_M_58_7 0 rfl rfl ?_
        refine r_lload_n d_M_append_46 rfl ?_
        refine r_bipush d_M_append_47 (by decide) ?_
        refine r_iload d_M_append_49 rfl ?_
        refine r_imul d_M_append_51 ?_
        refine r_lshr d_M_append_52 ?_
        refine r_ldc2 d_M_append_53 w_780 ?_
        refine r_land d_M_append_56 ?_
        refine r_l2i d_M_append_57 ?_
        refine wp_int ?_
        refine r_iast _ d_M_append_58 1 rfl (by omega) mw_1 ?_
        refine r_aload_n d_M_append_59 rfl rfl ?_
        refine r_dup d_M_append_60 rfl ?_
        refine r_get d_M_append_61 fl_M_58_7 0 rfl rfl ?_
        simp only [sset_at, updI_at, reduceIte, Nat.reduceEqDiff, Int.reduceEq]
        refine r_iconst d_M_append_64 ?_
        refine r_iadd d_M_append_65 ?_
        refine r_put _ d_M_append_66 fl_M_58_7 0 rfl rfl rfl (Nat.le_of_ble_eq_true rfl) mwp_size ?_
        refine r_iinc d_M_append_69 rfl (Nat.le_of_ble_eq_true rfl) rfl ?_
        show WP _ _ _ _ _ [_, _, _, _, _] _
        refine r_goto 33 d_M_append_72 (by decide) ?_
        refine ih (sset (sset t 1 (t 0 0) (by8 v m)) 0 0 (t 0 0 + 1)) g1 g2 (by omega) ?_ ?_ h3
        · simp only [sset_at, updI_at, reduceIte]; omega
        · simp only [sset_at, updI_at, reduceIte]; omega
  refine r_iload_n d_M_append_0 rfl ?_
  refine r_iconst d_M_append_1 ?_
  refine r_icmp_lt 11 d_M_append_2 (by decide) hn (by unfold i32; omega) (fun h1 => ?_) (fun h1 => ?_)
  · exact bad (by omega)
  · refine r_iload_n d_M_append_5 rfl ?_
    refine r_bipush d_M_append_6 (by decide) ?_
    refine r_icmp_le 13 d_M_append_8 (by decide) hn (by unfold i32; omega) (fun h2 => ?_) (fun h2 => ?_)
    · refine r_aload_n d_M_append_13 rfl rfl ?_
      refine r_get d_M_append_14 fl_M_58_7 0 rfl rfl ?_
      refine r_iload_n d_M_append_17 rfl ?_
      refine r_iadd d_M_append_18 ?_
      refine r_sipush d_M_append_19 (by decide) ?_
      refine r_icmp_le 28 d_M_append_22 (by decide) (by unfold i32; omega) (by unfold i32; omega) (fun h3 => ?_) (fun h3 => ?_)
      · refine r_iload_n d_M_append_28 rfl ?_
        refine r_iconst d_M_append_29 ?_
        refine r_isub d_M_append_30 ?_
        refine r_istore d_M_append_31 (Nat.le_of_ble_eq_true rfl) rfl ?_
        show WP _ _ _ _ _ [_, _, _, _, _] _
        have e : n - 1 = ((n.toNat : Nat) : Int) - 1 := by omega
        rw [e]
        exact loop n.toNat s (by omega) (by omega) (by omega) hs.1 (by omega) rfl
      · refine r_bipush d_M_append_25 (by decide) ?_
        refine r_iret d_M_append_27 rfl (Nat.le_of_ble_eq_true rfl) (Nat.le_of_ble_eq_true rfl) ?_
        exact ⟨by rw [if_neg (by omega), if_pos (by omega)], by rw [if_neg (by omega), if_pos (by omega)]⟩
    · exact bad (by omega)
/-- the kind of a table by its type -/
def kdO (t : Int) : Int := if t = 115 then 0 else if t = 99 then 1 else if t = 107 then 2 else if t = 122 then 3 else if t = 111 then 4 else if t = 79 then 5 else if t = 121 then 6 else if t = 101 then 7 else -1
theorem c_M_kindOf (ws : va_W) (t : Int) (ht : i32 t) : Ct G l q_M_kindOf 0 0 0 [vI t] ws (fun r w => r = some (vI (kdO t)) ∧ w = ws) := by
  refine Ct.intro [some (vI t)] (by decide) (Nat.le_of_ble_eq_true rfl) rfl (fun sz => ?_)
  refine r_iload_n d_M_kindOf_0 rfl ?_
  by_cases h1 : t = 115
  · subst h1
    refine r_lookup 76 d_M_kindOf_1 ht rfl rfl (by decide) ?_
    refine r_iconst d_M_kindOf_76 ?_
    refine r_iret d_M_kindOf_77 rfl (Nat.le_of_ble_eq_true rfl) (Nat.le_of_ble_eq_true rfl) ?_
    exact ⟨rfl, rfl⟩
  by_cases h2 : t = 99
  · subst h2
    refine r_lookup 78 d_M_kindOf_1 ht rfl rfl (by decide) ?_
    refine r_iconst d_M_kindOf_78 ?_
    refine r_iret d_M_kindOf_79 rfl (Nat.le_of_ble_eq_true rfl) (Nat.le_of_ble_eq_true rfl) ?_
    exact ⟨rfl, rfl⟩
  by_cases h3 : t = 107
  · subst h3
    refine r_lookup 80 d_M_kindOf_1 ht rfl rfl (by decide) ?_
    refine r_iconst d_M_kindOf_80 ?_
    refine r_iret d_M_kindOf_81 rfl (Nat.le_of_ble_eq_true rfl) (Nat.le_of_ble_eq_true rfl) ?_
    exact ⟨rfl, rfl⟩
  by_cases h4 : t = 122
  · subst h4
    refine r_lookup 82 d_M_kindOf_1 ht rfl rfl (by decide) ?_
    refine r_iconst d_M_kindOf_82 ?_
    refine r_iret d_M_kindOf_83 rfl (Nat.le_of_ble_eq_true rfl) (Nat.le_of_ble_eq_true rfl) ?_
    exact ⟨rfl, rfl⟩
  by_cases h5 : t = 111
  · subst h5
    refine r_lookup 84 d_M_kindOf_1 ht rfl rfl (by decide) ?_
    refine r_iconst d_M_kindOf_84 ?_
    refine r_iret d_M_kindOf_85 rfl (Nat.le_of_ble_eq_true rfl) (Nat.le_of_ble_eq_true rfl) ?_
    exact ⟨rfl, rfl⟩
  by_cases h6 : t = 79
  · subst h6
    refine r_lookup 86 d_M_kindOf_1 ht rfl rfl (by decide) ?_
    refine r_iconst d_M_kindOf_86 ?_
    refine r_iret d_M_kindOf_87 rfl (Nat.le_of_ble_eq_true rfl) (Nat.le_of_ble_eq_true rfl) ?_
    exact ⟨rfl, rfl⟩
  by_cases h7 : t = 121
  · subst h7
    refine r_lookup 88 d_M_kindOf_1 ht rfl rfl (by decide) ?_
    refine r_bipush d_M_kindOf_88 (by decide) ?_
    refine r_iret d_M_kindOf_90 rfl (Nat.le_of_ble_eq_true rfl) (Nat.le_of_ble_eq_true rfl) ?_
    exact ⟨rfl, rfl⟩
  by_cases h8 : t = 101
  · subst h8
    refine r_lookup 91 d_M_kindOf_1 ht rfl rfl (by decide) ?_
    refine r_bipush d_M_kindOf_91 (by decide) ?_
    refine r_iret d_M_kindOf_93 rfl (Nat.le_of_ble_eq_true rfl) (Nat.le_of_ble_eq_true rfl) ?_
    exact ⟨rfl, rfl⟩
  refine r_lookup (off := 93) 94 d_M_kindOf_1 ht rfl ?_ (by decide) ?_
  · simp [Op.lookupswitch.offset, List.find?, h1, h2, h3, h4, h5, h6, h7, h8]
    repeat rw [if_neg (by omega)]
  refine r_iconst d_M_kindOf_94 ?_
  refine r_iret d_M_kindOf_95 rfl (Nat.le_of_ble_eq_true rfl) (Nat.le_of_ble_eq_true rfl) ?_
  exact ⟨by unfold kdO; simp only [h1, h2, h3, h4, h5, h6, h7, h8, if_false], rfl⟩
end MODEL2
