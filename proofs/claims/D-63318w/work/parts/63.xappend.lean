abbrev q_X_append : Mi := (⟨"MovieBoxes", "append", "(JI)I"⟩, prog_1_method_2_code, 5, (some .int))
theorem d_X_append_11 : decode prog_1_method_2_code 11 = .ok (.iconst (-1), 1) := by decide +kernel
theorem d_X_append_12 : decode prog_1_method_2_code 12 = .ok (.ireturn, 1) := by decide +kernel
theorem d_X_append_33 : decode prog_1_method_2_code 33 = .ok (.iload 4, 2) := by decide +kernel
theorem d_X_append_35 : decode prog_1_method_2_code 35 = .ok (.ifCond .lt 34, 3) := by decide +kernel
theorem d_X_append_69 : decode prog_1_method_2_code 69 = .ok (.aload_n 0, 1) := by decide +kernel
theorem d_X_append_70 : decode prog_1_method_2_code 70 = .ok (.iconst 0, 1) := by decide +kernel
theorem d_X_append_71 : decode prog_1_method_2_code 71 = .ok (.putfield 54, 3) := by decide +kernel
theorem d_X_append_74 : decode prog_1_method_2_code 74 = .ok (.aload_n 0, 1) := by decide +kernel
theorem d_X_append_75 : decode prog_1_method_2_code 75 = .ok (.getfield 50, 3) := by decide +kernel
theorem d_X_append_78 : decode prog_1_method_2_code 78 = .ok (.ireturn, 1) := by decide +kernel
theorem d_X_append_38 : decode prog_1_method_2_code 38 = .ok (.aload_n 0, 1) := by decide +kernel
theorem d_X_append_39 : decode prog_1_method_2_code 39 = .ok (.getfield 7, 3) := by decide +kernel
theorem d_X_append_42 : decode prog_1_method_2_code 42 = .ok (.aload_n 0, 1) := by decide +kernel
theorem d_X_append_43 : decode prog_1_method_2_code 43 = .ok (.dup, 1) := by decide +kernel
theorem d_X_append_44 : decode prog_1_method_2_code 44 = .ok (.getfield 50, 3) := by decide +kernel
theorem d_X_append_47 : decode prog_1_method_2_code 47 = .ok (.dup_x1, 1) := by decide +kernel
theorem d_X_append_48 : decode prog_1_method_2_code 48 = .ok (.iconst 1, 1) := by decide +kernel
theorem d_X_append_49 : decode prog_1_method_2_code 49 = .ok (.iadd, 1) := by decide +kernel
theorem d_X_append_50 : decode prog_1_method_2_code 50 = .ok (.putfield 50, 3) := by decide +kernel
theorem d_X_append_53 : decode prog_1_method_2_code 53 = .ok (.lload_n 1, 1) := by decide +kernel
theorem d_X_append_54 : decode prog_1_method_2_code 54 = .ok (.bipush 8, 2) := by decide +kernel
theorem d_X_append_56 : decode prog_1_method_2_code 56 = .ok (.iload 4, 2) := by decide +kernel
theorem d_X_append_58 : decode prog_1_method_2_code 58 = .ok (.imul, 1) := by decide +kernel
theorem d_X_append_59 : decode prog_1_method_2_code 59 = .ok (.lushr, 1) := by decide +kernel
theorem d_X_append_60 : decode prog_1_method_2_code 60 = .ok (.l2i, 1) := by decide +kernel
theorem d_X_append_61 : decode prog_1_method_2_code 61 = .ok (.i2b, 1) := by decide +kernel
theorem d_X_append_62 : decode prog_1_method_2_code 62 = .ok (.bastore, 1) := by decide +kernel
theorem d_X_append_63 : decode prog_1_method_2_code 63 = .ok (.iinc 4 (-1), 3) := by decide +kernel
theorem d_X_append_66 : decode prog_1_method_2_code 66 = .ok (.goto (-33), 3) := by decide +kernel
theorem d_X_append_0 : decode prog_1_method_2_code 0 = .ok (.iload_n 3, 1) := by decide +kernel
theorem d_X_append_1 : decode prog_1_method_2_code 1 = .ok (.iconst 1, 1) := by decide +kernel
theorem d_X_append_2 : decode prog_1_method_2_code 2 = .ok (.if_icmp .lt 9, 3) := by decide +kernel
theorem d_X_append_5 : decode prog_1_method_2_code 5 = .ok (.iload_n 3, 1) := by decide +kernel
theorem d_X_append_6 : decode prog_1_method_2_code 6 = .ok (.bipush 8, 2) := by decide +kernel
theorem d_X_append_8 : decode prog_1_method_2_code 8 = .ok (.if_icmp .le 5, 3) := by decide +kernel
theorem d_X_append_13 : decode prog_1_method_2_code 13 = .ok (.aload_n 0, 1) := by decide +kernel
theorem d_X_append_14 : decode prog_1_method_2_code 14 = .ok (.getfield 50, 3) := by decide +kernel
theorem d_X_append_17 : decode prog_1_method_2_code 17 = .ok (.sipush 1000, 3) := by decide +kernel
theorem d_X_append_20 : decode prog_1_method_2_code 20 = .ok (.iload_n 3, 1) := by decide +kernel
theorem d_X_append_21 : decode prog_1_method_2_code 21 = .ok (.isub, 1) := by decide +kernel
theorem d_X_append_22 : decode prog_1_method_2_code 22 = .ok (.if_icmp .le 6, 3) := by decide +kernel
theorem d_X_append_28 : decode prog_1_method_2_code 28 = .ok (.iload_n 3, 1) := by decide +kernel
theorem d_X_append_29 : decode prog_1_method_2_code 29 = .ok (.iconst 1, 1) := by decide +kernel
theorem d_X_append_30 : decode prog_1_method_2_code 30 = .ok (.isub, 1) := by decide +kernel
theorem d_X_append_31 : decode prog_1_method_2_code 31 = .ok (.istore 4, 2) := by decide +kernel
theorem d_X_append_25 : decode prog_1_method_2_code 25 = .ok (.bipush (-2), 2) := by decide +kernel
theorem d_X_append_27 : decode prog_1_method_2_code 27 = .ok (.ireturn, 1) := by decide +kernel
/-! ===== the component: append ===== -/
theorem bv_255 : ∀ j : Fin 64, 8 ≤ j.val → (255#64).getLsbD j.val = false := by decide
theorem bv_lo (b : BitVec 64) (s : Nat) (hs : s ≤ 56) : b.sshiftRight s &&& 255#64 = (b >>> s) &&& 255#64 := by
  apply BitVec.eq_of_getElem_eq
  intro i hi
  rw [BitVec.getElem_and, BitVec.getElem_and]
  by_cases h : i < 8
  · rw [BitVec.getElem_sshiftRight, BitVec.getElem_ushiftRight, dif_pos (by omega), BitVec.getLsbD_eq_getElem (by omega)]
  · have : (255#64)[i] = false := by
      rw [← BitVec.getLsbD_eq_getElem]
      exact bv_255 ⟨i, hi⟩ (by simp only; omega)
    rw [this, Bool.and_false, Bool.and_false]
theorem bv_t (c : BitVec 64) : ((c &&& 255#64).setWidth 32).toInt = (c.setWidth 32).toInt % 256 := by
  have h1 : (c &&& 255#64).toNat = c.toNat % 256 := by
    rw [BitVec.toNat_and]
    exact Nat.and_two_pow_sub_one_eq_mod c.toNat 8
  have h2 : ((c &&& 255#64).setWidth 32).toNat = c.toNat % 256 := by rw [BitVec.toNat_setWidth, h1]; omega
  have h3 : (c.setWidth 32).toNat = c.toNat % 4294967296 := by rw [BitVec.toNat_setWidth]
  rw [BitVec.toInt_eq_toNat_cond, BitVec.toInt_eq_toNat_cond, h2, h3]
  split <;> split <;> omega
theorem by8_g (v w : Int64) (u : UInt64) (s : Nat) (hs : s ≤ 56) (hw : w.toBitVec.smod 64 = BitVec.ofNat 64 s) (hu : u.toBitVec % 64 = BitVec.ofNat 64 s) : ((v.toUInt64 >>> u).toInt64.toInt32).toInt % 256 = ((v >>> w) &&& 255).toInt32.toInt := by
  have e1 : ((v >>> w) &&& 255).toInt32.toBitVec = ((v.toBitVec >>> s) &&& 255#64).setWidth 32 := by
    rw [← bv_lo _ s hs]
    rw [Int64.toBitVec_toInt32, BitVec.signExtend_eq_setWidth_of_le _ (by decide)]
    show BitVec.setWidth 32 ((v >>> w).toBitVec &&& 255#64) = _
    rw [Int64.toBitVec_shiftRight, hw]
    show BitVec.setWidth 32 (v.toBitVec.sshiftRight (BitVec.ofNat 64 s).toNat &&& 255#64) = _
    rw [BitVec.toNat_ofNat, Nat.mod_eq_of_lt (by omega)]
  have e2 : (v.toUInt64 >>> u).toInt64.toInt32.toBitVec = (v.toBitVec >>> s).setWidth 32 := by
    rw [Int64.toBitVec_toInt32, BitVec.signExtend_eq_setWidth_of_le _ (by decide)]
    show BitVec.setWidth 32 (v.toUInt64 >>> u).toBitVec = _
    rw [UInt64.toBitVec_shiftRight, hu]
    show BitVec.setWidth 32 (v.toBitVec >>> (BitVec.ofNat 64 s).toNat) = _
    rw [BitVec.toNat_ofNat, Nat.mod_eq_of_lt (by omega)]
  show (v.toUInt64 >>> u).toInt64.toInt32.toBitVec.toInt % 256 = ((v >>> w) &&& 255).toInt32.toBitVec.toInt
  rw [e1, e2, bv_t]
theorem by8_u (v : Int64) (m : Nat) (hm : m < 8) : ((v.toUInt64 >>> ((zI (8 * (m : Int))).toInt64.toUInt64 &&& Int64.toUInt64 63)).toInt64.toInt32).toInt % 256 = by8 v m := by
  unfold by8
  refine by8_g v _ _ (8 * m) (by omega) ?_ ?_
  · rcases (by omega : m = 0 ∨ m = 1 ∨ m = 2 ∨ m = 3 ∨ m = 4 ∨ m = 5 ∨ m = 6 ∨ m = 7) with rfl | rfl | rfl | rfl | rfl | rfl | rfl | rfl <;> decide +kernel
  · rcases (by omega : m = 0 ∨ m = 1 ∨ m = 2 ∨ m = 3 ∨ m = 4 ∨ m = 5 ∨ m = 6 ∨ m = 7) with rfl | rfl | rfl | rfl | rfl | rfl | rfl | rfl <;> decide +kernel
section XAPP
variable (G : gG) (l : Launch) (y : xP)
theorem c_X_append (s : mS) (v : Int64) (n : Int) (hn : i32 n) (hs : 0 ≤ s 0 0 ∧ s 0 0 ≤ 1000) : Ct G l q_X_append 0 0 0 [.ref (yc y 0), .long v, vI n] (xW G y s) (fun r w => r = some (vI (if n < 1 ∨ 8 < n then -1 else if 1000 < s 0 0 + n then -2 else (apS v n.toNat s) 0 0)) ∧ w = xW G y (if n < 1 ∨ 8 < n then s else if 1000 < s 0 0 + n then s else sset (apS v n.toNat s) 0 5 0)) := by
  refine Ct.intro [some (.ref (yc y 0)), some (.long v), none, some (vI n), none] (by decide) (Nat.le_of_ble_eq_true rfl) rfl (fun sz => ?_)
  have bad : n < 1 ∨ 8 < n → WP (mth G l q_X_append 0 0 0 (xW G y s) sz (fun r w => r = some (vI (if n < 1 ∨ 8 < n then -1 else if 1000 < s 0 0 + n then -2 else (apS v n.toNat s) 0 0)) ∧ w = xW G y (if n < 1 ∨ 8 < n then s else if 1000 < s 0 0 + n then s else sset (apS v n.toNat s) 0 5 0))) 0 0 (xW G y s) 11 [some (.ref (yc y 0)), some (.long v), none, some (vI n), none] [] := by
    intro h
    refine r_iconst d_X_append_11 ?_
    refine r_iret d_X_append_12 rfl (Nat.le_of_ble_eq_true rfl) (Nat.le_of_ble_eq_true rfl) ?_
    exact ⟨by rw [if_pos h], by rw [if_pos h]⟩
  have loop : ∀ (m : Nat) (t : mS), ¬ (n < 1 ∨ 8 < n) → ¬ 1000 < s 0 0 + n → m ≤ 8 → 0 ≤ t 0 0 → t 0 0 + m ≤ 1000 → apS v m t = apS v n.toNat s → WP (mth G l q_X_append 0 0 0 (xW G y s) sz (fun r w => r = some (vI (if n < 1 ∨ 8 < n then -1 else if 1000 < s 0 0 + n then -2 else (apS v n.toNat s) 0 0)) ∧ w = xW G y (if n < 1 ∨ 8 < n then s else if 1000 < s 0 0 + n then s else sset (apS v n.toNat s) 0 5 0))) 0 0 (xW G y t) 33 [some (.ref (yc y 0)), some (.long v), none, some (vI n), some (vI ((m : Int) - 1))] [] := by
    intro m
    induction m with
    | zero =>
      intro t g1 g2 h0 h1 h2 h3
      refine r_iload d_X_append_33 rfl ?_
      refine r_if_lt 69 d_X_append_35 (by decide) (by unfold i32; omega) (fun h4 => ?_) (fun h4 => ?_)
      · refine r_aload_n d_X_append_69 rfl rfl ?_
        refine r_iconst d_X_append_70 ?_
        refine r_put _ d_X_append_71 fl_X_54_0 0 rfl rfl rfl (Nat.le_of_ble_eq_true rfl) xwp_fresh ?_
        refine r_aload_n d_X_append_74 rfl rfl ?_
        refine r_get d_X_append_75 fl_X_50_0 0 rfl rfl ?_
        refine r_iret d_X_append_78 rfl (Nat.le_of_ble_eq_true rfl) (Nat.le_of_ble_eq_true rfl) ?_
        refine ⟨?_, ?_⟩
        · rw [if_neg g1, if_neg g2, ← h3]; rfl
        · rw [if_neg g1, if_neg g2, ← h3]; rfl
      · exact absurd h4 (by omega)
    | succ m ih =>
      intro t g1 g2 h0 h1 h2 h3
      have e : ((m + 1 : Nat) : Int) - 1 = (m : Int) := by omega
      rw [e]
      refine r_iload d_X_append_33 rfl ?_
      refine r_if_lt 69 d_X_append_35 (by decide) (by unfold i32; omega) (fun h4 => ?_) (fun h4 => ?_)
      · exact absurd h4 (by omega)
      · refine r_aload_n d_X_append_38 rfl rfl ?_
        refine r_get d_X_append_39 fl_X_7_0 0 rfl rfl ?_
        refine r_aload_n d_X_append_42 rfl rfl ?_
        refine r_dup d_X_append_43 rfl ?_
        refine r_get d_X_append_44 fl_X_50_0 0 rfl rfl ?_
        refine r_dup_x1 d_X_append_47 rfl rfl ?_
        refine r_iconst d_X_append_48 ?_
        refine r_iadd d_X_append_49 ?_
        refine r_put _ d_X_append_50 fl_X_50_0 0 rfl rfl rfl (Nat.le_of_ble_eq_true rfl) xwp_length ?_
        refine r_lload_n d_X_append_53 rfl ?_
        refine r_bipush d_X_append_54 (by decide) ?_
        refine r_iload d_X_append_56 rfl ?_
        refine r_imul d_X_append_58 ?_
        refine r_lushr d_X_append_59 ?_
        refine r_l2i d_X_append_60 ?_
        refine wp_int ?_
        refine r_i2b d_X_append_61 ?_
        refine r_bast _ d_X_append_62 1 rfl (by omega) xw_1 ?_
        rw [by8_u v m (by omega)]
        refine r_iinc d_X_append_63 rfl (Nat.le_of_ble_eq_true rfl) rfl ?_
        show WP _ _ _ _ _ [_, _, _, _, _] _
        refine r_goto 33 d_X_append_66 (by decide) ?_
        refine ih (sset (sset t 1 (t 0 0) (by8 v m)) 0 0 (t 0 0 + 1)) g1 g2 (by omega) ?_ ?_ h3
        · simp only [sset_at, updI_at, reduceIte]; omega
        · simp only [sset_at, updI_at, reduceIte]; omega
  refine r_iload_n d_X_append_0 rfl ?_
  refine r_iconst d_X_append_1 ?_
  refine r_icmp_lt 11 d_X_append_2 (by decide) hn (by unfold i32; omega) (fun h1 => ?_) (fun h1 => ?_)
  · exact bad (by omega)
  · refine r_iload_n d_X_append_5 rfl ?_
    refine r_bipush d_X_append_6 (by decide) ?_
    refine r_icmp_le 13 d_X_append_8 (by decide) hn (by unfold i32; omega) (fun h2 => ?_) (fun h2 => ?_)
    · refine r_aload_n d_X_append_13 rfl rfl ?_
      refine r_get d_X_append_14 fl_X_50_0 0 rfl rfl ?_
      refine r_sipush d_X_append_17 (by decide) ?_
      refine r_iload_n d_X_append_20 rfl ?_
      refine r_isub d_X_append_21 ?_
      refine r_icmp_le 28 d_X_append_22 (by decide) (by unfold i32; omega) (by unfold i32; omega) (fun h3 => ?_) (fun h3 => ?_)
      · refine r_iload_n d_X_append_28 rfl ?_
        refine r_iconst d_X_append_29 ?_
        refine r_isub d_X_append_30 ?_
        refine r_istore d_X_append_31 (Nat.le_of_ble_eq_true rfl) rfl ?_
        show WP _ _ _ _ _ [_, _, _, _, _] _
        have e : n - 1 = ((n.toNat : Nat) : Int) - 1 := by omega
        rw [e]
        exact loop n.toNat s (by omega) (by omega) (by omega) hs.1 (by omega) rfl
      · refine r_bipush d_X_append_25 (by decide) ?_
        refine r_iret d_X_append_27 rfl (Nat.le_of_ble_eq_true rfl) (Nat.le_of_ble_eq_true rfl) ?_
        exact ⟨by rw [if_neg (by omega), if_pos (by omega)], by rw [if_neg (by omega), if_pos (by omega)]⟩
    · exact bad (by omega)
end XAPP
