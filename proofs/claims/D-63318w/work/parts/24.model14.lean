abbrev q_M_boxes : Mi := (⟨"MovieBoxesModel", "boxes", "()I"⟩, prog_12_method_27_code, 2, (some .int))
theorem d_M_boxes_0 : decode prog_12_method_27_code 0 = .ok (.aload_n 0, 1) := by decide +kernel
theorem d_M_boxes_1 : decode prog_12_method_27_code 1 = .ok (.invokevirtual 75, 3) := by decide +kernel
theorem d_M_boxes_4 : decode prog_12_method_27_code 4 = .ok (.istore_n 1, 1) := by decide +kernel
theorem d_M_boxes_5 : decode prog_12_method_27_code 5 = .ok (.iload_n 1, 1) := by decide +kernel
theorem d_M_boxes_6 : decode prog_12_method_27_code 6 = .ok (.ifCond .le 9, 3) := by decide +kernel
theorem d_M_boxes_15 : decode prog_12_method_27_code 15 = .ok (.aload_n 0, 1) := by decide +kernel
theorem d_M_boxes_16 : decode prog_12_method_27_code 16 = .ok (.getfield 64, 3) := by decide +kernel
theorem d_M_boxes_19 : decode prog_12_method_27_code 19 = .ok (.ireturn, 1) := by decide +kernel
theorem d_M_boxes_9 : decode prog_12_method_27_code 9 = .ok (.sipush (-1000), 3) := by decide +kernel
theorem d_M_boxes_12 : decode prog_12_method_27_code 12 = .ok (.goto 7, 3) := by decide +kernel
abbrev q_M_box : Mi := (⟨"MovieBoxesModel", "box", "(II)I"⟩, prog_12_method_28_code, 4, (some .int))
theorem d_M_box_0 : decode prog_12_method_28_code 0 = .ok (.aload_n 0, 1) := by decide +kernel
theorem d_M_box_1 : decode prog_12_method_28_code 1 = .ok (.invokevirtual 75, 3) := by decide +kernel
theorem d_M_box_21 : decode prog_12_method_28_code 21 = .ok (.sipush (-1000), 3) := by decide +kernel
theorem d_M_box_24 : decode prog_12_method_28_code 24 = .ok (.ireturn, 1) := by decide +kernel
theorem d_M_box_4 : decode prog_12_method_28_code 4 = .ok (.istore_n 3, 1) := by decide +kernel
theorem d_M_box_5 : decode prog_12_method_28_code 5 = .ok (.iload_n 3, 1) := by decide +kernel
theorem d_M_box_6 : decode prog_12_method_28_code 6 = .ok (.ifCond .gt 15, 3) := by decide +kernel
theorem d_M_box_9 : decode prog_12_method_28_code 9 = .ok (.iload_n 1, 1) := by decide +kernel
theorem d_M_box_10 : decode prog_12_method_28_code 10 = .ok (.ifCond .lt 11, 3) := by decide +kernel
theorem d_M_box_13 : decode prog_12_method_28_code 13 = .ok (.iload_n 1, 1) := by decide +kernel
theorem d_M_box_14 : decode prog_12_method_28_code 14 = .ok (.aload_n 0, 1) := by decide +kernel
theorem d_M_box_15 : decode prog_12_method_28_code 15 = .ok (.getfield 64, 3) := by decide +kernel
theorem d_M_box_18 : decode prog_12_method_28_code 18 = .ok (.if_icmp .lt 7, 3) := by decide +kernel
theorem d_M_box_25 : decode prog_12_method_28_code 25 = .ok (.iload_n 2, 1) := by decide +kernel
theorem d_M_box_26 : decode prog_12_method_28_code 26 = .ok (.tableswitch 80 0 5 #[38, 45, 52, 59, 66, 73], 38) := by decide +kernel
theorem d_M_box_64 : decode prog_12_method_28_code 64 = .ok (.aload_n 0, 1) := by decide +kernel
theorem d_M_box_65 : decode prog_12_method_28_code 65 = .ok (.getfield 13, 3) := by decide +kernel
theorem d_M_box_68 : decode prog_12_method_28_code 68 = .ok (.iload_n 1, 1) := by decide +kernel
theorem d_M_box_69 : decode prog_12_method_28_code 69 = .ok (.iaload, 1) := by decide +kernel
theorem d_M_box_70 : decode prog_12_method_28_code 70 = .ok (.ireturn, 1) := by decide +kernel
theorem d_M_box_71 : decode prog_12_method_28_code 71 = .ok (.aload_n 0, 1) := by decide +kernel
theorem d_M_box_72 : decode prog_12_method_28_code 72 = .ok (.getfield 16, 3) := by decide +kernel
theorem d_M_box_75 : decode prog_12_method_28_code 75 = .ok (.iload_n 1, 1) := by decide +kernel
theorem d_M_box_76 : decode prog_12_method_28_code 76 = .ok (.iaload, 1) := by decide +kernel
theorem d_M_box_77 : decode prog_12_method_28_code 77 = .ok (.ireturn, 1) := by decide +kernel
theorem d_M_box_78 : decode prog_12_method_28_code 78 = .ok (.aload_n 0, 1) := by decide +kernel
theorem d_M_box_79 : decode prog_12_method_28_code 79 = .ok (.getfield 19, 3) := by decide +kernel
theorem d_M_box_82 : decode prog_12_method_28_code 82 = .ok (.iload_n 1, 1) := by decide +kernel
theorem d_M_box_83 : decode prog_12_method_28_code 83 = .ok (.iaload, 1) := by decide +kernel
theorem d_M_box_84 : decode prog_12_method_28_code 84 = .ok (.ireturn, 1) := by decide +kernel
theorem d_M_box_85 : decode prog_12_method_28_code 85 = .ok (.aload_n 0, 1) := by decide +kernel
theorem d_M_box_86 : decode prog_12_method_28_code 86 = .ok (.getfield 22, 3) := by decide +kernel
theorem d_M_box_89 : decode prog_12_method_28_code 89 = .ok (.iload_n 1, 1) := by decide +kernel
theorem d_M_box_90 : decode prog_12_method_28_code 90 = .ok (.iaload, 1) := by decide +kernel
theorem d_M_box_91 : decode prog_12_method_28_code 91 = .ok (.ireturn, 1) := by decide +kernel
theorem d_M_box_92 : decode prog_12_method_28_code 92 = .ok (.aload_n 0, 1) := by decide +kernel
theorem d_M_box_93 : decode prog_12_method_28_code 93 = .ok (.getfield 25, 3) := by decide +kernel
theorem d_M_box_96 : decode prog_12_method_28_code 96 = .ok (.iload_n 1, 1) := by decide +kernel
theorem d_M_box_97 : decode prog_12_method_28_code 97 = .ok (.iaload, 1) := by decide +kernel
theorem d_M_box_98 : decode prog_12_method_28_code 98 = .ok (.ireturn, 1) := by decide +kernel
theorem d_M_box_99 : decode prog_12_method_28_code 99 = .ok (.aload_n 0, 1) := by decide +kernel
theorem d_M_box_100 : decode prog_12_method_28_code 100 = .ok (.getfield 28, 3) := by decide +kernel
theorem d_M_box_103 : decode prog_12_method_28_code 103 = .ok (.iload_n 1, 1) := by decide +kernel
theorem d_M_box_104 : decode prog_12_method_28_code 104 = .ok (.iaload, 1) := by decide +kernel
theorem d_M_box_105 : decode prog_12_method_28_code 105 = .ok (.ireturn, 1) := by decide +kernel
theorem d_M_box_106 : decode prog_12_method_28_code 106 = .ok (.sipush (-1000), 3) := by decide +kernel
theorem d_M_box_109 : decode prog_12_method_28_code 109 = .ok (.ireturn, 1) := by decide +kernel
/-! ===== the model: the public questions ===== -/
section MODEL14
variable (G : gG) (l : Launch) (ad : Nat → Nat)
theorem c_M_boxes (s0 : mS) (hm : mI s0) : Ct G l q_M_boxes 2 0 0 [.ref (ad 0)] (mW G ad s0) (fun r w => r = some (vI (if 0 < (rdL 100 (rd0 s0) 0 0).1 then -1000 else (rdL 100 (rd0 s0) 0 0).2 0 1)) ∧ w = mW G ad (rdL 100 (rd0 s0) 0 0).2) := by
  refine Ct.intro [some (.ref (ad 0)), none] (by decide) (Nat.le_of_ble_eq_true rfl) rfl (fun sz => ?_)
  generalize hQ : (fun r w => r = some (vI (if 0 < (rdL 100 (rd0 s0) 0 0).1 then -1000 else (rdL 100 (rd0 s0) 0 0).2 0 1)) ∧ w = mW G ad (rdL 100 (rd0 s0) 0 0).2) = Q
  obtain ⟨f1, hr, ho, hk1, hk0⟩ := rd_ok s0 hm
  refine r_aload_n d_M_boxes_0 rfl rfl ?_
  refine r_cV0 d_M_boxes_1 lk_M_75 (c_M_read G l ad s0 hm) 0 rfl rfl (Nat.le_of_ble_eq_true rfl) (rok rfl rfl) ⟨(Nat.le_of_ble_eq_true rfl), (Nat.le_of_ble_eq_true rfl)⟩ (fun r ws2 hq => ?_)
  obtain ⟨rfl, rfl⟩ := hq
  show WP _ _ _ _ _ _ (_ :: _)
  refine r_istore_n d_M_boxes_4 (Nat.le_of_ble_eq_true rfl) rfl ?_
  show WP _ _ _ _ _ [_, _] _
  refine r_iload_n d_M_boxes_5 rfl ?_
  refine r_if_le 15 d_M_boxes_6 (by decide) (by unfold i32; omega) (fun g1 => ?_) (fun g1 => ?_)
  · refine r_aload_n d_M_boxes_15 rfl rfl ?_
    refine r_get d_M_boxes_16 fl_M_64_7 0 rfl rfl ?_
    refine r_iret d_M_boxes_19 rfl (Nat.le_of_ble_eq_true rfl) (Nat.le_of_ble_eq_true rfl) ?_
    rw [← hQ]; exact ⟨by rw [if_neg (by omega)], rfl⟩
  · refine r_sipush d_M_boxes_9 (by decide) ?_
    refine r_goto 19 d_M_boxes_12 (by decide) ?_
    refine r_iret d_M_boxes_19 rfl (Nat.le_of_ble_eq_true rfl) (Nat.le_of_ble_eq_true rfl) ?_
    rw [← hQ]; exact ⟨by rw [if_pos (by omega)], rfl⟩
theorem c_M_box (s0 : mS) (k what : Int) (hm : mI s0) (hk : i32 k) (hw : i32 what) : Ct G l q_M_box 2 0 0 [.ref (ad 0), vI k, vI what] (mW G ad s0) (fun r w => r = some (vI (if 0 < (rdL 100 (rd0 s0) 0 0).1 ∨ k < 0 ∨ (rdL 100 (rd0 s0) 0 0).2 0 1 ≤ k then -1000 else if 0 ≤ what ∧ what ≤ 5 then (rdL 100 (rd0 s0) 0 0).2 (what.toNat + 2 - (if what = 2 ∨ what = 3 ∨ what = 1 then 0 else 0)) k else -1000)) ∧ w = mW G ad (rdL 100 (rd0 s0) 0 0).2) := by
  refine Ct.intro [some (.ref (ad 0)), some (vI k), some (vI what), none] (by decide) (Nat.le_of_ble_eq_true rfl) rfl (fun sz => ?_)
  generalize hQ : (fun r w => r = some (vI (if 0 < (rdL 100 (rd0 s0) 0 0).1 ∨ k < 0 ∨ (rdL 100 (rd0 s0) 0 0).2 0 1 ≤ k then -1000 else if 0 ≤ what ∧ what ≤ 5 then (rdL 100 (rd0 s0) 0 0).2 (what.toNat + 2 - (if what = 2 ∨ what = 3 ∨ what = 1 then 0 else 0)) k else -1000)) ∧ w = mW G ad (rdL 100 (rd0 s0) 0 0).2) = Q
  obtain ⟨f1, hr, ho, hk1, hk0⟩ := rd_ok s0 hm
  refine r_aload_n d_M_box_0 rfl rfl ?_
  refine r_cV0 d_M_box_1 lk_M_75 (c_M_read G l ad s0 hm) 0 rfl rfl (Nat.le_of_ble_eq_true rfl) (rok rfl rfl) ⟨(Nat.le_of_ble_eq_true rfl), (Nat.le_of_ble_eq_true rfl)⟩ (fun r ws2 hq => ?_)
  obtain ⟨rfl, rfl⟩ := hq
  show WP _ _ _ _ _ _ (_ :: _)
  generalize (rdL 100 (rd0 s0) 0 0).2 = s at hr hQ ⊢
  generalize (rdL 100 (rd0 s0) 0 0).1 = f0 at f1 hQ ⊢
  have hcn := hr.1
  have bad : 0 < f0 ∨ k < 0 ∨ s 0 1 ≤ k → WP (mth G l q_M_box 2 0 0 (mW G ad s0) sz Q) 0 0 (mW G ad s) 21 [some (.ref (ad 0)), some (vI k), some (vI what), some (vI f0)] [] := by
    intro h
    refine r_sipush d_M_box_21 (by decide) ?_
    refine r_iret d_M_box_24 rfl (Nat.le_of_ble_eq_true rfl) (Nat.le_of_ble_eq_true rfl) ?_
    rw [← hQ]; exact ⟨by rw [if_pos h], rfl⟩
  refine r_istore_n d_M_box_4 (Nat.le_of_ble_eq_true rfl) rfl ?_
  show WP _ _ _ _ _ [_, _, _, _] _
  refine r_iload_n d_M_box_5 rfl ?_
  refine r_if_gt 21 d_M_box_6 (by decide) (by unfold i32; omega) (fun g1 => ?_) (fun g1 => ?_)
  · exact bad (by omega)
  refine r_iload_n d_M_box_9 rfl ?_
  refine r_if_lt 21 d_M_box_10 (by decide) hk (fun g2 => ?_) (fun g2 => ?_)
  · exact bad (by omega)
  refine r_iload_n d_M_box_13 rfl ?_
  refine r_aload_n d_M_box_14 rfl rfl ?_
  refine r_get d_M_box_15 fl_M_64_7 0 rfl rfl ?_
  refine r_icmp_lt 25 d_M_box_18 (by decide) hk (by unfold i32; omega) (fun g3 => ?_) (fun g3 => ?_)
  · refine r_iload_n d_M_box_25 rfl ?_
    by_cases hin : 0 ≤ what ∧ what ≤ 5
    · have e : ∀ r, r = s (what.toNat + 2) k → (fun r w => r = some (vI (if 0 < f0 ∨ k < 0 ∨ s 0 1 ≤ k then -1000 else if 0 ≤ what ∧ what ≤ 5 then s (what.toNat + 2 - (if what = 2 ∨ what = 3 ∨ what = 1 then 0 else 0)) k else -1000)) ∧ w = mW G ad s) (some (vI r)) (mW G ad s) := by
        intro r h
        refine ⟨?_, rfl⟩
        rw [if_neg (by omega), if_pos hin, h]
        simp
      rw [hQ] at e
      rcases (show what = 0 ∨ what = 1 ∨ what = 2 ∨ what = 3 ∨ what = 4 ∨ what = 5 by omega) with rfl | rfl | rfl | rfl | rfl | rfl
      · refine r_tableIn 64 d_M_box_26 hw (by omega) (by omega) rfl (by decide) ?_
        refine r_aload_n d_M_box_64 rfl rfl ?_
        refine r_get d_M_box_65 fl_M_13_7 0 rfl rfl ?_
        refine r_iload_n d_M_box_68 rfl ?_
        refine r_iald d_M_box_69 2 rfl (by omega) ?_
        refine r_iret d_M_box_70 rfl (Nat.le_of_ble_eq_true rfl) (Nat.le_of_ble_eq_true rfl) ?_
        exact e _ rfl
      · refine r_tableIn 71 d_M_box_26 hw (by omega) (by omega) rfl (by decide) ?_
        refine r_aload_n d_M_box_71 rfl rfl ?_
        refine r_get d_M_box_72 fl_M_16_7 0 rfl rfl ?_
        refine r_iload_n d_M_box_75 rfl ?_
        refine r_iald d_M_box_76 3 rfl (by omega) ?_
        refine r_iret d_M_box_77 rfl (Nat.le_of_ble_eq_true rfl) (Nat.le_of_ble_eq_true rfl) ?_
        exact e _ rfl
      · refine r_tableIn 78 d_M_box_26 hw (by omega) (by omega) rfl (by decide) ?_
        refine r_aload_n d_M_box_78 rfl rfl ?_
        refine r_get d_M_box_79 fl_M_19_7 0 rfl rfl ?_
        refine r_iload_n d_M_box_82 rfl ?_
        refine r_iald d_M_box_83 4 rfl (by omega) ?_
        refine r_iret d_M_box_84 rfl (Nat.le_of_ble_eq_true rfl) (Nat.le_of_ble_eq_true rfl) ?_
        exact e _ rfl
      · refine r_tableIn 85 d_M_box_26 hw (by omega) (by omega) rfl (by decide) ?_
        refine r_aload_n d_M_box_85 rfl rfl ?_
        refine r_get d_M_box_86 fl_M_22_7 0 rfl rfl ?_
        refine r_iload_n d_M_box_89 rfl ?_
        refine r_iald d_M_box_90 5 rfl (by omega) ?_
        refine r_iret d_M_box_91 rfl (Nat.le_of_ble_eq_true rfl) (Nat.le_of_ble_eq_true rfl) ?_
        exact e _ rfl
      · refine r_tableIn 92 d_M_box_26 hw (by omega) (by omega) rfl (by decide) ?_
        refine r_aload_n d_M_box_92 rfl rfl ?_
        refine r_get d_M_box_93 fl_M_25_7 0 rfl rfl ?_
        refine r_iload_n d_M_box_96 rfl ?_
        refine r_iald d_M_box_97 6 rfl (by omega) ?_
        refine r_iret d_M_box_98 rfl (Nat.le_of_ble_eq_true rfl) (Nat.le_of_ble_eq_true rfl) ?_
        exact e _ rfl
      · refine r_tableIn 99 d_M_box_26 hw (by omega) (by omega) rfl (by decide) ?_
        refine r_aload_n d_M_box_99 rfl rfl ?_
        refine r_get d_M_box_100 fl_M_28_7 0 rfl rfl ?_
        refine r_iload_n d_M_box_103 rfl ?_
        refine r_iald d_M_box_104 7 rfl (by omega) ?_
        refine r_iret d_M_box_105 rfl (Nat.le_of_ble_eq_true rfl) (Nat.le_of_ble_eq_true rfl) ?_
        exact e _ rfl
    · refine r_tableOut 106 d_M_box_26 hw (by omega) (by decide) ?_
      refine r_sipush d_M_box_106 (by decide) ?_
      refine r_iret d_M_box_109 rfl (Nat.le_of_ble_eq_true rfl) (Nat.le_of_ble_eq_true rfl) ?_
      rw [← hQ]; exact ⟨by rw [if_neg (by omega), if_neg hin], rfl⟩
  · exact bad (by omega)
end MODEL14
