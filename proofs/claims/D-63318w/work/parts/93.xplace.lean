abbrev q_K_placeOf : Mi := (⟨"MovieBoxes$Track", "placeOf", "([BIZ)I"⟩, prog_9_method_10_code, 11, (some .int))
theorem d_K_placeOf_6 : decode prog_9_method_10_code 6 = .ok (.iload 5, 2) := by decide +kernel
theorem d_K_placeOf_8 : decode prog_9_method_10_code 8 = .ok (.aload_n 0, 1) := by decide +kernel
theorem d_K_placeOf_9 : decode prog_9_method_10_code 9 = .ok (.getfield 11, 3) := by decide +kernel
theorem d_K_placeOf_12 : decode prog_9_method_10_code 12 = .ok (.iconst 2, 1) := by decide +kernel
theorem d_K_placeOf_13 : decode prog_9_method_10_code 13 = .ok (.aaload, 1) := by decide +kernel
theorem d_K_placeOf_14 : decode prog_9_method_10_code 14 = .ok (.getfield 38, 3) := by decide +kernel
theorem d_K_placeOf_17 : decode prog_9_method_10_code 17 = .ok (.if_icmp .ge 151, 3) := by decide +kernel
theorem d_K_placeOf_20 : decode prog_9_method_10_code 20 = .ok (.aload_n 0, 1) := by decide +kernel
theorem d_K_placeOf_21 : decode prog_9_method_10_code 21 = .ok (.getfield 11, 3) := by decide +kernel
theorem d_K_placeOf_24 : decode prog_9_method_10_code 24 = .ok (.iconst 2, 1) := by decide +kernel
theorem d_K_placeOf_25 : decode prog_9_method_10_code 25 = .ok (.aaload, 1) := by decide +kernel
theorem d_K_placeOf_26 : decode prog_9_method_10_code 26 = .ok (.aload_n 1, 1) := by decide +kernel
theorem d_K_placeOf_27 : decode prog_9_method_10_code 27 = .ok (.iload 5, 2) := by decide +kernel
theorem d_K_placeOf_29 : decode prog_9_method_10_code 29 = .ok (.iconst 0, 1) := by decide +kernel
theorem d_K_placeOf_30 : decode prog_9_method_10_code 30 = .ok (.invokevirtual 41, 3) := by decide +kernel
theorem d_K_placeOf_33 : decode prog_9_method_10_code 33 = .ok (.istore 6, 2) := by decide +kernel
theorem d_K_placeOf_35 : decode prog_9_method_10_code 35 = .ok (.aload_n 0, 1) := by decide +kernel
theorem d_K_placeOf_36 : decode prog_9_method_10_code 36 = .ok (.getfield 11, 3) := by decide +kernel
theorem d_K_placeOf_39 : decode prog_9_method_10_code 39 = .ok (.iconst 2, 1) := by decide +kernel
theorem d_K_placeOf_40 : decode prog_9_method_10_code 40 = .ok (.aaload, 1) := by decide +kernel
theorem d_K_placeOf_41 : decode prog_9_method_10_code 41 = .ok (.aload_n 1, 1) := by decide +kernel
theorem d_K_placeOf_42 : decode prog_9_method_10_code 42 = .ok (.iload 5, 2) := by decide +kernel
theorem d_K_placeOf_44 : decode prog_9_method_10_code 44 = .ok (.iconst 1, 1) := by decide +kernel
theorem d_K_placeOf_45 : decode prog_9_method_10_code 45 = .ok (.invokevirtual 41, 3) := by decide +kernel
theorem d_K_placeOf_48 : decode prog_9_method_10_code 48 = .ok (.istore 7, 2) := by decide +kernel
theorem d_K_placeOf_50 : decode prog_9_method_10_code 50 = .ok (.aload_n 0, 1) := by decide +kernel
theorem d_K_placeOf_51 : decode prog_9_method_10_code 51 = .ok (.aload_n 1, 1) := by decide +kernel
theorem d_K_placeOf_52 : decode prog_9_method_10_code 52 = .ok (.iload 5, 2) := by decide +kernel
theorem d_K_placeOf_54 : decode prog_9_method_10_code 54 = .ok (.invokevirtual 56, 3) := by decide +kernel
theorem d_K_placeOf_57 : decode prog_9_method_10_code 57 = .ok (.iload 6, 2) := by decide +kernel
theorem d_K_placeOf_59 : decode prog_9_method_10_code 59 = .ok (.isub, 1) := by decide +kernel
theorem d_K_placeOf_60 : decode prog_9_method_10_code 60 = .ok (.iload 7, 2) := by decide +kernel
theorem d_K_placeOf_62 : decode prog_9_method_10_code 62 = .ok (.imul, 1) := by decide +kernel
theorem d_K_placeOf_63 : decode prog_9_method_10_code 63 = .ok (.istore 8, 2) := by decide +kernel
theorem d_K_placeOf_65 : decode prog_9_method_10_code 65 = .ok (.iload 4, 2) := by decide +kernel
theorem d_K_placeOf_67 : decode prog_9_method_10_code 67 = .ok (.iload 8, 2) := by decide +kernel
theorem d_K_placeOf_69 : decode prog_9_method_10_code 69 = .ok (.if_icmp .ge 86, 3) := by decide +kernel
theorem d_K_placeOf_155 : decode prog_9_method_10_code 155 = .ok (.iload 4, 2) := by decide +kernel
theorem d_K_placeOf_157 : decode prog_9_method_10_code 157 = .ok (.iload 8, 2) := by decide +kernel
theorem d_K_placeOf_159 : decode prog_9_method_10_code 159 = .ok (.isub, 1) := by decide +kernel
theorem d_K_placeOf_160 : decode prog_9_method_10_code 160 = .ok (.istore 4, 2) := by decide +kernel
theorem d_K_placeOf_162 : decode prog_9_method_10_code 162 = .ok (.iinc 5 1, 3) := by decide +kernel
theorem d_K_placeOf_165 : decode prog_9_method_10_code 165 = .ok (.goto (-159), 3) := by decide +kernel
theorem d_K_placeOf_72 : decode prog_9_method_10_code 72 = .ok (.iload_n 3, 1) := by decide +kernel
theorem d_K_placeOf_73 : decode prog_9_method_10_code 73 = .ok (.ifCond .eq 17, 3) := by decide +kernel
theorem d_K_placeOf_122 : decode prog_9_method_10_code 122 = .ok (.iload 10, 2) := by decide +kernel
theorem d_K_placeOf_124 : decode prog_9_method_10_code 124 = .ok (.iload_n 2, 1) := by decide +kernel
theorem d_K_placeOf_125 : decode prog_9_method_10_code 125 = .ok (.if_icmp .ge 27, 3) := by decide +kernel
theorem d_K_placeOf_152 : decode prog_9_method_10_code 152 = .ok (.iload 9, 2) := by decide +kernel
theorem d_K_placeOf_154 : decode prog_9_method_10_code 154 = .ok (.ireturn, 1) := by decide +kernel
theorem d_K_placeOf_128 : decode prog_9_method_10_code 128 = .ok (.iload 9, 2) := by decide +kernel
theorem d_K_placeOf_130 : decode prog_9_method_10_code 130 = .ok (.aload_n 0, 1) := by decide +kernel
theorem d_K_placeOf_131 : decode prog_9_method_10_code 131 = .ok (.getfield 11, 3) := by decide +kernel
theorem d_K_placeOf_134 : decode prog_9_method_10_code 134 = .ok (.iconst 3, 1) := by decide +kernel
theorem d_K_placeOf_135 : decode prog_9_method_10_code 135 = .ok (.aaload, 1) := by decide +kernel
theorem d_K_placeOf_136 : decode prog_9_method_10_code 136 = .ok (.aload_n 1, 1) := by decide +kernel
theorem d_K_placeOf_137 : decode prog_9_method_10_code 137 = .ok (.iload 10, 2) := by decide +kernel
theorem d_K_placeOf_139 : decode prog_9_method_10_code 139 = .ok (.iconst 0, 1) := by decide +kernel
theorem d_K_placeOf_140 : decode prog_9_method_10_code 140 = .ok (.invokevirtual 41, 3) := by decide +kernel
theorem lu_K_41_S : LkU "MovieBoxes$Track" 41 "MovieBoxes$SizeTable" "MovieBoxes$Table" ⟨"MovieBoxes$Table", "cell", "([BII)I"⟩ q_S_cell 3 := ⟨(List.forall_mem_cons.mpr ⟨w_546, (List.forall_mem_cons.mpr ⟨w_515, (List.forall_mem_cons.mpr ⟨w_523, (List.forall_mem_cons.mpr ⟨w_524, (List.forall_mem_cons.mpr ⟨w_14, (fun _ h => absurd h List.not_mem_nil)⟩)⟩)⟩)⟩)⟩), w_525, Or.inr ⟨_, _, _, w_526, w_513⟩, by decide +kernel⟩
theorem d_K_placeOf_143 : decode prog_9_method_10_code 143 = .ok (.iadd, 1) := by decide +kernel
theorem d_K_placeOf_144 : decode prog_9_method_10_code 144 = .ok (.istore 9, 2) := by decide +kernel
theorem d_K_placeOf_146 : decode prog_9_method_10_code 146 = .ok (.iinc 10 1, 3) := by decide +kernel
theorem d_K_placeOf_149 : decode prog_9_method_10_code 149 = .ok (.goto (-27), 3) := by decide +kernel
theorem d_K_placeOf_90 : decode prog_9_method_10_code 90 = .ok (.aload_n 0, 1) := by decide +kernel
theorem d_K_placeOf_91 : decode prog_9_method_10_code 91 = .ok (.getfield 11, 3) := by decide +kernel
theorem d_K_placeOf_94 : decode prog_9_method_10_code 94 = .ok (.iconst 4, 1) := by decide +kernel
theorem d_K_placeOf_95 : decode prog_9_method_10_code 95 = .ok (.aaload, 1) := by decide +kernel
theorem d_K_placeOf_96 : decode prog_9_method_10_code 96 = .ok (.aload_n 1, 1) := by decide +kernel
theorem d_K_placeOf_97 : decode prog_9_method_10_code 97 = .ok (.iload 6, 2) := by decide +kernel
theorem d_K_placeOf_99 : decode prog_9_method_10_code 99 = .ok (.iconst 1, 1) := by decide +kernel
theorem d_K_placeOf_100 : decode prog_9_method_10_code 100 = .ok (.isub, 1) := by decide +kernel
theorem d_K_placeOf_101 : decode prog_9_method_10_code 101 = .ok (.iload 4, 2) := by decide +kernel
theorem d_K_placeOf_103 : decode prog_9_method_10_code 103 = .ok (.iload 7, 2) := by decide +kernel
theorem d_K_placeOf_105 : decode prog_9_method_10_code 105 = .ok (.idiv, 1) := by decide +kernel
theorem d_K_placeOf_106 : decode prog_9_method_10_code 106 = .ok (.iadd, 1) := by decide +kernel
theorem d_K_placeOf_107 : decode prog_9_method_10_code 107 = .ok (.iconst 0, 1) := by decide +kernel
theorem d_K_placeOf_108 : decode prog_9_method_10_code 108 = .ok (.invokevirtual 41, 3) := by decide +kernel
theorem lu_K_41_P : LkU "MovieBoxes$Track" 41 "MovieBoxes$PlaceTable" "MovieBoxes$Table" ⟨"MovieBoxes$Table", "cell", "([BII)I"⟩ q_P_cell 3 := ⟨(List.forall_mem_cons.mpr ⟨w_546, (List.forall_mem_cons.mpr ⟨w_515, (List.forall_mem_cons.mpr ⟨w_516, (List.forall_mem_cons.mpr ⟨w_517, (List.forall_mem_cons.mpr ⟨w_13, (fun _ h => absurd h List.not_mem_nil)⟩)⟩)⟩)⟩)⟩), w_518, Or.inr ⟨_, _, _, w_526, w_513⟩, by decide +kernel⟩
theorem d_K_placeOf_111 : decode prog_9_method_10_code 111 = .ok (.istore 9, 2) := by decide +kernel
theorem d_K_placeOf_113 : decode prog_9_method_10_code 113 = .ok (.iload_n 2, 1) := by decide +kernel
theorem d_K_placeOf_114 : decode prog_9_method_10_code 114 = .ok (.iload 4, 2) := by decide +kernel
theorem d_K_placeOf_116 : decode prog_9_method_10_code 116 = .ok (.iload 7, 2) := by decide +kernel
theorem d_K_placeOf_118 : decode prog_9_method_10_code 118 = .ok (.irem, 1) := by decide +kernel
theorem d_K_placeOf_119 : decode prog_9_method_10_code 119 = .ok (.isub, 1) := by decide +kernel
theorem d_K_placeOf_120 : decode prog_9_method_10_code 120 = .ok (.istore 10, 2) := by decide +kernel
theorem d_K_placeOf_76 : decode prog_9_method_10_code 76 = .ok (.aload_n 0, 1) := by decide +kernel
theorem d_K_placeOf_77 : decode prog_9_method_10_code 77 = .ok (.getfield 11, 3) := by decide +kernel
theorem d_K_placeOf_80 : decode prog_9_method_10_code 80 = .ok (.iconst 2, 1) := by decide +kernel
theorem d_K_placeOf_81 : decode prog_9_method_10_code 81 = .ok (.aaload, 1) := by decide +kernel
theorem d_K_placeOf_82 : decode prog_9_method_10_code 82 = .ok (.aload_n 1, 1) := by decide +kernel
theorem d_K_placeOf_83 : decode prog_9_method_10_code 83 = .ok (.iload 5, 2) := by decide +kernel
theorem d_K_placeOf_85 : decode prog_9_method_10_code 85 = .ok (.iconst 2, 1) := by decide +kernel
theorem d_K_placeOf_86 : decode prog_9_method_10_code 86 = .ok (.invokevirtual 41, 3) := by decide +kernel
theorem d_K_placeOf_89 : decode prog_9_method_10_code 89 = .ok (.ireturn, 1) := by decide +kernel
theorem d_K_placeOf_0 : decode prog_9_method_10_code 0 = .ok (.iload_n 2, 1) := by decide +kernel
theorem d_K_placeOf_1 : decode prog_9_method_10_code 1 = .ok (.istore 4, 2) := by decide +kernel
theorem d_K_placeOf_3 : decode prog_9_method_10_code 3 = .ok (.iconst 0, 1) := by decide +kernel
theorem d_K_placeOf_4 : decode prog_9_method_10_code 4 = .ok (.istore 5, 2) := by decide +kernel
/-! ===== the component: placeOf ===== -/
section XPL
variable (G : gG) (l : Launch) (y : xP) (z v : mS) (t : Nat)
set_option maxRecDepth 8000 in
set_option maxHeartbeats 4000000 in
theorem c_K_placeOf (hK : tK y z v t) (hA : chA v t) (hC : ¬ cntBad v t) (k d : Int) (hk : 0 ≤ k ∧ k < pv v (tb v t 3) 1) (hd : d = 0 ∨ d = 1) : Ct G l q_K_placeOf 3 0 0 [.ref (yc y (7 + t)), .ref (yc y 1), vI k, vI d] (xW G y z) (fun r w => r = some (vI (icO v t k (if d = 0 then 0 else 5))) ∧ w = xW G y z) := by
  have hb := hK.1.2.2
  obtain ⟨hC0, hF, hN⟩ := cnt_of hb hC
  have bn := pv_b hb (tb v t 3) 1
  have bR := pv_b hb (tb v t 2) 0
  have bC := pv_b hb (pbx v t) 0
  have ecR : cR v t = pv v (tb v t 2) 0 := rfl
  have ecC : cC v t = pv v (pbx v t) 0 := rfl
  refine Ct.intro [some (.ref (yc y (7 + t))), some (.ref (yc y 1)), some (vI k), some (vI d), none, none, none, none, none, none, none] (by decide) (Nat.le_of_ble_eq_true rfl) rfl (fun sz => ?_)
  generalize hQ : (fun r w => r = some (vI (icO v t k (if d = 0 then 0 else 5))) ∧ w = xW G y z) = Q
  have lp : ∀ (f r : Nat) (x6 x7 x8 x9 x10 : Option Value), (r : Int) ≤ cR v t → (cR v t).toNat - r = f → sS v t r ≤ k → WP (mth G l q_K_placeOf 3 0 0 (xW G y z) sz Q) 0 0 (xW G y z) 6 [some (.ref (yc y (7 + t))), some (.ref (yc y 1)), some (vI k), some (vI d), some (vI (k - sS v t r)), some (vI r), x6, x7, x8, x9, x10] [] := by
    intro f
    induction f with
    | zero =>
      intro r x6 x7 x8 x9 x10 hr hf hs
      exfalso
      have e : sS v t r = smp v t (cC v t).toNat := by unfold sS; rw [if_neg (by omega)]
      rw [hN] at e
      omega
    | succ f ih =>
      intro r x6 x7 x8 x9 x10 hr hf hs
      have hrR : (r : Int) < cR v t := by omega
      have eF : cF v t r = pv v (tb v t 2) (1 + 3 * (r : Int)) := rfl
      have eM : cM v t r = pv v (tb v t 2) (2 + 3 * (r : Int)) := rfl
      have bF := pv_b hb (tb v t 2) (1 + 3 * (r : Int))
      have bM := pv_b hb (tb v t 2) (2 + 3 * (r : Int))
      have hM0 := (hA r (by omega) hrR).2.2
      have hu := uN_le hA hF (r := r) (by omega) hrR
      have hf1 := chA_1 hA (r := r) (by omega) hrR
      have es := sS_s hA hF (r := r) (by omega) hrR
      have bS := sS_b v t hb r
      have bS' := sS_b v t hb ((r : Int) + 1)
      have eS : sS v t r = smp v t (cF v t r - 1).toNat := by unfold sS; rw [if_pos hrR]
      refine r_iload d_K_placeOf_6 rfl ?_
      refine r_aload_n d_K_placeOf_8 rfl rfl ?_
      refine r_get d_K_placeOf_9 fl_K_11_6 (7+t) (xw_k hK.1.1) rfl ?_
      refine r_iconst d_K_placeOf_12 ?_
      refine r_tab (sl := 2) d_K_placeOf_13 hK hK.2.2.2.2.1 ⟨by omega, by omega⟩ ?_
      show WP _ _ _ _ _ _ (.ref (yo y (tb v t 2)) :: _)
      refine r_rows (sl := 2) d_K_placeOf_14 ft_K_38 hK hK.2.2.2.2.1 ⟨by omega, by omega⟩ ?_
      show WP _ _ _ _ _ _ (vI (pv v (tb v t 2) 0) :: _)
      refine r_icmp_ge 168 d_K_placeOf_17 (by decide) (by unfold i32; omega) (by unfold i32; omega) (fun h1 => ?_) (fun h1 => ?_)
      · omega
      refine r_aload_n d_K_placeOf_20 rfl rfl ?_
      refine r_get d_K_placeOf_21 fl_K_11_6 (7+t) (xw_k hK.1.1) rfl ?_
      refine r_iconst d_K_placeOf_24 ?_
      refine r_tab (sl := 2) d_K_placeOf_25 hK hK.2.2.2.2.1 ⟨by omega, by omega⟩ ?_
      show WP _ _ _ _ _ _ (.ref (yo y (tb v t 2)) :: _)
      refine r_aload_n d_K_placeOf_26 rfl rfl ?_
      refine r_iload d_K_placeOf_27 rfl ?_
      refine r_iconst d_K_placeOf_29 ?_
      refine r_cV3 d_K_placeOf_30 lk_K_41 (c_c2 G l y z v t hK ((r : Int)) (0) (by omega) (by omega)) (13 + tb v t 2).toNat rfl (xw_bc (tK_k hK hK.2.2.2.2.1 ⟨by omega, by omega⟩) (tK_cT hK hK.2.2.2.2.1 (by omega))) (Nat.le_of_ble_eq_true rfl) (rok rfl rfl) ⟨(Nat.le_of_ble_eq_true rfl), (Nat.le_of_ble_eq_true rfl)⟩ (fun r ws2 hq => ?_)
      obtain ⟨rfl, rfl⟩ := hq
      show WP _ _ _ _ _ _ (_ :: _)
      rw [Int.add_zero]
      refine r_istore d_K_placeOf_33 (Nat.le_of_ble_eq_true rfl) rfl ?_
      show WP _ _ _ _ _ [_, _, _, _, _, _, _, _, _, _, _] _
      refine r_aload_n d_K_placeOf_35 rfl rfl ?_
      refine r_get d_K_placeOf_36 fl_K_11_6 (7+t) (xw_k hK.1.1) rfl ?_
      refine r_iconst d_K_placeOf_39 ?_
      refine r_tab (sl := 2) d_K_placeOf_40 hK hK.2.2.2.2.1 ⟨by omega, by omega⟩ ?_
      show WP _ _ _ _ _ _ (.ref (yo y (tb v t 2)) :: _)
      refine r_aload_n d_K_placeOf_41 rfl rfl ?_
      refine r_iload d_K_placeOf_42 rfl ?_
      refine r_iconst d_K_placeOf_44 ?_
      refine r_cV3 d_K_placeOf_45 lk_K_41 (c_c2 G l y z v t hK ((r : Int)) (1) (by omega) (by omega)) (13 + tb v t 2).toNat rfl (xw_bc (tK_k hK hK.2.2.2.2.1 ⟨by omega, by omega⟩) (tK_cT hK hK.2.2.2.2.1 (by omega))) (Nat.le_of_ble_eq_true rfl) (rok rfl rfl) ⟨(Nat.le_of_ble_eq_true rfl), (Nat.le_of_ble_eq_true rfl)⟩ (fun r ws2 hq => ?_)
      obtain ⟨rfl, rfl⟩ := hq
      show WP _ _ _ _ _ _ (_ :: _)
      rw [show 1 + 3 * (r : Int) + 1 = 2 + 3 * r by omega]
      refine r_istore d_K_placeOf_48 (Nat.le_of_ble_eq_true rfl) rfl ?_
      show WP _ _ _ _ _ [_, _, _, _, _, _, _, _, _, _, _] _
      refine r_aload_n d_K_placeOf_50 rfl rfl ?_
      refine r_aload_n d_K_placeOf_51 rfl rfl ?_
      refine r_iload d_K_placeOf_52 rfl ?_
      refine r_cV2 d_K_placeOf_54 lk_K_56 (c_K_until G l y z v t hK r (by omega)) (7+t) rfl (xw_k hK.1.1) (Nat.le_of_ble_eq_true rfl) (rok rfl rfl) ⟨(Nat.le_of_ble_eq_true rfl), (Nat.le_of_ble_eq_true rfl)⟩ (fun r ws2 hq => ?_)
      obtain ⟨rfl, rfl⟩ := hq
      show WP _ _ _ _ _ _ (_ :: _)
      refine r_iload d_K_placeOf_57 rfl ?_
      refine r_isub d_K_placeOf_59 ?_
      refine r_iload d_K_placeOf_60 rfl ?_
      refine r_imul d_K_placeOf_62 ?_
      refine r_istore d_K_placeOf_63 (Nat.le_of_ble_eq_true rfl) rfl ?_
      show WP _ _ _ _ _ [_, _, _, _, _, _, _, _, _, _, _] _
      refine r_iload d_K_placeOf_65 rfl ?_
      refine r_iload d_K_placeOf_67 rfl ?_
      rw [← eF, ← eM]
      generalize hall : (uN v t r - cF v t r) * cM v t r = all at es ⊢
      refine r_icmp_ge 155 d_K_placeOf_69 (by decide) (by unfold i32; omega) (by unfold i32; omega) (fun h2 => ?_) (fun h2 => ?_)
      · refine r_iload d_K_placeOf_155 rfl ?_
        refine r_iload d_K_placeOf_157 rfl ?_
        refine r_isub d_K_placeOf_159 ?_
        refine r_istore d_K_placeOf_160 (Nat.le_of_ble_eq_true rfl) rfl ?_
        show WP _ _ _ _ _ [_, _, _, _, _, _, _, _, _, _, _] _
        refine r_iinc d_K_placeOf_162 rfl (Nat.le_of_ble_eq_true rfl) rfl ?_
        show WP _ _ _ _ _ [_, _, _, _, _, _, _, _, _, _, _] _
        refine r_goto 6 d_K_placeOf_165 (by decide) ?_
        rw [show k - sS v t r - all = k - sS v t ((r + 1 : Nat) : Int) by rw [show ((r + 1 : Nat) : Int) = (r : Int) + 1 by omega]; omega]
        exact ih (r + 1) _ _ _ _ _ (by omega) (by omega) (by rw [show ((r + 1 : Nat) : Int) = (r : Int) + 1 by omega]; omega)
      · -- the run
        have hMp : 0 < cM v t r := by omega
        generalize hleft : k - sS v t r = left at *
        have hl0 : 0 ≤ left := by omega
        have hq1 : left / cM v t r < uN v t r - cF v t r := Int.ediv_lt_of_lt_mul hMp (by rw [hall]; omega)
        have hq0 : 0 ≤ left / cM v t r := Int.ediv_nonneg hl0 (by omega)
        have hm0 : 0 ≤ left % cM v t r := Int.emod_nonneg _ (by omega)
        have hm1 : left % cM v t r < cM v t r := Int.emod_lt_of_pos _ hMp
        have hmd : left % cM v t r = left - cM v t r * (left / cM v t r) := Int.emod_def _ _
        obtain ⟨q, hq⟩ : ∃ q : Nat, left / cM v t r = q := ⟨(left / cM v t r).toNat, by omega⟩
        rw [hq] at hmd hq1 hq0
        have hsm := smp_run hA (r := r) (by omega) hrR q (by omega)
        rw [← eS] at hsm
        have ec : (cF v t r - 1 + (q : Int)).toNat = 0 + (cF v t r - 1 + (q : Int)).toNat := by omega
        obtain ⟨c, hc⟩ : ∃ c : Nat, cF v t r - 1 + (q : Int) = c := ⟨(cF v t r - 1 + (q : Int)).toNat, by omega⟩
        have hsc : smp v t c = sS v t r + q * cM v t r := by rw [← hsm, hc]; rfl
        have hmn : mnO v t (1 + c) = cM v t r := mn_run hA (by omega) hrR (by omega)
        have hru : rowU v (tb v t 2) (1 + c) (cR v t).toNat = r := ru_run hA (by omega) hrR (by omega)
        have hsc1 : smp v t (c + 1) = smp v t c + cM v t r := by
          show smp v t c + mnO v t (1 + c) = _
          rw [hmn]
        have hmc : (q : Int) * cM v t r = cM v t r * q := Int.mul_comm _ _
        have hks : k - smp v t c = left % cM v t r := by omega
        have hic := icL_at (v := v) (t := (t : Int)) (k := k) (what := if d = 0 then 0 else 5) hb (cC v t).toNat 0 c (by omega) (by rw [Nat.zero_add]; omega) (by rw [Nat.zero_add]; omega)
        rw [Nat.zero_add, hru, hks] at hic
        have hcC : (c : Int) < cC v t := by omega
        refine r_iload_n d_K_placeOf_72 rfl ?_
        refine r_if_eq 90 d_K_placeOf_73 (by decide) (by unfold i32; omega) (fun h3 => ?_) (fun h3 => ?_)
        · rw [if_pos h3, if_pos rfl] at hic
          have bcp := cpl_b hb t (1 + c)
          have hmk : left % cM v t r ≤ 255 := by omega
          have lp2 : ∀ (g i : Nat), (i : Int) + g = left % cM v t r → WP (mth G l q_K_placeOf 3 0 0 (xW G y z) sz Q) 0 0 (xW G y z) 122 [some (.ref (yc y (7 + t))), some (.ref (yc y 1)), some (vI k), some (vI d), some (vI left), some (vI r), some (vI (cF v t r)), some (vI (cM v t r)), some (vI all), some (vI (cpl v t (1 + c) + sumI (fun i => szO v t (smp v t c + i)) i)), some (vI (smp v t c + i))] [] := by
            intro g
            induction g with
            | zero =>
              intro i hi
              refine r_iload d_K_placeOf_122 rfl ?_
              refine r_iload_n d_K_placeOf_124 rfl ?_
              refine r_icmp_ge 152 d_K_placeOf_125 (by decide) (by unfold i32; omega) (by unfold i32; omega) (fun h4 => ?_) (fun h4 => ?_)
              · refine r_iload d_K_placeOf_152 rfl ?_
                refine r_iret d_K_placeOf_154 rfl (Nat.le_of_ble_eq_true rfl) (Nat.le_of_ble_eq_true rfl) ?_
                rw [← hQ]
                refine ⟨?_, rfl⟩
                rw [if_pos h3]
                show _ = some (vI (icL v t k 0 (cC v t).toNat 0))
                rw [hic, show (left % cM v t r).toNat = i by omega]
              · omega
            | succ g ih2 =>
              intro i hi
              have bsm := sumI_b (f := fun i => szO v t (smp v t c + i)) (fun i => szO_b hb _ _) i
              have bsz := szO_b hb t (smp v t c + i)
              have bsc := smp_b (t := (t : Int)) hb c
              refine r_iload d_K_placeOf_122 rfl ?_
              refine r_iload_n d_K_placeOf_124 rfl ?_
              refine r_icmp_ge 152 d_K_placeOf_125 (by decide) (by unfold i32; omega) (by unfold i32; omega) (fun h4 => ?_) (fun h4 => ?_)
              · omega
              · refine r_iload d_K_placeOf_128 rfl ?_
                refine r_aload_n d_K_placeOf_130 rfl rfl ?_
                refine r_get d_K_placeOf_131 fl_K_11_6 (7+t) (xw_k hK.1.1) rfl ?_
                refine r_iconst d_K_placeOf_134 ?_
                refine r_tab (sl := 3) d_K_placeOf_135 hK hK.2.2.2.2.2.1 ⟨by omega, by omega⟩ ?_
                show WP _ _ _ _ _ _ (.ref (yo y (tb v t 3)) :: _)
                refine r_aload_n d_K_placeOf_136 rfl rfl ?_
                refine r_iload d_K_placeOf_137 rfl ?_
                refine r_iconst d_K_placeOf_139 ?_
                refine r_kU3 d_K_placeOf_140 lu_K_41_S (c_c3 G l y z v t hK (smp v t c + (i : Int)) (0) (by omega)) (13 + tb v t 3).toNat rfl (xw_bc (tK_k hK hK.2.2.2.2.2.1 ⟨by omega, by omega⟩) (tK_c3 hK)) (Nat.le_of_ble_eq_true rfl) (rok rfl rfl) ⟨(Nat.le_of_ble_eq_true rfl), (Nat.le_of_ble_eq_true rfl)⟩ (fun r ws2 hq => ?_)
                obtain ⟨rfl, rfl⟩ := hq
                show WP _ _ _ _ _ _ (_ :: _)
                refine r_iadd d_K_placeOf_143 ?_
                refine r_istore d_K_placeOf_144 (Nat.le_of_ble_eq_true rfl) rfl ?_
                show WP _ _ _ _ _ [_, _, _, _, _, _, _, _, _, _, _] _
                refine r_iinc d_K_placeOf_146 rfl (Nat.le_of_ble_eq_true rfl) rfl ?_
                show WP _ _ _ _ _ [_, _, _, _, _, _, _, _, _, _, _] _
                refine r_goto 122 d_K_placeOf_149 (by decide) ?_
                have := ih2 (i + 1) (by omega)
                rw [show smp v t c + ((i + 1 : Nat) : Int) = smp v t c + i + 1 by omega] at this
                have e : cpl v t (1 + c) + sumI (fun i => szO v t (smp v t c + i)) (i + 1) = cpl v t (1 + c) + sumI (fun i => szO v t (smp v t c + i)) i + szO v t (smp v t c + (i : Int)) := by
                  exact (Int.add_assoc _ _ _).symm
                rw [e] at this
                exact this
          refine r_aload_n d_K_placeOf_90 rfl rfl ?_
          refine r_get d_K_placeOf_91 fl_K_11_6 (7+t) (xw_k hK.1.1) rfl ?_
          refine r_iconst d_K_placeOf_94 ?_
          refine r_tab (sl := 4) d_K_placeOf_95 hK hK.2.2.2.2.2.2 ⟨by omega, by omega⟩ ?_
          show WP _ _ _ _ _ _ (.ref (yo y (pbx v t)) :: _)
          refine r_aload_n d_K_placeOf_96 rfl rfl ?_
          refine r_iload d_K_placeOf_97 rfl ?_
          refine r_iconst d_K_placeOf_99 ?_
          refine r_isub d_K_placeOf_100 ?_
          refine r_iload d_K_placeOf_101 rfl ?_
          refine r_iload d_K_placeOf_103 rfl ?_
          refine r_idiv d_K_placeOf_105 (by omega) (by omega) ?_
          rw [hq]
          refine r_iadd d_K_placeOf_106 ?_
          refine r_iconst d_K_placeOf_107 ?_
          rw [hc]
          refine r_kU3 d_K_placeOf_108 lu_K_41_P (c_c4 G l y z v t hK ((c : Int)) (0) (by omega)) (13 + pbx v t).toNat rfl (xw_bc (tK_k hK hK.2.2.2.2.2.2 ⟨by omega, by omega⟩) (tK_c4 hK)) (Nat.le_of_ble_eq_true rfl) (rok rfl rfl) ⟨(Nat.le_of_ble_eq_true rfl), (Nat.le_of_ble_eq_true rfl)⟩ (fun r ws2 hq => ?_)
          obtain ⟨rfl, rfl⟩ := hq
          show WP _ _ _ _ _ _ (_ :: _)
          refine r_istore d_K_placeOf_111 (Nat.le_of_ble_eq_true rfl) rfl ?_
          show WP _ _ _ _ _ [_, _, _, _, _, _, _, _, _, _, _] _
          refine r_iload_n d_K_placeOf_113 rfl ?_
          refine r_iload d_K_placeOf_114 rfl ?_
          refine r_iload d_K_placeOf_116 rfl ?_
          refine r_irem d_K_placeOf_118 (by omega) (by omega) ?_
          refine r_isub d_K_placeOf_119 ?_
          refine r_istore d_K_placeOf_120 (Nat.le_of_ble_eq_true rfl) rfl ?_
          show WP _ _ _ _ _ [_, _, _, _, _, _, _, _, _, _, _] _
          have := lp2 (left % cM v t r).toNat 0 (by omega)
          rw [show smp v t c + ((0 : Nat) : Int) = k - left % cM v t r by omega] at this
          have e : cpl v t (1 + c) + sumI (fun i => szO v t (smp v t c + i)) 0 = cpl v t (1 + c) := by
            show _ + 0 = _
            omega
          rw [e] at this
          exact this
        · rw [if_neg (show ¬ (if d = 0 then (0 : Int) else 5) = 0 by rw [if_neg h3]; omega)] at hic
          refine r_aload_n d_K_placeOf_76 rfl rfl ?_
          refine r_get d_K_placeOf_77 fl_K_11_6 (7+t) (xw_k hK.1.1) rfl ?_
          refine r_iconst d_K_placeOf_80 ?_
          refine r_tab (sl := 2) d_K_placeOf_81 hK hK.2.2.2.2.1 ⟨by omega, by omega⟩ ?_
          show WP _ _ _ _ _ _ (.ref (yo y (tb v t 2)) :: _)
          refine r_aload_n d_K_placeOf_82 rfl rfl ?_
          refine r_iload d_K_placeOf_83 rfl ?_
          refine r_iconst d_K_placeOf_85 ?_
          refine r_cV3 d_K_placeOf_86 lk_K_41 (c_c2 G l y z v t hK ((r : Int)) (2) (by omega) (by omega)) (13 + tb v t 2).toNat rfl (xw_bc (tK_k hK hK.2.2.2.2.1 ⟨by omega, by omega⟩) (tK_cT hK hK.2.2.2.2.1 (by omega))) (Nat.le_of_ble_eq_true rfl) (rok rfl rfl) ⟨(Nat.le_of_ble_eq_true rfl), (Nat.le_of_ble_eq_true rfl)⟩ (fun r ws2 hq => ?_)
          obtain ⟨rfl, rfl⟩ := hq
          show WP _ _ _ _ _ _ (_ :: _)
          refine r_iret d_K_placeOf_89 rfl (Nat.le_of_ble_eq_true rfl) (Nat.le_of_ble_eq_true rfl) ?_
          rw [← hQ]
          refine ⟨?_, rfl⟩
          show _ = some (vI (icL v t k (if d = 0 then 0 else 5) (cC v t).toNat 0))
          rw [hic, show 3 + 3 * (r : Int) = 1 + 3 * r + 2 by omega]
  refine r_iload_n d_K_placeOf_0 rfl ?_
  refine r_istore d_K_placeOf_1 (Nat.le_of_ble_eq_true rfl) rfl ?_
  show WP _ _ _ _ _ [_, _, _, _, _, _, _, _, _, _, _] _
  refine r_iconst d_K_placeOf_3 ?_
  refine r_istore d_K_placeOf_4 (Nat.le_of_ble_eq_true rfl) rfl ?_
  show WP _ _ _ _ _ [_, _, _, _, _, _, _, _, _, _, _] _
  have := lp _ 0 none none none none none (by omega) rfl (by rw [show ((0 : Nat) : Int) = 0 from rfl, sS_0 hA hC0 hb]; omega)
  rw [show ((0 : Nat) : Int) = 0 from rfl, sS_0 hA hC0 hb, show k - 0 = k by omega] at this
  exact this
end XPL
