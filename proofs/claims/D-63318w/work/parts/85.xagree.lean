abbrev q_K_agree : Mi := (⟨"MovieBoxes$Track", "agree", "([B)Z"⟩, prog_9_method_6_code, 6, (some .boolean))
theorem d_K_agree_49 : decode prog_9_method_6_code 49 = .ok (.iconst 0, 1) := by decide +kernel
theorem d_K_agree_50 : decode prog_9_method_6_code 50 = .ok (.ireturn, 1) := by decide +kernel
theorem d_K_agree_87 : decode prog_9_method_6_code 87 = .ok (.iconst 0, 1) := by decide +kernel
theorem d_K_agree_88 : decode prog_9_method_6_code 88 = .ok (.ireturn, 1) := by decide +kernel
theorem d_K_agree_189 : decode prog_9_method_6_code 189 = .ok (.iconst 0, 1) := by decide +kernel
theorem d_K_agree_190 : decode prog_9_method_6_code 190 = .ok (.ireturn, 1) := by decide +kernel
theorem d_K_agree_185 : decode prog_9_method_6_code 185 = .ok (.iconst 1, 1) := by decide +kernel
theorem d_K_agree_186 : decode prog_9_method_6_code 186 = .ok (.goto 4, 3) := by decide +kernel
theorem d_K_agree_95 : decode prog_9_method_6_code 95 = .ok (.iload 5, 2) := by decide +kernel
theorem d_K_agree_97 : decode prog_9_method_6_code 97 = .ok (.aload_n 3, 1) := by decide +kernel
theorem d_K_agree_98 : decode prog_9_method_6_code 98 = .ok (.getfield 38, 3) := by decide +kernel
theorem d_K_agree_101 : decode prog_9_method_6_code 101 = .ok (.if_icmp .ge 39, 3) := by decide +kernel
theorem d_K_agree_140 : decode prog_9_method_6_code 140 = .ok (.aload_n 0, 1) := by decide +kernel
theorem d_K_agree_141 : decode prog_9_method_6_code 141 = .ok (.getfield 11, 3) := by decide +kernel
theorem d_K_agree_144 : decode prog_9_method_6_code 144 = .ok (.iconst 5, 1) := by decide +kernel
theorem d_K_agree_145 : decode prog_9_method_6_code 145 = .ok (.aaload, 1) := by decide +kernel
theorem d_K_agree_146 : decode prog_9_method_6_code 146 = .ok (.astore 5, 2) := by decide +kernel
theorem d_K_agree_148 : decode prog_9_method_6_code 148 = .ok (.iload 4, 2) := by decide +kernel
theorem d_K_agree_150 : decode prog_9_method_6_code 150 = .ok (.iload_n 2, 1) := by decide +kernel
theorem d_K_agree_151 : decode prog_9_method_6_code 151 = .ok (.if_icmp .ne 38, 3) := by decide +kernel
theorem d_K_agree_154 : decode prog_9_method_6_code 154 = .ok (.aload 5, 2) := by decide +kernel
theorem d_K_agree_156 : decode prog_9_method_6_code 156 = .ok (.ifnull 29, 3) := by decide +kernel
theorem d_K_agree_159 : decode prog_9_method_6_code 159 = .ok (.aload 5, 2) := by decide +kernel
theorem d_K_agree_161 : decode prog_9_method_6_code 161 = .ok (.getfield 38, 3) := by decide +kernel
theorem d_K_agree_164 : decode prog_9_method_6_code 164 = .ok (.ifCond .eq 21, 3) := by decide +kernel
theorem d_K_agree_167 : decode prog_9_method_6_code 167 = .ok (.aload 5, 2) := by decide +kernel
theorem d_K_agree_169 : decode prog_9_method_6_code 169 = .ok (.aload_n 1, 1) := by decide +kernel
theorem d_K_agree_170 : decode prog_9_method_6_code 170 = .ok (.aload 5, 2) := by decide +kernel
theorem d_K_agree_172 : decode prog_9_method_6_code 172 = .ok (.getfield 38, 3) := by decide +kernel
theorem d_K_agree_175 : decode prog_9_method_6_code 175 = .ok (.iconst 1, 1) := by decide +kernel
theorem d_K_agree_176 : decode prog_9_method_6_code 176 = .ok (.isub, 1) := by decide +kernel
theorem d_K_agree_177 : decode prog_9_method_6_code 177 = .ok (.iconst 0, 1) := by decide +kernel
theorem d_K_agree_178 : decode prog_9_method_6_code 178 = .ok (.invokevirtual 41, 3) := by decide +kernel
theorem d_K_agree_181 : decode prog_9_method_6_code 181 = .ok (.iload_n 2, 1) := by decide +kernel
theorem d_K_agree_182 : decode prog_9_method_6_code 182 = .ok (.if_icmp .gt 7, 3) := by decide +kernel
theorem d_K_agree_104 : decode prog_9_method_6_code 104 = .ok (.iload 4, 2) := by decide +kernel
theorem d_K_agree_106 : decode prog_9_method_6_code 106 = .ok (.aload_n 0, 1) := by decide +kernel
theorem d_K_agree_107 : decode prog_9_method_6_code 107 = .ok (.aload_n 1, 1) := by decide +kernel
theorem d_K_agree_108 : decode prog_9_method_6_code 108 = .ok (.iload 5, 2) := by decide +kernel
theorem d_K_agree_110 : decode prog_9_method_6_code 110 = .ok (.invokevirtual 56, 3) := by decide +kernel
set_option maxRecDepth 20000 in
theorem w_547 : Cond.methodLink "MovieBoxes$Track" 56 ⟨"MovieBoxes$Track", "until", "([BI)I"⟩ ∈ gt := gt_of (in_t3 (List.mem_of_getElem? (i := 67) rfl)) rfl
set_option maxRecDepth 20000 in
theorem w_548 : Cond.instanceMethod ⟨"MovieBoxes$Track", "until", "([BI)I"⟩ ∈ gt := gt_of (in_t3 (List.mem_of_getElem? (i := 68) rfl)) rfl
set_option maxRecDepth 20000 in
theorem w_549 : Cond.selects "MovieBoxes$Track" ⟨"MovieBoxes$Track", "until", "([BI)I"⟩ ⟨"MovieBoxes$Track", "until", "([BI)I"⟩ ∈ gt := gt_of (in_t3 (List.mem_of_getElem? (i := 69) rfl)) rfl
set_option maxRecDepth 20000 in
theorem w_550 : Cond.code ⟨"MovieBoxes$Track", "until", "([BI)I"⟩ prog_9_method_5_code 3 (some .int) ∈ gt := gt_of (in_t3 (List.mem_of_getElem? (i := 70) rfl)) rfl
theorem lk_K_56 : LkV "MovieBoxes$Track" 56 q_K_until 2 := ⟨(List.forall_mem_cons.mpr ⟨w_547, (List.forall_mem_cons.mpr ⟨w_548, (List.forall_mem_cons.mpr ⟨w_549, (List.forall_mem_cons.mpr ⟨w_7, (fun _ h => absurd h List.not_mem_nil)⟩)⟩)⟩)⟩), w_550, by decide +kernel⟩
theorem d_K_agree_113 : decode prog_9_method_6_code 113 = .ok (.aload_n 3, 1) := by decide +kernel
theorem d_K_agree_114 : decode prog_9_method_6_code 114 = .ok (.aload_n 1, 1) := by decide +kernel
theorem d_K_agree_115 : decode prog_9_method_6_code 115 = .ok (.iload 5, 2) := by decide +kernel
theorem d_K_agree_117 : decode prog_9_method_6_code 117 = .ok (.iconst 0, 1) := by decide +kernel
theorem d_K_agree_118 : decode prog_9_method_6_code 118 = .ok (.invokevirtual 41, 3) := by decide +kernel
theorem d_K_agree_121 : decode prog_9_method_6_code 121 = .ok (.isub, 1) := by decide +kernel
theorem d_K_agree_122 : decode prog_9_method_6_code 122 = .ok (.aload_n 3, 1) := by decide +kernel
theorem d_K_agree_123 : decode prog_9_method_6_code 123 = .ok (.aload_n 1, 1) := by decide +kernel
theorem d_K_agree_124 : decode prog_9_method_6_code 124 = .ok (.iload 5, 2) := by decide +kernel
theorem d_K_agree_126 : decode prog_9_method_6_code 126 = .ok (.iconst 1, 1) := by decide +kernel
theorem d_K_agree_127 : decode prog_9_method_6_code 127 = .ok (.invokevirtual 41, 3) := by decide +kernel
theorem d_K_agree_130 : decode prog_9_method_6_code 130 = .ok (.imul, 1) := by decide +kernel
theorem d_K_agree_131 : decode prog_9_method_6_code 131 = .ok (.iadd, 1) := by decide +kernel
theorem d_K_agree_132 : decode prog_9_method_6_code 132 = .ok (.istore 4, 2) := by decide +kernel
theorem d_K_agree_134 : decode prog_9_method_6_code 134 = .ok (.iinc 5 1, 3) := by decide +kernel
theorem d_K_agree_137 : decode prog_9_method_6_code 137 = .ok (.goto (-42), 3) := by decide +kernel
theorem d_K_agree_89 : decode prog_9_method_6_code 89 = .ok (.iconst 0, 1) := by decide +kernel
theorem d_K_agree_90 : decode prog_9_method_6_code 90 = .ok (.istore 4, 2) := by decide +kernel
theorem d_K_agree_92 : decode prog_9_method_6_code 92 = .ok (.iconst 0, 1) := by decide +kernel
theorem d_K_agree_93 : decode prog_9_method_6_code 93 = .ok (.istore 5, 2) := by decide +kernel
theorem d_K_agree_51 : decode prog_9_method_6_code 51 = .ok (.aload_n 3, 1) := by decide +kernel
theorem d_K_agree_52 : decode prog_9_method_6_code 52 = .ok (.getfield 38, 3) := by decide +kernel
theorem d_K_agree_55 : decode prog_9_method_6_code 55 = .ok (.ifCond .ne 13, 3) := by decide +kernel
theorem d_K_agree_68 : decode prog_9_method_6_code 68 = .ok (.aload_n 3, 1) := by decide +kernel
theorem d_K_agree_69 : decode prog_9_method_6_code 69 = .ok (.aload_n 1, 1) := by decide +kernel
theorem d_K_agree_70 : decode prog_9_method_6_code 70 = .ok (.aload_n 3, 1) := by decide +kernel
theorem d_K_agree_71 : decode prog_9_method_6_code 71 = .ok (.getfield 38, 3) := by decide +kernel
theorem d_K_agree_74 : decode prog_9_method_6_code 74 = .ok (.iconst 1, 1) := by decide +kernel
theorem d_K_agree_75 : decode prog_9_method_6_code 75 = .ok (.isub, 1) := by decide +kernel
theorem d_K_agree_76 : decode prog_9_method_6_code 76 = .ok (.iconst 0, 1) := by decide +kernel
theorem d_K_agree_77 : decode prog_9_method_6_code 77 = .ok (.invokevirtual 41, 3) := by decide +kernel
theorem d_K_agree_80 : decode prog_9_method_6_code 80 = .ok (.aload_n 0, 1) := by decide +kernel
theorem d_K_agree_81 : decode prog_9_method_6_code 81 = .ok (.invokevirtual 45, 3) := by decide +kernel
theorem d_K_agree_84 : decode prog_9_method_6_code 84 = .ok (.if_icmp .le 5, 3) := by decide +kernel
theorem d_K_agree_58 : decode prog_9_method_6_code 58 = .ok (.aload_n 0, 1) := by decide +kernel
theorem d_K_agree_59 : decode prog_9_method_6_code 59 = .ok (.invokevirtual 45, 3) := by decide +kernel
theorem d_K_agree_62 : decode prog_9_method_6_code 62 = .ok (.ifCond .le 27, 3) := by decide +kernel
theorem d_K_agree_65 : decode prog_9_method_6_code 65 = .ok (.goto 22, 3) := by decide +kernel
theorem d_K_agree_0 : decode prog_9_method_6_code 0 = .ok (.aload_n 0, 1) := by decide +kernel
theorem d_K_agree_1 : decode prog_9_method_6_code 1 = .ok (.invokevirtual 49, 3) := by decide +kernel
set_option maxRecDepth 20000 in
theorem w_531 : Cond.methodLink "MovieBoxes$Track" 49 ⟨"MovieBoxes$Track", "sampleCount", "()I"⟩ ∈ gt := gt_of (in_t3 (List.mem_of_getElem? (i := 51) rfl)) rfl
set_option maxRecDepth 20000 in
theorem w_532 : Cond.instanceMethod ⟨"MovieBoxes$Track", "sampleCount", "()I"⟩ ∈ gt := gt_of (in_t3 (List.mem_of_getElem? (i := 52) rfl)) rfl
set_option maxRecDepth 20000 in
theorem w_533 : Cond.selects "MovieBoxes$Track" ⟨"MovieBoxes$Track", "sampleCount", "()I"⟩ ⟨"MovieBoxes$Track", "sampleCount", "()I"⟩ ∈ gt := gt_of (in_t3 (List.mem_of_getElem? (i := 53) rfl)) rfl
set_option maxRecDepth 20000 in
theorem w_534 : Cond.code ⟨"MovieBoxes$Track", "sampleCount", "()I"⟩ prog_9_method_3_code 1 (some .int) ∈ gt := gt_of (in_t3 (List.mem_of_getElem? (i := 54) rfl)) rfl
theorem lk_K_49 : LkV "MovieBoxes$Track" 49 q_K_sampleCount 0 := ⟨(List.forall_mem_cons.mpr ⟨w_531, (List.forall_mem_cons.mpr ⟨w_532, (List.forall_mem_cons.mpr ⟨w_533, (List.forall_mem_cons.mpr ⟨w_7, (fun _ h => absurd h List.not_mem_nil)⟩)⟩)⟩)⟩), w_534, by decide +kernel⟩
theorem d_K_agree_4 : decode prog_9_method_6_code 4 = .ok (.istore_n 2, 1) := by decide +kernel
theorem d_K_agree_5 : decode prog_9_method_6_code 5 = .ok (.aload_n 0, 1) := by decide +kernel
theorem d_K_agree_6 : decode prog_9_method_6_code 6 = .ok (.getfield 11, 3) := by decide +kernel
theorem d_K_agree_9 : decode prog_9_method_6_code 9 = .ok (.iconst 2, 1) := by decide +kernel
theorem d_K_agree_10 : decode prog_9_method_6_code 10 = .ok (.aaload, 1) := by decide +kernel
theorem d_K_agree_11 : decode prog_9_method_6_code 11 = .ok (.astore_n 3, 1) := by decide +kernel
theorem d_K_agree_12 : decode prog_9_method_6_code 12 = .ok (.aload_n 0, 1) := by decide +kernel
theorem d_K_agree_13 : decode prog_9_method_6_code 13 = .ok (.getfield 11, 3) := by decide +kernel
theorem d_K_agree_16 : decode prog_9_method_6_code 16 = .ok (.iconst 0, 1) := by decide +kernel
theorem d_K_agree_17 : decode prog_9_method_6_code 17 = .ok (.aaload, 1) := by decide +kernel
theorem d_K_agree_18 : decode prog_9_method_6_code 18 = .ok (.aload_n 1, 1) := by decide +kernel
theorem d_K_agree_19 : decode prog_9_method_6_code 19 = .ok (.invokevirtual 52, 3) := by decide +kernel
set_option maxRecDepth 20000 in
theorem w_535 : Cond.methodLink "MovieBoxes$Track" 52 ⟨"MovieBoxes$Table", "sum", "([B)I"⟩ ∈ gt := gt_of (in_t3 (List.mem_of_getElem? (i := 55) rfl)) rfl
set_option maxRecDepth 20000 in
theorem w_536 : Cond.instanceMethod ⟨"MovieBoxes$Table", "sum", "([B)I"⟩ ∈ gt := gt_of (in_t3 (List.mem_of_getElem? (i := 56) rfl)) rfl
set_option maxRecDepth 20000 in
theorem w_537 : Cond.selects "MovieBoxes$Table" ⟨"MovieBoxes$Table", "sum", "([B)I"⟩ ⟨"MovieBoxes$Table", "sum", "([B)I"⟩ ∈ gt := gt_of (in_t3 (List.mem_of_getElem? (i := 57) rfl)) rfl
set_option maxRecDepth 20000 in
theorem w_541 : Cond.code ⟨"MovieBoxes$Table", "sum", "([B)I"⟩ prog_8_method_4_code 4 (some .int) ∈ gt := gt_of (in_t3 (List.mem_of_getElem? (i := 61) rfl)) rfl
theorem lk_K_52 : LkV "MovieBoxes$Track" 52 q_T_sum 1 := ⟨(List.forall_mem_cons.mpr ⟨w_535, (List.forall_mem_cons.mpr ⟨w_536, (List.forall_mem_cons.mpr ⟨w_537, (List.forall_mem_cons.mpr ⟨w_12, (fun _ h => absurd h List.not_mem_nil)⟩)⟩)⟩)⟩), w_541, by decide +kernel⟩
theorem d_K_agree_22 : decode prog_9_method_6_code 22 = .ok (.iload_n 2, 1) := by decide +kernel
theorem d_K_agree_23 : decode prog_9_method_6_code 23 = .ok (.if_icmp .ne 26, 3) := by decide +kernel
theorem d_K_agree_26 : decode prog_9_method_6_code 26 = .ok (.aload_n 0, 1) := by decide +kernel
theorem d_K_agree_27 : decode prog_9_method_6_code 27 = .ok (.getfield 11, 3) := by decide +kernel
theorem d_K_agree_30 : decode prog_9_method_6_code 30 = .ok (.iconst 1, 1) := by decide +kernel
theorem d_K_agree_31 : decode prog_9_method_6_code 31 = .ok (.aaload, 1) := by decide +kernel
theorem d_K_agree_32 : decode prog_9_method_6_code 32 = .ok (.ifnull 19, 3) := by decide +kernel
theorem d_K_agree_35 : decode prog_9_method_6_code 35 = .ok (.aload_n 0, 1) := by decide +kernel
theorem d_K_agree_36 : decode prog_9_method_6_code 36 = .ok (.getfield 11, 3) := by decide +kernel
theorem d_K_agree_39 : decode prog_9_method_6_code 39 = .ok (.iconst 1, 1) := by decide +kernel
theorem d_K_agree_40 : decode prog_9_method_6_code 40 = .ok (.aaload, 1) := by decide +kernel
theorem d_K_agree_41 : decode prog_9_method_6_code 41 = .ok (.aload_n 1, 1) := by decide +kernel
theorem d_K_agree_42 : decode prog_9_method_6_code 42 = .ok (.invokevirtual 52, 3) := by decide +kernel
theorem d_K_agree_45 : decode prog_9_method_6_code 45 = .ok (.iload_n 2, 1) := by decide +kernel
theorem d_K_agree_46 : decode prog_9_method_6_code 46 = .ok (.if_icmp .eq 5, 3) := by decide +kernel
/-! ===== the component: agree ===== -/
section XAGREE
variable (G : gG) (l : Launch) (y : xP) (z v : mS) (t : Nat)
theorem tK_tz (hK : tK y z v t) {sl : Int} (hs : sl = 0 ∨ sl = 1 ∨ sl = 6) (h0 : 0 ≤ ts v t sl) : tz y z (ts v t sl) 2 := by
  have hX := hK.2.2.1 sl (by omega) (by omega) h0
  have hw : wdO (z 26 (ts v t sl)) = 2 := by
    have := wd_at y z v t (hK := hK) h0 (by omega)
    rcases hs with rfl | rfl | rfl
    · exact this.1 rfl
    · exact this.2.1 rfl
    · exact this.2.2.2.2 rfl
  obtain ⟨x1, x2, x3, x4, x5, x6, x7, x8⟩ := id hX
  have h7 := x7 (by omega)
  rw [if_neg (by omega)] at x5
  have hb := pv_b hK.1.2.2 (ts v t sl) 0
  refine ⟨tK_k hK h0 (by omega), tK_cT hK h0 (by omega), ⟨x4.1, x4.2.1, hw⟩, x3.1, x3.2.1, x3.2.2.2, ?_, by omega, by omega⟩
  rw [hw] at h7
  rw [x5]
  exact h7
theorem c_ksum (hK : tK y z v t) {sl : Int} (hs : sl = 0 ∨ sl = 1) (h0 : 0 ≤ ts v t sl) : Ct G l q_T_sum 2 0 0 [.ref (yo y (ts v t sl)), .ref (yc y 1)] (xW G y z) (fun r w => r = some (vI (totO v (ts v t sl))) ∧ w = xW G y z) := by
  have hX := hK.2.2.1 sl (by omega) (by omega) h0
  have := c_T_sum G l y z (ts v t sl) hK.1.2.1 (tK_tz y z v t hK (by omega) h0)
  rw [hX.2.2.2.2.1, if_neg (by omega), hX.pv_eq] at this
  exact this
theorem sS_b (hb : byOk v) (r : Int) : 0 ≤ sS v t r ∧ sS v t r ≤ 66000 := by
  have h1 := pv_b hb (pbx v t) 0
  have h2 := pv_b hb (tb v t 2) (1 + 3 * r)
  have e1 : cC v t = pv v (pbx v t) 0 := rfl
  have e2 : cF v t r = pv v (tb v t 2) (1 + 3 * r) := rfl
  unfold sS
  split
  · have := smp_b (t := (t : Int)) hb (cF v t r - 1).toNat; omega
  · have := smp_b (t := (t : Int)) hb (cC v t).toNat; omega
theorem totO_b (hb : byOk v) (k : Int) : 0 ≤ totO v k ∧ totO v k ≤ 66000 := by
  have h1 := pv_b hb k 0
  have := sumI_b (f := fun r => pv v k (1 + 2 * r)) (fun i => pv_b hb _ _) (pv v k 0).toNat
  unfold totO
  omega
set_option maxRecDepth 8000 in
set_option maxHeartbeats 8000000 in
theorem c_K_agree (hK : tK y z v t) (hA : chA v t) (hS : 0 ≤ tb v t 6 → syA v t) : Ct G l q_K_agree 3 0 0 [.ref (yc y (7 + t)), .ref (yc y 1)] (xW G y z) (fun r w => r = some (vI (b2 (¬ cntBad v t))) ∧ w = xW G y z) := by
  have hb := hK.1.2.2
  have bn := pv_b hb (tb v t 3) 1
  have bR := pv_b hb (tb v t 2) 0
  have bC := pv_b hb (pbx v t) 0
  have ecR : cR v t = pv v (tb v t 2) 0 := rfl
  have ecC : cC v t = pv v (pbx v t) 0 := rfl
  refine Ct.intro [some (.ref (yc y (7 + t))), some (.ref (yc y 1)), none, none, none, none] (by decide) (Nat.le_of_ble_eq_true rfl) rfl (fun sz => ?_)
  generalize hQ : (fun r w => r = some (vI (b2 (¬ cntBad v t))) ∧ w = xW G y z) = Q
  have q0 : cntBad v t → Q (some (vI 0)) (xW G y z) := by
    intro h; rw [← hQ]; exact ⟨by rw [b2_f (fun q => q h)], rfl⟩
  have q1 : ¬ cntBad v t → Q (some (vI 1)) (xW G y z) := by
    intro h; rw [← hQ]; exact ⟨by rw [b2_t h], rfl⟩
  have f49 : ∀ lv, cntBad v t → WP (mth G l q_K_agree 3 0 0 (xW G y z) sz Q) 0 0 (xW G y z) 49 lv [] := by
    intro lv h
    refine r_iconst d_K_agree_49 ?_
    refine r_zret d_K_agree_50 rfl (by first | exact Or.inl rfl | exact Or.inr rfl) (Nat.le_of_ble_eq_true rfl) (Nat.le_of_ble_eq_true rfl) ?_
    exact q0 h
  have f87 : ∀ lv, cntBad v t → WP (mth G l q_K_agree 3 0 0 (xW G y z) sz Q) 0 0 (xW G y z) 87 lv [] := by
    intro lv h
    refine r_iconst d_K_agree_87 ?_
    refine r_zret d_K_agree_88 rfl (by first | exact Or.inl rfl | exact Or.inr rfl) (Nat.le_of_ble_eq_true rfl) (Nat.le_of_ble_eq_true rfl) ?_
    exact q0 h
  have f189 : ∀ lv, cntBad v t → WP (mth G l q_K_agree 3 0 0 (xW G y z) sz Q) 0 0 (xW G y z) 189 lv [] := by
    intro lv h
    refine r_iconst d_K_agree_189 ?_
    refine r_zret d_K_agree_190 rfl (by first | exact Or.inl rfl | exact Or.inr rfl) (Nat.le_of_ble_eq_true rfl) (Nat.le_of_ble_eq_true rfl) ?_
    exact q0 h
  have f185 : ∀ lv, ¬ cntBad v t → WP (mth G l q_K_agree 3 0 0 (xW G y z) sz Q) 0 0 (xW G y z) 185 lv [] := by
    intro lv h
    refine r_iconst d_K_agree_185 ?_
    refine r_goto 190 d_K_agree_186 (by decide) ?_
    refine r_zret d_K_agree_190 rfl (by first | exact Or.inl rfl | exact Or.inr rfl) (Nat.le_of_ble_eq_true rfl) (Nat.le_of_ble_eq_true rfl) ?_
    exact q1 h
  -- behind the sums
  have c51 : totO v (tb v t 0) = pv v (tb v t 3) 1 → (0 ≤ tb v t 1 → totO v (tb v t 1) = pv v (tb v t 3) 1) → WP (mth G l q_K_agree 3 0 0 (xW G y z) sz Q) 0 0 (xW G y z) 51 [some (.ref (yc y (7 + t))), some (.ref (yc y 1)), some (vI (pv v (tb v t 3) 1)), some (.ref (yo y (tb v t 2))), none, none] [] := by
    intro s0 s1
    have c89 : (cR v t = 0 → cC v t = 0) → (∀ r, 0 ≤ r → r < cR v t → cF v t r ≤ cC v t) → WP (mth G l q_K_agree 3 0 0 (xW G y z) sz Q) 0 0 (xW G y z) 89 [some (.ref (yc y (7 + t))), some (.ref (yc y 1)), some (vI (pv v (tb v t 3) 1)), some (.ref (yo y (tb v t 2))), none, none] [] := by
      intro hC hF
      have cbI : cntBad v t ↔ ¬ smp v t (pv v (pbx v t) 0).toNat = pv v (tb v t 3) 1 ∨ (0 ≤ tb v t 6 ∧ exB (fun r => pv v (tb v t 3) 1 < pv v (tb v t 6) (1 + r)) (pv v (tb v t 6) 0).toNat) := by
        unfold cntBad
        constructor
        · rintro (h | ⟨h, h'⟩ | ⟨h, h'⟩ | ⟨r, h, h'⟩ | h | h)
          · exact absurd s0 h
          · exact absurd (s1 h) h'
          · have := hC h'; omega
          · have := hF r (by omega) (by omega)
            have h' : cC v t < cF v t r := h'
            omega
          · exact Or.inl h
          · exact Or.inr h
        · rintro (h | h)
          · exact Or.inr (Or.inr (Or.inr (Or.inr (Or.inl h))))
          · exact Or.inr (Or.inr (Or.inr (Or.inr (Or.inr h))))
      have lp : ∀ (f r : Nat), (r : Int) ≤ cR v t → (cR v t).toNat - r = f → WP (mth G l q_K_agree 3 0 0 (xW G y z) sz Q) 0 0 (xW G y z) 95 [some (.ref (yc y (7 + t))), some (.ref (yc y 1)), some (vI (pv v (tb v t 3) 1)), some (.ref (yo y (tb v t 2))), some (vI (sS v t r)), some (vI r)] [] := by
        intro f
        induction f with
        | zero =>
          intro r hr hf
          have bS := sS_b v t hb r
          have eS : sS v t r = smp v t (pv v (pbx v t) 0).toNat := by unfold sS; rw [if_neg (by omega)]
          refine r_iload d_K_agree_95 rfl ?_
          refine r_aload_n d_K_agree_97 rfl rfl ?_
          refine r_rows (sl := 2) d_K_agree_98 ft_K_38 hK hK.2.2.2.2.1 ⟨by omega, by omega⟩ ?_
          show WP _ _ _ _ _ _ (vI (pv v (tb v t 2) 0) :: _)
          refine r_icmp_ge 140 d_K_agree_101 (by decide) (by unfold i32; omega) (by unfold i32; omega) (fun h1 => ?_) (fun h1 => ?_)
          · refine r_aload_n d_K_agree_140 rfl rfl ?_
            refine r_get d_K_agree_141 fl_K_11_6 (7+t) (xw_k hK.1.1) rfl ?_
            refine r_iconst d_K_agree_144 ?_
            refine r_tabN (sl := 5) d_K_agree_145 hK ⟨by omega, by omega⟩ ?_
            show WP _ _ _ _ _ _ (va_rf (rN (yo y) (tb v t 6)) :: _)
            refine r_astore d_K_agree_146 (Nat.le_of_ble_eq_true rfl) rfl (isRf_rf _) ?_
            show WP _ _ _ _ _ [_, _, _, _, _, _] _
            refine r_iload d_K_agree_148 rfl ?_
            refine r_iload_n d_K_agree_150 rfl ?_
            refine r_icmp_ne 189 d_K_agree_151 (by decide) (by unfold i32; omega) (by unfold i32; omega) (fun h2 => ?_) (fun h2 => ?_)
            · exact f189 _ (cbI.mpr (Or.inl (by rw [← eS]; exact h2)))
            · have h2 := Classical.not_not.mp h2
              rw [eS] at h2
              refine r_aload d_K_agree_154 rfl (isRf_rf _) ?_
              refine r_ifnull 185 d_K_agree_156 (by decide) (fun h3 => ?_) (fun h3a h3 => ?_)
              · have h4 := rN_none.mp h3
                exact f185 _ (fun q => by
                  rcases cbI.mp q with q | q
                  · exact q h2
                  · omega)
              · have p5 : 0 ≤ ts v t 5 := Classical.byContradiction fun q => by rw [rN_none.mpr (show tb v t 6 < 0 from by have : ¬ 0 ≤ tb v t 6 := q; omega)] at h3; cases h3
                have p6 : 0 ≤ tb v t 6 := p5
                rw [rN_nn p6]
                have bY := pv_b hb (tb v t 6) 0
                refine r_aload d_K_agree_159 rfl rfl ?_
                refine r_rows (sl := 5) d_K_agree_161 ft_K_38 hK p5 ⟨by omega, by omega⟩ ?_
                show WP _ _ _ _ _ _ (vI (pv v (tb v t 6) 0) :: _)
                refine r_if_eq 185 d_K_agree_164 (by decide) (by unfold i32; omega) (fun h4 => ?_) (fun h4 => ?_)
                · exact f185 _ (fun q => by
                    rcases cbI.mp q with q | ⟨-, j, q, -⟩
                    · exact q h2
                    · omega)
                · have bL := pv_b hb (tb v t 6) (1 + (pv v (tb v t 6) 0 - 1))
                  refine r_aload d_K_agree_167 rfl rfl ?_
                  refine r_aload_n d_K_agree_169 rfl rfl ?_
                  refine r_aload d_K_agree_170 rfl rfl ?_
                  refine r_rows (sl := 5) d_K_agree_172 ft_K_38 hK p5 ⟨by omega, by omega⟩ ?_
                  show WP _ _ _ _ _ _ (vI (pv v (tb v t 6) 0) :: _)
                  refine r_iconst d_K_agree_175 ?_
                  refine r_isub d_K_agree_176 ?_
                  refine r_iconst d_K_agree_177 ?_
                  refine r_cV3 d_K_agree_178 lk_K_41 (c_c5 G l y z v t hK p5 (pv v (tb v t 6) 0 - 1) (0) (by omega) (by omega)) (13 + tb v t 6).toNat rfl (xw_bc (tK_k hK p5 ⟨by omega, by omega⟩) (tK_cT hK p5 (by omega))) (Nat.le_of_ble_eq_true rfl) (rok rfl rfl) ⟨(Nat.le_of_ble_eq_true rfl), (Nat.le_of_ble_eq_true rfl)⟩ (fun r ws2 hq => ?_)
                  obtain ⟨rfl, rfl⟩ := hq
                  show WP _ _ _ _ _ _ (_ :: _)
                  refine r_iload_n d_K_agree_181 rfl ?_
                  refine r_icmp_gt 189 d_K_agree_182 (by decide) (by unfold i32; omega) (by unfold i32; omega) (fun h5 => ?_) (fun h5 => ?_)
                  · exact f189 _ (cbI.mpr (Or.inr ⟨p6, (pv v (tb v t 6) 0 - 1).toNat, by omega, by rw [show (((pv v (tb v t 6) 0 - 1).toNat : Nat) : Int) = pv v (tb v t 6) 0 - 1 by omega]; omega⟩))
                  · refine f185 _ (fun q => ?_)
                    rcases cbI.mp q with q | ⟨-, j, q, q'⟩
                    · exact q h2
                    · have mono : ∀ d : Nat, (j : Int) + d < pv v (tb v t 6) 0 → pv v (tb v t 6) (1 + j) ≤ pv v (tb v t 6) (1 + ((j : Int) + d)) := by
                        intro d
                        induction d with
                        | zero => intro _; rw [show (j : Int) + ((0 : Nat) : Int) = j by omega]; exact Int.le_refl _
                        | succ d ih =>
                          intro hd
                          have a := ih (by omega)
                          have b := (hS p6 ((j : Int) + (d + 1 : Nat)) (by omega) hd).2 (by omega)
                          rw [show (j : Int) + ((d + 1 : Nat) : Int) = 1 + ((j : Int) + d) by omega] at b ⊢
                          omega
                      have := mono (pv v (tb v t 6) 0 - 1 - j).toNat (by omega)
                      rw [show (j : Int) + (((pv v (tb v t 6) 0 - 1 - j).toNat : Nat) : Int) = pv v (tb v t 6) 0 - 1 by omega] at this
                      omega
          · omega
        | succ f ih =>
          intro r hr hf
          have bS := sS_b v t hb r
          have bS' := sS_b v t hb (r + 1)
          have e1 := sS_s hA hF (r := r) (by omega) (by omega)
          have eF : cF v t r = pv v (tb v t 2) (1 + 3 * (r : Int)) := rfl
          have eM : cM v t r = pv v (tb v t 2) (2 + 3 * (r : Int)) := rfl
          refine r_iload d_K_agree_95 rfl ?_
          refine r_aload_n d_K_agree_97 rfl rfl ?_
          refine r_rows (sl := 2) d_K_agree_98 ft_K_38 hK hK.2.2.2.2.1 ⟨by omega, by omega⟩ ?_
          show WP _ _ _ _ _ _ (vI (pv v (tb v t 2) 0) :: _)
          refine r_icmp_ge 140 d_K_agree_101 (by decide) (by unfold i32; omega) (by unfold i32; omega) (fun h1 => ?_) (fun h1 => ?_)
          · omega
          · refine r_iload d_K_agree_104 rfl ?_
            refine r_aload_n d_K_agree_106 rfl rfl ?_
            refine r_aload_n d_K_agree_107 rfl rfl ?_
            refine r_iload d_K_agree_108 rfl ?_
            refine r_cV2 d_K_agree_110 lk_K_56 (c_K_until G l y z v t hK r (by omega)) (7+t) rfl (xw_k hK.1.1) (Nat.le_of_ble_eq_true rfl) (rok rfl rfl) ⟨(Nat.le_of_ble_eq_true rfl), (Nat.le_of_ble_eq_true rfl)⟩ (fun r ws2 hq => ?_)
            obtain ⟨rfl, rfl⟩ := hq
            show WP _ _ _ _ _ _ (_ :: _)
            refine r_aload_n d_K_agree_113 rfl rfl ?_
            refine r_aload_n d_K_agree_114 rfl rfl ?_
            refine r_iload d_K_agree_115 rfl ?_
            refine r_iconst d_K_agree_117 ?_
            refine r_cV3 d_K_agree_118 lk_K_41 (c_c2 G l y z v t hK ((r : Int)) (0) (by omega) (by omega)) (13 + tb v t 2).toNat rfl (xw_bc (tK_k hK hK.2.2.2.2.1 ⟨by omega, by omega⟩) (tK_cT hK hK.2.2.2.2.1 (by omega))) (Nat.le_of_ble_eq_true rfl) (rok rfl rfl) ⟨(Nat.le_of_ble_eq_true rfl), (Nat.le_of_ble_eq_true rfl)⟩ (fun r ws2 hq => ?_)
            obtain ⟨rfl, rfl⟩ := hq
            show WP _ _ _ _ _ _ (_ :: _)
            rw [Int.add_zero]
            refine r_isub d_K_agree_121 ?_
            refine r_aload_n d_K_agree_122 rfl rfl ?_
            refine r_aload_n d_K_agree_123 rfl rfl ?_
            refine r_iload d_K_agree_124 rfl ?_
            refine r_iconst d_K_agree_126 ?_
            refine r_cV3 d_K_agree_127 lk_K_41 (c_c2 G l y z v t hK ((r : Int)) (1) (by omega) (by omega)) (13 + tb v t 2).toNat rfl (xw_bc (tK_k hK hK.2.2.2.2.1 ⟨by omega, by omega⟩) (tK_cT hK hK.2.2.2.2.1 (by omega))) (Nat.le_of_ble_eq_true rfl) (rok rfl rfl) ⟨(Nat.le_of_ble_eq_true rfl), (Nat.le_of_ble_eq_true rfl)⟩ (fun r ws2 hq => ?_)
            obtain ⟨rfl, rfl⟩ := hq
            show WP _ _ _ _ _ _ (_ :: _)
            rw [show 1 + 3 * (r : Int) + 1 = 2 + 3 * r by omega]
            refine r_imul d_K_agree_130 ?_
            refine r_iadd d_K_agree_131 ?_
            refine r_istore d_K_agree_132 (Nat.le_of_ble_eq_true rfl) rfl ?_
            show WP _ _ _ _ _ [_, _, _, _, _, _] _
            refine r_iinc d_K_agree_134 rfl (Nat.le_of_ble_eq_true rfl) rfl ?_
            show WP _ _ _ _ _ [_, _, _, _, _, _] _
            refine r_goto 95 d_K_agree_137 (by decide) ?_
            have e2 : sS v t r + (uN v t r - pv v (tb v t 2) (1 + 3 * (r : Int))) * pv v (tb v t 2) (2 + 3 * (r : Int)) = sS v t ((r + 1 : Nat) : Int) := e1.symm
            rw [e2]
            exact ih (r + 1) (by omega) (by omega)
      refine r_iconst d_K_agree_89 ?_
      refine r_istore d_K_agree_90 (Nat.le_of_ble_eq_true rfl) rfl ?_
      show WP _ _ _ _ _ [_, _, _, _, _, _] _
      refine r_iconst d_K_agree_92 ?_
      refine r_istore d_K_agree_93 (Nat.le_of_ble_eq_true rfl) rfl ?_
      show WP _ _ _ _ _ [_, _, _, _, _, _] _
      have := lp _ 0 (by omega) rfl
      rw [show ((0 : Nat) : Int) = 0 from rfl, sS_0 hA hC hb] at this
      exact this
    refine r_aload_n d_K_agree_51 rfl rfl ?_
    refine r_rows (sl := 2) d_K_agree_52 ft_K_38 hK hK.2.2.2.2.1 ⟨by omega, by omega⟩ ?_
    show WP _ _ _ _ _ _ (vI (pv v (tb v t 2) 0) :: _)
    refine r_if_ne 68 d_K_agree_55 (by decide) (by unfold i32; omega) (fun h1 => ?_) (fun h1 => ?_)
    · have bL := pv_b hb (tb v t 2) (1 + 3 * (pv v (tb v t 2) 0 - 1))
      refine r_aload_n d_K_agree_68 rfl rfl ?_
      refine r_aload_n d_K_agree_69 rfl rfl ?_
      refine r_aload_n d_K_agree_70 rfl rfl ?_
      refine r_rows (sl := 2) d_K_agree_71 ft_K_38 hK hK.2.2.2.2.1 ⟨by omega, by omega⟩ ?_
      show WP _ _ _ _ _ _ (vI (pv v (tb v t 2) 0) :: _)
      refine r_iconst d_K_agree_74 ?_
      refine r_isub d_K_agree_75 ?_
      refine r_iconst d_K_agree_76 ?_
      refine r_cV3 d_K_agree_77 lk_K_41 (c_c2 G l y z v t hK (pv v (tb v t 2) 0 - 1) (0) (by omega) (by omega)) (13 + tb v t 2).toNat rfl (xw_bc (tK_k hK hK.2.2.2.2.1 ⟨by omega, by omega⟩) (tK_cT hK hK.2.2.2.2.1 (by omega))) (Nat.le_of_ble_eq_true rfl) (rok rfl rfl) ⟨(Nat.le_of_ble_eq_true rfl), (Nat.le_of_ble_eq_true rfl)⟩ (fun r ws2 hq => ?_)
      obtain ⟨rfl, rfl⟩ := hq
      show WP _ _ _ _ _ _ (_ :: _)
      rw [Int.add_zero]
      refine r_aload_n d_K_agree_80 rfl rfl ?_
      refine r_cV0 d_K_agree_81 lk_K_45 (c_K_chunkCount G l y z v t hK) (7+t) rfl (xw_k hK.1.1) (Nat.le_of_ble_eq_true rfl) (rok rfl rfl) ⟨(Nat.le_of_ble_eq_true rfl), (Nat.le_of_ble_eq_true rfl)⟩ (fun r ws2 hq => ?_)
      obtain ⟨rfl, rfl⟩ := hq
      show WP _ _ _ _ _ _ (_ :: _)
      refine r_icmp_le 89 d_K_agree_84 (by decide) (by unfold i32; omega) (by unfold i32; omega) (fun h2 => ?_) (fun h2 => ?_)
      · refine c89 (fun q => by omega) (fun r r0 r1 => ?_)
        have h2 : cF v t (cR v t - 1) ≤ cC v t := h2
        by_cases e : r = cR v t - 1
        · rw [e]; exact h2
        · have := chA_mono hA (r := r) (j := cR v t - 1) r0 (by omega) (by omega)
          omega
      · refine f87 _ (Or.inr (Or.inr (Or.inr (Or.inl ⟨(pv v (tb v t 2) 0 - 1).toNat, by omega, ?_⟩))))
        rw [show (((pv v (tb v t 2) 0 - 1).toNat : Nat) : Int) = pv v (tb v t 2) 0 - 1 by omega]
        omega
    · refine r_aload_n d_K_agree_58 rfl rfl ?_
      refine r_cV0 d_K_agree_59 lk_K_45 (c_K_chunkCount G l y z v t hK) (7+t) rfl (xw_k hK.1.1) (Nat.le_of_ble_eq_true rfl) (rok rfl rfl) ⟨(Nat.le_of_ble_eq_true rfl), (Nat.le_of_ble_eq_true rfl)⟩ (fun r ws2 hq => ?_)
      obtain ⟨rfl, rfl⟩ := hq
      show WP _ _ _ _ _ _ (_ :: _)
      refine r_if_le 89 d_K_agree_62 (by decide) (by unfold i32; omega) (fun h2 => ?_) (fun h2 => ?_)
      · exact c89 (fun _ => by omega) (fun r r0 r1 => by omega)
      · refine r_goto 87 d_K_agree_65 (by decide) ?_
        exact f87 _ (Or.inr (Or.inr (Or.inl ⟨by omega, by omega⟩)))
  have bt0 := totO_b v hb (tb v t 0)
  have bt1 := totO_b v hb (tb v t 1)
  refine r_aload_n d_K_agree_0 rfl rfl ?_
  refine r_cV0 d_K_agree_1 lk_K_49 (c_K_sampleCount G l y z v t hK) (7+t) rfl (xw_k hK.1.1) (Nat.le_of_ble_eq_true rfl) (rok rfl rfl) ⟨(Nat.le_of_ble_eq_true rfl), (Nat.le_of_ble_eq_true rfl)⟩ (fun r ws2 hq => ?_)
  obtain ⟨rfl, rfl⟩ := hq
  show WP _ _ _ _ _ _ (_ :: _)
  refine r_istore_n d_K_agree_4 (Nat.le_of_ble_eq_true rfl) rfl ?_
  show WP _ _ _ _ _ [_, _, _, _, _, _] _
  refine r_aload_n d_K_agree_5 rfl rfl ?_
  refine r_get d_K_agree_6 fl_K_11_6 (7+t) (xw_k hK.1.1) rfl ?_
  refine r_iconst d_K_agree_9 ?_
  refine r_tab (sl := 2) d_K_agree_10 hK hK.2.2.2.2.1 ⟨by omega, by omega⟩ ?_
  show WP _ _ _ _ _ _ (.ref (yo y (tb v t 2)) :: _)
  refine r_astore_n d_K_agree_11 (Nat.le_of_ble_eq_true rfl) rfl rfl ?_
  show WP _ _ _ _ _ [_, _, _, _, _, _] _
  refine r_aload_n d_K_agree_12 rfl rfl ?_
  refine r_get d_K_agree_13 fl_K_11_6 (7+t) (xw_k hK.1.1) rfl ?_
  refine r_iconst d_K_agree_16 ?_
  refine r_tab (sl := 0) d_K_agree_17 hK hK.2.2.2.1 ⟨by omega, by omega⟩ ?_
  show WP _ _ _ _ _ _ (.ref (yo y (tb v t 0)) :: _)
  refine r_aload_n d_K_agree_18 rfl rfl ?_
  refine r_cV1 d_K_agree_19 lk_K_52 (c_ksum G l y z v t hK (sl := 0) (by omega) hK.2.2.2.1) (13 + tb v t 0).toNat rfl (xw_bc (tK_k hK hK.2.2.2.1 ⟨by omega, by omega⟩) (tK_cT hK hK.2.2.2.1 (by omega))) (Nat.le_of_ble_eq_true rfl) (rok rfl rfl) ⟨(Nat.le_of_ble_eq_true rfl), (Nat.le_of_ble_eq_true rfl)⟩ (fun r ws2 hq => ?_)
  obtain ⟨rfl, rfl⟩ := hq
  show WP _ _ _ _ _ _ (_ :: _)
  show WP _ _ _ _ _ _ (vI (totO v (tb v t 0)) :: _)
  refine r_iload_n d_K_agree_22 rfl ?_
  refine r_icmp_ne 49 d_K_agree_23 (by decide) (by unfold i32; omega) (by unfold i32; omega) (fun h1 => ?_) (fun h1 => ?_)
  · exact f49 _ (Or.inl h1)
  have h1 := Classical.not_not.mp h1
  refine r_aload_n d_K_agree_26 rfl rfl ?_
  refine r_get d_K_agree_27 fl_K_11_6 (7+t) (xw_k hK.1.1) rfl ?_
  refine r_iconst d_K_agree_30 ?_
  refine r_tabN (sl := 1) d_K_agree_31 hK ⟨by omega, by omega⟩ ?_
  show WP _ _ _ _ _ _ (va_rf (rN (yo y) (tb v t 1)) :: _)
  refine r_ifnull 51 d_K_agree_32 (by decide) (fun h2 => ?_) (fun h2a h2 => ?_)
  · have h3 := rN_none.mp h2
    exact c51 h1 (fun q => by omega)
  · have p1 : 0 ≤ ts v t 1 := Classical.byContradiction fun q => by rw [rN_none.mpr (show tb v t 1 < 0 from by have : ¬ 0 ≤ tb v t 1 := q; omega)] at h2; cases h2
    refine r_aload_n d_K_agree_35 rfl rfl ?_
    refine r_get d_K_agree_36 fl_K_11_6 (7+t) (xw_k hK.1.1) rfl ?_
    refine r_iconst d_K_agree_39 ?_
    refine r_tab (sl := 1) d_K_agree_40 hK p1 ⟨by omega, by omega⟩ ?_
    show WP _ _ _ _ _ _ (.ref (yo y (tb v t 1)) :: _)
    refine r_aload_n d_K_agree_41 rfl rfl ?_
    refine r_cV1 d_K_agree_42 lk_K_52 (c_ksum G l y z v t hK (sl := 1) (by omega) p1) (13 + tb v t 1).toNat rfl (xw_bc (tK_k hK p1 ⟨by omega, by omega⟩) (tK_cT hK p1 (by omega))) (Nat.le_of_ble_eq_true rfl) (rok rfl rfl) ⟨(Nat.le_of_ble_eq_true rfl), (Nat.le_of_ble_eq_true rfl)⟩ (fun r ws2 hq => ?_)
    obtain ⟨rfl, rfl⟩ := hq
    show WP _ _ _ _ _ _ (_ :: _)
    show WP _ _ _ _ _ _ (vI (totO v (tb v t 1)) :: _)
    refine r_iload_n d_K_agree_45 rfl ?_
    refine r_icmp_eq 51 d_K_agree_46 (by decide) (by unfold i32; omega) (by unfold i32; omega) (fun h3 => ?_) (fun h3 => ?_)
    · exact c51 h1 (fun _ => h3)
    · exact f49 _ (Or.inr (Or.inl ⟨p1, h3⟩))
end XAGREE
