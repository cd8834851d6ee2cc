abbrev q_M_settle : Mi := (⟨"MovieBoxesModel", "settle", "(I)Z"⟩, prog_12_method_26_code, 8, (some .boolean))
theorem d_M_settle_7 : decode prog_12_method_26_code 7 = .ok (.iload 4, 2) := by decide +kernel
theorem d_M_settle_9 : decode prog_12_method_26_code 9 = .ok (.aload_n 0, 1) := by decide +kernel
theorem d_M_settle_10 : decode prog_12_method_26_code 10 = .ok (.iload_n 1, 1) := by decide +kernel
theorem d_M_settle_11 : decode prog_12_method_26_code 11 = .ok (.invokevirtual 116, 3) := by decide +kernel
theorem d_M_settle_14 : decode prog_12_method_26_code 14 = .ok (.if_icmp .gt 107, 3) := by decide +kernel
theorem d_M_settle_121 : decode prog_12_method_26_code 121 = .ok (.iload_n 2, 1) := by decide +kernel
theorem d_M_settle_122 : decode prog_12_method_26_code 122 = .ok (.ireturn, 1) := by decide +kernel
theorem d_M_settle_17 : decode prog_12_method_26_code 17 = .ok (.iconst 0, 1) := by decide +kernel
theorem d_M_settle_18 : decode prog_12_method_26_code 18 = .ok (.istore 5, 2) := by decide +kernel
theorem d_M_settle_20 : decode prog_12_method_26_code 20 = .ok (.aload_n 0, 1) := by decide +kernel
theorem d_M_settle_21 : decode prog_12_method_26_code 21 = .ok (.iload_n 1, 1) := by decide +kernel
theorem d_M_settle_22 : decode prog_12_method_26_code 22 = .ok (.iload 4, 2) := by decide +kernel
theorem d_M_settle_24 : decode prog_12_method_26_code 24 = .ok (.invokevirtual 119, 3) := by decide +kernel
theorem d_M_settle_114 : decode prog_12_method_26_code 114 = .ok (.istore_n 2, 1) := by decide +kernel
theorem d_M_settle_115 : decode prog_12_method_26_code 115 = .ok (.iinc 4 1, 3) := by decide +kernel
theorem d_M_settle_118 : decode prog_12_method_26_code 118 = .ok (.goto (-111), 3) := by decide +kernel
theorem d_M_settle_32 : decode prog_12_method_26_code 32 = .ok (.iload 7, 2) := by decide +kernel
theorem d_M_settle_34 : decode prog_12_method_26_code 34 = .ok (.iload 6, 2) := by decide +kernel
theorem d_M_settle_36 : decode prog_12_method_26_code 36 = .ok (.if_icmp .ge 23, 3) := by decide +kernel
theorem d_M_settle_59 : decode prog_12_method_26_code 59 = .ok (.aload_n 0, 1) := by decide +kernel
theorem d_M_settle_60 : decode prog_12_method_26_code 60 = .ok (.iload_n 1, 1) := by decide +kernel
theorem d_M_settle_61 : decode prog_12_method_26_code 61 = .ok (.iload 4, 2) := by decide +kernel
theorem d_M_settle_63 : decode prog_12_method_26_code 63 = .ok (.invokevirtual 131, 3) := by decide +kernel
set_option maxRecDepth 20000 in
theorem w_868 : Cond.methodLink "MovieBoxesModel" 131 ⟨"MovieBoxesModel", "chunkPlace", "(II)I"⟩ ∈ gt := gt_of (in_t4 (List.mem_of_getElem? (i := 148) rfl)) rfl
set_option maxRecDepth 20000 in
theorem w_870 : Cond.instanceMethod ⟨"MovieBoxesModel", "chunkPlace", "(II)I"⟩ ∈ gt := gt_of (in_t4 (List.mem_of_getElem? (i := 150) rfl)) rfl
set_option maxRecDepth 20000 in
theorem ws_M_chunkPlace : Cond.selects "MovieBoxesModel" ⟨"MovieBoxesModel", "chunkPlace", "(II)I"⟩ ⟨"MovieBoxesModel", "chunkPlace", "(II)I"⟩ ∈ gt := gt_of (in_p2 (List.mem_of_getElem? (i := 13) rfl)) rfl
set_option maxRecDepth 20000 in
theorem w_871 : Cond.code ⟨"MovieBoxesModel", "chunkPlace", "(II)I"⟩ prog_12_method_22_code 4 (some .int) ∈ gt := gt_of (in_t4 (List.mem_of_getElem? (i := 151) rfl)) rfl
theorem lk_M_131 : LkV "MovieBoxesModel" 131 q_M_chunkPlace 2 := ⟨(List.forall_mem_cons.mpr ⟨w_868, (List.forall_mem_cons.mpr ⟨w_870, (List.forall_mem_cons.mpr ⟨ws_M_chunkPlace, (List.forall_mem_cons.mpr ⟨w_8, (fun _ h => absurd h List.not_mem_nil)⟩)⟩)⟩)⟩), w_871, by decide +kernel⟩
theorem d_M_settle_66 : decode prog_12_method_26_code 66 = .ok (.istore 7, 2) := by decide +kernel
theorem d_M_settle_68 : decode prog_12_method_26_code 68 = .ok (.aload_n 0, 1) := by decide +kernel
theorem d_M_settle_69 : decode prog_12_method_26_code 69 = .ok (.getfield 43, 3) := by decide +kernel
set_option maxRecDepth 20000 in
theorem w_727 : Cond.fieldLink "MovieBoxesModel" 43 "MovieBoxesModel" "home" "[I" ∈ gt := gt_of (in_t4 (List.mem_of_getElem? (i := 7) rfl)) rfl
theorem fl_M_43_7 : FL "MovieBoxesModel" 43 7 15 true := ⟨_, _, _, "MovieBoxesModel", rfl, by decide, rfl, Or.inl w_727, Or.inl rfl⟩
theorem d_M_settle_72 : decode prog_12_method_26_code 72 = .ok (.sipush 256, 3) := by decide +kernel
theorem d_M_settle_75 : decode prog_12_method_26_code 75 = .ok (.iload_n 1, 1) := by decide +kernel
theorem d_M_settle_76 : decode prog_12_method_26_code 76 = .ok (.imul, 1) := by decide +kernel
theorem d_M_settle_77 : decode prog_12_method_26_code 77 = .ok (.iload 4, 2) := by decide +kernel
theorem d_M_settle_79 : decode prog_12_method_26_code 79 = .ok (.iadd, 1) := by decide +kernel
theorem d_M_settle_80 : decode prog_12_method_26_code 80 = .ok (.aload_n 0, 1) := by decide +kernel
theorem d_M_settle_81 : decode prog_12_method_26_code 81 = .ok (.iload 7, 2) := by decide +kernel
theorem d_M_settle_83 : decode prog_12_method_26_code 83 = .ok (.iload 5, 2) := by decide +kernel
theorem d_M_settle_85 : decode prog_12_method_26_code 85 = .ok (.invokevirtual 134, 3) := by decide +kernel
set_option maxRecDepth 20000 in
theorem w_872 : Cond.methodLink "MovieBoxesModel" 134 ⟨"MovieBoxesModel", "dataBox", "(II)I"⟩ ∈ gt := gt_of (in_t4 (List.mem_of_getElem? (i := 152) rfl)) rfl
set_option maxRecDepth 20000 in
theorem w_874 : Cond.instanceMethod ⟨"MovieBoxesModel", "dataBox", "(II)I"⟩ ∈ gt := gt_of (in_t4 (List.mem_of_getElem? (i := 154) rfl)) rfl
set_option maxRecDepth 20000 in
theorem ws_M_dataBox : Cond.selects "MovieBoxesModel" ⟨"MovieBoxesModel", "dataBox", "(II)I"⟩ ⟨"MovieBoxesModel", "dataBox", "(II)I"⟩ ∈ gt := gt_of (in_p2 (List.mem_of_getElem? (i := 14) rfl)) rfl
set_option maxRecDepth 20000 in
theorem w_875 : Cond.code ⟨"MovieBoxesModel", "dataBox", "(II)I"⟩ prog_12_method_25_code 4 (some .int) ∈ gt := gt_of (in_t4 (List.mem_of_getElem? (i := 155) rfl)) rfl
theorem lk_M_134 : LkV "MovieBoxesModel" 134 q_M_dataBox 2 := ⟨(List.forall_mem_cons.mpr ⟨w_872, (List.forall_mem_cons.mpr ⟨w_874, (List.forall_mem_cons.mpr ⟨ws_M_dataBox, (List.forall_mem_cons.mpr ⟨w_8, (fun _ h => absurd h List.not_mem_nil)⟩)⟩)⟩)⟩), w_875, by decide +kernel⟩
theorem d_M_settle_88 : decode prog_12_method_26_code 88 = .ok (.iastore, 1) := by decide +kernel
theorem d_M_settle_89 : decode prog_12_method_26_code 89 = .ok (.iload_n 2, 1) := by decide +kernel
theorem d_M_settle_90 : decode prog_12_method_26_code 90 = .ok (.ifCond .eq 23, 3) := by decide +kernel
theorem d_M_settle_113 : decode prog_12_method_26_code 113 = .ok (.iconst 0, 1) := by decide +kernel
theorem d_M_settle_93 : decode prog_12_method_26_code 93 = .ok (.aload_n 0, 1) := by decide +kernel
theorem d_M_settle_94 : decode prog_12_method_26_code 94 = .ok (.getfield 43, 3) := by decide +kernel
theorem d_M_settle_97 : decode prog_12_method_26_code 97 = .ok (.sipush 256, 3) := by decide +kernel
theorem d_M_settle_100 : decode prog_12_method_26_code 100 = .ok (.iload_n 1, 1) := by decide +kernel
theorem d_M_settle_101 : decode prog_12_method_26_code 101 = .ok (.imul, 1) := by decide +kernel
theorem d_M_settle_102 : decode prog_12_method_26_code 102 = .ok (.iload 4, 2) := by decide +kernel
theorem d_M_settle_104 : decode prog_12_method_26_code 104 = .ok (.iadd, 1) := by decide +kernel
theorem d_M_settle_105 : decode prog_12_method_26_code 105 = .ok (.iaload, 1) := by decide +kernel
theorem d_M_settle_106 : decode prog_12_method_26_code 106 = .ok (.ifCond .lt 7, 3) := by decide +kernel
theorem d_M_settle_109 : decode prog_12_method_26_code 109 = .ok (.iconst 1, 1) := by decide +kernel
theorem d_M_settle_110 : decode prog_12_method_26_code 110 = .ok (.goto 4, 3) := by decide +kernel
theorem d_M_settle_39 : decode prog_12_method_26_code 39 = .ok (.iload 5, 2) := by decide +kernel
theorem d_M_settle_41 : decode prog_12_method_26_code 41 = .ok (.aload_n 0, 1) := by decide +kernel
theorem d_M_settle_42 : decode prog_12_method_26_code 42 = .ok (.iload_n 1, 1) := by decide +kernel
theorem d_M_settle_43 : decode prog_12_method_26_code 43 = .ok (.iload_n 3, 1) := by decide +kernel
theorem d_M_settle_44 : decode prog_12_method_26_code 44 = .ok (.invokevirtual 128, 3) := by decide +kernel
set_option maxRecDepth 20000 in
theorem w_864 : Cond.methodLink "MovieBoxesModel" 128 ⟨"MovieBoxesModel", "sizeOf", "(II)I"⟩ ∈ gt := gt_of (in_t4 (List.mem_of_getElem? (i := 144) rfl)) rfl
set_option maxRecDepth 20000 in
theorem w_866 : Cond.instanceMethod ⟨"MovieBoxesModel", "sizeOf", "(II)I"⟩ ∈ gt := gt_of (in_t4 (List.mem_of_getElem? (i := 146) rfl)) rfl
set_option maxRecDepth 20000 in
theorem ws_M_sizeOf : Cond.selects "MovieBoxesModel" ⟨"MovieBoxesModel", "sizeOf", "(II)I"⟩ ⟨"MovieBoxesModel", "sizeOf", "(II)I"⟩ ∈ gt := gt_of (in_p2 (List.mem_of_getElem? (i := 12) rfl)) rfl
set_option maxRecDepth 20000 in
theorem w_867 : Cond.code ⟨"MovieBoxesModel", "sizeOf", "(II)I"⟩ prog_12_method_19_code 5 (some .int) ∈ gt := gt_of (in_t4 (List.mem_of_getElem? (i := 147) rfl)) rfl
theorem lk_M_128 : LkV "MovieBoxesModel" 128 q_M_sizeOf 2 := ⟨(List.forall_mem_cons.mpr ⟨w_864, (List.forall_mem_cons.mpr ⟨w_866, (List.forall_mem_cons.mpr ⟨ws_M_sizeOf, (List.forall_mem_cons.mpr ⟨w_8, (fun _ h => absurd h List.not_mem_nil)⟩)⟩)⟩)⟩), w_867, by decide +kernel⟩
theorem d_M_settle_47 : decode prog_12_method_26_code 47 = .ok (.iadd, 1) := by decide +kernel
theorem d_M_settle_48 : decode prog_12_method_26_code 48 = .ok (.istore 5, 2) := by decide +kernel
theorem d_M_settle_50 : decode prog_12_method_26_code 50 = .ok (.iinc 3 1, 3) := by decide +kernel
theorem d_M_settle_53 : decode prog_12_method_26_code 53 = .ok (.iinc 7 1, 3) := by decide +kernel
theorem d_M_settle_56 : decode prog_12_method_26_code 56 = .ok (.goto (-24), 3) := by decide +kernel
theorem d_M_settle_27 : decode prog_12_method_26_code 27 = .ok (.istore 6, 2) := by decide +kernel
theorem d_M_settle_29 : decode prog_12_method_26_code 29 = .ok (.iconst 0, 1) := by decide +kernel
theorem d_M_settle_30 : decode prog_12_method_26_code 30 = .ok (.istore 7, 2) := by decide +kernel
theorem d_M_settle_0 : decode prog_12_method_26_code 0 = .ok (.iconst 1, 1) := by decide +kernel
theorem d_M_settle_1 : decode prog_12_method_26_code 1 = .ok (.istore_n 2, 1) := by decide +kernel
theorem d_M_settle_2 : decode prog_12_method_26_code 2 = .ok (.iconst 0, 1) := by decide +kernel
theorem d_M_settle_3 : decode prog_12_method_26_code 3 = .ok (.istore_n 3, 1) := by decide +kernel
theorem d_M_settle_4 : decode prog_12_method_26_code 4 = .ok (.iconst 1, 1) := by decide +kernel
theorem d_M_settle_5 : decode prog_12_method_26_code 5 = .ok (.istore 4, 2) := by decide +kernel
/-! ===== the model: settle ===== -/
section MODEL9
variable (G : gG) (l : Launch) (ad : Nat → Nat)
theorem szO_b {s : mS} (h : byOk s) (t i : Int) : 0 ≤ szO s t i ∧ szO s t i < 256 := by
  unfold szO
  split <;> exact pv_b h _ _
theorem cpl_b {s : mS} (h : byOk s) (t i : Int) : 0 ≤ cpl s t i ∧ cpl s t i < 65536 := by
  unfold cpl
  split
  · have := pv_b h (pbx s t) i; omega
  · have := pv_b h (pbx s t) (2 * i - 1); have := pv_b h (pbx s t) (2 * i); omega
theorem c_M_settle (s : mS) (t : Int) (hb : byOk s) (ht : 0 ≤ t ∧ t ≤ 1) (hT : trOk s t) (hr : rdOk s) (hC : ¬ cntBad s t) : Ct G l q_M_settle 3 0 0 [.ref (ad 0), vI t] (mW G ad s) (fun r w => r = some (vI (b2 (¬ exB (fun c => hmO s t c.toNat < 0) (pv s (pbx s t) 0).toNat))) ∧ w = mW G ad (stS s t (pv s (pbx s t) 0).toNat)) := by
  refine Ct.intro [some (.ref (ad 0)), some (vI t), none, none, none, none, none, none] (by decide) (Nat.le_of_ble_eq_true rfl) rfl (fun sz => ?_)
  generalize hQ : (fun r w => r = some (vI (b2 (¬ exB (fun c => hmO s t c.toNat < 0) (pv s (pbx s t) 0).toNat))) ∧ w = mW G ad (stS s t (pv s (pbx s t) 0).toNat)) = Q
  have i4 := hT.i ht (kd := 4) (by omega)
  obtain ⟨k0, k1, k2, k3, k4, k6, k7, k8⟩ := id hT
  have hn := pv_b hb (tb s t 3) 1
  have hch := pv_b hb (pbx s t) 0
  have hro := pv_b hb (tb s t 2) 0
  unfold cntBad at hC
  have c5 : smp s t (pv s (pbx s t) 0).toNat = pv s (tb s t 3) 1 := Classical.byContradiction fun h => hC (Or.inr (Or.inr (Or.inr (Or.inr (Or.inl h)))))
  have c3 : 0 < pv s (pbx s t) 0 → 1 ≤ pv s (tb s t 2) 0 := fun h => Classical.byContradiction fun q => hC (Or.inr (Or.inr (Or.inl ⟨h, by omega⟩)))
  have loop : ∀ (m c : Nat) (x5 x6 x7 : Option Value), (c : Int) + m = pv s (pbx s t) 0 → WP (mth G l q_M_settle 3 0 0 (mW G ad s) sz Q) 0 0 (mW G ad (stS s t c)) 7 [some (.ref (ad 0)), some (vI t), some (vI (b2 (¬ exB (fun c => hmO s t c.toNat < 0) c))), some (vI (smp s t c)), some (vI (1 + c)), x5, x6, x7] [] := by
    intro m
    induction m with
    | zero =>
      intro c x5 x6 x7 hc
      have f1 := stS_c s t c 1 (by omega)
      have f2 := stS_c s t c 2 (by omega)
      have f3 := stS_c s t c 3 (by omega)
      have f4 := stS_c s t c 4 (by omega)
      have f5 := stS_c s t c 5 (by omega)
      have f11 := stS_c s t c 11 (by omega)
      generalize hu : stS s t c = u at f1 f2 f3 f4 f5 f11
      have epv : pv u = pv s := by funext k i; unfold pv; rw [f1, f2, f5]
      have etb : ∀ kd, tb u t kd = tb s t kd := fun kd => by show u 11 _ = s 11 _; rw [f11]
      have epb : pbx u t = pbx s t := by unfold pbx; rw [etb, etb]
      refine r_iload d_M_settle_7 rfl ?_
      refine r_aload_n d_M_settle_9 rfl rfl ?_
      refine r_iload_n d_M_settle_10 rfl ?_
      refine r_cV1 d_M_settle_11 lk_M_116 (c_M_chunkCount G l ad u t ht (by rw [etb]; unfold i32; omega) (by rw [epb]; unfold bxok; rw [f2, f3, f5]; exact k4.1) (by rw [epb, f3, f5]; exact k4.2.1)) 0 rfl rfl (Nat.le_of_ble_eq_true rfl) (rok rfl rfl) ⟨(Nat.le_of_ble_eq_true rfl), (Nat.le_of_ble_eq_true rfl)⟩ (fun r ws2 hq => ?_)
      obtain ⟨rfl, rfl⟩ := hq
      show WP _ _ _ _ _ _ (_ :: _)
      rw [epv, epb]
      refine r_icmp_gt 121 d_M_settle_14 (by decide) (by unfold i32; omega) (by unfold i32; omega) (fun g1 => ?_) (fun g1 => ?_)
      · refine r_iload_n d_M_settle_121 rfl ?_
        refine r_zret d_M_settle_122 rfl (b2_b _) (Nat.le_of_ble_eq_true rfl) (Nat.le_of_ble_eq_true rfl) ?_
        have : c = (pv s (pbx s t) 0).toNat := by omega
        rw [← hQ]; exact ⟨by rw [this], by rw [← hu, this]⟩
      · exact absurd g1 (by omega)
    | succ m ih =>
      intro c x5 x6 x7 hc
      have hstep : stS s t (c + 1) = sset (stS s t c) 12 (256 * t + (1 + c)) (hmO s t c) := rfl
      have ih2 := fun x5 x6 x7 => ih (c + 1) x5 x6 x7 (by omega)
      rw [hstep] at ih2
      have f0 := stS_c s t c 0 (by omega)
      have f1 := stS_c s t c 1 (by omega)
      have f2 := stS_c s t c 2 (by omega)
      have f3 := stS_c s t c 3 (by omega)
      have f4 := stS_c s t c 4 (by omega)
      have f5 := stS_c s t c 5 (by omega)
      have f6 := stS_c s t c 6 (by omega)
      have f7 := stS_c s t c 7 (by omega)
      have f11 := stS_c s t c 11 (by omega)
      generalize stS s t c = u at f0 f1 f2 f3 f4 f5 f6 f7 f11 ih2 ⊢
      have epv : pv u = pv s := by funext k i; unfold pv; rw [f1, f2, f5]
      have etb : ∀ kd, tb u t kd = tb s t kd := fun kd => by show u 11 _ = s 11 _; rw [f11]
      have epb : pbx u t = pbx s t := by unfold pbx; rw [etb, etb]
      have hbu : byOk u := fun j => by rw [f1]; exact hb j
      have erw : ∀ c r, rowU u (tb s t 2) c r = rowU s (tb s t 2) c r := by
        intro c r
        induction r with
        | zero => rfl
        | succ r ihr => unfold rowU; rw [epv, ihr]
      have hsm : 0 ≤ smp s t c ∧ smp s t c ≤ 255 * (c : Nat) := sumI_le (fun i => by have := mnO_b hb t (1 + i); omega) _
      have hsm1 : smp s t c + mnO s t (1 + c) ≤ pv s (tb s t 3) 1 := by
        have : smp s t (c + 1) ≤ smp s t (pv s (pbx s t) 0).toNat := sumI_mono (fun i => (mnO_b hb t (1 + i)).1) (by omega)
        rw [c5] at this
        exact this
      have hmn := mnO_b hb t (1 + c)
      have hmb : -1 ≤ hmO s t c ∧ hmO s t c < 20 := by
        have := dbx_b s (cpl s t (1 + c)) (cby s t c) (s 0 1).toNat 0 (by omega)
        have := hr.1
        unfold hmO; omega
      refine r_iload d_M_settle_7 rfl ?_
      refine r_aload_n d_M_settle_9 rfl rfl ?_
      refine r_iload_n d_M_settle_10 rfl ?_
      refine r_cV1 d_M_settle_11 lk_M_116 (c_M_chunkCount G l ad u t ht (by rw [etb]; unfold i32; omega) (by rw [epb]; unfold bxok; rw [f2, f3, f5]; exact k4.1) (by rw [epb, f3, f5]; exact k4.2.1)) 0 rfl rfl (Nat.le_of_ble_eq_true rfl) (rok rfl rfl) ⟨(Nat.le_of_ble_eq_true rfl), (Nat.le_of_ble_eq_true rfl)⟩ (fun r ws2 hq => ?_)
      obtain ⟨rfl, rfl⟩ := hq
      show WP _ _ _ _ _ _ (_ :: _)
      rw [epv, epb]
      refine r_icmp_gt 121 d_M_settle_14 (by decide) (by unfold i32; omega) (by unfold i32; omega) (fun g1 => ?_) (fun g1 => ?_)
      · exact absurd g1 (by omega)
      have hro2 := c3 (by omega)
      refine r_iconst d_M_settle_17 ?_
      refine r_istore d_M_settle_18 (Nat.le_of_ble_eq_true rfl) rfl ?_
      show WP _ _ _ _ _ [_, _, _, _, _, _, _, _] _
      refine r_aload_n d_M_settle_20 rfl rfl ?_
      refine r_iload_n d_M_settle_21 rfl ?_
      refine r_iload d_M_settle_22 rfl ?_
      refine r_cV2 d_M_settle_24 lk_M_119 (c_M_many G l ad u t (1 + c) hbu ht (by unfold i32; omega) (by rw [etb]; unfold tbl bxok; rw [epv, f2, f3, f5]; exact k2) (by rw [etb, epv]; exact hro2)) 0 rfl rfl (Nat.le_of_ble_eq_true rfl) (rok rfl rfl) ⟨(Nat.le_of_ble_eq_true rfl), (Nat.le_of_ble_eq_true rfl)⟩ (fun r ws2 hq => ?_)
      obtain ⟨rfl, rfl⟩ := hq
      show WP _ _ _ _ _ _ (_ :: _)
      rw [etb, epv, erw]
      show WP _ 0 0 _ _ _ (vI (mnO s t (1 + c)) :: _)
      have j114 : ∀ x, x = b2 (¬ exB (fun c => hmO s t c.toNat < 0) (c + 1)) → ∀ (x5 x6 x7 : Option Value), WP (mth G l q_M_settle 3 0 0 (mW G ad s) sz Q) 0 0 (mW G ad (sset u 12 (256 * t + (1 + c)) (hmO s t c))) 114 [some (.ref (ad 0)), some (vI t), some (vI (b2 (¬ exB (fun c => hmO s t c.toNat < 0) c))), some (vI (smp s t (c + 1))), some (vI (1 + c)), x5, x6, x7] [vI x] := by
        intro x hx x5 x6 x7
        rw [hx]
        refine r_istore_n d_M_settle_114 (Nat.le_of_ble_eq_true rfl) rfl ?_
        show WP _ _ _ _ _ [_, _, _, _, _, _, _, _] _
        refine r_iinc d_M_settle_115 rfl (Nat.le_of_ble_eq_true rfl) rfl ?_
        show WP _ _ _ _ _ [_, _, _, _, _, _, _, _] _
        refine r_goto 7 d_M_settle_118 (by decide) ?_
        rw [show (1 : Int) + (c : Int) + 1 = 1 + ((c + 1 : Nat) : Int) by omega]
        exact ih2 _ _ _
      have inner : ∀ (m2 i : Nat), (i : Int) + m2 = mnO s t (1 + c) → WP (mth G l q_M_settle 3 0 0 (mW G ad s) sz Q) 0 0 (mW G ad u) 32 [some (.ref (ad 0)), some (vI t), some (vI (b2 (¬ exB (fun c => hmO s t c.toNat < 0) c))), some (vI (smp s t c + i)), some (vI (1 + c)), some (vI (sumI (fun i => szO s t (smp s t c + i)) i)), some (vI (mnO s t (1 + c))), some (vI i)] [] := by
        intro m2
        induction m2 with
        | zero =>
          intro i hi
          have hcb : 0 ≤ sumI (fun i => szO s t (smp s t c + i)) i ∧ sumI (fun i => szO s t (smp s t c + i)) i ≤ 255 * (i : Nat) := sumI_le (fun j => by have := szO_b hb t (smp s t c + j); omega) _
          have hcp := cpl_b hb t (1 + c)
          refine r_iload d_M_settle_32 rfl ?_
          refine r_iload d_M_settle_34 rfl ?_
          refine r_icmp_ge 59 d_M_settle_36 (by decide) (by unfold i32; omega) (by unfold i32; omega) (fun q1 => ?_) (fun q1 => ?_)
          · refine r_aload_n d_M_settle_59 rfl rfl ?_
            refine r_iload_n d_M_settle_60 rfl ?_
            refine r_iload d_M_settle_61 rfl ?_
            refine r_cV2 d_M_settle_63 lk_M_131 (c_M_chunkPlace G l ad u t (1 + c) ht (by rw [etb]; unfold i32; omega) (by rw [epb]; unfold bxok; rw [f2, f3, f5]; exact k4.1) (by rw [epb, f4]; unfold i32; omega) (by rw [epb, f3, f4, f5]; refine ⟨fun h => ?_, fun h => ?_⟩; have := k4.2.2.1 h; omega; have := k4.2.2.2.1 h; omega)) 0 rfl rfl (Nat.le_of_ble_eq_true rfl) (rok rfl rfl) ⟨(Nat.le_of_ble_eq_true rfl), (Nat.le_of_ble_eq_true rfl)⟩ (fun r ws2 hq => ?_)
            obtain ⟨rfl, rfl⟩ := hq
            show WP _ _ _ _ _ _ (_ :: _)
            have ecp : cpl u t (1 + c) = cpl s t (1 + c) := by unfold cpl; rw [epb, epv, f4]
            rw [ecp]
            refine r_istore d_M_settle_66 (Nat.le_of_ble_eq_true rfl) rfl ?_
            show WP _ _ _ _ _ [_, _, _, _, _, _, _, _] _
            refine r_aload_n d_M_settle_68 rfl rfl ?_
            refine r_get d_M_settle_69 fl_M_43_7 0 rfl rfl ?_
            refine r_sipush d_M_settle_72 (by decide) ?_
            refine r_iload_n d_M_settle_75 rfl ?_
            refine r_imul d_M_settle_76 ?_
            refine r_iload d_M_settle_77 rfl ?_
            refine r_iadd d_M_settle_79 ?_
            refine r_aload_n d_M_settle_80 rfl rfl ?_
            refine r_iload d_M_settle_81 rfl ?_
            refine r_iload d_M_settle_83 rfl ?_
            refine r_cV2 d_M_settle_85 lk_M_134 (c_M_dataBox G l ad u (cpl s t (1 + c)) (sumI (fun i => szO s t (smp s t c + i)) i) (by unfold rdOk; rw [f0, f2, f3, f4, f5, f6, f7]; exact hr) (by omega) (by omega)) 0 rfl rfl (Nat.le_of_ble_eq_true rfl) (rok rfl rfl) ⟨(Nat.le_of_ble_eq_true rfl), (Nat.le_of_ble_eq_true rfl)⟩ (fun r ws2 hq => ?_)
            obtain ⟨rfl, rfl⟩ := hq
            show WP _ _ _ _ _ _ (_ :: _)
            have edb : dbx u (cpl s t (1 + c)) (sumI (fun i => szO s t (smp s t c + i)) i) (u 0 1).toNat 0 = hmO s t c := by
              rw [dbx_cg f2 f3 f4 f5 f6, f0]
              unfold hmO cby
              rw [show (mnO s t (1 + c)).toNat = i by omega]
            rw [edb]
            have esm : smp s t c + (i : Int) = smp s t (c + 1) := by
              show _ = smp s t c + mnO s t (1 + c)
              omega
            rw [esm]
            refine r_iast _ d_M_settle_88 12 rfl (by omega) mw_12 ?_
            refine r_iload_n d_M_settle_89 rfl ?_
            have hwb := b2_b (¬ exB (fun c => hmO s t c.toNat < 0) c)
            have hes : exB (fun c => hmO s t c.toNat < 0) (c + 1) ↔ exB (fun c => hmO s t c.toNat < 0) c ∨ hmO s t c < 0 := exB_s _ _
            refine r_if_eq 113 d_M_settle_90 (by decide) (by unfold i32; omega) (fun q2 => ?_) (fun q2 => ?_)
            · refine r_iconst d_M_settle_113 ?_
              exact j114 0 (by rw [b2_f]; intro h; exact b2_0.mp q2 (fun h2 => h (hes.mpr (Or.inl h2)))) _ _ _
            have hne := b2_1.mp (show b2 (¬ exB (fun c => hmO s t c.toNat < 0) c) = 1 by omega)
            refine r_aload_n d_M_settle_93 rfl rfl ?_
            refine r_get d_M_settle_94 fl_M_43_7 0 rfl rfl ?_
            refine r_sipush d_M_settle_97 (by decide) ?_
            refine r_iload_n d_M_settle_100 rfl ?_
            refine r_imul d_M_settle_101 ?_
            refine r_iload d_M_settle_102 rfl ?_
            refine r_iadd d_M_settle_104 ?_
            refine r_iald d_M_settle_105 12 rfl (by omega) ?_
            simp only [sset_at, updI_at, reduceIte]
            refine r_if_lt 113 d_M_settle_106 (by decide) (by unfold i32; omega) (fun q3 => ?_) (fun q3 => ?_)
            · refine r_iconst d_M_settle_113 ?_
              exact j114 0 (by rw [b2_f]; intro h; exact h (hes.mpr (Or.inr q3))) _ _ _
            · refine r_iconst d_M_settle_109 ?_
              refine r_goto 114 d_M_settle_110 (by decide) ?_
              exact j114 1 (by rw [b2_t]; intro h; rcases hes.mp h with h | h; exact hne h; omega) _ _ _
          · exact absurd q1 (by omega)
        | succ m2 ihm =>
          intro i hi
          refine r_iload d_M_settle_32 rfl ?_
          refine r_iload d_M_settle_34 rfl ?_
          refine r_icmp_ge 59 d_M_settle_36 (by decide) (by unfold i32; omega) (by unfold i32; omega) (fun q1 => ?_) (fun q1 => ?_)
          · exact absurd q1 (by omega)
          refine r_iload d_M_settle_39 rfl ?_
          refine r_aload_n d_M_settle_41 rfl rfl ?_
          refine r_iload_n d_M_settle_42 rfl ?_
          refine r_iload_n d_M_settle_43 rfl ?_
          refine r_cV2 d_M_settle_44 lk_M_128 (c_M_sizeOf G l ad u t (smp s t c + i) hbu ht (by rw [etb]; unfold bxok; rw [f2, f3, f5]; exact k3.1) (by rw [etb, f3, f5]; omega) (by rw [etb, epv, f3, f5]; intro h; have := k3.2.2 h; omega)) 0 rfl rfl (Nat.le_of_ble_eq_true rfl) (rok rfl rfl) ⟨(Nat.le_of_ble_eq_true rfl), (Nat.le_of_ble_eq_true rfl)⟩ (fun r ws2 hq => ?_)
          obtain ⟨rfl, rfl⟩ := hq
          show WP _ _ _ _ _ _ (_ :: _)
          have esz : szO u t (smp s t c + i) = szO s t (smp s t c + i) := by unfold szO; rw [etb, epv]
          rw [esz]
          refine r_iadd d_M_settle_47 ?_
          refine r_istore d_M_settle_48 (Nat.le_of_ble_eq_true rfl) rfl ?_
          show WP _ _ _ _ _ [_, _, _, _, _, _, _, _] _
          refine r_iinc d_M_settle_50 rfl (Nat.le_of_ble_eq_true rfl) rfl ?_
          show WP _ _ _ _ _ [_, _, _, _, _, _, _, _] _
          refine r_iinc d_M_settle_53 rfl (Nat.le_of_ble_eq_true rfl) rfl ?_
          show WP _ _ _ _ _ [_, _, _, _, _, _, _, _] _
          refine r_goto 32 d_M_settle_56 (by decide) ?_
          have J := ihm (i + 1) (by omega)
          rw [show smp s t c + ((i + 1 : Nat) : Int) = smp s t c + i + 1 by omega] at J
          exact J
      refine r_istore d_M_settle_27 (Nat.le_of_ble_eq_true rfl) rfl ?_
      show WP _ _ _ _ _ [_, _, _, _, _, _, _, _] _
      refine r_iconst d_M_settle_29 ?_
      refine r_istore d_M_settle_30 (Nat.le_of_ble_eq_true rfl) rfl ?_
      show WP _ _ _ _ _ [_, _, _, _, _, _, _, _] _
      have J := inner (mnO s t (1 + c)).toNat 0 (by omega)
      rw [show smp s t c + ((0 : Nat) : Int) = smp s t c by omega] at J
      exact J
  refine r_iconst d_M_settle_0 ?_
  refine r_istore_n d_M_settle_1 (Nat.le_of_ble_eq_true rfl) rfl ?_
  show WP _ _ _ _ _ [_, _, _, _, _, _, _, _] _
  refine r_iconst d_M_settle_2 ?_
  refine r_istore_n d_M_settle_3 (Nat.le_of_ble_eq_true rfl) rfl ?_
  show WP _ _ _ _ _ [_, _, _, _, _, _, _, _] _
  refine r_iconst d_M_settle_4 ?_
  refine r_istore d_M_settle_5 (Nat.le_of_ble_eq_true rfl) rfl ?_
  show WP _ _ _ _ _ [_, _, _, _, _, _, _, _] _
  have J := loop (pv s (pbx s t) 0).toNat 0 none none none (by omega)
  rw [b2_t (exB_0 _)] at J
  exact J
end MODEL9
