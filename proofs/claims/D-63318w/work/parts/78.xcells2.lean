abbrev q_S_cell : Mi := (⟨"MovieBoxes$SizeTable", "cell", "([BII)I"⟩, prog_7_method_3_code, 5, (some .int))
theorem d_S_cell_0 : decode prog_7_method_3_code 0 = .ok (.aload_n 1, 1) := by decide +kernel
theorem d_S_cell_1 : decode prog_7_method_3_code 1 = .ok (.aload_n 0, 1) := by decide +kernel
theorem d_S_cell_2 : decode prog_7_method_3_code 2 = .ok (.invokevirtual 16, 3) := by decide +kernel
set_option maxRecDepth 20000 in
theorem w_501 : Cond.methodLink "MovieBoxes$SizeTable" 16 ⟨"MovieBoxes$SizeTable", "start", "()I"⟩ ∈ gt := gt_of (in_t3 (List.mem_of_getElem? (i := 21) rfl)) rfl
set_option maxRecDepth 20000 in
theorem w_502 : Cond.sameMethod "MovieBoxes$SizeTable" "MovieBoxes$Box" "start" "()I" ∈ gt := gt_of (in_t3 (List.mem_of_getElem? (i := 22) rfl)) rfl
set_option maxRecDepth 20000 in
theorem w_503 : Cond.selects "MovieBoxes$SizeTable" ⟨"MovieBoxes$SizeTable", "start", "()I"⟩ ⟨"MovieBoxes$Box", "start", "()I"⟩ ∈ gt := gt_of (in_t3 (List.mem_of_getElem? (i := 23) rfl)) rfl
theorem lu_S_16_S : LkU "MovieBoxes$SizeTable" 16 "MovieBoxes$SizeTable" "MovieBoxes$Box" ⟨"MovieBoxes$SizeTable", "start", "()I"⟩ q_B_start 0 := ⟨(List.forall_mem_cons.mpr ⟨w_501, (List.forall_mem_cons.mpr ⟨w_502, (List.forall_mem_cons.mpr ⟨w_503, (List.forall_mem_cons.mpr ⟨w_250, (List.forall_mem_cons.mpr ⟨w_2, (fun _ h => absurd h List.not_mem_nil)⟩)⟩)⟩)⟩)⟩), w_251, Or.inl nw_248, by decide +kernel⟩
theorem d_S_cell_5 : decode prog_7_method_3_code 5 = .ok (.baload, 1) := by decide +kernel
theorem d_S_cell_6 : decode prog_7_method_3_code 6 = .ok (.istore 4, 2) := by decide +kernel
theorem d_S_cell_8 : decode prog_7_method_3_code 8 = .ok (.iload 4, 2) := by decide +kernel
theorem d_S_cell_10 : decode prog_7_method_3_code 10 = .ok (.ifCond .eq 8, 3) := by decide +kernel
theorem d_S_cell_18 : decode prog_7_method_3_code 18 = .ok (.aload_n 1, 1) := by decide +kernel
theorem d_S_cell_19 : decode prog_7_method_3_code 19 = .ok (.aload_n 0, 1) := by decide +kernel
theorem d_S_cell_20 : decode prog_7_method_3_code 20 = .ok (.invokevirtual 16, 3) := by decide +kernel
theorem d_S_cell_23 : decode prog_7_method_3_code 23 = .ok (.iconst 2, 1) := by decide +kernel
theorem d_S_cell_24 : decode prog_7_method_3_code 24 = .ok (.iadd, 1) := by decide +kernel
theorem d_S_cell_25 : decode prog_7_method_3_code 25 = .ok (.iload_n 2, 1) := by decide +kernel
theorem d_S_cell_26 : decode prog_7_method_3_code 26 = .ok (.iadd, 1) := by decide +kernel
theorem d_S_cell_27 : decode prog_7_method_3_code 27 = .ok (.baload, 1) := by decide +kernel
theorem d_S_cell_28 : decode prog_7_method_3_code 28 = .ok (.sipush 255, 3) := by decide +kernel
theorem d_S_cell_31 : decode prog_7_method_3_code 31 = .ok (.iand, 1) := by decide +kernel
theorem d_S_cell_32 : decode prog_7_method_3_code 32 = .ok (.ireturn, 1) := by decide +kernel
theorem d_S_cell_13 : decode prog_7_method_3_code 13 = .ok (.iload 4, 2) := by decide +kernel
theorem d_S_cell_15 : decode prog_7_method_3_code 15 = .ok (.goto 13, 3) := by decide +kernel
abbrev q_P_cell : Mi := (⟨"MovieBoxes$PlaceTable", "cell", "([BII)I"⟩, prog_6_method_3_code, 5, (some .int))
theorem d_P_cell_0 : decode prog_6_method_3_code 0 = .ok (.aload_n 0, 1) := by decide +kernel
theorem d_P_cell_1 : decode prog_6_method_3_code 1 = .ok (.invokevirtual 17, 3) := by decide +kernel
set_option maxRecDepth 20000 in
theorem w_519 : Cond.methodLink "MovieBoxes$PlaceTable" 17 ⟨"MovieBoxes$PlaceTable", "start", "()I"⟩ ∈ gt := gt_of (in_t3 (List.mem_of_getElem? (i := 39) rfl)) rfl
set_option maxRecDepth 20000 in
theorem w_520 : Cond.sameMethod "MovieBoxes$PlaceTable" "MovieBoxes$Box" "start" "()I" ∈ gt := gt_of (in_t3 (List.mem_of_getElem? (i := 40) rfl)) rfl
set_option maxRecDepth 20000 in
theorem w_521 : Cond.selects "MovieBoxes$PlaceTable" ⟨"MovieBoxes$PlaceTable", "start", "()I"⟩ ⟨"MovieBoxes$Box", "start", "()I"⟩ ∈ gt := gt_of (in_t3 (List.mem_of_getElem? (i := 41) rfl)) rfl
theorem lu_P_17_P : LkU "MovieBoxes$PlaceTable" 17 "MovieBoxes$PlaceTable" "MovieBoxes$Box" ⟨"MovieBoxes$PlaceTable", "start", "()I"⟩ q_B_start 0 := ⟨(List.forall_mem_cons.mpr ⟨w_519, (List.forall_mem_cons.mpr ⟨w_520, (List.forall_mem_cons.mpr ⟨w_521, (List.forall_mem_cons.mpr ⟨w_250, (List.forall_mem_cons.mpr ⟨w_2, (fun _ h => absurd h List.not_mem_nil)⟩)⟩)⟩)⟩)⟩), w_251, Or.inl nw_248, by decide +kernel⟩
theorem d_P_cell_4 : decode prog_6_method_3_code 4 = .ok (.iconst 1, 1) := by decide +kernel
theorem d_P_cell_5 : decode prog_6_method_3_code 5 = .ok (.iadd, 1) := by decide +kernel
theorem d_P_cell_6 : decode prog_6_method_3_code 6 = .ok (.iload_n 2, 1) := by decide +kernel
theorem d_P_cell_7 : decode prog_6_method_3_code 7 = .ok (.aload_n 0, 1) := by decide +kernel
theorem d_P_cell_8 : decode prog_6_method_3_code 8 = .ok (.getfield 21, 3) := by decide +kernel
set_option maxRecDepth 20000 in
theorem w_46 : Cond.fieldLink "MovieBoxes$PlaceTable" 21 "MovieBoxes$PlaceTable" "kind" "LMovieBoxes$Kind;" ∈ gt := gt_of (in_t1 (List.mem_of_getElem? (i := 46) rfl)) rfl
set_option maxRecDepth 20000 in
theorem w_47 : Cond.sameField "MovieBoxes$PlaceTable" "MovieBoxes$Box" "kind" "LMovieBoxes$Kind;" ∈ gt := gt_of (in_t1 (List.mem_of_getElem? (i := 47) rfl)) rfl
theorem fl_P_21_1 : FL "MovieBoxes$PlaceTable" 21 1 0 false := ⟨_, _, _, "MovieBoxes$PlaceTable", rfl, by decide, rfl, Or.inl w_46, Or.inr w_47⟩
theorem fl_P_21_2 : FL "MovieBoxes$PlaceTable" 21 2 0 false := ⟨_, _, _, "MovieBoxes$PlaceTable", rfl, by decide, rfl, Or.inl w_46, Or.inr w_47⟩
theorem fl_P_21_3 : FL "MovieBoxes$PlaceTable" 21 3 0 false := ⟨_, _, _, "MovieBoxes$PlaceTable", rfl, by decide, rfl, Or.inl w_46, Or.inr w_47⟩
theorem fl_P_21_4 : FL "MovieBoxes$PlaceTable" 21 4 0 false := ⟨_, _, _, "MovieBoxes$PlaceTable", rfl, by decide, rfl, Or.inl w_46, Or.inr w_47⟩
theorem fl_P_21_5 : FL "MovieBoxes$PlaceTable" 21 5 0 false := ⟨_, _, _, "MovieBoxes$PlaceTable", rfl, by decide, rfl, Or.inl w_46, Or.inr w_47⟩
theorem fb_P_21 : FB "MovieBoxes$PlaceTable" 21 0 (.object "MovieBoxes$Kind") := fb5 fl_P_21_1 fl_P_21_2 fl_P_21_3 fl_P_21_4 fl_P_21_5 rfl rfl rfl rfl rfl
theorem d_P_cell_11 : decode prog_6_method_3_code 11 = .ok (.getfield 25, 3) := by decide +kernel
set_option maxRecDepth 20000 in
theorem nw_1011 : Cond.fieldLinkNest "MovieBoxes$PlaceTable" 25 "MovieBoxes$Kind" "width" "I" "MovieBoxes" ∈ nwl := nw_of (in_t5 (List.mem_of_getElem? (i := 51) rfl)) rfl
theorem d_P_cell_14 : decode prog_6_method_3_code 14 = .ok (.imul, 1) := by decide +kernel
theorem d_P_cell_15 : decode prog_6_method_3_code 15 = .ok (.iadd, 1) := by decide +kernel
theorem d_P_cell_16 : decode prog_6_method_3_code 16 = .ok (.istore 4, 2) := by decide +kernel
theorem d_P_cell_18 : decode prog_6_method_3_code 18 = .ok (.aload_n 0, 1) := by decide +kernel
theorem d_P_cell_19 : decode prog_6_method_3_code 19 = .ok (.getfield 21, 3) := by decide +kernel
theorem d_P_cell_22 : decode prog_6_method_3_code 22 = .ok (.getstatic 31, 3) := by decide +kernel
set_option maxRecDepth 20000 in
theorem w_522 : Cond.fieldLink "MovieBoxes$PlaceTable" 31 "MovieBoxes$Kind" "WIDE" "LMovieBoxes$Kind;" ∈ gt := gt_of (in_t3 (List.mem_of_getElem? (i := 42) rfl)) rfl
theorem d_P_cell_25 : decode prog_6_method_3_code 25 = .ok (.if_acmp .ne 28, 3) := by decide +kernel
theorem d_P_cell_53 : decode prog_6_method_3_code 53 = .ok (.aload_n 1, 1) := by decide +kernel
theorem d_P_cell_54 : decode prog_6_method_3_code 54 = .ok (.iload 4, 2) := by decide +kernel
theorem d_P_cell_56 : decode prog_6_method_3_code 56 = .ok (.baload, 1) := by decide +kernel
theorem d_P_cell_57 : decode prog_6_method_3_code 57 = .ok (.sipush 255, 3) := by decide +kernel
theorem d_P_cell_60 : decode prog_6_method_3_code 60 = .ok (.iand, 1) := by decide +kernel
theorem d_P_cell_61 : decode prog_6_method_3_code 61 = .ok (.ireturn, 1) := by decide +kernel
theorem d_P_cell_28 : decode prog_6_method_3_code 28 = .ok (.aload_n 1, 1) := by decide +kernel
theorem d_P_cell_29 : decode prog_6_method_3_code 29 = .ok (.iload 4, 2) := by decide +kernel
theorem d_P_cell_31 : decode prog_6_method_3_code 31 = .ok (.baload, 1) := by decide +kernel
theorem d_P_cell_32 : decode prog_6_method_3_code 32 = .ok (.sipush 255, 3) := by decide +kernel
theorem d_P_cell_35 : decode prog_6_method_3_code 35 = .ok (.iand, 1) := by decide +kernel
theorem d_P_cell_36 : decode prog_6_method_3_code 36 = .ok (.bipush 8, 2) := by decide +kernel
theorem d_P_cell_38 : decode prog_6_method_3_code 38 = .ok (.ishl, 1) := by decide +kernel
theorem d_P_cell_39 : decode prog_6_method_3_code 39 = .ok (.aload_n 1, 1) := by decide +kernel
theorem d_P_cell_40 : decode prog_6_method_3_code 40 = .ok (.iload 4, 2) := by decide +kernel
theorem d_P_cell_42 : decode prog_6_method_3_code 42 = .ok (.iconst 1, 1) := by decide +kernel
theorem d_P_cell_43 : decode prog_6_method_3_code 43 = .ok (.iadd, 1) := by decide +kernel
theorem d_P_cell_44 : decode prog_6_method_3_code 44 = .ok (.baload, 1) := by decide +kernel
theorem d_P_cell_45 : decode prog_6_method_3_code 45 = .ok (.sipush 255, 3) := by decide +kernel
theorem d_P_cell_48 : decode prog_6_method_3_code 48 = .ok (.iand, 1) := by decide +kernel
theorem d_P_cell_49 : decode prog_6_method_3_code 49 = .ok (.ior, 1) := by decide +kernel
theorem d_P_cell_50 : decode prog_6_method_3_code 50 = .ok (.goto 11, 3) := by decide +kernel
/-! ===== the component: cells of the other tables; sums, values ===== -/
def sbO (b : Int) : Int := if b < 128 then b else b - 256
theorem zB_nat : ∀ c : Nat, c < 256 → zB (c : Int) = zI (sbO (c : Int)) := by decide +kernel
theorem zB_sb {b : Int} (h : 0 ≤ b ∧ b < 256) : zB b = zI (sbO b) := by
  obtain ⟨j, rfl⟩ := Int.eq_ofNat_of_zero_le h.1
  exact zB_nat j (by omega)
section XKC
variable {μ : Mx} {k n : Nat} {ws : va_W} {pc : Nat} {lv : List (Option Value)} {st : List Value}
theorem wp_En (kk : (∀ i j, i < 12 → j < 12 → gE (mG μ) i = gE (mG μ) j → i = j) → WP μ k n ws pc lv st) : WP μ k n ws pc lv st := by
  intro p e s m args below meth c C H locs ls hP hD hS hl
  obtain ⟨hx, hb, hml, hr, hown, hts, hK, hSt, hA, hlocks, hE⟩ := id C
  exact kk (fun i j hi hj => hSt.1.2 i j hi hj) p e s m args below meth c C H locs ls hP hD hS hl
/-- a kind against a constant -/
theorem r_akNe {off o : Int} {i : Nat} (tgt : Nat) (hd : decode (mB μ) pc = .ok (.if_acmp .ne off, 3)) (ht : (pc : Int) + off = (tgt : Int)) (ho : 0 ≤ o ∧ o < 12) (hi : i < 12) (kt : o ≠ i → WP μ k n ws tgt lv st) (kf : o = i → WP μ k n ws (pc + 3) lv st) : WP μ k n ws pc lv (.ref (gE (mG μ) i) :: va_rf (rK (mG μ) o) :: st) := by
  refine wp_En (fun inj => ?_)
  rw [rK_nn ho.1]
  refine r_acmp_ne (ra := some (gE (mG μ) o.toNat)) (rb := some (gE (mG μ) i)) tgt hd ht (fun h => kt (fun q => h ?_)) (fun h => kf ?_)
  · rw [q]; rfl
  · have := inj o.toNat i (by omega) hi (Option.some.inj h)
    omega
theorem r_akEq {off o : Int} {i : Nat} (tgt : Nat) (hd : decode (mB μ) pc = .ok (.if_acmp .eq off, 3)) (ht : (pc : Int) + off = (tgt : Int)) (ho : 0 ≤ o ∧ o < 12) (hi : i < 12) (kt : o = i → WP μ k n ws tgt lv st) (kf : o ≠ i → WP μ k n ws (pc + 3) lv st) : WP μ k n ws pc lv (.ref (gE (mG μ) i) :: va_rf (rK (mG μ) o) :: st) := by
  refine wp_En (fun inj => ?_)
  rw [rK_nn ho.1]
  refine r_acmp_eq (ra := some (gE (mG μ) o.toNat)) (rb := some (gE (mG μ) i)) tgt hd ht (fun h => kt ?_) (fun h => kf (fun q => h ?_))
  · have := inj o.toNat i (by omega) hi (Option.some.inj h)
    omega
  · rw [q]; rfl
end XKC
section XCELLS2
variable (G : gG) (l : Launch) (y : xP)
theorem c_S_cell (z : mS) (k row col : Int) (hk : -1 ≤ k ∧ k < yn y) (h5 : z 27 k = 5) (hb : byOk z) (h0 : 0 ≤ z 2 k + z 5 k ∧ z 2 k + z 5 k < 1000) (hi : pv z k 0 = 0 → 0 ≤ z 2 k + z 5 k + 2 + row ∧ z 2 k + z 5 k + 2 + row < 1000) : Ct G l q_S_cell 1 0 0 [.ref (yo y k), .ref (yc y 1), vI row, vI col] (xW G y z) (fun r w => r = some (vI (if pv z k 0 = 0 then pv z k (2 + row) else pv z k 0)) ∧ w = xW G y z) := by
  have hc : 1 ≤ z 27 k ∧ z 27 k ≤ 5 := by omega
  have e0 : pv z k 0 = z 1 (z 2 k + z 5 k) := by unfold pv; rw [show z 2 k + z 5 k + 0 = z 2 k + z 5 k by omega]
  have e1 : pv z k (2 + row) = z 1 (z 2 k + z 5 k + 2 + row) := by unfold pv; rw [show z 2 k + z 5 k + (2 + row) = z 2 k + z 5 k + 2 + row by omega]
  have b0 := hb (z 2 k + z 5 k)
  rw [e0] at hi
  rw [e0, e1]
  generalize hv : z 1 (z 2 k + z 5 k) = v at *
  refine Ct.intro [some (.ref (yo y k)), some (.ref (yc y 1)), some (vI row), some (vI col), none] (by decide) (Nat.le_of_ble_eq_true rfl) rfl (fun sz => ?_)
  refine r_aload_n d_S_cell_0 rfl rfl ?_
  refine r_aload_n d_S_cell_1 rfl rfl ?_
  refine r_kU0 d_S_cell_2 lu_S_16_S (c_B_start G l y z k hk hc) (13 + k).toNat rfl (xw_bc hk h5) (Nat.le_of_ble_eq_true rfl) (rok rfl rfl) ⟨(Nat.le_of_ble_eq_true rfl), (Nat.le_of_ble_eq_true rfl)⟩ (fun r ws2 hq => ?_)
  obtain ⟨rfl, rfl⟩ := hq
  show WP _ _ _ _ _ _ (_ :: _)
  refine r_bald d_S_cell_5 1 rfl ⟨h0.1, h0.2, by omega⟩ ?_
  rw [hv, zB_sb b0]
  refine r_istore d_S_cell_6 (Nat.le_of_ble_eq_true rfl) rfl ?_
  show WP _ _ _ _ _ [_, _, _, _, _] _
  refine r_iload d_S_cell_8 rfl ?_
  refine r_if_eq 18 d_S_cell_10 (by decide) (by unfold i32 sbO; split <;> omega) (fun h1 => ?_) (fun h1 => ?_)
  · have h2 : v = 0 := by unfold sbO at h1; split at h1 <;> omega
    refine r_aload_n d_S_cell_18 rfl rfl ?_
    refine r_aload_n d_S_cell_19 rfl rfl ?_
    refine r_kU0 d_S_cell_20 lu_S_16_S (c_B_start G l y z k hk hc) (13 + k).toNat rfl (xw_bc hk h5) (Nat.le_of_ble_eq_true rfl) (rok rfl rfl) ⟨(Nat.le_of_ble_eq_true rfl), (Nat.le_of_ble_eq_true rfl)⟩ (fun r ws2 hq => ?_)
    obtain ⟨rfl, rfl⟩ := hq
    show WP _ _ _ _ _ _ (_ :: _)
    refine r_iconst d_S_cell_23 ?_
    refine r_iadd d_S_cell_24 ?_
    refine r_iload_n d_S_cell_25 rfl ?_
    refine r_iadd d_S_cell_26 ?_
    refine r_bald d_S_cell_27 1 rfl ⟨(hi h2).1, (hi h2).2, by omega⟩ ?_
    refine r_sipush d_S_cell_28 (by decide) ?_
    refine r_iand255B d_S_cell_31 (hb _) ?_
    refine r_iret d_S_cell_32 rfl (Nat.le_of_ble_eq_true rfl) (Nat.le_of_ble_eq_true rfl) ?_
    exact ⟨by rw [if_pos h2], rfl⟩
  · have h2 : ¬ v = 0 := fun q => h1 (by rw [q]; rfl)
    refine r_iload d_S_cell_13 rfl ?_
    refine r_goto 28 d_S_cell_15 (by decide) ?_
    refine r_sipush d_S_cell_28 (by decide) ?_
    refine r_iand255 d_S_cell_31 (by unfold i32 sbO; split <;> omega) ?_
    rw [show sbO v % 256 = v by unfold sbO; split <;> omega]
    refine r_iret d_S_cell_32 rfl (Nat.le_of_ble_eq_true rfl) (Nat.le_of_ble_eq_true rfl) ?_
    exact ⟨by rw [if_neg h2], rfl⟩
theorem c_P_cell (z : mS) (k row col : Int) (hk : -1 ≤ k ∧ k < yn y) (h4 : z 27 k = 4) (ho : z 26 k = 7 ∨ z 26 k = 8) (hb : byOk z) (hi : 0 ≤ z 2 k + z 5 k + 1 + row * wdO (z 26 k) ∧ z 2 k + z 5 k + row * wdO (z 26 k) + wdO (z 26 k) < 1000) (hr : 0 ≤ row ∧ row ≤ 255) : Ct G l q_P_cell 1 0 0 [.ref (yo y k), .ref (yc y 1), vI row, vI col] (xW G y z) (fun r w => r = some (vI (if z 26 k = 8 then 256 * pv z k (1 + 2 * row) + pv z k (2 + 2 * row) else pv z k (1 + row))) ∧ w = xW G y z) := by
  have hc : 1 ≤ z 27 k ∧ z 27 k ≤ 5 := by omega
  refine Ct.intro [some (.ref (yo y k)), some (.ref (yc y 1)), some (vI row), some (vI col), none] (by decide) (Nat.le_of_ble_eq_true rfl) rfl (fun sz => ?_)
  generalize hQ : (fun r w => r = some (vI (if z 26 k = 8 then 256 * pv z k (1 + 2 * row) + pv z k (2 + 2 * row) else pv z k (1 + row))) ∧ w = xW G y z) = Q
  have hw : wdO (z 26 k) = if z 26 k = 8 then 2 else 1 := by rcases ho with h | h <;> rw [h] <;> rfl
  refine r_aload_n d_P_cell_0 rfl rfl ?_
  refine r_kU0 d_P_cell_1 lu_P_17_P (c_B_start G l y z k hk hc) (13 + k).toNat rfl (xw_bc hk h4) (Nat.le_of_ble_eq_true rfl) (rok rfl rfl) ⟨(Nat.le_of_ble_eq_true rfl), (Nat.le_of_ble_eq_true rfl)⟩ (fun r ws2 hq => ?_)
  obtain ⟨rfl, rfl⟩ := hq
  show WP _ _ _ _ _ _ (_ :: _)
  refine r_iconst d_P_cell_4 ?_
  refine r_iadd d_P_cell_5 ?_
  refine r_iload_n d_P_cell_6 rfl ?_
  refine r_aload_n d_P_cell_7 rfl rfl ?_
  refine r_getB d_P_cell_8 fb_P_21 (k) hk hc rfl ?_
  refine r_getWd d_P_cell_11 (Or.inr ⟨_, nw_1011⟩) (by omega) ?_
  refine r_imul d_P_cell_14 ?_
  refine r_iadd d_P_cell_15 ?_
  refine r_istore d_P_cell_16 (Nat.le_of_ble_eq_true rfl) rfl ?_
  show WP _ _ _ _ _ [_, _, _, _, _] _
  refine r_aload_n d_P_cell_18 rfl rfl ?_
  refine r_getB d_P_cell_19 fb_P_21 (k) hk hc rfl ?_
  refine r_getsK (i := 8) d_P_cell_22 (by decide) w_522 ?_
  rw [hw] at hi ⊢
  refine r_akNe 53 d_P_cell_25 (by decide) (by omega) (by decide) (fun h1 => ?_) (fun h1 => ?_)
  · have h1 : ¬ z 26 k = 8 := h1
    rw [if_neg h1] at hi ⊢
    refine r_aload_n d_P_cell_53 rfl rfl ?_
    refine r_iload d_P_cell_54 rfl ?_
    refine r_bald d_P_cell_56 1 rfl ⟨by omega, by omega, by omega⟩ ?_
    refine r_sipush d_P_cell_57 (by decide) ?_
    refine r_iand255B d_P_cell_60 (hb _) ?_
    refine r_iret d_P_cell_61 rfl (Nat.le_of_ble_eq_true rfl) (Nat.le_of_ble_eq_true rfl) ?_
    rw [← hQ]; exact ⟨by rw [if_neg h1]; unfold pv; congr 2; congr 1; congr 1; omega, rfl⟩
  · have h1 : z 26 k = 8 := h1
    rw [if_pos h1] at hi ⊢
    refine r_aload_n d_P_cell_28 rfl rfl ?_
    refine r_iload d_P_cell_29 rfl ?_
    refine r_bald d_P_cell_31 1 rfl ⟨by omega, by omega, by omega⟩ ?_
    refine r_sipush d_P_cell_32 (by decide) ?_
    refine r_iand255B d_P_cell_35 (hb _) ?_
    refine r_bipush d_P_cell_36 (by decide) ?_
    refine r_ishlR d_P_cell_38 ?_
    rw [zI_shl8 (hb _)]
    refine r_aload_n d_P_cell_39 rfl rfl ?_
    refine r_iload d_P_cell_40 rfl ?_
    refine r_iconst d_P_cell_42 ?_
    refine r_iadd d_P_cell_43 ?_
    refine r_bald d_P_cell_44 1 rfl ⟨by omega, by omega, by omega⟩ ?_
    refine r_sipush d_P_cell_45 (by decide) ?_
    refine r_iand255B d_P_cell_48 (hb _) ?_
    refine r_iorR d_P_cell_49 ?_
    rw [zI_or8 (hb _) (hb _)]
    refine r_goto 61 d_P_cell_50 (by decide) ?_
    refine r_iret d_P_cell_61 rfl (Nat.le_of_ble_eq_true rfl) (Nat.le_of_ble_eq_true rfl) ?_
    rw [← hQ]; exact ⟨by rw [if_pos h1]; unfold pv; rw [show z 2 k + z 5 k + (1 + 2 * row) = z 2 k + z 5 k + 1 + row * 2 by omega, show z 2 k + z 5 k + (2 + 2 * row) = z 2 k + z 5 k + 1 + row * 2 + 1 by omega], rfl⟩
end XCELLS2
