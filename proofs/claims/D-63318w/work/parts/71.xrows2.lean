set_option maxRecDepth 20000 in
theorem nw_985 : Cond.castable "MovieBoxes$Holder" "MovieBoxes$Holder" ∈ nwl := nw_of (in_t5 (List.mem_of_getElem? (i := 25) rfl)) rfl
set_option maxRecDepth 20000 in
theorem nw_988 : Cond.castable "MovieBoxes$Table" "MovieBoxes$Table" ∈ nwl := nw_of (in_t5 (List.mem_of_getElem? (i := 28) rfl)) rfl
set_option maxRecDepth 20000 in
theorem nw_986 : Cond.castable "MovieBoxes$PlaceTable" "MovieBoxes$Table" ∈ nwl := nw_of (in_t5 (List.mem_of_getElem? (i := 26) rfl)) rfl
set_option maxRecDepth 20000 in
theorem nw_987 : Cond.castable "MovieBoxes$SizeTable" "MovieBoxes$Table" ∈ nwl := nw_of (in_t5 (List.mem_of_getElem? (i := 27) rfl)) rfl
set_option maxRecDepth 20000 in
theorem nw_633 : Cond.castable "MovieBoxes$Leaf" "MovieBoxes$Written" ∈ nwl := nw_of (in_t3 (List.mem_of_getElem? (i := 153) rfl)) rfl
set_option maxRecDepth 20000 in
theorem nw_652 : Cond.castable "MovieBoxes$Table" "MovieBoxes$Written" ∈ nwl := nw_of (in_t3 (List.mem_of_getElem? (i := 172) rfl)) rfl
set_option maxRecDepth 20000 in
theorem nw_639 : Cond.castable "MovieBoxes$PlaceTable" "MovieBoxes$Written" ∈ nwl := nw_of (in_t3 (List.mem_of_getElem? (i := 159) rfl)) rfl
set_option maxRecDepth 20000 in
theorem nw_649 : Cond.castable "MovieBoxes$SizeTable" "MovieBoxes$Written" ∈ nwl := nw_of (in_t3 (List.mem_of_getElem? (i := 169) rfl)) rfl
abbrev q_H_take : Mi := (⟨"MovieBoxes$Holder", "take", "(LMovieBoxes$Box;)V"⟩, prog_3_method_3_code, 2, none)
theorem d_H_take_23 : decode prog_3_method_3_code 23 = .ok (.aload_n 0, 1) := by decide +kernel
theorem d_H_take_24 : decode prog_3_method_3_code 24 = .ok (.aload_n 1, 1) := by decide +kernel
theorem d_H_take_25 : decode prog_3_method_3_code 25 = .ok (.putfield 17, 3) := by decide +kernel
theorem d_H_take_28 : decode prog_3_method_3_code 28 = .ok (.return_, 1) := by decide +kernel
theorem d_H_take_0 : decode prog_3_method_3_code 0 = .ok (.aload_n 0, 1) := by decide +kernel
theorem d_H_take_1 : decode prog_3_method_3_code 1 = .ok (.getfield 17, 3) := by decide +kernel
theorem d_H_take_4 : decode prog_3_method_3_code 4 = .ok (.ifnonnull 11, 3) := by decide +kernel
theorem d_H_take_7 : decode prog_3_method_3_code 7 = .ok (.aload_n 0, 1) := by decide +kernel
theorem d_H_take_8 : decode prog_3_method_3_code 8 = .ok (.aload_n 1, 1) := by decide +kernel
theorem d_H_take_9 : decode prog_3_method_3_code 9 = .ok (.putfield 11, 3) := by decide +kernel
theorem d_H_take_12 : decode prog_3_method_3_code 12 = .ok (.goto 11, 3) := by decide +kernel
theorem d_H_take_15 : decode prog_3_method_3_code 15 = .ok (.aload_n 0, 1) := by decide +kernel
theorem d_H_take_16 : decode prog_3_method_3_code 16 = .ok (.getfield 17, 3) := by decide +kernel
theorem d_H_take_19 : decode prog_3_method_3_code 19 = .ok (.aload_n 1, 1) := by decide +kernel
theorem d_H_take_20 : decode prog_3_method_3_code 20 = .ok (.putfield 20, 3) := by decide +kernel
set_option maxRecDepth 20000 in
theorem w_85 : Cond.fieldLink "MovieBoxes$Holder" 20 "MovieBoxes$Box" "next" "LMovieBoxes$Box;" ∈ gt := gt_of (in_t1 (List.mem_of_getElem? (i := 85) rfl)) rfl
theorem fl_H_20_1 : FL "MovieBoxes$Holder" 20 1 8 false := ⟨_, _, _, "MovieBoxes$Box", rfl, by decide, rfl, Or.inl w_85, Or.inl rfl⟩
theorem fl_H_20_2 : FL "MovieBoxes$Holder" 20 2 8 false := ⟨_, _, _, "MovieBoxes$Box", rfl, by decide, rfl, Or.inl w_85, Or.inl rfl⟩
theorem fl_H_20_3 : FL "MovieBoxes$Holder" 20 3 8 false := ⟨_, _, _, "MovieBoxes$Box", rfl, by decide, rfl, Or.inl w_85, Or.inl rfl⟩
theorem fl_H_20_4 : FL "MovieBoxes$Holder" 20 4 8 false := ⟨_, _, _, "MovieBoxes$Box", rfl, by decide, rfl, Or.inl w_85, Or.inl rfl⟩
theorem fl_H_20_5 : FL "MovieBoxes$Holder" 20 5 8 false := ⟨_, _, _, "MovieBoxes$Box", rfl, by decide, rfl, Or.inl w_85, Or.inl rfl⟩
theorem fb_H_20 : FB "MovieBoxes$Holder" 20 8 (.object "MovieBoxes$Box") := fb5 fl_H_20_1 fl_H_20_2 fl_H_20_3 fl_H_20_4 fl_H_20_5 rfl rfl rfl rfl rfl
/-! ===== rows for boxes: instanceof, checkcast, methods of Box on a box of any class ===== -/
section XROWS2
variable {μ : Mx} {k n : Nat} {y : xP} {z : mS} {pc : Nat} {lv : List (Option Value)} {st : List Value}
theorem xw_bc {G : gG} {kb : Int} {c : Nat} (h : -1 ≤ kb ∧ kb < yn y) (hc : z 27 kb = c) : (xW G y z)[(13 + kb).toNat]? = some (yo y kb, .inr (c, bF G (yo y) z kb c)) := by
  have e : (z 27 kb).toNat = c := by omega
  rw [xw_b h]
  unfold bC
  rw [e]
theorem r_instH {idx : Nat} (hd : decode (mB μ) pc = .ok (.instanceof idx, 3)) (hlk : Cond.classLink (mO μ) idx "MovieBoxes$Holder" ∈ gt) (kb : Int) (hk : -1 ≤ kb ∧ kb < yn y) (hc : 1 ≤ z 27 kb ∧ z 27 kb ≤ 5) (k1 : z 27 kb = 1 → WP μ k n (xW (mG μ) y z) (pc + 3) lv (vI 1 :: st)) (k0 : z 27 kb ≠ 1 → WP μ k n (xW (mG μ) y z) (pc + 3) lv (vI 0 :: st)) : WP μ k n (xW (mG μ) y z) pc lv (.ref (yo y kb) :: st) := by
  rcases (by omega : z 27 kb = (1 : Nat) ∨ z 27 kb = (2 : Nat) ∨ z 27 kb = (3 : Nat) ∨ z 27 kb = (4 : Nat) ∨ z 27 kb = (5 : Nat)) with h | h | h | h | h
  · exact r_instY (ci := 1) hd _ rfl (xw_bc hk h) hlk nw_985 (k1 (by omega))
  · exact r_instN (ci := 2) hd _ rfl (xw_bc hk h) hlk (by decide +kernel) (k0 (by omega))
  · exact r_instN (ci := 3) hd _ rfl (xw_bc hk h) hlk (by decide +kernel) (k0 (by omega))
  · exact r_instN (ci := 4) hd _ rfl (xw_bc hk h) hlk (by decide +kernel) (k0 (by omega))
  · exact r_instN (ci := 5) hd _ rfl (xw_bc hk h) hlk (by decide +kernel) (k0 (by omega))
theorem r_instT {idx : Nat} (hd : decode (mB μ) pc = .ok (.instanceof idx, 3)) (hlk : Cond.classLink (mO μ) idx "MovieBoxes$Table" ∈ gt) (kb : Int) (hk : -1 ≤ kb ∧ kb < yn y) (hc : 1 ≤ z 27 kb ∧ z 27 kb ≤ 5) (k1 : 3 ≤ z 27 kb → WP μ k n (xW (mG μ) y z) (pc + 3) lv (vI 1 :: st)) (k0 : z 27 kb < 3 → WP μ k n (xW (mG μ) y z) (pc + 3) lv (vI 0 :: st)) : WP μ k n (xW (mG μ) y z) pc lv (.ref (yo y kb) :: st) := by
  rcases (by omega : z 27 kb = (1 : Nat) ∨ z 27 kb = (2 : Nat) ∨ z 27 kb = (3 : Nat) ∨ z 27 kb = (4 : Nat) ∨ z 27 kb = (5 : Nat)) with h | h | h | h | h
  · exact r_instN (ci := 1) hd _ rfl (xw_bc hk h) hlk (by decide +kernel) (k0 (by omega))
  · exact r_instN (ci := 2) hd _ rfl (xw_bc hk h) hlk (by decide +kernel) (k0 (by omega))
  · exact r_instY (ci := 3) hd _ rfl (xw_bc hk h) hlk nw_988 (k1 (by omega))
  · exact r_instY (ci := 4) hd _ rfl (xw_bc hk h) hlk nw_986 (k1 (by omega))
  · exact r_instY (ci := 5) hd _ rfl (xw_bc hk h) hlk nw_987 (k1 (by omega))
theorem r_instW {idx : Nat} (hd : decode (mB μ) pc = .ok (.instanceof idx, 3)) (hlk : Cond.classLink (mO μ) idx "MovieBoxes$Written" ∈ gt) (kb : Int) (hk : -1 ≤ kb ∧ kb < yn y) (hc : 1 ≤ z 27 kb ∧ z 27 kb ≤ 5) (k1 : 2 ≤ z 27 kb → WP μ k n (xW (mG μ) y z) (pc + 3) lv (vI 1 :: st)) (k0 : z 27 kb = 1 → WP μ k n (xW (mG μ) y z) (pc + 3) lv (vI 0 :: st)) : WP μ k n (xW (mG μ) y z) pc lv (.ref (yo y kb) :: st) := by
  rcases (by omega : z 27 kb = (1 : Nat) ∨ z 27 kb = (2 : Nat) ∨ z 27 kb = (3 : Nat) ∨ z 27 kb = (4 : Nat) ∨ z 27 kb = (5 : Nat)) with h | h | h | h | h
  · exact r_instN (ci := 1) hd _ rfl (xw_bc hk h) hlk (by decide +kernel) (k0 (by omega))
  · exact r_instY (ci := 2) hd _ rfl (xw_bc hk h) hlk nw_633 (k1 (by omega))
  · exact r_instY (ci := 3) hd _ rfl (xw_bc hk h) hlk nw_652 (k1 (by omega))
  · exact r_instY (ci := 4) hd _ rfl (xw_bc hk h) hlk nw_639 (k1 (by omega))
  · exact r_instY (ci := 5) hd _ rfl (xw_bc hk h) hlk nw_649 (k1 (by omega))
theorem r_castH {idx : Nat} (hd : decode (mB μ) pc = .ok (.checkcast idx, 3)) (hlk : Cond.classLink (mO μ) idx "MovieBoxes$Holder" ∈ gt) (kb : Int) (hk : -1 ≤ kb ∧ kb < yn y) (hc : z 27 kb = 1) (kk : WP μ k n (xW (mG μ) y z) (pc + 3) lv (.ref (yo y kb) :: st)) : WP μ k n (xW (mG μ) y z) pc lv (.ref (yo y kb) :: st) :=
  r_cast (ci := 1) hd _ rfl (xw_bc hk hc) hlk nw_985 kk
theorem r_castT {idx : Nat} (hd : decode (mB μ) pc = .ok (.checkcast idx, 3)) (hlk : Cond.classLink (mO μ) idx "MovieBoxes$Table" ∈ gt) (kb : Int) (hk : -1 ≤ kb ∧ kb < yn y) (hc : 3 ≤ z 27 kb ∧ z 27 kb ≤ 5) (kk : WP μ k n (xW (mG μ) y z) (pc + 3) lv (.ref (yo y kb) :: st)) : WP μ k n (xW (mG μ) y z) pc lv (.ref (yo y kb) :: st) := by
  rcases (by omega : z 27 kb = (3 : Nat) ∨ z 27 kb = (4 : Nat) ∨ z 27 kb = (5 : Nat)) with h | h | h
  · exact r_cast (ci := 3) hd _ rfl (xw_bc hk h) hlk nw_988 kk
  · exact r_cast (ci := 4) hd _ rfl (xw_bc hk h) hlk nw_986 kk
  · exact r_cast (ci := 5) hd _ rfl (xw_bc hk h) hlk nw_987 kk
theorem r_castW {idx : Nat} (hd : decode (mB μ) pc = .ok (.checkcast idx, 3)) (hlk : Cond.classLink (mO μ) idx "MovieBoxes$Written" ∈ gt) (kb : Int) (hk : -1 ≤ kb ∧ kb < yn y) (hc : 2 ≤ z 27 kb ∧ z 27 kb ≤ 5) (kk : WP μ k n (xW (mG μ) y z) (pc + 3) lv (.ref (yo y kb) :: st)) : WP μ k n (xW (mG μ) y z) pc lv (.ref (yo y kb) :: st) := by
  rcases (by omega : z 27 kb = (2 : Nat) ∨ z 27 kb = (3 : Nat) ∨ z 27 kb = (4 : Nat) ∨ z 27 kb = (5 : Nat)) with h | h | h | h
  · exact r_cast (ci := 2) hd _ rfl (xw_bc hk h) hlk nw_633 kk
  · exact r_cast (ci := 3) hd _ rfl (xw_bc hk h) hlk nw_652 kk
  · exact r_cast (ci := 4) hd _ rfl (xw_bc hk h) hlk nw_639 kk
  · exact r_cast (ci := 5) hd _ rfl (xw_bc hk h) hlk nw_649 kk
/-- a method that every class of boxes has from Box -/
def LkB (own : String) (idx : Nat) (owner : String) (x : MethodName) (M : Mi) (na : Nat) : Prop := LkU own idx "MovieBoxes$Holder" owner x M na ∧ LkU own idx "MovieBoxes$Leaf" owner x M na ∧ LkU own idx "MovieBoxes$Table" owner x M na ∧ LkU own idx "MovieBoxes$PlaceTable" owner x M na ∧ LkU own idx "MovieBoxes$SizeTable" owner x M na
theorem r_kB0 {idx d : Nat} {owner : String} {x : MethodName} {M : Mi} {Q : Option Value → va_W → Prop} (hd : decode (mB μ) pc = .ok (.invokevirtual idx, 3)) (lk : LkB (mO μ) idx owner x M 0) (kb : Int) (ct : Ct (mG μ) (mL μ) M d 0 0 [.ref (yo y kb)] (xW (mG μ) y z) Q) (hk : -1 ≤ kb ∧ kb < yn y) (hc : 1 ≤ z 27 kb ∧ z 27 kb ≤ 5) (hrest : (st.map fun v => v.category).sum ≤ 8) (hR : rOk (mR μ) M.2.2.1 d) (hf : k ≤ (mR μ).cells ∧ n ≤ (mR μ).slots) (kk : ∀ (r : Option Value) (ws' : va_W), Q r ws' → WP μ k n ws' (pc + 3) lv (r.toList ++ st)) : WP μ k n (xW (mG μ) y z) pc lv (.ref (yo y kb) :: st) := by
  obtain ⟨l1, l2, l3, l4, l5⟩ := lk
  rcases (by omega : z 27 kb = (1 : Nat) ∨ z 27 kb = (2 : Nat) ∨ z 27 kb = (3 : Nat) ∨ z 27 kb = (4 : Nat) ∨ z 27 kb = (5 : Nat)) with h | h | h | h | h
  · exact r_kU0 (ci := 1) hd l1 ct _ rfl (xw_bc hk h) hrest hR hf kk
  · exact r_kU0 (ci := 2) hd l2 ct _ rfl (xw_bc hk h) hrest hR hf kk
  · exact r_kU0 (ci := 3) hd l3 ct _ rfl (xw_bc hk h) hrest hR hf kk
  · exact r_kU0 (ci := 4) hd l4 ct _ rfl (xw_bc hk h) hrest hR hf kk
  · exact r_kU0 (ci := 5) hd l5 ct _ rfl (xw_bc hk h) hrest hR hf kk
end XROWS2
section XTAKE
variable (G : gG) (l : Launch) (y : xP)
theorem c_H_take (z : mS) (h k : Int) (hh : -1 ≤ h ∧ h < yn y) (hc : z 27 h = 1) (hk : 0 ≤ k ∧ k < yn y) (hl : z 25 h < yn y) (hlc : 0 ≤ z 25 h → 1 ≤ z 27 (z 25 h) ∧ z 27 (z 25 h) ≤ 5) : Ct G l q_H_take 0 0 0 [.ref (yo y h), .ref (yo y k)] (xW G y z) (fun r w => r = none ∧ w = xW G y (tkS z h k)) := by
  refine Ct.intro [some (.ref (yo y h)), some (.ref (yo y k))] (by decide) (Nat.le_of_ble_eq_true rfl) rfl (fun sz => ?_)
  generalize hQ : (fun r w => r = none ∧ w = xW G y (tkS z h k)) = Q
  have erf : Value.ref (yo y k) = va_rf (rN (yo y) k) := by rw [rN_nn hk.1]; rfl
  have fin : ∀ z1 : mS, z1 27 h = 1 → tkS z h k = sset z1 25 h k → WP (mth G l q_H_take 0 0 0 (xW G y z) sz Q) 0 0 (xW G y z1) 23 [some (.ref (yo y h)), some (.ref (yo y k))] [] := by
    intro z1 h1 h2
    refine r_aload_n d_H_take_23 rfl rfl ?_
    refine r_aload_n d_H_take_24 rfl rfl ?_
    refine r_putX (ci := 1) (i := 1) (c := 25) (x := k) d_H_take_25 fl_H_17_1 h hh h1 rfl (by decide) rfl rfl (Nat.le_of_ble_eq_true rfl) (by rw [erf]; simp only [bX, sset_eq, List.set_cons_zero, List.set_cons_succ]; rfl) ?_
    refine r_vret d_H_take_28 rfl (Nat.le_of_ble_eq_true rfl) (Nat.le_of_ble_eq_true rfl) ?_
    rw [← hQ]; exact ⟨rfl, by rw [h2]; rfl⟩
  refine r_aload_n d_H_take_0 rfl rfl ?_
  refine r_getX d_H_take_1 fl_H_17_1 (h) hh hc rfl ?_
  refine r_ifnonnull 15 d_H_take_4 (by decide) (fun hl0 => ?_) (fun hl0a hl0 => ?_)
  · have hl1 : z 25 h < 0 := by
      unfold rN at hl0
      split at hl0
      · assumption
      · cases hl0
    refine r_aload_n d_H_take_7 rfl rfl ?_
    refine r_aload_n d_H_take_8 rfl rfl ?_
    refine r_putX (ci := 1) (i := 0) (c := 24) (x := k) d_H_take_9 fl_H_11_1 h hh hc rfl (by decide) rfl rfl (Nat.le_of_ble_eq_true rfl) (by rw [erf]; simp only [bX, sset_eq, List.set_cons_zero]; rfl) ?_
    refine r_goto 23 d_H_take_12 (by decide) ?_
    exact fin _ hc (by unfold tkS; rw [if_pos hl1])
  · have hl1 : 0 ≤ z 25 h := by
      unfold rN at hl0
      split at hl0
      · cases hl0
      · omega
    refine r_aload_n d_H_take_15 rfl rfl ?_
    refine r_getX d_H_take_16 fl_H_17_1 (h) hh hc rfl ?_
    rw [rN_nn hl1]
    refine r_aload_n d_H_take_19 rfl rfl ?_
    refine r_putB (c := 23) (x := k) d_H_take_20 fb_H_20 (z 25 h) ⟨by omega, hl⟩ (hlc hl1) rfl rfl rfl (by rw [erf]; exact bs_next) ?_
    exact fin _ hc (by unfold tkS; rw [if_neg (by omega)])
end XTAKE
