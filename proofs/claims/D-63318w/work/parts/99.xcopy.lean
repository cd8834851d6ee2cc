abbrev q_L_copyTo : Mi := (⟨"MovieBoxes$Leaf", "copyTo", "([B[BI[I)V"⟩, prog_5_method_4_code, 5, none)
theorem d_L_copyTo_0 : decode prog_5_method_4_code 0 = .ok (.aload_n 1, 1) := by decide +kernel
theorem d_L_copyTo_1 : decode prog_5_method_4_code 1 = .ok (.aload_n 0, 1) := by decide +kernel
theorem d_L_copyTo_2 : decode prog_5_method_4_code 2 = .ok (.getfield 19, 3) := by decide +kernel
set_option maxRecDepth 20000 in
theorem w_55 : Cond.fieldLink "MovieBoxes$Leaf" 19 "MovieBoxes$Leaf" "from" "I" ∈ gt := gt_of (in_t1 (List.mem_of_getElem? (i := 55) rfl)) rfl
set_option maxRecDepth 20000 in
theorem w_56 : Cond.sameField "MovieBoxes$Leaf" "MovieBoxes$Box" "from" "I" ∈ gt := gt_of (in_t1 (List.mem_of_getElem? (i := 56) rfl)) rfl
theorem fl_L_19_1 : FL "MovieBoxes$Leaf" 19 1 2 false := ⟨_, _, _, "MovieBoxes$Leaf", rfl, by decide, rfl, Or.inl w_55, Or.inr w_56⟩
theorem fl_L_19_2 : FL "MovieBoxes$Leaf" 19 2 2 false := ⟨_, _, _, "MovieBoxes$Leaf", rfl, by decide, rfl, Or.inl w_55, Or.inr w_56⟩
theorem fl_L_19_3 : FL "MovieBoxes$Leaf" 19 3 2 false := ⟨_, _, _, "MovieBoxes$Leaf", rfl, by decide, rfl, Or.inl w_55, Or.inr w_56⟩
theorem fl_L_19_4 : FL "MovieBoxes$Leaf" 19 4 2 false := ⟨_, _, _, "MovieBoxes$Leaf", rfl, by decide, rfl, Or.inl w_55, Or.inr w_56⟩
theorem fl_L_19_5 : FL "MovieBoxes$Leaf" 19 5 2 false := ⟨_, _, _, "MovieBoxes$Leaf", rfl, by decide, rfl, Or.inl w_55, Or.inr w_56⟩
theorem fb_L_19 : FB "MovieBoxes$Leaf" 19 2 .int := fb5 fl_L_19_1 fl_L_19_2 fl_L_19_3 fl_L_19_4 fl_L_19_5 rfl rfl rfl rfl rfl
theorem d_L_copyTo_5 : decode prog_5_method_4_code 5 = .ok (.aload_n 0, 1) := by decide +kernel
theorem d_L_copyTo_6 : decode prog_5_method_4_code 6 = .ok (.getfield 16, 3) := by decide +kernel
theorem d_L_copyTo_9 : decode prog_5_method_4_code 9 = .ok (.iadd, 1) := by decide +kernel
theorem d_L_copyTo_10 : decode prog_5_method_4_code 10 = .ok (.aload_n 2, 1) := by decide +kernel
theorem d_L_copyTo_11 : decode prog_5_method_4_code 11 = .ok (.iload_n 3, 1) := by decide +kernel
theorem d_L_copyTo_12 : decode prog_5_method_4_code 12 = .ok (.aload_n 0, 1) := by decide +kernel
theorem d_L_copyTo_13 : decode prog_5_method_4_code 13 = .ok (.getfield 13, 3) := by decide +kernel
theorem d_L_copyTo_16 : decode prog_5_method_4_code 16 = .ok (.aload_n 0, 1) := by decide +kernel
theorem d_L_copyTo_17 : decode prog_5_method_4_code 17 = .ok (.getfield 16, 3) := by decide +kernel
theorem d_L_copyTo_20 : decode prog_5_method_4_code 20 = .ok (.isub, 1) := by decide +kernel
theorem d_L_copyTo_21 : decode prog_5_method_4_code 21 = .ok (.invokestatic 22, 3) := by decide +kernel
set_option maxRecDepth 20000 in
theorem w_696 : Cond.methodLink "MovieBoxes$Leaf" 22 ⟨"java/lang/System", "arraycopy", "(Ljava/lang/Object;ILjava/lang/Object;II)V"⟩ ∈ gt := gt_of (in_t3 (List.mem_of_getElem? (i := 216) rfl)) rfl
theorem d_L_copyTo_24 : decode prog_5_method_4_code 24 = .ok (.return_, 1) := by decide +kernel
abbrev q_P_copyTo : Mi := (⟨"MovieBoxes$PlaceTable", "copyTo", "([B[BI[I)V"⟩, prog_6_method_7_code, 8, none)
theorem d_P_copyTo_18 : decode prog_6_method_7_code 18 = .ok (.iload 6, 2) := by decide +kernel
theorem d_P_copyTo_20 : decode prog_6_method_7_code 20 = .ok (.aload_n 0, 1) := by decide +kernel
theorem d_P_copyTo_21 : decode prog_6_method_7_code 21 = .ok (.getfield 41, 3) := by decide +kernel
theorem d_P_copyTo_24 : decode prog_6_method_7_code 24 = .ok (.if_icmp .ge 51, 3) := by decide +kernel
theorem d_P_copyTo_75 : decode prog_6_method_7_code 75 = .ok (.return_, 1) := by decide +kernel
theorem d_P_copyTo_59 : decode prog_6_method_7_code 59 = .ok (.aload_n 2, 1) := by decide +kernel
theorem d_P_copyTo_60 : decode prog_6_method_7_code 60 = .ok (.iload 5, 2) := by decide +kernel
theorem d_P_copyTo_62 : decode prog_6_method_7_code 62 = .ok (.iinc 5 1, 3) := by decide +kernel
theorem d_P_copyTo_65 : decode prog_6_method_7_code 65 = .ok (.iload 7, 2) := by decide +kernel
theorem d_P_copyTo_67 : decode prog_6_method_7_code 67 = .ok (.i2b, 1) := by decide +kernel
theorem d_P_copyTo_68 : decode prog_6_method_7_code 68 = .ok (.bastore, 1) := by decide +kernel
theorem d_P_copyTo_69 : decode prog_6_method_7_code 69 = .ok (.iinc 6 1, 3) := by decide +kernel
theorem d_P_copyTo_72 : decode prog_6_method_7_code 72 = .ok (.goto (-54), 3) := by decide +kernel
theorem d_P_copyTo_27 : decode prog_6_method_7_code 27 = .ok (.aload 4, 2) := by decide +kernel
theorem d_P_copyTo_29 : decode prog_6_method_7_code 29 = .ok (.aload_n 0, 1) := by decide +kernel
theorem d_P_copyTo_30 : decode prog_6_method_7_code 30 = .ok (.getfield 44, 3) := by decide +kernel
set_option maxRecDepth 20000 in
theorem w_321 : Cond.fieldLink "MovieBoxes$PlaceTable" 44 "MovieBoxes$PlaceTable" "base" "I" ∈ gt := gt_of (in_t2 (List.mem_of_getElem? (i := 81) rfl)) rfl
theorem fl_P_44_4 : FL "MovieBoxes$PlaceTable" 44 4 13 false := ⟨_, _, _, "MovieBoxes$PlaceTable", rfl, by decide, rfl, Or.inl w_321, Or.inl rfl⟩
theorem d_P_copyTo_33 : decode prog_6_method_7_code 33 = .ok (.iload 6, 2) := by decide +kernel
theorem d_P_copyTo_35 : decode prog_6_method_7_code 35 = .ok (.iadd, 1) := by decide +kernel
theorem d_P_copyTo_36 : decode prog_6_method_7_code 36 = .ok (.iaload, 1) := by decide +kernel
theorem d_P_copyTo_37 : decode prog_6_method_7_code 37 = .ok (.istore 7, 2) := by decide +kernel
theorem d_P_copyTo_39 : decode prog_6_method_7_code 39 = .ok (.aload_n 0, 1) := by decide +kernel
theorem d_P_copyTo_40 : decode prog_6_method_7_code 40 = .ok (.invokevirtual 34, 3) := by decide +kernel
theorem d_P_copyTo_43 : decode prog_6_method_7_code 43 = .ok (.ifCond .eq 16, 3) := by decide +kernel
theorem d_P_copyTo_46 : decode prog_6_method_7_code 46 = .ok (.aload_n 2, 1) := by decide +kernel
theorem d_P_copyTo_47 : decode prog_6_method_7_code 47 = .ok (.iload 5, 2) := by decide +kernel
theorem d_P_copyTo_49 : decode prog_6_method_7_code 49 = .ok (.iinc 5 1, 3) := by decide +kernel
theorem d_P_copyTo_52 : decode prog_6_method_7_code 52 = .ok (.iload 7, 2) := by decide +kernel
theorem d_P_copyTo_54 : decode prog_6_method_7_code 54 = .ok (.bipush 8, 2) := by decide +kernel
theorem d_P_copyTo_56 : decode prog_6_method_7_code 56 = .ok (.ishr, 1) := by decide +kernel
theorem d_P_copyTo_57 : decode prog_6_method_7_code 57 = .ok (.i2b, 1) := by decide +kernel
theorem d_P_copyTo_58 : decode prog_6_method_7_code 58 = .ok (.bastore, 1) := by decide +kernel
theorem d_P_copyTo_0 : decode prog_6_method_7_code 0 = .ok (.iload_n 3, 1) := by decide +kernel
theorem d_P_copyTo_1 : decode prog_6_method_7_code 1 = .ok (.istore 5, 2) := by decide +kernel
theorem d_P_copyTo_3 : decode prog_6_method_7_code 3 = .ok (.aload_n 2, 1) := by decide +kernel
theorem d_P_copyTo_4 : decode prog_6_method_7_code 4 = .ok (.iload 5, 2) := by decide +kernel
theorem d_P_copyTo_6 : decode prog_6_method_7_code 6 = .ok (.iinc 5 1, 3) := by decide +kernel
theorem d_P_copyTo_9 : decode prog_6_method_7_code 9 = .ok (.aload_n 0, 1) := by decide +kernel
theorem d_P_copyTo_10 : decode prog_6_method_7_code 10 = .ok (.getfield 41, 3) := by decide +kernel
theorem d_P_copyTo_13 : decode prog_6_method_7_code 13 = .ok (.i2b, 1) := by decide +kernel
theorem d_P_copyTo_14 : decode prog_6_method_7_code 14 = .ok (.bastore, 1) := by decide +kernel
theorem d_P_copyTo_15 : decode prog_6_method_7_code 15 = .ok (.iconst 0, 1) := by decide +kernel
theorem d_P_copyTo_16 : decode prog_6_method_7_code 16 = .ok (.istore 6, 2) := by decide +kernel
/-! ===== the component: what is written of a box ===== -/
/-- made holds M from a place on -/
def mdP (z : mS) (to : Int) (M : List Int) : Prop := ∀ j : Nat, j < M.length → z 20 (to + j) = M.getD j 0 % 256
theorem md_ext {z z' : mS} {to : Int} {M N : List Int} (h : mdP z to M) (h1 : ∀ j, j < to + M.length → z' 20 j = z 20 j) (h2 : ∀ i : Nat, i < N.length → z' 20 (to + M.length + i) = N.getD i 0 % 256) : mdP z' to (M ++ N) := by
  intro j hj
  rw [List.length_append] at hj
  rw [List.getD_eq_getElem?_getD]
  by_cases e : j < M.length
  · rw [List.getElem?_append_left e, h1 _ (by omega), h j e, List.getD_eq_getElem?_getD]
  · rw [List.getElem?_append_right (by omega)]
    have := h2 (j - M.length) (by omega)
    rw [show to + (M.length : Int) + ((j - M.length : Nat) : Int) = to + j by omega] at this
    rw [this, List.getD_eq_getElem?_getD]
theorem md_put {z : mS} {to p : Int} {M : List Int} (h : mdP z to M) (hp : p = to + M.length) (x : Int) : mdP (sset z 20 p (x % 256)) to (M ++ [x]) := by
  refine md_ext h (fun j hj => sset_nj (by omega)) (fun i hi => ?_)
  have e : i = 0 := by
    have : ([x] : List Int).length = 1 := rfl
    omega
  subst e
  rw [show to + (M.length : Int) + ((0 : Nat) : Int) = p by omega, sset_eq]
  rfl
theorem bL_at (v : mS) (k : Int) : ∀ (n i : Nat), i < n → (bL v k n).getD i 0 = pv v k i
  | 0, i, h => by omega
  | n + 1, i, h => by
    unfold bL
    rw [List.getD_eq_getElem?_getD]
    by_cases e : i < n
    · rw [List.getElem?_append_left (by rw [bL_len]; exact e), ← List.getD_eq_getElem?_getD]
      exact bL_at v k n i e
    · have e' : i = n := by omega
      subst e'
      rw [List.getElem?_append_right (by rw [bL_len]; omega), bL_len, Nat.sub_self]
      rfl
abbrev sfn (z : mS) (c : Nat) (f : Int → Int) : mS := fun c' => if c' = c then f else z c'
theorem xw_2f {G : gG} {y : xP} {z : mS} {f : Int → Int} : (xW G y z).set 2 (yc y 2, aB G 1000 f) = xW G y (sfn z 20 f) := rfl
theorem xw_1f {G : gG} {y : xP} {z : mS} {f : Int → Int} : (xW G y z).set 1 (yc y 1, aB G 1000 f) = xW G y (sfn z 1 f) := rfl
section XCOPY
variable (G : gG) (l : Launch) (y : xP)
theorem c_L_copy (z : mS) (k at' : Int) (hk : -1 ≤ k ∧ k < yn y) (hc : 1 ≤ z 27 k ∧ z 27 k ≤ 5) (hx : 0 ≤ z 2 k ∧ 0 ≤ z 5 k ∧ z 5 k ≤ z 3 k ∧ z 2 k + z 3 k ≤ 1000) (ha : 0 ≤ at' ∧ at' + (z 3 k - z 5 k) ≤ 1000) : Ct G l q_L_copyTo 2 0 0 [.ref (yo y k), .ref (yc y 1), .ref (yc y 2), vI at', .ref (yc y 11)] (xW G y z) (fun r w => r = none ∧ w = xW G y (sfn z 20 (cpyI (z 1) (z 20) (z 2 k + z 5 k) at' (z 3 k - z 5 k)))) := by
  refine Ct.intro [some (.ref (yo y k)), some (.ref (yc y 1)), some (.ref (yc y 2)), some (vI at'), some (.ref (yc y 11))] (by decide) (Nat.le_of_ble_eq_true rfl) rfl (fun sz => ?_)
  generalize hQ : (fun r w => r = none ∧ w = xW G y (sfn z 20 (cpyI (z 1) (z 20) (z 2 k + z 5 k) at' (z 3 k - z 5 k)))) = Q
  refine r_aload_n d_L_copyTo_0 rfl rfl ?_
  refine r_aload_n d_L_copyTo_1 rfl rfl ?_
  refine r_getB d_L_copyTo_2 fb_L_19 (k) hk hc rfl ?_
  refine r_aload_n d_L_copyTo_5 rfl rfl ?_
  refine r_getB d_L_copyTo_6 fb_L_16 (k) hk hc rfl ?_
  refine r_iadd d_L_copyTo_9 ?_
  refine r_aload_n d_L_copyTo_10 rfl rfl ?_
  refine r_iload_n d_L_copyTo_11 rfl ?_
  refine r_aload_n d_L_copyTo_12 rfl rfl ?_
  refine r_getB d_L_copyTo_13 fb_L_13 (k) hk hc rfl ?_
  refine r_aload_n d_L_copyTo_16 rfl rfl ?_
  refine r_getB d_L_copyTo_17 fb_L_16 (k) hk hc rfl ?_
  refine r_isub d_L_copyTo_20 ?_
  refine r_copyB _ d_L_copyTo_21 w_696 1 2 rfl rfl ⟨by omega, by omega, by omega, by omega, by omega⟩ ⟨by omega, by omega⟩ xw_2f rfl rfl ?_
  refine r_vret d_L_copyTo_24 rfl (Nat.le_of_ble_eq_true rfl) (Nat.le_of_ble_eq_true rfl) ?_
  rw [← hQ]; exact ⟨rfl, rfl⟩
set_option maxRecDepth 8000 in
theorem c_P_copy (z v : mS) (t : Nat) (k to gr : Int) (M : List Int) (hk : -1 ≤ k ∧ k < yn y) (h4 : z 27 k = 4) (ho : 0 ≤ z 26 k ∧ z 26 k < 12) (hg : z 18 k = 0 ∨ z 18 k = 1) (h17 : z 17 k = pv v k 0) (hb : 0 ≤ pv v k 0 ∧ pv v k 0 < 256) (h19 : z 19 k = 256 * t) (ht : t ≤ 1) (hmv : ∀ c : Nat, (c : Int) < pv v k 0 → z 22 (256 * t + c) = npO v t (1 + c) gr) (hnp : ∀ c : Nat, (c : Int) < pv v k 0 → i32 (npO v t (1 + c) gr)) (hM : mdP z to M) (hto : 0 ≤ to) (hlen : to + (M.length : Int) + 1 + (if z 18 k = 1 ∨ z 26 k = 8 then 2 * pv v k 0 else pv v k 0) ≤ 1000) : Ct G l q_P_copyTo 2 0 0 [.ref (yo y k), .ref (yc y 1), .ref (yc y 2), vI (to + M.length), .ref (yc y 11)] (xW G y z) (fun r w => r = none ∧ ∃ z' : mS, w = xW G y z' ∧ (∀ c, c ≠ 20 → z' c = z c) ∧ mdP z' to (M ++ (pv v k 0 :: cL v t (if z 18 k = 1 ∨ z 26 k = 8 then 1 else 0) gr (pv v k 0).toNat)) ∧ ∀ j, j < to + M.length → z' 20 j = z 20 j) := by
  generalize hwd : (if z 18 k = 1 ∨ z 26 k = 8 then (1 : Int) else 0) = wd
  have hwd01 : wd = 0 ∨ wd = 1 := by rw [← hwd]; split <;> omega
  have hlen' : to + (M.length : Int) + 1 + (if wd = 1 then 2 * pv v k 0 else pv v k 0) ≤ 1000 := by
    rw [← hwd]
    split at hlen
    · rename_i q; rw [if_pos q, if_pos rfl]; exact hlen
    · rename_i q; rw [if_neg q, if_neg (by omega)]; exact hlen
  have hc : 3 ≤ z 27 k ∧ z 27 k ≤ 5 := by omega
  refine Ct.intro [some (.ref (yo y k)), some (.ref (yc y 1)), some (.ref (yc y 2)), some (vI (to + M.length)), some (.ref (yc y 11)), none, none, none] (by decide) (Nat.le_of_ble_eq_true rfl) rfl (fun sz => ?_)
  generalize hQ : (fun (r : Option Value) (w : va_W) => r = none ∧ ∃ z' : mS, w = xW G y z' ∧ (∀ c, c ≠ 20 → z' c = z c) ∧ mdP z' to (M ++ (pv v k 0 :: cL v t wd gr (pv v k 0).toNat)) ∧ ∀ j, j < to + M.length → z' 20 j = z 20 j) = Q
  have lp : ∀ (f c : Nat) (z2 : mS) (x7 : Option Value), (c : Int) + f = pv v k 0 → (∀ a, a ≠ 20 → z2 a = z a) → mdP z2 to (M ++ (pv v k 0 :: cL v t wd gr c)) → (∀ j, j < to + M.length → z2 20 j = z 20 j) → WP (mth G l q_P_copyTo 2 0 0 (xW G y z) sz Q) 0 0 (xW G y z2) 18 [some (.ref (yo y k)), some (.ref (yc y 1)), some (.ref (yc y 2)), some (vI (to + M.length)), some (.ref (yc y 11)), some (vI (to + ((M ++ (pv v k 0 :: cL v t wd gr c)).length : Nat))), some (vI c), x7] [] := by
    intro f
    induction f with
    | zero =>
      intro c z2 x7 hcf hz hm hpre
      have e27 : 3 ≤ z2 27 k ∧ z2 27 k ≤ 5 := by rw [hz 27 (by omega)]; exact hc
      have e17 : z2 17 k = pv v k 0 := by rw [hz 17 (by omega)]; exact h17
      refine r_iload d_P_copyTo_18 rfl ?_
      refine r_aload_n d_P_copyTo_20 rfl rfl ?_
      refine r_getT d_P_copyTo_21 ft_P_41 (k) hk e27 ?_
      rw [e17]
      refine r_icmp_ge 75 d_P_copyTo_24 (by decide) (by unfold i32; omega) (by unfold i32; omega) (fun h1 => ?_) (fun h1 => ?_)
      · refine r_vret d_P_copyTo_75 rfl (Nat.le_of_ble_eq_true rfl) (Nat.le_of_ble_eq_true rfl) ?_
        rw [← hQ]
        exact ⟨rfl, z2, rfl, hz, by rw [show (pv v k 0).toNat = c by omega]; exact hm, hpre⟩
      · omega
    | succ f ih =>
      intro c z2 x7 hcf hz hm hpre
      have e27 : 3 ≤ z2 27 k ∧ z2 27 k ≤ 5 := by rw [hz 27 (by omega)]; exact hc
      have e27' : z2 27 k = 4 := by rw [hz 27 (by omega)]; exact h4
      have e17 : z2 17 k = pv v k 0 := by rw [hz 17 (by omega)]; exact h17
      have e18 : z2 18 k = z 18 k := by rw [hz 18 (by omega)]
      have e26 : z2 26 k = z 26 k := by rw [hz 26 (by omega)]
      have e19 : z2 19 k = 256 * t := by rw [hz 19 (by omega)]; exact h19
      have e22 : z2 22 (256 * t + c) = npO v t (1 + c) gr := by rw [hz 22 (by omega)]; exact hmv c (by omega)
      have hi := hnp c (by omega)
      have hl : ((M ++ (pv v k 0 :: cL v t wd gr c)).length : Int) = M.length + 1 + (if wd = 1 then 2 * c else c) := by
        rw [List.length_append, List.length_cons, cL_len]
        rcases hwd01 with rfl | rfl
        · rw [if_pos rfl, if_neg (by omega)]; omega
        · rw [if_neg (by omega), if_pos rfl]; omega
      generalize hp : to + ((M ++ (pv v k 0 :: cL v t wd gr c)).length : Nat) = p
      have c59 : ∀ (z3 : mS) (p3 : Int) (L3 : List Int), (∀ a, a ≠ 20 → z3 a = z a) → mdP z3 to (M ++ (pv v k 0 :: cL v t wd gr c) ++ L3) → (∀ j, j < to + M.length → z3 20 j = z 20 j) → L3 = (if wd = 0 then [] else [npO v t (1 + c) gr / 256]) → p3 = p + L3.length → WP (mth G l q_P_copyTo 2 0 0 (xW G y z) sz Q) 0 0 (xW G y z3) 59 [some (.ref (yo y k)), some (.ref (yc y 1)), some (.ref (yc y 2)), some (vI (to + M.length)), some (.ref (yc y 11)), some (vI p3), some (vI c), some (vI (npO v t (1 + c) gr))] [] := by
        intro z3 p3 L3 hz3 hm3 hpre3 hL3 hp3
        have hl3 : (L3.length : Int) = wd := by
          rw [hL3]
          rcases hwd01 with rfl | rfl <;> rfl
        have hpb : 0 ≤ p3 ∧ p3 < 1000 := by
          rcases hwd01 with q | q
          · rw [if_neg (show ¬ wd = 1 by omega)] at hlen' hl; omega
          · rw [if_pos q] at hlen' hl; omega
        have hpM : p3 = to + ((M ++ (pv v k 0 :: cL v t wd gr c) ++ L3).length : Nat) := by rw [List.length_append (as := M ++ _), hp3, ← hp]; omega
        have hge : to + (M.length : Int) ≤ p3 := by rw [hp3, ← hp]; omega
        refine r_aload_n d_P_copyTo_59 rfl rfl ?_
        refine r_iload d_P_copyTo_60 rfl ?_
        refine r_iinc d_P_copyTo_62 rfl (Nat.le_of_ble_eq_true rfl) rfl ?_
        show WP _ _ _ _ _ [_, _, _, _, _, _, _, _] _
        refine r_iload d_P_copyTo_65 rfl ?_
        refine r_i2b d_P_copyTo_67 ?_
        refine r_bast _ d_P_copyTo_68 2 rfl ⟨by omega, by omega, by omega⟩ xw_2 ?_
        show WP _ _ _ (xW G y (sset z3 20 p3 (npO v t (1 + c) gr % 256))) _ _ _
        refine r_iinc d_P_copyTo_69 rfl (Nat.le_of_ble_eq_true rfl) rfl ?_
        show WP _ _ _ _ _ [_, _, _, _, _, _, _, _] _
        refine r_goto 18 d_P_copyTo_72 (by decide) ?_
        have hm4 := md_put hm3 hpM (npO v t (1 + c) gr)
        have eL : M ++ (pv v k 0 :: cL v t wd gr c) ++ L3 ++ [npO v t (1 + c) gr] = M ++ (pv v k 0 :: cL v t wd gr c) ++ L3 ++ [npO v t (1 + c) gr] := rfl
        have hm5 : mdP (sset z3 20 p3 (npO v t (1 + c) gr % 256)) to (M ++ (pv v k 0 :: cL v t wd gr (c + 1))) := by
          intro j hj
          have e1 : M ++ (pv v k 0 :: cL v t wd gr (c + 1)) = (M ++ (pv v k 0 :: cL v t wd gr c) ++ L3) ++ [npO v t (1 + c) gr % 256] := by
            rw [hL3]
            show M ++ (pv v k 0 :: (cL v t wd gr c ++ ((if wd = 0 then [] else [npO v t (1 + c) gr / 256]) ++ [npO v t (1 + c) gr % 256]))) = _
            simp only [List.append_assoc, List.cons_append]
          rw [e1] at hj ⊢
          have := md_put hm3 hpM (npO v t (1 + c) gr % 256) j hj
          rw [show npO v t (1 + c) gr % 256 % 256 = npO v t (1 + c) gr % 256 by omega] at this
          exact this
        have hlp : to + ((M ++ (pv v k 0 :: cL v t wd gr (c + 1))).length : Nat) = p3 + 1 := by
          have e1 : (M ++ (pv v k 0 :: cL v t wd gr (c + 1))).length = ((M ++ (pv v k 0 :: cL v t wd gr c) ++ L3) ++ [npO v t (1 + c) gr % 256]).length := by
            rw [hL3]
            show (M ++ (pv v k 0 :: (cL v t wd gr c ++ ((if wd = 0 then [] else [npO v t (1 + c) gr / 256]) ++ [npO v t (1 + c) gr % 256])))).length = _
            simp only [List.append_assoc, List.cons_append]
          rw [e1, List.length_append, hpM]
          show to + ((_ + 1 : Nat) : Int) = _
          omega
        have := ih (c + 1) _ (some (vI (npO v t (1 + c) gr))) (by omega) (fun a ha => by rw [sset_ne ha]; exact hz3 a ha) hm5 (fun j hj => by rw [sset_nj (by omega)]; exact hpre3 j hj)
        rw [hlp] at this
        exact this
      have hpb : 0 ≤ p ∧ p < 1000 := by
        rcases hwd01 with q | q
        · rw [if_neg (show ¬ wd = 1 by omega)] at hlen' hl; omega
        · rw [if_pos q] at hlen' hl; omega
      refine r_iload d_P_copyTo_18 rfl ?_
      refine r_aload_n d_P_copyTo_20 rfl rfl ?_
      refine r_getT d_P_copyTo_21 ft_P_41 (k) hk e27 ?_
      rw [e17]
      refine r_icmp_ge 75 d_P_copyTo_24 (by decide) (by unfold i32; omega) (by unfold i32; omega) (fun h1 => ?_) (fun h1 => ?_)
      · omega
      · refine r_aload d_P_copyTo_27 rfl rfl ?_
        refine r_aload_n d_P_copyTo_29 rfl rfl ?_
        refine r_getX d_P_copyTo_30 fl_P_44_4 (k) hk e27' rfl ?_
        show WP _ _ _ _ _ _ (vI (z2 19 k) :: _)
        rw [e19]
        refine r_iload d_P_copyTo_33 rfl ?_
        refine r_iadd d_P_copyTo_35 ?_
        refine r_iald d_P_copyTo_36 11 rfl ⟨by omega, by omega, by omega⟩ ?_
        rw [e22]
        refine r_istore d_P_copyTo_37 (Nat.le_of_ble_eq_true rfl) rfl ?_
        show WP _ _ _ _ _ [_, _, _, _, _, _, _, _] _
        refine r_aload_n d_P_copyTo_39 rfl rfl ?_
        refine r_cV0 d_P_copyTo_40 lk_P_34 (c_P_wide G l y z2 k hk e27' (by rw [e26]; exact ho) (by rw [e18]; exact hg)) (13 + k).toNat rfl (xw_bc hk e27') (Nat.le_of_ble_eq_true rfl) (rok rfl rfl) ⟨(Nat.le_of_ble_eq_true rfl), (Nat.le_of_ble_eq_true rfl)⟩ (fun r ws2 hq => ?_)
        obtain ⟨rfl, rfl⟩ := hq
        show WP _ _ _ _ _ _ (_ :: _)
        rw [e18, e26, hwd]
        refine r_if_eq 59 d_P_copyTo_43 (by decide) (by unfold i32; omega) (fun h2 => ?_) (fun h2 => ?_)
        · exact c59 z2 p [] hz (by rw [List.append_nil]; exact hm) hpre (by rw [if_pos h2]) (by show p = p + ((0 : Nat) : Int); omega)
        · have hw1 : wd = 1 := by omega
          refine r_aload_n d_P_copyTo_46 rfl rfl ?_
          refine r_iload d_P_copyTo_47 rfl ?_
          refine r_iinc d_P_copyTo_49 rfl (Nat.le_of_ble_eq_true rfl) rfl ?_
          show WP _ _ _ _ _ [_, _, _, _, _, _, _, _] _
          refine r_iload d_P_copyTo_52 rfl ?_
          refine r_bipush d_P_copyTo_54 (by decide) ?_
          refine r_ishrR d_P_copyTo_56 ?_
          rw [zI_shr8 hi]
          refine r_i2b d_P_copyTo_57 ?_
          refine r_bast _ d_P_copyTo_58 2 rfl ⟨by omega, by omega, by omega⟩ xw_2 ?_
          show WP _ _ _ (xW G y (sset z2 20 p (npO v t (1 + c) gr / 256 % 256))) _ _ _
          refine c59 _ _ [npO v t (1 + c) gr / 256] (fun a ha => by rw [sset_ne ha]; exact hz a ha) (md_put hm hp.symm _) (fun j hj => by rw [sset_nj (by rw [← hp]; omega)]; exact hpre j hj) (by rw [if_neg (by omega)]) rfl
  refine r_iload_n d_P_copyTo_0 rfl ?_
  refine r_istore d_P_copyTo_1 (Nat.le_of_ble_eq_true rfl) rfl ?_
  show WP _ _ _ _ _ [_, _, _, _, _, _, _, _] _
  refine r_aload_n d_P_copyTo_3 rfl rfl ?_
  refine r_iload d_P_copyTo_4 rfl ?_
  refine r_iinc d_P_copyTo_6 rfl (Nat.le_of_ble_eq_true rfl) rfl ?_
  show WP _ _ _ _ _ [_, _, _, _, _, _, _, _] _
  refine r_aload_n d_P_copyTo_9 rfl rfl ?_
  refine r_getT d_P_copyTo_10 ft_P_41 (k) hk hc ?_
  rw [h17]
  have hpb : 0 ≤ to + (M.length : Int) ∧ to + (M.length : Int) < 1000 := by
    split at hlen' <;> omega
  refine r_i2b d_P_copyTo_13 ?_
  refine r_bast _ d_P_copyTo_14 2 rfl ⟨by omega, by omega, by omega⟩ xw_2 ?_
  show WP _ _ _ (xW G y (sset z 20 (to + M.length) (pv v k 0 % 256))) _ _ _
  refine r_iconst d_P_copyTo_15 ?_
  refine r_istore d_P_copyTo_16 (Nat.le_of_ble_eq_true rfl) rfl ?_
  show WP _ _ _ _ _ [_, _, _, _, _, _, _, _] _
  have := lp (pv v k 0).toNat 0 _ none (by omega) (fun a ha => sset_ne ha) (md_put hM rfl (pv v k 0)) (fun j hj => sset_nj (by omega))
  rw [show to + ((M ++ (pv v k 0 :: cL v t wd gr 0)).length : Nat) = to + M.length + 1 by rw [List.length_append]; show to + ((_ + 1 : Nat) : Int) = _; omega] at this
  exact this
end XCOPY
