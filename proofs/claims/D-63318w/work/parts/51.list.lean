set_option maxRecDepth 20000 in
theorem w_996 : Cond.selects "[Ljava/lang/Object;" ⟨"java/lang/Object", "getClass", "()Ljava/lang/Class;"⟩ ⟨"java/lang/Object", "getClass", "()Ljava/lang/Class;"⟩ ∈ gt := gt_of (in_t5 (List.mem_of_getElem? (i := 36) rfl)) rfl
set_option maxRecDepth 20000 in
theorem w_435 : Cond.instanceMethod ⟨"java/lang/Object", "getClass", "()Ljava/lang/Class;"⟩ ∈ gt := gt_of (in_t2 (List.mem_of_getElem? (i := 195) rfl)) rfl
set_option maxRecDepth 20000 in
theorem w_447 : Cond.native ⟨"java/lang/Object", "getClass", "()Ljava/lang/Class;"⟩ ∈ gt := gt_of (in_t2 (List.mem_of_getElem? (i := 207) rfl)) rfl
set_option maxRecDepth 20000 in
theorem nw_997 : Cond.declares ⟨"java/lang/Object", "getClass", "()Ljava/lang/Class;"⟩ ∈ nwl := nw_of (in_t5 (List.mem_of_getElem? (i := 37) rfl)) rfl
set_option maxRecDepth 20000 in
theorem nw_989 : Cond.castable "MovieBoxes$Holder" "MovieBoxes$Box" ∈ nwl := nw_of (in_t5 (List.mem_of_getElem? (i := 29) rfl)) rfl
set_option maxRecDepth 20000 in
theorem nw_999 : Cond.castable "MovieBoxes$Holder" "java/lang/Object" ∈ nwl := nw_of (in_t5 (List.mem_of_getElem? (i := 39) rfl)) rfl
set_option maxRecDepth 20000 in
theorem nw_990 : Cond.castable "MovieBoxes$Leaf" "MovieBoxes$Box" ∈ nwl := nw_of (in_t5 (List.mem_of_getElem? (i := 30) rfl)) rfl
set_option maxRecDepth 20000 in
theorem nw_1005 : Cond.castable "MovieBoxes$Leaf" "java/lang/Object" ∈ nwl := nw_of (in_t5 (List.mem_of_getElem? (i := 45) rfl)) rfl
set_option maxRecDepth 20000 in
theorem nw_993 : Cond.castable "MovieBoxes$Table" "MovieBoxes$Box" ∈ nwl := nw_of (in_t5 (List.mem_of_getElem? (i := 33) rfl)) rfl
set_option maxRecDepth 20000 in
theorem nw_1004 : Cond.castable "MovieBoxes$Table" "java/lang/Object" ∈ nwl := nw_of (in_t5 (List.mem_of_getElem? (i := 44) rfl)) rfl
set_option maxRecDepth 20000 in
theorem nw_991 : Cond.castable "MovieBoxes$PlaceTable" "MovieBoxes$Box" ∈ nwl := nw_of (in_t5 (List.mem_of_getElem? (i := 31) rfl)) rfl
set_option maxRecDepth 20000 in
theorem nw_1002 : Cond.castable "MovieBoxes$PlaceTable" "java/lang/Object" ∈ nwl := nw_of (in_t5 (List.mem_of_getElem? (i := 42) rfl)) rfl
set_option maxRecDepth 20000 in
theorem nw_992 : Cond.castable "MovieBoxes$SizeTable" "MovieBoxes$Box" ∈ nwl := nw_of (in_t5 (List.mem_of_getElem? (i := 32) rfl)) rfl
set_option maxRecDepth 20000 in
theorem nw_1003 : Cond.castable "MovieBoxes$SizeTable" "java/lang/Object" ∈ nwl := nw_of (in_t5 (List.mem_of_getElem? (i := 43) rfl)) rfl
set_option maxRecDepth 20000 in
theorem w_425 : Cond.static ⟨"java/lang/Math", "max", "(II)I"⟩ ∈ gt := gt_of (in_t2 (List.mem_of_getElem? (i := 185) rfl)) rfl
set_option maxRecDepth 20000 in
theorem w_16 : Cond.initialized "java/lang/Math" ∈ gt := gt_of (in_t1 (List.mem_of_getElem? (i := 16) rfl)) rfl
set_option maxRecDepth 20000 in
theorem w_426 : Cond.code ⟨"java/lang/Math", "max", "(II)I"⟩ prog_17_method_65_code 2 (some .int) ∈ gt := gt_of (in_t2 (List.mem_of_getElem? (i := 186) rfl)) rfl
set_option maxRecDepth 20000 in
theorem w_455 : Cond.static ⟨"java/lang/Math", "min", "(II)I"⟩ ∈ gt := gt_of (in_t2 (List.mem_of_getElem? (i := 215) rfl)) rfl
set_option maxRecDepth 20000 in
theorem w_456 : Cond.code ⟨"java/lang/Math", "min", "(II)I"⟩ prog_17_method_69_code 2 (some .int) ∈ gt := gt_of (in_t2 (List.mem_of_getElem? (i := 216) rfl)) rfl
abbrev q_AS_newLength : Mi := (⟨"jdk/internal/util/ArraysSupport", "newLength", "(III)I"⟩, prog_28_method_27_code, 4, (some .int))
theorem d_AS_newLength_0 : decode prog_28_method_27_code 0 = .ok (.iload_n 0, 1) := by decide +kernel
theorem d_AS_newLength_1 : decode prog_28_method_27_code 1 = .ok (.iload_n 1, 1) := by decide +kernel
theorem d_AS_newLength_2 : decode prog_28_method_27_code 2 = .ok (.iload_n 2, 1) := by decide +kernel
theorem d_AS_newLength_3 : decode prog_28_method_27_code 3 = .ok (.invokestatic 194, 3) := by decide +kernel
set_option maxRecDepth 20000 in
theorem w_424 : Cond.methodLink "jdk/internal/util/ArraysSupport" 194 ⟨"java/lang/Math", "max", "(II)I"⟩ ∈ gt := gt_of (in_t2 (List.mem_of_getElem? (i := 184) rfl)) rfl
theorem d_AS_newLength_6 : decode prog_28_method_27_code 6 = .ok (.iadd, 1) := by decide +kernel
theorem d_AS_newLength_7 : decode prog_28_method_27_code 7 = .ok (.istore_n 3, 1) := by decide +kernel
theorem d_AS_newLength_8 : decode prog_28_method_27_code 8 = .ok (.iconst 0, 1) := by decide +kernel
theorem d_AS_newLength_9 : decode prog_28_method_27_code 9 = .ok (.iload_n 3, 1) := by decide +kernel
theorem d_AS_newLength_10 : decode prog_28_method_27_code 10 = .ok (.if_icmp .ge 11, 3) := by decide +kernel
theorem d_AS_newLength_13 : decode prog_28_method_27_code 13 = .ok (.iload_n 3, 1) := by decide +kernel
theorem d_AS_newLength_14 : decode prog_28_method_27_code 14 = .ok (.ldc 200, 2) := by decide +kernel
set_option maxRecDepth 20000 in
theorem w_427 : Cond.constant "jdk/internal/util/ArraysSupport" 200 (2147483639 : Int32) ∈ gt := gt_of (in_t2 (List.mem_of_getElem? (i := 187) rfl)) rfl
theorem d_AS_newLength_16 : decode prog_28_method_27_code 16 = .ok (.if_icmp .gt 5, 3) := by decide +kernel
theorem d_AS_newLength_19 : decode prog_28_method_27_code 19 = .ok (.iload_n 3, 1) := by decide +kernel
theorem d_AS_newLength_20 : decode prog_28_method_27_code 20 = .ok (.ireturn, 1) := by decide +kernel
abbrev q_Pr_checkIndex : Mi := (⟨"jdk/internal/util/Preconditions", "checkIndex", "(IILjava/util/function/BiFunction;)I"⟩, prog_29_method_11_code, 3, (some .int))
theorem d_Pr_checkIndex_0 : decode prog_29_method_11_code 0 = .ok (.iload_n 0, 1) := by decide +kernel
theorem d_Pr_checkIndex_1 : decode prog_29_method_11_code 1 = .ok (.ifCond .lt 8, 3) := by decide +kernel
theorem d_Pr_checkIndex_4 : decode prog_29_method_11_code 4 = .ok (.iload_n 0, 1) := by decide +kernel
theorem d_Pr_checkIndex_5 : decode prog_29_method_11_code 5 = .ok (.iload_n 1, 1) := by decide +kernel
theorem d_Pr_checkIndex_6 : decode prog_29_method_11_code 6 = .ok (.if_icmp .lt 10, 3) := by decide +kernel
theorem d_Pr_checkIndex_16 : decode prog_29_method_11_code 16 = .ok (.iload_n 0, 1) := by decide +kernel
theorem d_Pr_checkIndex_17 : decode prog_29_method_11_code 17 = .ok (.ireturn, 1) := by decide +kernel
abbrev q_Ob_checkIndex : Mi := (⟨"java/util/Objects", "checkIndex", "(II)I"⟩, prog_25_method_17_code, 2, (some .int))
theorem d_Ob_checkIndex_0 : decode prog_25_method_17_code 0 = .ok (.iload_n 0, 1) := by decide +kernel
theorem d_Ob_checkIndex_1 : decode prog_25_method_17_code 1 = .ok (.iload_n 1, 1) := by decide +kernel
theorem d_Ob_checkIndex_2 : decode prog_25_method_17_code 2 = .ok (.aconst_null, 1) := by decide +kernel
theorem d_Ob_checkIndex_3 : decode prog_25_method_17_code 3 = .ok (.invokestatic 105, 3) := by decide +kernel
set_option maxRecDepth 20000 in
theorem w_486 : Cond.methodLink "java/util/Objects" 105 ⟨"jdk/internal/util/Preconditions", "checkIndex", "(IILjava/util/function/BiFunction;)I"⟩ ∈ gt := gt_of (in_t3 (List.mem_of_getElem? (i := 6) rfl)) rfl
set_option maxRecDepth 20000 in
theorem w_487 : Cond.static ⟨"jdk/internal/util/Preconditions", "checkIndex", "(IILjava/util/function/BiFunction;)I"⟩ ∈ gt := gt_of (in_t3 (List.mem_of_getElem? (i := 7) rfl)) rfl
set_option maxRecDepth 20000 in
theorem w_20 : Cond.initialized "jdk/internal/util/Preconditions" ∈ gt := gt_of (in_t1 (List.mem_of_getElem? (i := 20) rfl)) rfl
set_option maxRecDepth 20000 in
theorem w_488 : Cond.code ⟨"jdk/internal/util/Preconditions", "checkIndex", "(IILjava/util/function/BiFunction;)I"⟩ prog_29_method_11_code 3 (some .int) ∈ gt := gt_of (in_t3 (List.mem_of_getElem? (i := 8) rfl)) rfl
theorem lk_Ob_105 : LkS "java/util/Objects" 105 q_Pr_checkIndex 3 := ⟨(List.forall_mem_cons.mpr ⟨w_486, (List.forall_mem_cons.mpr ⟨w_487, (List.forall_mem_cons.mpr ⟨w_20, (fun _ h => absurd h List.not_mem_nil)⟩)⟩)⟩), w_488, by decide +kernel⟩
theorem d_Ob_checkIndex_6 : decode prog_25_method_17_code 6 = .ok (.ireturn, 1) := by decide +kernel
/-! ===== rows for the list: constants, the mirror, getClass, arraycopy of objects ===== -/
section ROWS3
variable {μ : Mx} {k n : Nat} {ws : va_W} {pc : Nat} {lv : List (Option Value)} {st : List Value}
theorem r_ldc {idx : Nat} {v : Int32} (hd : decode (mB μ) pc = .ok (.ldc idx, 2)) (hw : Cond.constant (mO μ) idx v ∈ gt) (kk : WP μ k n ws (pc + 2) lv (.int v :: st)) : WP μ k n ws pc lv st := by
  intro p e s m args below meth c C H locs ls hP hD hS hl
  obtain ⟨hx, hb, hml, hr, hown, hts, hK, hSt, hA, hlocks, hE⟩ := id C
  exact lv_ldc hx hb hown (hts _ hw) hd (kk p e s m args below meth c C H locs ls hP hD hS hl)
theorem r_ldcM {idx : Nat} (hd : decode (mB μ) pc = .ok (.ldc idx, 2)) (hw : Cond.classLink (mO μ) idx "[Ljava/lang/Object;" ∈ gt) (kk : WP μ k n ws (pc + 2) lv (.ref (gS (mG μ) 1) :: st)) : WP μ k n ws pc lv st := by
  intro p e s m args below meth c C H locs ls hP hD hS hl
  obtain ⟨hx, hb, hml, hr, hown, hts, hK, hSt, hA, hlocks, hE⟩ := id C
  exact va_ldcM hx hb hown (hts _ hw) hSt.2.2.2.1 hd (kk p e s m args below meth c C H locs ls hP hD hS hl)
theorem r_tlen (hd : decode (mB μ) pc = .ok (.arraylength, 1)) (kk : WP μ k n ws (pc + 1) lv (vI 0 :: st)) : WP μ k n ws pc lv (.ref (gS (mG μ) 0) :: st) := by
  intro p e s m args below meth c C H locs ls hP hD hS hl
  obtain ⟨hx, hb, hml, hr, hown, hts, hK, hSt, hA, hlocks, hE⟩ := id C
  exact va_tlen hx hb hSt.2.2.1 hS (v := zI 0) rfl hd (kk p e s m args below meth c C H locs ls hP hD hS hl)
theorem r_getC {idx a N : Nat} {g : Int → Option Nat} (hd : decode (mB μ) pc = .ok (.invokevirtual idx, 3)) (hlk : Cond.methodLink (mO μ) idx ⟨"java/lang/Object", "getClass", "()Ljava/lang/Class;"⟩ ∈ gt) (q0 : Nat) (he : ws[q0]? = some (a, aQ (mG μ) 5 N g)) (hf1 : Nat.ble 1 (mR μ).frames = true) (hf2 : Nat.ble ((st.map fun v => v.category).sum + 14) (mR μ).locals = true) (kk : WP μ k n ws (pc + 3) lv (.ref (gS (mG μ) 1) :: st)) : WP μ k n ws pc lv (.ref a :: st) := by
  intro p e s m args below meth c C H locs ls hP hD hS hl
  obtain ⟨hx, hb, hml, hr, hown, hts, hK, hSt, hA, hlocks, hE⟩ := id C
  refine va_getC (C := "[Ljava/lang/Object;") hx hb (by rw [hml]; exact hl.1.symm) hown (hts _ hlk) (nw_at hSt nw_997) (hts _ w_996) (hts _ w_435) (hts _ w_447) hSt.2.2.2.1 ⟨_, hP q0 _ he, rfl, ?_⟩ (Nat.le_of_ble_eq_true hf1) (Nat.le_of_ble_eq_true hf2) hd (kk p e s m args below meth c C H locs ls hP hD hS hl)
  exact va_nmO (hK.2 5 _ rfl).2 rfl
/-- what the list holds: boxes of the world -/
def elB (ws : va_W) (g : Int → Option Nat) : Prop := ∀ (i : Int) (y : Nat), g i = some y → ∃ (q c : Nat) (fs : List Value), ws[q]? = some (y, .inr (c, fs)) ∧ 1 ≤ c ∧ c ≤ 5
theorem bxC {c : Nat} (h : 1 ≤ c ∧ c ≤ 5) : ∃ (Cn : String) (T : u_T) (N : Nat), cls[c]? = some (Cn, T, N) ∧ Cond.castable Cn "MovieBoxes$Box" ∈ nwl ∧ Cond.castable Cn "java/lang/Object" ∈ nwl := by
  rcases (by omega : c = 1 ∨ c = 2 ∨ c = 3 ∨ c = 4 ∨ c = 5) with rfl | rfl | rfl | rfl | rfl
  · exact ⟨_, _, _, rfl, nw_989, nw_999⟩
  · exact ⟨_, _, _, rfl, nw_990, nw_1005⟩
  · exact ⟨_, _, _, rfl, nw_993, nw_1004⟩
  · exact ⟨_, _, _, rfl, nw_991, nw_1002⟩
  · exact ⟨_, _, _, rfl, nw_992, nw_1003⟩
theorem cpy_q {f g : Int → Option Nat} {sp dp n : Int} (h1 : 0 ≤ sp ∧ sp < 2147483648) (h2 : 0 ≤ dp ∧ dp < 2147483648) (h3 : 0 ≤ n ∧ n < 2147483648) : va_cpy (fun j : Nat => f (j : Int)) (fun j : Nat => g (j : Int)) (zI sp).toNatClampNeg (zI dp).toNatClampNeg (zI n).toNatClampNeg = fun j : Nat => cpyI f g sp dp n (j : Int) := by
  rw [zI_clamp h1.1 h1.2, zI_clamp h2.1 h2.2, zI_clamp h3.1 h3.2]
  funext j
  unfold va_cpy cpyI
  by_cases hj : dp.toNat ≤ j ∧ j < dp.toNat + n.toNat
  · rw [if_pos hj, if_pos (by omega)]
    show f ((sp.toNat + (j - dp.toNat) : Nat) : Int) = _
    rw [show ((sp.toNat + (j - dp.toNat) : Nat) : Int) = sp + ((j : Int) - dp) by omega]
  · rw [if_neg hj, if_neg (by omega)]
theorem r_copyQ {idx a0 a1 n0 n1 : Nat} {f g : Int → Option Nat} {sp dp len : Int} (ws' : va_W) (hd : decode (mB μ) pc = .ok (.invokestatic idx, 3)) (hlk : Cond.methodLink (mO μ) idx ⟨"java/lang/System", "arraycopy", "(Ljava/lang/Object;ILjava/lang/Object;II)V"⟩ ∈ gt) (q0 q1 : Nat) (he0 : ws[q0]? = some (a0, aQ (mG μ) 5 n0 f)) (he1 : ws[q1]? = some (a1, aQ (mG μ) 5 n1 g)) (h1 : 0 ≤ sp ∧ 0 ≤ dp ∧ 0 ≤ len ∧ sp + len ≤ (n0 : Int) ∧ dp + len ≤ (n1 : Int)) (hn : n0 < 2147483648 ∧ n1 < 2147483648) (hel : elB ws f) (hw : ws.set q1 (a1, aQ (mG μ) 5 n1 (cpyI f g sp dp len)) = ws') (hf1 : Nat.ble 1 (mR μ).frames = true) (hf2 : Nat.ble ((st.map fun v => v.category).sum + 18) (mR μ).locals = true) (kk : WP μ k n ws' (pc + 3) lv st) : WP μ k n ws pc lv (vI len :: vI dp :: .ref a1 :: vI sp :: .ref a0 :: st) := by
  intro p e s m args below meth c C H locs ls hP hD hS hl
  subst hw
  obtain ⟨hx, hb, hml, hr, hown, hts, hK, hSt, hA, hlocks, hE⟩ := id C
  refine va_copyM hx hb (by rw [hml]; exact hl.1.symm) hown (hts _ hlk) (hts _ w_459) (hts _ w_458) (hts _ w_18) hK hP hD hS q0 q1 5 5 he0 he1 rfl rfl (zI_n0 (by omega)) (zI_n0 (by omega)) (zI_n0 (by omega)) (by rw [zI_clamp (by omega) (by omega), zI_clamp (by omega) (by omega)]; omega) (by rw [zI_clamp (by omega) (by omega), zI_clamp (by omega) (by omega)]; omega) (fun i _ y hy => ?_) (Nat.le_of_ble_eq_true hf1) (Nat.le_of_ble_eq_true hf2) hd ?_
  · obtain ⟨q, cc, fs, e1, e2⟩ := hel _ y hy
    obtain ⟨Cn, T, N, e3, -, e4⟩ := bxC e2
    exact any_of hSt hK hP e3 e1 e4
  rw [cpy_q (by omega) (by omega) (by omega)]
  exact fun H locs hP hD hS => kk p e s m args below meth c C H locs ls hP hD hS hl
theorem r_mmax {idx : Nat} {x y : Int} (hd : decode (mB μ) pc = .ok (.invokestatic idx, 3)) (hlk : Cond.methodLink (mO μ) idx ⟨"java/lang/Math", "max", "(II)I"⟩ ∈ gt) (hx : i32 x) (hy : i32 y) (hf1 : Nat.ble 1 (mR μ).frames = true) (hf2 : Nat.ble ((st.map fun v => v.category).sum + 13) (mR μ).locals = true) (hk : k ≤ (mR μ).cells) (hn : n ≤ (mR μ).slots) (kk : WP μ k n ws (pc + 3) lv (vI (if x < y then y else x) :: st)) : WP μ k n ws pc lv (vI y :: vI x :: st) := by
  intro p e s m args below meth c C H locs ls hP hD hS hl
  obtain ⟨hx0, hb, hml, hr, hown, hts, hK, hSt, hA, hlocks, hE⟩ := id C
  refine va_mmax hx0 hb (by rw [hml]; exact hl.1.symm) hown (hts _ hlk) (hts _ w_425) (hts _ w_16) (hts _ w_426) (Nat.le_of_ble_eq_true hf1) (Nat.le_of_ble_eq_true hf2) hk hn hd ?_
  have e1 : (if zI x < zI y then zI y else zI x) = zI (if x < y then y else x) := by
    by_cases h : x < y
    · rw [if_pos h, if_pos ((zI_lt hx hy).mpr h)]
    · rw [if_neg h, if_neg (fun q => h ((zI_lt hx hy).mp q))]
  rw [e1]
  exact kk p e s m args below meth c C H locs ls hP hD hS hl
theorem r_mmin {idx : Nat} {x y : Int} (hd : decode (mB μ) pc = .ok (.invokestatic idx, 3)) (hlk : Cond.methodLink (mO μ) idx ⟨"java/lang/Math", "min", "(II)I"⟩ ∈ gt) (hx : i32 x) (hy : i32 y) (hf1 : Nat.ble 1 (mR μ).frames = true) (hf2 : Nat.ble ((st.map fun v => v.category).sum + 13) (mR μ).locals = true) (hk : k ≤ (mR μ).cells) (hn : n ≤ (mR μ).slots) (kk : WP μ k n ws (pc + 3) lv (vI (if y < x then y else x) :: st)) : WP μ k n ws pc lv (vI y :: vI x :: st) := by
  intro p e s m args below meth c C H locs ls hP hD hS hl
  obtain ⟨hx0, hb, hml, hr, hown, hts, hK, hSt, hA, hlocks, hE⟩ := id C
  refine va_mmin hx0 hb (by rw [hml]; exact hl.1.symm) hown (hts _ hlk) (hts _ w_455) (hts _ w_16) (hts _ w_456) (Nat.le_of_ble_eq_true hf1) (Nat.le_of_ble_eq_true hf2) hk hn hd ?_
  have e1 : (if zI y < zI x then zI y else zI x) = zI (if y < x then y else x) := by
    by_cases h : y < x
    · rw [if_pos h, if_pos ((zI_lt hy hx).mpr h)]
    · rw [if_neg h, if_neg (fun q => h ((zI_lt hy hx).mp q))]
  rw [e1]
  exact kk p e s m args below meth c C H locs ls hP hD hS hl
end ROWS3
/-! ===== java.lang.Math, ArraysSupport, Objects ===== -/
section LIB
variable (G : gG) (l : Launch)
theorem c_AS_newLength (ws : va_W) (o g p : Int) (ho : 0 ≤ o ∧ o ≤ 100000) (hg : 1 ≤ g ∧ g ≤ 100000) (hp : 0 ≤ p ∧ p ≤ 100000) : Ct G l q_AS_newLength 1 0 0 [vI o, vI g, vI p] ws (fun r w => r = some (vI (o + if g < p then p else g)) ∧ w = ws) := by
  refine Ct.intro [some (vI o), some (vI g), some (vI p), none] (by decide) (Nat.le_of_ble_eq_true rfl) rfl (fun sz => ?_)
  refine r_iload_n d_AS_newLength_0 rfl ?_
  refine r_iload_n d_AS_newLength_1 rfl ?_
  refine r_iload_n d_AS_newLength_2 rfl ?_
  refine r_mmax d_AS_newLength_3 w_424 (by unfold i32; omega) (by unfold i32; omega) rfl rfl (Nat.le_of_ble_eq_true rfl) (Nat.le_of_ble_eq_true rfl) ?_
  refine r_iadd d_AS_newLength_6 ?_
  refine r_istore_n d_AS_newLength_7 (Nat.le_of_ble_eq_true rfl) rfl ?_
  show WP _ _ _ _ _ [_, _, _, _] _
  refine r_iconst d_AS_newLength_8 ?_
  refine r_iload_n d_AS_newLength_9 rfl ?_
  have hm : 1 ≤ o + (if g < p then p else g) ∧ o + (if g < p then p else g) ≤ 200000 := by split <;> omega
  generalize o + (if g < p then p else g) = x at hm ⊢
  refine r_icmp_ge 21 d_AS_newLength_10 (by decide) (by unfold i32; omega) (by unfold i32; omega) (fun h1 => ?_) (fun h1 => ?_)
  · omega
  · refine r_iload_n d_AS_newLength_13 rfl ?_
    refine r_ldc d_AS_newLength_14 w_427 ?_
    show WP _ _ _ _ _ _ (vI 2147483639 :: _)
    refine r_icmp_gt 21 d_AS_newLength_16 (by decide) (by unfold i32; omega) (by unfold i32; omega) (fun h2 => ?_) (fun h2 => ?_)
    · omega
    · refine r_iload_n d_AS_newLength_19 rfl ?_
      refine r_iret d_AS_newLength_20 rfl (Nat.le_of_ble_eq_true rfl) (Nat.le_of_ble_eq_true rfl) ?_
      exact ⟨rfl, rfl⟩
theorem c_Pr_checkIndex (ws : va_W) (i n : Int) (hi : 0 ≤ i ∧ i < n) (hn : n < 2147483648) : Ct G l q_Pr_checkIndex 0 0 0 [vI i, vI n, .null] ws (fun r w => r = some (vI i) ∧ w = ws) := by
  refine Ct.intro [some (vI i), some (vI n), some (.null)] (by decide) (Nat.le_of_ble_eq_true rfl) rfl (fun sz => ?_)
  refine r_iload_n d_Pr_checkIndex_0 rfl ?_
  refine r_if_lt 9 d_Pr_checkIndex_1 (by decide) (by unfold i32; omega) (fun h1 => ?_) (fun h1 => ?_)
  · omega
  · refine r_iload_n d_Pr_checkIndex_4 rfl ?_
    refine r_iload_n d_Pr_checkIndex_5 rfl ?_
    refine r_icmp_lt 16 d_Pr_checkIndex_6 (by decide) (by unfold i32; omega) (by unfold i32; omega) (fun h2 => ?_) (fun h2 => ?_)
    · refine r_iload_n d_Pr_checkIndex_16 rfl ?_
      refine r_iret d_Pr_checkIndex_17 rfl (Nat.le_of_ble_eq_true rfl) (Nat.le_of_ble_eq_true rfl) ?_
      exact ⟨rfl, rfl⟩
    · omega
theorem c_Ob_checkIndex (ws : va_W) (i n : Int) (hi : 0 ≤ i ∧ i < n) (hn : n < 2147483648) : Ct G l q_Ob_checkIndex 1 0 0 [vI i, vI n] ws (fun r w => r = some (vI i) ∧ w = ws) := by
  refine Ct.intro [some (vI i), some (vI n)] (by decide) (Nat.le_of_ble_eq_true rfl) rfl (fun sz => ?_)
  refine r_iload_n d_Ob_checkIndex_0 rfl ?_
  refine r_iload_n d_Ob_checkIndex_1 rfl ?_
  refine r_null d_Ob_checkIndex_2 ?_
  refine r_cS3 d_Ob_checkIndex_3 lk_Ob_105 (c_Pr_checkIndex G l ws i n hi hn) (Nat.le_of_ble_eq_true rfl) (rok rfl rfl) ⟨(Nat.le_of_ble_eq_true rfl), (Nat.le_of_ble_eq_true rfl)⟩ (fun r ws2 hq => ?_)
  obtain ⟨rfl, rfl⟩ := hq
  show WP _ _ _ _ _ _ (_ :: _)
  refine r_iret d_Ob_checkIndex_6 rfl (Nat.le_of_ble_eq_true rfl) (Nat.le_of_ble_eq_true rfl) ?_
  exact ⟨rfl, rfl⟩
end LIB
