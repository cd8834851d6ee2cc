abbrev q_M_readOne : Mi := (⟨"MovieBoxesModel", "readOne", "(III)Z"⟩, prog_12_method_8_code, 7, (some .boolean))
theorem d_M_readOne_43 : decode prog_12_method_8_code 43 = .ok (.iconst 0, 1) := by decide +kernel
theorem d_M_readOne_44 : decode prog_12_method_8_code 44 = .ok (.ireturn, 1) := by decide +kernel
theorem d_M_readOne_103 : decode prog_12_method_8_code 103 = .ok (.aload_n 0, 1) := by decide +kernel
theorem d_M_readOne_104 : decode prog_12_method_8_code 104 = .ok (.getfield 13, 3) := by decide +kernel
theorem d_M_readOne_107 : decode prog_12_method_8_code 107 = .ok (.aload_n 0, 1) := by decide +kernel
theorem d_M_readOne_108 : decode prog_12_method_8_code 108 = .ok (.getfield 64, 3) := by decide +kernel
set_option maxRecDepth 20000 in
theorem w_714 : Cond.fieldLink "MovieBoxesModel" 64 "MovieBoxesModel" "count" "I" ∈ gt := gt_of (in_t3 (List.mem_of_getElem? (i := 234) rfl)) rfl
theorem fl_M_64_7 : FL "MovieBoxesModel" 64 7 2 false := ⟨_, _, _, "MovieBoxesModel", rfl, by decide, rfl, Or.inl w_714, Or.inl rfl⟩
theorem d_M_readOne_111 : decode prog_12_method_8_code 111 = .ok (.iload_n 1, 1) := by decide +kernel
theorem d_M_readOne_112 : decode prog_12_method_8_code 112 = .ok (.iastore, 1) := by decide +kernel
theorem d_M_readOne_113 : decode prog_12_method_8_code 113 = .ok (.aload_n 0, 1) := by decide +kernel
theorem d_M_readOne_114 : decode prog_12_method_8_code 114 = .ok (.getfield 16, 3) := by decide +kernel
theorem d_M_readOne_117 : decode prog_12_method_8_code 117 = .ok (.aload_n 0, 1) := by decide +kernel
theorem d_M_readOne_118 : decode prog_12_method_8_code 118 = .ok (.getfield 64, 3) := by decide +kernel
theorem d_M_readOne_121 : decode prog_12_method_8_code 121 = .ok (.iload 6, 2) := by decide +kernel
theorem d_M_readOne_123 : decode prog_12_method_8_code 123 = .ok (.iastore, 1) := by decide +kernel
theorem d_M_readOne_124 : decode prog_12_method_8_code 124 = .ok (.aload_n 0, 1) := by decide +kernel
theorem d_M_readOne_125 : decode prog_12_method_8_code 125 = .ok (.getfield 19, 3) := by decide +kernel
theorem d_M_readOne_128 : decode prog_12_method_8_code 128 = .ok (.aload_n 0, 1) := by decide +kernel
theorem d_M_readOne_129 : decode prog_12_method_8_code 129 = .ok (.getfield 64, 3) := by decide +kernel
theorem d_M_readOne_132 : decode prog_12_method_8_code 132 = .ok (.aload_n 0, 1) := by decide +kernel
theorem d_M_readOne_133 : decode prog_12_method_8_code 133 = .ok (.getfield 7, 3) := by decide +kernel
theorem d_M_readOne_136 : decode prog_12_method_8_code 136 = .ok (.iload_n 1, 1) := by decide +kernel
theorem d_M_readOne_137 : decode prog_12_method_8_code 137 = .ok (.iconst 1, 1) := by decide +kernel
theorem d_M_readOne_138 : decode prog_12_method_8_code 138 = .ok (.iadd, 1) := by decide +kernel
theorem d_M_readOne_139 : decode prog_12_method_8_code 139 = .ok (.iaload, 1) := by decide +kernel
theorem d_M_readOne_140 : decode prog_12_method_8_code 140 = .ok (.iastore, 1) := by decide +kernel
theorem d_M_readOne_141 : decode prog_12_method_8_code 141 = .ok (.aload_n 0, 1) := by decide +kernel
theorem d_M_readOne_142 : decode prog_12_method_8_code 142 = .ok (.getfield 22, 3) := by decide +kernel
theorem d_M_readOne_145 : decode prog_12_method_8_code 145 = .ok (.aload_n 0, 1) := by decide +kernel
theorem d_M_readOne_146 : decode prog_12_method_8_code 146 = .ok (.getfield 64, 3) := by decide +kernel
theorem d_M_readOne_149 : decode prog_12_method_8_code 149 = .ok (.iload 5, 2) := by decide +kernel
theorem d_M_readOne_151 : decode prog_12_method_8_code 151 = .ok (.iastore, 1) := by decide +kernel
theorem d_M_readOne_152 : decode prog_12_method_8_code 152 = .ok (.aload_n 0, 1) := by decide +kernel
theorem d_M_readOne_153 : decode prog_12_method_8_code 153 = .ok (.getfield 25, 3) := by decide +kernel
theorem d_M_readOne_156 : decode prog_12_method_8_code 156 = .ok (.aload_n 0, 1) := by decide +kernel
theorem d_M_readOne_157 : decode prog_12_method_8_code 157 = .ok (.getfield 64, 3) := by decide +kernel
theorem d_M_readOne_160 : decode prog_12_method_8_code 160 = .ok (.iload_n 3, 1) := by decide +kernel
theorem d_M_readOne_161 : decode prog_12_method_8_code 161 = .ok (.iastore, 1) := by decide +kernel
theorem d_M_readOne_162 : decode prog_12_method_8_code 162 = .ok (.aload_n 0, 1) := by decide +kernel
theorem d_M_readOne_163 : decode prog_12_method_8_code 163 = .ok (.getfield 28, 3) := by decide +kernel
set_option maxRecDepth 20000 in
theorem w_720 : Cond.fieldLink "MovieBoxesModel" 28 "MovieBoxesModel" "holder" "[I" ∈ gt := gt_of (in_t4 (List.mem_of_getElem? (i := 0) rfl)) rfl
theorem fl_M_28_7 : FL "MovieBoxesModel" 28 7 8 true := ⟨_, _, _, "MovieBoxesModel", rfl, by decide, rfl, Or.inl w_720, Or.inl rfl⟩
theorem d_M_readOne_166 : decode prog_12_method_8_code 166 = .ok (.aload_n 0, 1) := by decide +kernel
theorem d_M_readOne_167 : decode prog_12_method_8_code 167 = .ok (.getfield 64, 3) := by decide +kernel
theorem d_M_readOne_170 : decode prog_12_method_8_code 170 = .ok (.aload_n 0, 1) := by decide +kernel
theorem d_M_readOne_171 : decode prog_12_method_8_code 171 = .ok (.getfield 34, 3) := by decide +kernel
set_option maxRecDepth 20000 in
theorem w_722 : Cond.fieldLink "MovieBoxesModel" 34 "MovieBoxesModel" "open" "[I" ∈ gt := gt_of (in_t4 (List.mem_of_getElem? (i := 2) rfl)) rfl
theorem fl_M_34_7 : FL "MovieBoxesModel" 34 7 10 true := ⟨_, _, _, "MovieBoxesModel", rfl, by decide, rfl, Or.inl w_722, Or.inl rfl⟩
theorem d_M_readOne_174 : decode prog_12_method_8_code 174 = .ok (.iload_n 3, 1) := by decide +kernel
theorem d_M_readOne_175 : decode prog_12_method_8_code 175 = .ok (.iaload, 1) := by decide +kernel
theorem d_M_readOne_176 : decode prog_12_method_8_code 176 = .ok (.iastore, 1) := by decide +kernel
theorem d_M_readOne_177 : decode prog_12_method_8_code 177 = .ok (.aload_n 0, 1) := by decide +kernel
theorem d_M_readOne_178 : decode prog_12_method_8_code 178 = .ok (.dup, 1) := by decide +kernel
theorem d_M_readOne_179 : decode prog_12_method_8_code 179 = .ok (.getfield 64, 3) := by decide +kernel
theorem d_M_readOne_182 : decode prog_12_method_8_code 182 = .ok (.iconst 1, 1) := by decide +kernel
theorem d_M_readOne_183 : decode prog_12_method_8_code 183 = .ok (.iadd, 1) := by decide +kernel
theorem d_M_readOne_184 : decode prog_12_method_8_code 184 = .ok (.putfield 64, 3) := by decide +kernel
theorem d_M_readOne_187 : decode prog_12_method_8_code 187 = .ok (.iconst 1, 1) := by decide +kernel
theorem d_M_readOne_188 : decode prog_12_method_8_code 188 = .ok (.ireturn, 1) := by decide +kernel
theorem d_M_readOne_86 : decode prog_12_method_8_code 86 = .ok (.istore 6, 2) := by decide +kernel
theorem d_M_readOne_88 : decode prog_12_method_8_code 88 = .ok (.iload 6, 2) := by decide +kernel
theorem d_M_readOne_90 : decode prog_12_method_8_code 90 = .ok (.iload 5, 2) := by decide +kernel
theorem d_M_readOne_92 : decode prog_12_method_8_code 92 = .ok (.if_icmp .lt 9, 3) := by decide +kernel
theorem d_M_readOne_101 : decode prog_12_method_8_code 101 = .ok (.iconst 0, 1) := by decide +kernel
theorem d_M_readOne_102 : decode prog_12_method_8_code 102 = .ok (.ireturn, 1) := by decide +kernel
theorem d_M_readOne_95 : decode prog_12_method_8_code 95 = .ok (.iload 6, 2) := by decide +kernel
theorem d_M_readOne_97 : decode prog_12_method_8_code 97 = .ok (.iload_n 2, 1) := by decide +kernel
theorem d_M_readOne_98 : decode prog_12_method_8_code 98 = .ok (.if_icmp .le 5, 3) := by decide +kernel
theorem d_M_readOne_45 : decode prog_12_method_8_code 45 = .ok (.iload 4, 2) := by decide +kernel
theorem d_M_readOne_47 : decode prog_12_method_8_code 47 = .ok (.ifCond .ne 7, 3) := by decide +kernel
theorem d_M_readOne_54 : decode prog_12_method_8_code 54 = .ok (.iload 4, 2) := by decide +kernel
theorem d_M_readOne_56 : decode prog_12_method_8_code 56 = .ok (.iconst 1, 1) := by decide +kernel
theorem d_M_readOne_57 : decode prog_12_method_8_code 57 = .ok (.if_icmp .ne 27, 3) := by decide +kernel
theorem d_M_readOne_84 : decode prog_12_method_8_code 84 = .ok (.iload 4, 2) := by decide +kernel
theorem d_M_readOne_60 : decode prog_12_method_8_code 60 = .ok (.sipush 256, 3) := by decide +kernel
theorem d_M_readOne_63 : decode prog_12_method_8_code 63 = .ok (.aload_n 0, 1) := by decide +kernel
theorem d_M_readOne_64 : decode prog_12_method_8_code 64 = .ok (.getfield 7, 3) := by decide +kernel
theorem d_M_readOne_67 : decode prog_12_method_8_code 67 = .ok (.iload_n 1, 1) := by decide +kernel
theorem d_M_readOne_68 : decode prog_12_method_8_code 68 = .ok (.iconst 2, 1) := by decide +kernel
theorem d_M_readOne_69 : decode prog_12_method_8_code 69 = .ok (.iadd, 1) := by decide +kernel
theorem d_M_readOne_70 : decode prog_12_method_8_code 70 = .ok (.iaload, 1) := by decide +kernel
theorem d_M_readOne_71 : decode prog_12_method_8_code 71 = .ok (.imul, 1) := by decide +kernel
theorem d_M_readOne_72 : decode prog_12_method_8_code 72 = .ok (.aload_n 0, 1) := by decide +kernel
theorem d_M_readOne_73 : decode prog_12_method_8_code 73 = .ok (.getfield 7, 3) := by decide +kernel
theorem d_M_readOne_76 : decode prog_12_method_8_code 76 = .ok (.iload_n 1, 1) := by decide +kernel
theorem d_M_readOne_77 : decode prog_12_method_8_code 77 = .ok (.iconst 3, 1) := by decide +kernel
theorem d_M_readOne_78 : decode prog_12_method_8_code 78 = .ok (.iadd, 1) := by decide +kernel
theorem d_M_readOne_79 : decode prog_12_method_8_code 79 = .ok (.iaload, 1) := by decide +kernel
theorem d_M_readOne_80 : decode prog_12_method_8_code 80 = .ok (.iadd, 1) := by decide +kernel
theorem d_M_readOne_81 : decode prog_12_method_8_code 81 = .ok (.goto 5, 3) := by decide +kernel
theorem d_M_readOne_50 : decode prog_12_method_8_code 50 = .ok (.iload_n 2, 1) := by decide +kernel
theorem d_M_readOne_51 : decode prog_12_method_8_code 51 = .ok (.goto 35, 3) := by decide +kernel
theorem d_M_readOne_26 : decode prog_12_method_8_code 26 = .ok (.istore 5, 2) := by decide +kernel
theorem d_M_readOne_28 : decode prog_12_method_8_code 28 = .ok (.iload_n 2, 1) := by decide +kernel
theorem d_M_readOne_29 : decode prog_12_method_8_code 29 = .ok (.iload 5, 2) := by decide +kernel
theorem d_M_readOne_31 : decode prog_12_method_8_code 31 = .ok (.if_icmp .lt 12, 3) := by decide +kernel
theorem d_M_readOne_34 : decode prog_12_method_8_code 34 = .ok (.iload 4, 2) := by decide +kernel
theorem d_M_readOne_36 : decode prog_12_method_8_code 36 = .ok (.ifCond .ne 9, 3) := by decide +kernel
theorem d_M_readOne_39 : decode prog_12_method_8_code 39 = .ok (.iload_n 3, 1) := by decide +kernel
theorem d_M_readOne_40 : decode prog_12_method_8_code 40 = .ok (.ifCond .le 5, 3) := by decide +kernel
theorem d_M_readOne_0 : decode prog_12_method_8_code 0 = .ok (.iload_n 2, 1) := by decide +kernel
theorem d_M_readOne_1 : decode prog_12_method_8_code 1 = .ok (.iconst 2, 1) := by decide +kernel
theorem d_M_readOne_2 : decode prog_12_method_8_code 2 = .ok (.if_icmp .ge 5, 3) := by decide +kernel
theorem d_M_readOne_7 : decode prog_12_method_8_code 7 = .ok (.aload_n 0, 1) := by decide +kernel
theorem d_M_readOne_8 : decode prog_12_method_8_code 8 = .ok (.getfield 7, 3) := by decide +kernel
theorem d_M_readOne_11 : decode prog_12_method_8_code 11 = .ok (.iload_n 1, 1) := by decide +kernel
theorem d_M_readOne_12 : decode prog_12_method_8_code 12 = .ok (.iaload, 1) := by decide +kernel
theorem d_M_readOne_13 : decode prog_12_method_8_code 13 = .ok (.istore 4, 2) := by decide +kernel
theorem d_M_readOne_15 : decode prog_12_method_8_code 15 = .ok (.iload 4, 2) := by decide +kernel
theorem d_M_readOne_17 : decode prog_12_method_8_code 17 = .ok (.iconst 1, 1) := by decide +kernel
theorem d_M_readOne_18 : decode prog_12_method_8_code 18 = .ok (.if_icmp .ne 7, 3) := by decide +kernel
theorem d_M_readOne_25 : decode prog_12_method_8_code 25 = .ok (.iconst 2, 1) := by decide +kernel
theorem d_M_readOne_21 : decode prog_12_method_8_code 21 = .ok (.iconst 4, 1) := by decide +kernel
theorem d_M_readOne_22 : decode prog_12_method_8_code 22 = .ok (.goto 4, 3) := by decide +kernel
theorem d_M_readOne_5 : decode prog_12_method_8_code 5 = .ok (.iconst 0, 1) := by decide +kernel
theorem d_M_readOne_6 : decode prog_12_method_8_code 6 = .ok (.ireturn, 1) := by decide +kernel
/-! ===== the model: readOne ===== -/
abbrev hdH (b : Int → Int) (p : Int) : Int := if b p = 1 then 4 else 2
abbrev hdS (b : Int → Int) (p left : Int) : Int := if b p = 0 then left else if b p = 1 then 256 * b (p + 2) + b (p + 3) else b p
/-- the header at p is good, with so many bytes left, on a level -/
abbrev hdOk (b : Int → Int) (p left lev : Int) : Prop := 2 ≤ left ∧ hdH b p ≤ left ∧ ¬ (b p = 0 ∧ 0 < lev) ∧ hdH b p ≤ hdS b p left ∧ hdS b p left ≤ left
def addB (s : mS) (p w ty h lev hd : Int) : mS := sset (sset (sset (sset (sset (sset (sset s 2 (s 0 1) p) 3 (s 0 1) w) 4 (s 0 1) ty) 5 (s 0 1) h) 6 (s 0 1) lev) 7 (s 0 1) hd) 0 1 (s 0 1 + 1)
section MODEL3
variable (G : gG) (l : Launch) (ad : Nat → Nat)
theorem c_M_readOne (s : mS) (p left lev : Int) (hs : ∀ j, 0 ≤ s 1 j ∧ s 1 j < 256) (hp : 0 ≤ p) (hl : p + left ≤ 1000) (hl2 : 0 ≤ left) (hv : 0 ≤ lev ∧ lev ≤ 2) (hc : 0 ≤ s 0 1 ∧ s 0 1 < 20) : Ct G l q_M_readOne 0 0 0 [.ref (ad 0), vI p, vI left, vI lev] (mW G ad s) (fun r w => r = some (vI (if hdOk (s 1) p left lev then 1 else 0)) ∧ w = mW G ad (if hdOk (s 1) p left lev then addB s p (hdS (s 1) p left) (s 1 (p + 1)) (hdH (s 1) p) lev (s 9 lev) else s)) := by
  refine Ct.intro [some (.ref (ad 0)), some (vI p), some (vI left), some (vI lev), none, none, none] (by decide) (Nat.le_of_ble_eq_true rfl) rfl (fun sz => ?_)
  generalize hQ : (fun r w => r = some (vI (if hdOk (s 1) p left lev then 1 else 0)) ∧ w = mW G ad (if hdOk (s 1) p left lev then addB s p (hdS (s 1) p left) (s 1 (p + 1)) (hdH (s 1) p) lev (s 9 lev) else s)) = Q
  have hb := hs p
  have hb2 := hs (p + 2)
  have hb3 := hs (p + 3)
  have hH : hdH (s 1) p = 2 ∨ hdH (s 1) p = 4 := by unfold hdH; split <;> omega
  have bad : ¬ hdOk (s 1) p left lev → ∀ (x y z : Option Value), WP (mth G l q_M_readOne 0 0 0 (mW G ad s) sz Q) 0 0 (mW G ad s) 43 [some (.ref (ad 0)), some (vI p), some (vI left), some (vI lev), x, y, z] [] := by
    intro h x y z
    refine r_iconst d_M_readOne_43 ?_
    refine r_zret d_M_readOne_44 rfl (by first | exact Or.inl rfl | exact Or.inr rfl) (Nat.le_of_ble_eq_true rfl) (Nat.le_of_ble_eq_true rfl) ?_
    rw [← hQ]; exact ⟨by rw [if_neg h], by rw [if_neg h]⟩
  have j103 : ∀ w h0, w = hdS (s 1) p left → h0 = hdH (s 1) p → hdOk (s 1) p left lev → WP (mth G l q_M_readOne 0 0 0 (mW G ad s) sz Q) 0 0 (mW G ad s) 103 [some (.ref (ad 0)), some (vI p), some (vI left), some (vI lev), some (vI (s 1 p)), some (vI h0), some (vI w)] [] := by
    intro w h0 hw hh h
    have h2 := h.1
    refine r_aload_n d_M_readOne_103 rfl rfl ?_
    refine r_get d_M_readOne_104 fl_M_13_7 0 rfl rfl ?_
    refine r_aload_n d_M_readOne_107 rfl rfl ?_
    refine r_get d_M_readOne_108 fl_M_64_7 0 rfl rfl ?_
    refine r_iload_n d_M_readOne_111 rfl ?_
    refine r_iast _ d_M_readOne_112 2 rfl (by omega) mw_2 ?_
    refine r_aload_n d_M_readOne_113 rfl rfl ?_
    refine r_get d_M_readOne_114 fl_M_16_7 0 rfl rfl ?_
    refine r_aload_n d_M_readOne_117 rfl rfl ?_
    refine r_get d_M_readOne_118 fl_M_64_7 0 rfl rfl ?_
    simp only [sset_at, updI_at, reduceIte, Nat.reduceEqDiff, Int.reduceEq]
    refine r_iload d_M_readOne_121 rfl ?_
    refine r_iast _ d_M_readOne_123 3 rfl (by omega) mw_3 ?_
    refine r_aload_n d_M_readOne_124 rfl rfl ?_
    refine r_get d_M_readOne_125 fl_M_19_7 0 rfl rfl ?_
    refine r_aload_n d_M_readOne_128 rfl rfl ?_
    refine r_get d_M_readOne_129 fl_M_64_7 0 rfl rfl ?_
    simp only [sset_at, updI_at, reduceIte, Nat.reduceEqDiff, Int.reduceEq]
    refine r_aload_n d_M_readOne_132 rfl rfl ?_
    refine r_get d_M_readOne_133 fl_M_7_7 0 rfl rfl ?_
    refine r_iload_n d_M_readOne_136 rfl ?_
    refine r_iconst d_M_readOne_137 ?_
    refine r_iadd d_M_readOne_138 ?_
    refine r_iald d_M_readOne_139 1 rfl (by omega) ?_
    simp only [sset_at, updI_at, reduceIte, Nat.reduceEqDiff, Int.reduceEq]
    refine r_iast _ d_M_readOne_140 4 rfl (by omega) mw_4 ?_
    refine r_aload_n d_M_readOne_141 rfl rfl ?_
    refine r_get d_M_readOne_142 fl_M_22_7 0 rfl rfl ?_
    refine r_aload_n d_M_readOne_145 rfl rfl ?_
    refine r_get d_M_readOne_146 fl_M_64_7 0 rfl rfl ?_
    simp only [sset_at, updI_at, reduceIte, Nat.reduceEqDiff, Int.reduceEq]
    refine r_iload d_M_readOne_149 rfl ?_
    refine r_iast _ d_M_readOne_151 5 rfl (by omega) mw_5 ?_
    refine r_aload_n d_M_readOne_152 rfl rfl ?_
    refine r_get d_M_readOne_153 fl_M_25_7 0 rfl rfl ?_
    refine r_aload_n d_M_readOne_156 rfl rfl ?_
    refine r_get d_M_readOne_157 fl_M_64_7 0 rfl rfl ?_
    simp only [sset_at, updI_at, reduceIte, Nat.reduceEqDiff, Int.reduceEq]
    refine r_iload_n d_M_readOne_160 rfl ?_
    refine r_iast _ d_M_readOne_161 6 rfl (by omega) mw_6 ?_
    refine r_aload_n d_M_readOne_162 rfl rfl ?_
    refine r_get d_M_readOne_163 fl_M_28_7 0 rfl rfl ?_
    refine r_aload_n d_M_readOne_166 rfl rfl ?_
    refine r_get d_M_readOne_167 fl_M_64_7 0 rfl rfl ?_
    refine r_aload_n d_M_readOne_170 rfl rfl ?_
    refine r_get d_M_readOne_171 fl_M_34_7 0 rfl rfl ?_
    refine r_iload_n d_M_readOne_174 rfl ?_
    refine r_iald d_M_readOne_175 9 rfl (by omega) ?_
    simp only [sset_at, updI_at, reduceIte, Nat.reduceEqDiff, Int.reduceEq]
    refine r_iast _ d_M_readOne_176 7 rfl (by omega) mw_7 ?_
    refine r_aload_n d_M_readOne_177 rfl rfl ?_
    refine r_dup d_M_readOne_178 rfl ?_
    refine r_get d_M_readOne_179 fl_M_64_7 0 rfl rfl ?_
    simp only [sset_at, updI_at, reduceIte, Nat.reduceEqDiff, Int.reduceEq]
    refine r_iconst d_M_readOne_182 ?_
    refine r_iadd d_M_readOne_183 ?_
    refine r_put _ d_M_readOne_184 fl_M_64_7 0 rfl rfl rfl (Nat.le_of_ble_eq_true rfl) mwp_count ?_
    refine r_iconst d_M_readOne_187 ?_
    refine r_zret d_M_readOne_188 rfl (by first | exact Or.inl rfl | exact Or.inr rfl) (Nat.le_of_ble_eq_true rfl) (Nat.le_of_ble_eq_true rfl) ?_
    rw [← hQ, hw, hh]
    refine ⟨by rw [if_pos h], ?_⟩
    rw [if_pos h]
    rfl
  have j86 : ∀ w h0, w = hdS (s 1) p left → h0 = hdH (s 1) p → h0 ≤ left → ¬ (s 1 p = 0 ∧ 0 < lev) → 2 ≤ left → WP (mth G l q_M_readOne 0 0 0 (mW G ad s) sz Q) 0 0 (mW G ad s) 86 [some (.ref (ad 0)), some (vI p), some (vI left), some (vI lev), some (vI (s 1 p)), some (vI h0), none] [vI w] := by
    intro w h0 hw hh h1 h2 h3
    have hS : 0 ≤ w ∧ w ≤ 70000 := by rw [hw]; unfold hdS; (repeat' split) <;> omega
    rw [← hh] at hH
    have hno : ¬ (h0 ≤ w ∧ w ≤ left) → ¬ hdOk (s 1) p left lev := by unfold hdOk; rw [← hw, ← hh]; omega
    refine r_istore d_M_readOne_86 (Nat.le_of_ble_eq_true rfl) rfl ?_
    show WP _ _ _ _ _ [_, _, _, _, _, _, _] _
    refine r_iload d_M_readOne_88 rfl ?_
    refine r_iload d_M_readOne_90 rfl ?_
    refine r_icmp_lt 101 d_M_readOne_92 (by decide) (by unfold i32; omega) (by unfold i32; omega) (fun h4 => ?_) (fun h4 => ?_)
    · refine r_iconst d_M_readOne_101 ?_
      refine r_zret d_M_readOne_102 rfl (by first | exact Or.inl rfl | exact Or.inr rfl) (Nat.le_of_ble_eq_true rfl) (Nat.le_of_ble_eq_true rfl) ?_
      rw [← hQ]; exact ⟨by rw [if_neg (hno (by omega))], by rw [if_neg (hno (by omega))]⟩
    · refine r_iload d_M_readOne_95 rfl ?_
      refine r_iload_n d_M_readOne_97 rfl ?_
      refine r_icmp_le 103 d_M_readOne_98 (by decide) (by unfold i32; omega) (by unfold i32; omega) (fun h5 => ?_) (fun h5 => ?_)
      · exact j103 w h0 hw hh (by unfold hdOk; rw [← hw, ← hh]; omega)
      · refine r_iconst d_M_readOne_101 ?_
        refine r_zret d_M_readOne_102 rfl (by first | exact Or.inl rfl | exact Or.inr rfl) (Nat.le_of_ble_eq_true rfl) (Nat.le_of_ble_eq_true rfl) ?_
        rw [← hQ]; exact ⟨by rw [if_neg (hno (by omega))], by rw [if_neg (hno (by omega))]⟩
  have j45 : ∀ h0, h0 = hdH (s 1) p → h0 ≤ left → ¬ (s 1 p = 0 ∧ 0 < lev) → 2 ≤ left → WP (mth G l q_M_readOne 0 0 0 (mW G ad s) sz Q) 0 0 (mW G ad s) 45 [some (.ref (ad 0)), some (vI p), some (vI left), some (vI lev), some (vI (s 1 p)), some (vI h0), none] [] := by
    intro h0 hh h1 h2 h3
    refine r_iload d_M_readOne_45 rfl ?_
    refine r_if_ne 54 d_M_readOne_47 (by decide) (by unfold i32; omega) (fun h4 => ?_) (fun h4 => ?_)
    · refine r_iload d_M_readOne_54 rfl ?_
      refine r_iconst d_M_readOne_56 ?_
      refine r_icmp_ne 84 d_M_readOne_57 (by decide) (by unfold i32; omega) (by unfold i32; omega) (fun h5 => ?_) (fun h5 => ?_)
      · refine r_iload d_M_readOne_84 rfl ?_
        exact j86 _ h0 (by unfold hdS; rw [if_neg h4, if_neg h5]) hh h1 h2 h3
      · have hfour : 4 ≤ left := by
          have : hdH (s 1) p = 4 := by unfold hdH; rw [if_pos (by omega)]
          omega
        refine r_sipush d_M_readOne_60 (by decide) ?_
        refine r_aload_n d_M_readOne_63 rfl rfl ?_
        refine r_get d_M_readOne_64 fl_M_7_7 0 rfl rfl ?_
        refine r_iload_n d_M_readOne_67 rfl ?_
        refine r_iconst d_M_readOne_68 ?_
        refine r_iadd d_M_readOne_69 ?_
        refine r_iald d_M_readOne_70 1 rfl (by omega) ?_
        refine r_imul d_M_readOne_71 ?_
        refine r_aload_n d_M_readOne_72 rfl rfl ?_
        refine r_get d_M_readOne_73 fl_M_7_7 0 rfl rfl ?_
        refine r_iload_n d_M_readOne_76 rfl ?_
        refine r_iconst d_M_readOne_77 ?_
        refine r_iadd d_M_readOne_78 ?_
        refine r_iald d_M_readOne_79 1 rfl (by omega) ?_
        refine r_iadd d_M_readOne_80 ?_
        refine r_goto 86 d_M_readOne_81 (by decide) ?_
        exact j86 _ h0 (by unfold hdS; rw [if_neg h4, if_pos (by omega)]) hh h1 h2 h3
    · refine r_iload_n d_M_readOne_50 rfl ?_
      refine r_goto 86 d_M_readOne_51 (by decide) ?_
      exact j86 _ h0 (by unfold hdS; rw [if_pos (by omega)]) hh h1 h2 h3
  have j26 : ∀ h0, h0 = hdH (s 1) p → 2 ≤ left → WP (mth G l q_M_readOne 0 0 0 (mW G ad s) sz Q) 0 0 (mW G ad s) 26 [some (.ref (ad 0)), some (vI p), some (vI left), some (vI lev), some (vI (s 1 p)), none, none] [vI h0] := by
    intro h0 hh h1
    rw [← hh] at hH
    have hno : ¬ (h0 ≤ left ∧ ¬ (s 1 p = 0 ∧ 0 < lev)) → ¬ hdOk (s 1) p left lev := by unfold hdOk; rw [← hh]; omega
    refine r_istore d_M_readOne_26 (Nat.le_of_ble_eq_true rfl) rfl ?_
    show WP _ _ _ _ _ [_, _, _, _, _, _, _] _
    refine r_iload_n d_M_readOne_28 rfl ?_
    refine r_iload d_M_readOne_29 rfl ?_
    refine r_icmp_lt 43 d_M_readOne_31 (by decide) (by unfold i32; omega) (by unfold i32; omega) (fun h2 => ?_) (fun h2 => ?_)
    · exact bad (hno (by omega)) _ _ _
    · refine r_iload d_M_readOne_34 rfl ?_
      refine r_if_ne 45 d_M_readOne_36 (by decide) (by unfold i32; omega) (fun h3 => ?_) (fun h3 => ?_)
      · exact j45 h0 hh (by omega) (by omega) h1
      · refine r_iload_n d_M_readOne_39 rfl ?_
        refine r_if_le 45 d_M_readOne_40 (by decide) (by unfold i32; omega) (fun h4 => ?_) (fun h4 => ?_)
        · exact j45 h0 hh (by omega) (by omega) h1
        · exact bad (hno (by omega)) _ _ _
  refine r_iload_n d_M_readOne_0 rfl ?_
  refine r_iconst d_M_readOne_1 ?_
  refine r_icmp_ge 7 d_M_readOne_2 (by decide) (by unfold i32; omega) (by unfold i32; omega) (fun h1 => ?_) (fun h1 => ?_)
  · refine r_aload_n d_M_readOne_7 rfl rfl ?_
    refine r_get d_M_readOne_8 fl_M_7_7 0 rfl rfl ?_
    refine r_iload_n d_M_readOne_11 rfl ?_
    refine r_iald d_M_readOne_12 1 rfl (by omega) ?_
    refine r_istore d_M_readOne_13 (Nat.le_of_ble_eq_true rfl) rfl ?_
    show WP _ _ _ _ _ [_, _, _, _, _, _, _] _
    refine r_iload d_M_readOne_15 rfl ?_
    refine r_iconst d_M_readOne_17 ?_
    refine r_icmp_ne 25 d_M_readOne_18 (by decide) (by unfold i32; omega) (by unfold i32; omega) (fun h2 => ?_) (fun h2 => ?_)
    · refine r_iconst d_M_readOne_25 ?_
      exact j26 _ (by unfold hdH; rw [if_neg h2]) h1
    · refine r_iconst d_M_readOne_21 ?_
      refine r_goto 26 d_M_readOne_22 (by decide) ?_
      exact j26 _ (by unfold hdH; rw [if_pos (by omega)]) h1
  · refine r_iconst d_M_readOne_5 ?_
    refine r_zret d_M_readOne_6 rfl (by first | exact Or.inl rfl | exact Or.inr rfl) (Nat.le_of_ble_eq_true rfl) (Nat.le_of_ble_eq_true rfl) ?_
    have hno : ¬ hdOk (s 1) p left lev := by unfold hdOk; omega
    rw [← hQ]; exact ⟨by rw [if_neg hno], by rw [if_neg hno]⟩
end MODEL3
