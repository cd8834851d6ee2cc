abbrev q_X_kindOf : Mi := (⟨"MovieBoxes", "kindOf", "(II)LMovieBoxes$Kind;"⟩, prog_1_method_7_code, 2, (some (.object "MovieBoxes$Kind")))
theorem d_X_kindOf_0 : decode prog_1_method_7_code 0 = .ok (.iload_n 1, 1) := by decide +kernel
theorem d_X_kindOf_1 : decode prog_1_method_7_code 1 = .ok (.iconst 2, 1) := by decide +kernel
theorem d_X_kindOf_2 : decode prog_1_method_7_code 2 = .ok (.if_icmp .ge 54, 3) := by decide +kernel
theorem d_X_kindOf_56 : decode prog_1_method_7_code 56 = .ok (.iload_n 0, 1) := by decide +kernel
theorem d_X_kindOf_57 : decode prog_1_method_7_code 57 = .ok (.lookupswitch 107 #[(79, 75), (99, 79), (101, 83), (107, 87), (111, 91), (115, 95), (121, 99), (122, 103)], 75) := by decide +kernel
theorem d_X_kindOf_132 : decode prog_1_method_7_code 132 = .ok (.getstatic 73, 3) := by decide +kernel
set_option maxRecDepth 20000 in
theorem w_275 : Cond.fieldLink "MovieBoxes" 73 "MovieBoxes$Kind" "WIDE" "LMovieBoxes$Kind;" ∈ gt := gt_of (in_t2 (List.mem_of_getElem? (i := 35) rfl)) rfl
theorem d_X_kindOf_135 : decode prog_1_method_7_code 135 = .ok (.areturn, 1) := by decide +kernel
theorem d_X_kindOf_136 : decode prog_1_method_7_code 136 = .ok (.getstatic 76, 3) := by decide +kernel
set_option maxRecDepth 20000 in
theorem w_277 : Cond.fieldLink "MovieBoxes" 76 "MovieBoxes$Kind" "SHIFTS" "LMovieBoxes$Kind;" ∈ gt := gt_of (in_t2 (List.mem_of_getElem? (i := 37) rfl)) rfl
theorem d_X_kindOf_139 : decode prog_1_method_7_code 139 = .ok (.areturn, 1) := by decide +kernel
theorem d_X_kindOf_140 : decode prog_1_method_7_code 140 = .ok (.getstatic 79, 3) := by decide +kernel
set_option maxRecDepth 20000 in
theorem w_279 : Cond.fieldLink "MovieBoxes" 79 "MovieBoxes$Kind" "EDITS" "LMovieBoxes$Kind;" ∈ gt := gt_of (in_t2 (List.mem_of_getElem? (i := 39) rfl)) rfl
theorem d_X_kindOf_143 : decode prog_1_method_7_code 143 = .ok (.areturn, 1) := by decide +kernel
theorem d_X_kindOf_144 : decode prog_1_method_7_code 144 = .ok (.getstatic 82, 3) := by decide +kernel
set_option maxRecDepth 20000 in
theorem w_281 : Cond.fieldLink "MovieBoxes" 82 "MovieBoxes$Kind" "CHUNKS" "LMovieBoxes$Kind;" ∈ gt := gt_of (in_t2 (List.mem_of_getElem? (i := 41) rfl)) rfl
theorem d_X_kindOf_147 : decode prog_1_method_7_code 147 = .ok (.areturn, 1) := by decide +kernel
theorem d_X_kindOf_148 : decode prog_1_method_7_code 148 = .ok (.getstatic 85, 3) := by decide +kernel
set_option maxRecDepth 20000 in
theorem w_283 : Cond.fieldLink "MovieBoxes" 85 "MovieBoxes$Kind" "PLACES" "LMovieBoxes$Kind;" ∈ gt := gt_of (in_t2 (List.mem_of_getElem? (i := 43) rfl)) rfl
theorem d_X_kindOf_151 : decode prog_1_method_7_code 151 = .ok (.areturn, 1) := by decide +kernel
theorem d_X_kindOf_152 : decode prog_1_method_7_code 152 = .ok (.getstatic 88, 3) := by decide +kernel
set_option maxRecDepth 20000 in
theorem w_285 : Cond.fieldLink "MovieBoxes" 88 "MovieBoxes$Kind" "DURATIONS" "LMovieBoxes$Kind;" ∈ gt := gt_of (in_t2 (List.mem_of_getElem? (i := 45) rfl)) rfl
theorem d_X_kindOf_155 : decode prog_1_method_7_code 155 = .ok (.areturn, 1) := by decide +kernel
theorem d_X_kindOf_156 : decode prog_1_method_7_code 156 = .ok (.getstatic 91, 3) := by decide +kernel
set_option maxRecDepth 20000 in
theorem w_287 : Cond.fieldLink "MovieBoxes" 91 "MovieBoxes$Kind" "SYNCS" "LMovieBoxes$Kind;" ∈ gt := gt_of (in_t2 (List.mem_of_getElem? (i := 47) rfl)) rfl
theorem d_X_kindOf_159 : decode prog_1_method_7_code 159 = .ok (.areturn, 1) := by decide +kernel
theorem d_X_kindOf_160 : decode prog_1_method_7_code 160 = .ok (.getstatic 94, 3) := by decide +kernel
set_option maxRecDepth 20000 in
theorem w_289 : Cond.fieldLink "MovieBoxes" 94 "MovieBoxes$Kind" "SIZES" "LMovieBoxes$Kind;" ∈ gt := gt_of (in_t2 (List.mem_of_getElem? (i := 49) rfl)) rfl
theorem d_X_kindOf_163 : decode prog_1_method_7_code 163 = .ok (.areturn, 1) := by decide +kernel
theorem d_X_kindOf_164 : decode prog_1_method_7_code 164 = .ok (.getstatic 64, 3) := by decide +kernel
set_option maxRecDepth 20000 in
theorem w_234 : Cond.fieldLink "MovieBoxes" 64 "MovieBoxes$Kind" "OTHER" "LMovieBoxes$Kind;" ∈ gt := gt_of (in_t1 (List.mem_of_getElem? (i := 234) rfl)) rfl
theorem d_X_kindOf_167 : decode prog_1_method_7_code 167 = .ok (.areturn, 1) := by decide +kernel
theorem d_X_kindOf_5 : decode prog_1_method_7_code 5 = .ok (.iload_n 1, 1) := by decide +kernel
theorem d_X_kindOf_6 : decode prog_1_method_7_code 6 = .ok (.iconst 1, 1) := by decide +kernel
theorem d_X_kindOf_7 : decode prog_1_method_7_code 7 = .ok (.if_icmp .ne 21, 3) := by decide +kernel
theorem d_X_kindOf_28 : decode prog_1_method_7_code 28 = .ok (.iload_n 0, 1) := by decide +kernel
theorem d_X_kindOf_29 : decode prog_1_method_7_code 29 = .ok (.bipush 77, 2) := by decide +kernel
theorem d_X_kindOf_31 : decode prog_1_method_7_code 31 = .ok (.if_icmp .ne 9, 3) := by decide +kernel
theorem d_X_kindOf_40 : decode prog_1_method_7_code 40 = .ok (.iload_n 0, 1) := by decide +kernel
theorem d_X_kindOf_41 : decode prog_1_method_7_code 41 = .ok (.bipush 68, 2) := by decide +kernel
theorem d_X_kindOf_43 : decode prog_1_method_7_code 43 = .ok (.if_icmp .ne 9, 3) := by decide +kernel
theorem d_X_kindOf_52 : decode prog_1_method_7_code 52 = .ok (.getstatic 64, 3) := by decide +kernel
theorem d_X_kindOf_55 : decode prog_1_method_7_code 55 = .ok (.areturn, 1) := by decide +kernel
theorem d_X_kindOf_46 : decode prog_1_method_7_code 46 = .ok (.getstatic 70, 3) := by decide +kernel
set_option maxRecDepth 20000 in
theorem w_273 : Cond.fieldLink "MovieBoxes" 70 "MovieBoxes$Kind" "DATA" "LMovieBoxes$Kind;" ∈ gt := gt_of (in_t2 (List.mem_of_getElem? (i := 33) rfl)) rfl
theorem d_X_kindOf_49 : decode prog_1_method_7_code 49 = .ok (.goto 6, 3) := by decide +kernel
theorem d_X_kindOf_34 : decode prog_1_method_7_code 34 = .ok (.getstatic 67, 3) := by decide +kernel
set_option maxRecDepth 20000 in
theorem w_271 : Cond.fieldLink "MovieBoxes" 67 "MovieBoxes$Kind" "MOVIE" "LMovieBoxes$Kind;" ∈ gt := gt_of (in_t2 (List.mem_of_getElem? (i := 31) rfl)) rfl
theorem d_X_kindOf_37 : decode prog_1_method_7_code 37 = .ok (.goto 18, 3) := by decide +kernel
theorem d_X_kindOf_10 : decode prog_1_method_7_code 10 = .ok (.iload_n 0, 1) := by decide +kernel
theorem d_X_kindOf_11 : decode prog_1_method_7_code 11 = .ok (.bipush 84, 2) := by decide +kernel
theorem d_X_kindOf_13 : decode prog_1_method_7_code 13 = .ok (.if_icmp .ne 9, 3) := by decide +kernel
theorem d_X_kindOf_22 : decode prog_1_method_7_code 22 = .ok (.getstatic 64, 3) := by decide +kernel
theorem d_X_kindOf_25 : decode prog_1_method_7_code 25 = .ok (.goto 30, 3) := by decide +kernel
theorem d_X_kindOf_16 : decode prog_1_method_7_code 16 = .ok (.getstatic 58, 3) := by decide +kernel
set_option maxRecDepth 20000 in
theorem w_269 : Cond.fieldLink "MovieBoxes" 58 "MovieBoxes$Kind" "TRACK" "LMovieBoxes$Kind;" ∈ gt := gt_of (in_t2 (List.mem_of_getElem? (i := 29) rfl)) rfl
theorem d_X_kindOf_19 : decode prog_1_method_7_code 19 = .ok (.goto 36, 3) := by decide +kernel
abbrev q_En_ordinal : Mi := (⟨"java/lang/Enum", "ordinal", "()I"⟩, prog_15_method_2_code, 1, (some .int))
theorem d_En_ordinal_0 : decode prog_15_method_2_code 0 = .ok (.aload_n 0, 1) := by decide +kernel
theorem d_En_ordinal_1 : decode prog_15_method_2_code 1 = .ok (.getfield 7, 3) := by decide +kernel
set_option maxRecDepth 20000 in
theorem w_1007 : Cond.fieldLink "java/lang/Enum" 7 "java/lang/Enum" "ordinal" "I" ∈ gt := gt_of (in_t5 (List.mem_of_getElem? (i := 47) rfl)) rfl
theorem d_En_ordinal_4 : decode prog_15_method_2_code 4 = .ok (.ireturn, 1) := by decide +kernel
abbrev q_X_classOf : Mi := (⟨"MovieBoxes", "classOf", "(LMovieBoxes$Kind;)I"⟩, prog_1_method_8_code, 1, (some .int))
theorem d_X_classOf_0 : decode prog_1_method_8_code 0 = .ok (.aload_n 0, 1) := by decide +kernel
theorem d_X_classOf_1 : decode prog_1_method_8_code 1 = .ok (.invokevirtual 97, 3) := by decide +kernel
set_option maxRecDepth 20000 in
theorem w_298 : Cond.methodLink "MovieBoxes" 97 ⟨"MovieBoxes$Kind", "ordinal", "()I"⟩ ∈ gt := gt_of (in_t2 (List.mem_of_getElem? (i := 58) rfl)) rfl
set_option maxRecDepth 20000 in
theorem w_299 : Cond.sameMethod "MovieBoxes$Kind" "java/lang/Enum" "ordinal" "()I" ∈ gt := gt_of (in_t2 (List.mem_of_getElem? (i := 59) rfl)) rfl
set_option maxRecDepth 20000 in
theorem w_301 : Cond.selects "MovieBoxes$Kind" ⟨"MovieBoxes$Kind", "ordinal", "()I"⟩ ⟨"java/lang/Enum", "ordinal", "()I"⟩ ∈ gt := gt_of (in_t2 (List.mem_of_getElem? (i := 61) rfl)) rfl
set_option maxRecDepth 20000 in
theorem w_302 : Cond.instanceMethod ⟨"java/lang/Enum", "ordinal", "()I"⟩ ∈ gt := gt_of (in_t2 (List.mem_of_getElem? (i := 62) rfl)) rfl
set_option maxRecDepth 20000 in
theorem w_9 : Cond.initialized "java/lang/Enum" ∈ gt := gt_of (in_t1 (List.mem_of_getElem? (i := 9) rfl)) rfl
set_option maxRecDepth 20000 in
theorem nw_300 : Cond.declares ⟨"java/lang/Enum", "ordinal", "()I"⟩ ∈ nwl := nw_of (in_t2 (List.mem_of_getElem? (i := 60) rfl)) rfl
set_option maxRecDepth 20000 in
theorem w_303 : Cond.code ⟨"java/lang/Enum", "ordinal", "()I"⟩ prog_15_method_2_code 1 (some .int) ∈ gt := gt_of (in_t2 (List.mem_of_getElem? (i := 63) rfl)) rfl
theorem lu_X_97_E : LkU "MovieBoxes" 97 "MovieBoxes$Kind" "java/lang/Enum" ⟨"MovieBoxes$Kind", "ordinal", "()I"⟩ q_En_ordinal 0 := ⟨(List.forall_mem_cons.mpr ⟨w_298, (List.forall_mem_cons.mpr ⟨w_299, (List.forall_mem_cons.mpr ⟨w_301, (List.forall_mem_cons.mpr ⟨w_302, (List.forall_mem_cons.mpr ⟨w_9, (fun _ h => absurd h List.not_mem_nil)⟩)⟩)⟩)⟩)⟩), w_303, Or.inl nw_300, by decide +kernel⟩
theorem d_X_classOf_4 : decode prog_1_method_8_code 4 = .ok (.tableswitch 58 0 8 #[52, 58, 52, 58, 58, 58, 56, 54, 54], 52) := by decide +kernel
theorem d_X_classOf_62 : decode prog_1_method_8_code 62 = .ok (.aload_n 0, 1) := by decide +kernel
theorem d_X_classOf_63 : decode prog_1_method_8_code 63 = .ok (.getfield 101, 3) := by decide +kernel
set_option maxRecDepth 20000 in
theorem nw_1008 : Cond.fieldLinkNest "MovieBoxes" 101 "MovieBoxes$Kind" "slot" "I" "MovieBoxes" ∈ nwl := nw_of (in_t5 (List.mem_of_getElem? (i := 48) rfl)) rfl
theorem d_X_classOf_66 : decode prog_1_method_8_code 66 = .ok (.ifCond .lt 7, 3) := by decide +kernel
theorem d_X_classOf_73 : decode prog_1_method_8_code 73 = .ok (.iconst 4, 1) := by decide +kernel
theorem d_X_classOf_74 : decode prog_1_method_8_code 74 = .ok (.ireturn, 1) := by decide +kernel
theorem d_X_classOf_69 : decode prog_1_method_8_code 69 = .ok (.iconst 3, 1) := by decide +kernel
theorem d_X_classOf_70 : decode prog_1_method_8_code 70 = .ok (.goto 4, 3) := by decide +kernel
theorem d_X_classOf_56 : decode prog_1_method_8_code 56 = .ok (.iconst 0, 1) := by decide +kernel
theorem d_X_classOf_57 : decode prog_1_method_8_code 57 = .ok (.ireturn, 1) := by decide +kernel
theorem d_X_classOf_60 : decode prog_1_method_8_code 60 = .ok (.iconst 2, 1) := by decide +kernel
theorem d_X_classOf_61 : decode prog_1_method_8_code 61 = .ok (.ireturn, 1) := by decide +kernel
theorem d_X_classOf_58 : decode prog_1_method_8_code 58 = .ok (.iconst 1, 1) := by decide +kernel
theorem d_X_classOf_59 : decode prog_1_method_8_code 59 = .ok (.ireturn, 1) := by decide +kernel
/-! ===== the component: kinds, classes, new boxes ===== -/
/-- a box's kind, by its type and level -/
def knO (t lev : Int) : Int := if lev < 2 then (if lev = 1 then (if t = 84 then 2 else 11) else if t = 77 then 0 else if t = 68 then 1 else 11) else if t = 79 then 8 else if t = 99 then 4 else if t = 101 then 10 else if t = 107 then 5 else if t = 111 then 7 else if t = 115 then 3 else if t = 121 then 9 else if t = 122 then 6 else 11
theorem knO_b (t lev : Int) : 0 ≤ knO t lev ∧ knO t lev < 12 := by
  unfold knO
  repeat' split
  all_goals omega
/-- which of the five kinds of boxes a kind is of -/
def clO (o : Int) : Int := if o = 0 ∨ o = 2 then 0 else if o = 7 ∨ o = 8 then 1 else if o = 6 then 2 else if o = 1 ∨ o = 11 then 4 else 3
/-- the class of those five -/
def clN (k : Int) : Int := if k = 0 then 1 else if k = 1 then 4 else if k = 2 then 5 else if k = 3 then 3 else 2
section XKIND
variable (G : gG) (l : Launch)
theorem c_X_kindOf (ws : va_W) (t lev : Int) (ht : i32 t) (hl : i32 lev) : Ct G l q_X_kindOf 0 0 0 [vI t, vI lev] ws (fun r w => r = some (.ref (gE G (knO t lev).toNat)) ∧ w = ws) := by
  refine Ct.intro [some (vI t), some (vI lev)] (by decide) (Nat.le_of_ble_eq_true rfl) rfl (fun sz => ?_)
  refine r_iload_n d_X_kindOf_0 rfl ?_
  refine r_iconst d_X_kindOf_1 ?_
  refine r_icmp_ge 56 d_X_kindOf_2 (by decide) hl (by unfold i32; omega) (fun h0 => ?_) (fun h0 => ?_)
  · have h0' : ¬ lev < 2 := by omega
    refine r_iload_n d_X_kindOf_56 rfl ?_
    by_cases g0 : t = 79
    · subst g0
      refine r_lookup 132 d_X_kindOf_57 ht rfl rfl (by decide) ?_
      refine r_getsK (i := 8) d_X_kindOf_132 (by decide) w_275 ?_
      refine r_aret d_X_kindOf_135 rfl (by first | exact Or.inl ⟨_, rfl⟩ | exact Or.inr ⟨_, rfl⟩) rfl (Nat.le_of_ble_eq_true rfl) (Nat.le_of_ble_eq_true rfl) ?_
      exact ⟨by unfold knO; rw [if_neg h0']; rfl, rfl⟩
    by_cases g1 : t = 99
    · subst g1
      refine r_lookup 136 d_X_kindOf_57 ht rfl rfl (by decide) ?_
      refine r_getsK (i := 4) d_X_kindOf_136 (by decide) w_277 ?_
      refine r_aret d_X_kindOf_139 rfl (by first | exact Or.inl ⟨_, rfl⟩ | exact Or.inr ⟨_, rfl⟩) rfl (Nat.le_of_ble_eq_true rfl) (Nat.le_of_ble_eq_true rfl) ?_
      exact ⟨by unfold knO; rw [if_neg h0']; rfl, rfl⟩
    by_cases g2 : t = 101
    · subst g2
      refine r_lookup 140 d_X_kindOf_57 ht rfl rfl (by decide) ?_
      refine r_getsK (i := 10) d_X_kindOf_140 (by decide) w_279 ?_
      refine r_aret d_X_kindOf_143 rfl (by first | exact Or.inl ⟨_, rfl⟩ | exact Or.inr ⟨_, rfl⟩) rfl (Nat.le_of_ble_eq_true rfl) (Nat.le_of_ble_eq_true rfl) ?_
      exact ⟨by unfold knO; rw [if_neg h0']; rfl, rfl⟩
    by_cases g3 : t = 107
    · subst g3
      refine r_lookup 144 d_X_kindOf_57 ht rfl rfl (by decide) ?_
      refine r_getsK (i := 5) d_X_kindOf_144 (by decide) w_281 ?_
      refine r_aret d_X_kindOf_147 rfl (by first | exact Or.inl ⟨_, rfl⟩ | exact Or.inr ⟨_, rfl⟩) rfl (Nat.le_of_ble_eq_true rfl) (Nat.le_of_ble_eq_true rfl) ?_
      exact ⟨by unfold knO; rw [if_neg h0']; rfl, rfl⟩
    by_cases g4 : t = 111
    · subst g4
      refine r_lookup 148 d_X_kindOf_57 ht rfl rfl (by decide) ?_
      refine r_getsK (i := 7) d_X_kindOf_148 (by decide) w_283 ?_
      refine r_aret d_X_kindOf_151 rfl (by first | exact Or.inl ⟨_, rfl⟩ | exact Or.inr ⟨_, rfl⟩) rfl (Nat.le_of_ble_eq_true rfl) (Nat.le_of_ble_eq_true rfl) ?_
      exact ⟨by unfold knO; rw [if_neg h0']; rfl, rfl⟩
    by_cases g5 : t = 115
    · subst g5
      refine r_lookup 152 d_X_kindOf_57 ht rfl rfl (by decide) ?_
      refine r_getsK (i := 3) d_X_kindOf_152 (by decide) w_285 ?_
      refine r_aret d_X_kindOf_155 rfl (by first | exact Or.inl ⟨_, rfl⟩ | exact Or.inr ⟨_, rfl⟩) rfl (Nat.le_of_ble_eq_true rfl) (Nat.le_of_ble_eq_true rfl) ?_
      exact ⟨by unfold knO; rw [if_neg h0']; rfl, rfl⟩
    by_cases g6 : t = 121
    · subst g6
      refine r_lookup 156 d_X_kindOf_57 ht rfl rfl (by decide) ?_
      refine r_getsK (i := 9) d_X_kindOf_156 (by decide) w_287 ?_
      refine r_aret d_X_kindOf_159 rfl (by first | exact Or.inl ⟨_, rfl⟩ | exact Or.inr ⟨_, rfl⟩) rfl (Nat.le_of_ble_eq_true rfl) (Nat.le_of_ble_eq_true rfl) ?_
      exact ⟨by unfold knO; rw [if_neg h0']; rfl, rfl⟩
    by_cases g7 : t = 122
    · subst g7
      refine r_lookup 160 d_X_kindOf_57 ht rfl rfl (by decide) ?_
      refine r_getsK (i := 6) d_X_kindOf_160 (by decide) w_289 ?_
      refine r_aret d_X_kindOf_163 rfl (by first | exact Or.inl ⟨_, rfl⟩ | exact Or.inr ⟨_, rfl⟩) rfl (Nat.le_of_ble_eq_true rfl) (Nat.le_of_ble_eq_true rfl) ?_
      exact ⟨by unfold knO; rw [if_neg h0']; rfl, rfl⟩
    refine r_lookup (off := 107) 164 d_X_kindOf_57 ht rfl (by simp [Op.lookupswitch.offset, Ne.symm g0, Ne.symm g1, Ne.symm g2, Ne.symm g3, Ne.symm g4, Ne.symm g5, Ne.symm g6, Ne.symm g7]) (by decide) ?_
    refine r_getsK (i := 11) d_X_kindOf_164 (by decide) w_234 ?_
    refine r_aret d_X_kindOf_167 rfl (by first | exact Or.inl ⟨_, rfl⟩ | exact Or.inr ⟨_, rfl⟩) rfl (Nat.le_of_ble_eq_true rfl) (Nat.le_of_ble_eq_true rfl) ?_
    exact ⟨by unfold knO; rw [if_neg h0', if_neg g0, if_neg g1, if_neg g2, if_neg g3, if_neg g4, if_neg g5, if_neg g6, if_neg g7]; rfl, rfl⟩
  · refine r_iload_n d_X_kindOf_5 rfl ?_
    refine r_iconst d_X_kindOf_6 ?_
    refine r_icmp_ne 28 d_X_kindOf_7 (by decide) hl (by unfold i32; omega) (fun h1 => ?_) (fun h1 => ?_)
    · refine r_iload_n d_X_kindOf_28 rfl ?_
      refine r_bipush d_X_kindOf_29 (by decide) ?_
      refine r_icmp_ne 40 d_X_kindOf_31 (by decide) ht (by unfold i32; omega) (fun h2 => ?_) (fun h2 => ?_)
      · refine r_iload_n d_X_kindOf_40 rfl ?_
        refine r_bipush d_X_kindOf_41 (by decide) ?_
        refine r_icmp_ne 52 d_X_kindOf_43 (by decide) ht (by unfold i32; omega) (fun h3 => ?_) (fun h3 => ?_)
        · refine r_getsK (i := 11) d_X_kindOf_52 (by decide) w_234 ?_
          refine r_aret d_X_kindOf_55 rfl (by first | exact Or.inl ⟨_, rfl⟩ | exact Or.inr ⟨_, rfl⟩) rfl (Nat.le_of_ble_eq_true rfl) (Nat.le_of_ble_eq_true rfl) ?_
          exact ⟨by unfold knO; rw [if_pos (by omega), if_neg h1, if_neg h2, if_neg h3]; rfl, rfl⟩
        · refine r_getsK (i := 1) d_X_kindOf_46 (by decide) w_273 ?_
          refine r_goto 55 d_X_kindOf_49 (by decide) ?_
          refine r_aret d_X_kindOf_55 rfl (by first | exact Or.inl ⟨_, rfl⟩ | exact Or.inr ⟨_, rfl⟩) rfl (Nat.le_of_ble_eq_true rfl) (Nat.le_of_ble_eq_true rfl) ?_
          exact ⟨by unfold knO; rw [if_pos (by omega), if_neg h1, if_neg h2, if_pos (by omega)]; rfl, rfl⟩
      · refine r_getsK (i := 0) d_X_kindOf_34 (by decide) w_271 ?_
        refine r_goto 55 d_X_kindOf_37 (by decide) ?_
        refine r_aret d_X_kindOf_55 rfl (by first | exact Or.inl ⟨_, rfl⟩ | exact Or.inr ⟨_, rfl⟩) rfl (Nat.le_of_ble_eq_true rfl) (Nat.le_of_ble_eq_true rfl) ?_
        exact ⟨by unfold knO; rw [if_pos (by omega), if_neg h1, if_pos (by omega)]; rfl, rfl⟩
    · refine r_iload_n d_X_kindOf_10 rfl ?_
      refine r_bipush d_X_kindOf_11 (by decide) ?_
      refine r_icmp_ne 22 d_X_kindOf_13 (by decide) ht (by unfold i32; omega) (fun h2 => ?_) (fun h2 => ?_)
      · refine r_getsK (i := 11) d_X_kindOf_22 (by decide) w_234 ?_
        refine r_goto 55 d_X_kindOf_25 (by decide) ?_
        refine r_aret d_X_kindOf_55 rfl (by first | exact Or.inl ⟨_, rfl⟩ | exact Or.inr ⟨_, rfl⟩) rfl (Nat.le_of_ble_eq_true rfl) (Nat.le_of_ble_eq_true rfl) ?_
        exact ⟨by unfold knO; rw [if_pos (by omega), if_pos (by omega), if_neg h2]; rfl, rfl⟩
      · refine r_getsK (i := 2) d_X_kindOf_16 (by decide) w_269 ?_
        refine r_goto 55 d_X_kindOf_19 (by decide) ?_
        refine r_aret d_X_kindOf_55 rfl (by first | exact Or.inl ⟨_, rfl⟩ | exact Or.inr ⟨_, rfl⟩) rfl (Nat.le_of_ble_eq_true rfl) (Nat.le_of_ble_eq_true rfl) ?_
        exact ⟨by unfold knO; rw [if_pos (by omega), if_pos (by omega), if_pos (by omega)]; rfl, rfl⟩
theorem c_En_ordinal (ws : va_W) (i : Nat) (hi : i < 12) : Ct G l q_En_ordinal 0 0 0 [.ref (gE G i)] ws (fun r w => r = some (vI i) ∧ w = ws) := by
  refine Ct.intro [some (.ref (gE G i))] (by decide) (Nat.le_of_ble_eq_true rfl) rfl (fun sz => ?_)
  refine r_aload_n d_En_ordinal_0 rfl rfl ?_
  refine r_getK (f := ("java/lang/Enum", "ordinal", "I", [0, 1, 2, 3, 4, 5, 6, 7, 8, 9, 10, 11])) d_En_ordinal_1 hi (by decide) (Or.inl w_1007) ?_
  refine r_iret d_En_ordinal_4 rfl (Nat.le_of_ble_eq_true rfl) (Nat.le_of_ble_eq_true rfl) ?_
  refine ⟨?_, rfl⟩
  rcases (by omega : i = 0 ∨ i = 1 ∨ i = 2 ∨ i = 3 ∨ i = 4 ∨ i = 5 ∨ i = 6 ∨ i = 7 ∨ i = 8 ∨ i = 9 ∨ i = 10 ∨ i = 11) with rfl | rfl | rfl | rfl | rfl | rfl | rfl | rfl | rfl | rfl | rfl | rfl <;> rfl
theorem c_X_classOf (ws : va_W) (i : Nat) (hi : i < 12) : Ct G l q_X_classOf 1 0 0 [.ref (gE G i)] ws (fun r w => r = some (vI (clO i)) ∧ w = ws) := by
  refine Ct.intro [some (.ref (gE G i))] (by decide) (Nat.le_of_ble_eq_true rfl) rfl (fun sz => ?_)
  refine r_aload_n d_X_classOf_0 rfl rfl ?_
  refine r_callE (As := []) d_X_classOf_1 lu_X_97_E (c_En_ordinal G l ws i hi) hi rfl (Nat.le_of_ble_eq_true rfl) (rok rfl rfl) ⟨(Nat.le_of_ble_eq_true rfl), (Nat.le_of_ble_eq_true rfl)⟩ (fun r ws2 hq => ?_)
  obtain ⟨rfl, hw⟩ := hq; rw [hw]; clear hw
  show WP _ _ _ _ _ _ (_ :: _)
  have sl : ∀ s : Int, clO i = (if s < 0 then 4 else 3) → ([-1, -1, -1, 0, 1, 2, 3, 4, 4, 5, 6, -1] : List Int32).getD i 0 = zI s → i32 s → WP (mth G l q_X_classOf 1 0 0 ws sz (fun r w => r = some (vI (clO i)) ∧ w = ws)) 0 0 ws 62 [some (.ref (gE G i))] [] := by
    intro s h1 h2 hs
    refine r_aload_n d_X_classOf_62 rfl rfl ?_
    refine r_getK (f := ("MovieBoxes$Kind", "slot", "I", [-1, -1, -1, 0, 1, 2, 3, 4, 4, 5, 6, -1])) d_X_classOf_63 hi (by decide) (Or.inr ⟨_, nw_1008⟩) ?_
    show WP _ _ _ _ _ _ (.int (([-1, -1, -1, 0, 1, 2, 3, 4, 4, 5, 6, -1] : List Int32).getD i 0) :: _)
    rw [h2]
    refine r_if_lt 73 d_X_classOf_66 (by decide) hs (fun h3 => ?_) (fun h3 => ?_)
    · refine r_iconst d_X_classOf_73 ?_
      refine r_iret d_X_classOf_74 rfl (Nat.le_of_ble_eq_true rfl) (Nat.le_of_ble_eq_true rfl) ?_
      exact ⟨by rw [h1, if_pos h3], rfl⟩
    · refine r_iconst d_X_classOf_69 ?_
      refine r_goto 74 d_X_classOf_70 (by decide) ?_
      refine r_iret d_X_classOf_74 rfl (Nat.le_of_ble_eq_true rfl) (Nat.le_of_ble_eq_true rfl) ?_
      exact ⟨by rw [h1, if_neg h3], rfl⟩
  rcases (by omega : i = 0 ∨ i = 1 ∨ i = 2 ∨ i = 3 ∨ i = 4 ∨ i = 5 ∨ i = 6 ∨ i = 7 ∨ i = 8 ∨ i = 9 ∨ i = 10 ∨ i = 11) with rfl | rfl | rfl | rfl | rfl | rfl | rfl | rfl | rfl | rfl | rfl | rfl
  · refine r_tableIn 56 d_X_classOf_4 (by unfold i32; omega) (by omega) (by omega) rfl (by decide) ?_
    refine r_iconst d_X_classOf_56 ?_
    refine r_iret d_X_classOf_57 rfl (Nat.le_of_ble_eq_true rfl) (Nat.le_of_ble_eq_true rfl) ?_
    exact ⟨rfl, rfl⟩
  · refine r_tableIn 62 d_X_classOf_4 (by unfold i32; omega) (by omega) (by omega) rfl (by decide) ?_
    exact sl (-1) rfl rfl (by unfold i32; omega)
  · refine r_tableIn 56 d_X_classOf_4 (by unfold i32; omega) (by omega) (by omega) rfl (by decide) ?_
    refine r_iconst d_X_classOf_56 ?_
    refine r_iret d_X_classOf_57 rfl (Nat.le_of_ble_eq_true rfl) (Nat.le_of_ble_eq_true rfl) ?_
    exact ⟨rfl, rfl⟩
  · refine r_tableIn 62 d_X_classOf_4 (by unfold i32; omega) (by omega) (by omega) rfl (by decide) ?_
    exact sl (0) rfl rfl (by unfold i32; omega)
  · refine r_tableIn 62 d_X_classOf_4 (by unfold i32; omega) (by omega) (by omega) rfl (by decide) ?_
    exact sl (1) rfl rfl (by unfold i32; omega)
  · refine r_tableIn 62 d_X_classOf_4 (by unfold i32; omega) (by omega) (by omega) rfl (by decide) ?_
    exact sl (2) rfl rfl (by unfold i32; omega)
  · refine r_tableIn 60 d_X_classOf_4 (by unfold i32; omega) (by omega) (by omega) rfl (by decide) ?_
    refine r_iconst d_X_classOf_60 ?_
    refine r_iret d_X_classOf_61 rfl (Nat.le_of_ble_eq_true rfl) (Nat.le_of_ble_eq_true rfl) ?_
    exact ⟨rfl, rfl⟩
  · refine r_tableIn 58 d_X_classOf_4 (by unfold i32; omega) (by omega) (by omega) rfl (by decide) ?_
    refine r_iconst d_X_classOf_58 ?_
    refine r_iret d_X_classOf_59 rfl (Nat.le_of_ble_eq_true rfl) (Nat.le_of_ble_eq_true rfl) ?_
    exact ⟨rfl, rfl⟩
  · refine r_tableIn 58 d_X_classOf_4 (by unfold i32; omega) (by omega) (by omega) rfl (by decide) ?_
    refine r_iconst d_X_classOf_58 ?_
    refine r_iret d_X_classOf_59 rfl (Nat.le_of_ble_eq_true rfl) (Nat.le_of_ble_eq_true rfl) ?_
    exact ⟨rfl, rfl⟩
  · refine r_tableOut 62 d_X_classOf_4 (by unfold i32; omega) (by omega) (by decide) ?_
    exact sl (5) rfl rfl (by unfold i32; omega)
  · refine r_tableOut 62 d_X_classOf_4 (by unfold i32; omega) (by omega) (by decide) ?_
    exact sl (6) rfl rfl (by unfold i32; omega)
  · refine r_tableOut 62 d_X_classOf_4 (by unfold i32; omega) (by omega) (by decide) ?_
    exact sl (-1) rfl rfl (by unfold i32; omega)
end XKIND
