abbrev q_X_sorted : Mi := (⟨"MovieBoxes", "sorted", "()Z"⟩, prog_1_method_15_code, 2, (some .boolean))
theorem d_X_sorted_29 : decode prog_1_method_15_code 29 = .ok (.iconst 0, 1) := by decide +kernel
theorem d_X_sorted_30 : decode prog_1_method_15_code 30 = .ok (.ireturn, 1) := by decide +kernel
theorem d_X_sorted_54 : decode prog_1_method_15_code 54 = .ok (.iconst 0, 1) := by decide +kernel
theorem d_X_sorted_55 : decode prog_1_method_15_code 55 = .ok (.ireturn, 1) := by decide +kernel
theorem d_X_sorted_105 : decode prog_1_method_15_code 105 = .ok (.iconst 0, 1) := by decide +kernel
theorem d_X_sorted_106 : decode prog_1_method_15_code 106 = .ok (.ireturn, 1) := by decide +kernel
theorem d_X_sorted_136 : decode prog_1_method_15_code 136 = .ok (.iconst 0, 1) := by decide +kernel
theorem d_X_sorted_137 : decode prog_1_method_15_code 137 = .ok (.ireturn, 1) := by decide +kernel
theorem d_X_sorted_125 : decode prog_1_method_15_code 125 = .ok (.aload_n 0, 1) := by decide +kernel
theorem d_X_sorted_126 : decode prog_1_method_15_code 126 = .ok (.getfield 189, 3) := by decide +kernel
set_option maxRecDepth 20000 in
theorem w_173 : Cond.fieldLink "MovieBoxes" 189 "MovieBoxes" "trackCount" "I" ∈ gt := gt_of (in_t1 (List.mem_of_getElem? (i := 173) rfl)) rfl
theorem fl_X_189_0 : FL "MovieBoxes" 189 0 11 false := ⟨_, _, _, "MovieBoxes", rfl, by decide, rfl, Or.inl w_173, Or.inl rfl⟩
theorem d_X_sorted_129 : decode prog_1_method_15_code 129 = .ok (.ifCond .le 7, 3) := by decide +kernel
theorem d_X_sorted_132 : decode prog_1_method_15_code 132 = .ok (.iconst 1, 1) := by decide +kernel
theorem d_X_sorted_133 : decode prog_1_method_15_code 133 = .ok (.goto 4, 3) := by decide +kernel
theorem d_X_sorted_64 : decode prog_1_method_15_code 64 = .ok (.aload_n 1, 1) := by decide +kernel
theorem d_X_sorted_65 : decode prog_1_method_15_code 65 = .ok (.ifnull 60, 3) := by decide +kernel
theorem d_X_sorted_117 : decode prog_1_method_15_code 117 = .ok (.aload_n 1, 1) := by decide +kernel
theorem d_X_sorted_118 : decode prog_1_method_15_code 118 = .ok (.getfield 223, 3) := by decide +kernel
set_option maxRecDepth 20000 in
theorem w_86 : Cond.fieldLink "MovieBoxes" 223 "MovieBoxes$Box" "next" "LMovieBoxes$Box;" ∈ gt := gt_of (in_t1 (List.mem_of_getElem? (i := 86) rfl)) rfl
theorem fl_X_223_1 : FL "MovieBoxes" 223 1 8 false := ⟨_, _, _, "MovieBoxes$Box", rfl, by decide, rfl, Or.inl w_86, Or.inl rfl⟩
theorem fl_X_223_2 : FL "MovieBoxes" 223 2 8 false := ⟨_, _, _, "MovieBoxes$Box", rfl, by decide, rfl, Or.inl w_86, Or.inl rfl⟩
theorem fl_X_223_3 : FL "MovieBoxes" 223 3 8 false := ⟨_, _, _, "MovieBoxes$Box", rfl, by decide, rfl, Or.inl w_86, Or.inl rfl⟩
theorem fl_X_223_4 : FL "MovieBoxes" 223 4 8 false := ⟨_, _, _, "MovieBoxes$Box", rfl, by decide, rfl, Or.inl w_86, Or.inl rfl⟩
theorem fl_X_223_5 : FL "MovieBoxes" 223 5 8 false := ⟨_, _, _, "MovieBoxes$Box", rfl, by decide, rfl, Or.inl w_86, Or.inl rfl⟩
theorem fb_X_223 : FB "MovieBoxes" 223 8 (.object "MovieBoxes$Box") := fb5 fl_X_223_1 fl_X_223_2 fl_X_223_3 fl_X_223_4 fl_X_223_5 rfl rfl rfl rfl rfl
theorem d_X_sorted_121 : decode prog_1_method_15_code 121 = .ok (.astore_n 1, 1) := by decide +kernel
theorem d_X_sorted_122 : decode prog_1_method_15_code 122 = .ok (.goto (-58), 3) := by decide +kernel
theorem d_X_sorted_68 : decode prog_1_method_15_code 68 = .ok (.aload_n 1, 1) := by decide +kernel
theorem d_X_sorted_69 : decode prog_1_method_15_code 69 = .ok (.instanceof 16, 3) := by decide +kernel
theorem d_X_sorted_72 : decode prog_1_method_15_code 72 = .ok (.ifCond .ne 6, 3) := by decide +kernel
theorem d_X_sorted_78 : decode prog_1_method_15_code 78 = .ok (.aload_n 0, 1) := by decide +kernel
theorem d_X_sorted_79 : decode prog_1_method_15_code 79 = .ok (.getfield 189, 3) := by decide +kernel
theorem d_X_sorted_82 : decode prog_1_method_15_code 82 = .ok (.iconst 2, 1) := by decide +kernel
theorem d_X_sorted_83 : decode prog_1_method_15_code 83 = .ok (.if_icmp .eq 22, 3) := by decide +kernel
theorem d_X_sorted_86 : decode prog_1_method_15_code 86 = .ok (.aload_n 0, 1) := by decide +kernel
theorem d_X_sorted_87 : decode prog_1_method_15_code 87 = .ok (.getfield 43, 3) := by decide +kernel
set_option maxRecDepth 20000 in
theorem w_172 : Cond.fieldLink "MovieBoxes" 43 "MovieBoxes" "tracks" "[LMovieBoxes$Track;" ∈ gt := gt_of (in_t1 (List.mem_of_getElem? (i := 172) rfl)) rfl
theorem fl_X_43_0 : FL "MovieBoxes" 43 0 10 true := ⟨_, _, _, "MovieBoxes", rfl, by decide, rfl, Or.inl w_172, Or.inl rfl⟩
theorem d_X_sorted_90 : decode prog_1_method_15_code 90 = .ok (.aload_n 0, 1) := by decide +kernel
theorem d_X_sorted_91 : decode prog_1_method_15_code 91 = .ok (.getfield 189, 3) := by decide +kernel
theorem d_X_sorted_94 : decode prog_1_method_15_code 94 = .ok (.aaload, 1) := by decide +kernel
theorem d_X_sorted_95 : decode prog_1_method_15_code 95 = .ok (.aload_n 1, 1) := by decide +kernel
theorem d_X_sorted_96 : decode prog_1_method_15_code 96 = .ok (.checkcast 16, 3) := by decide +kernel
theorem d_X_sorted_99 : decode prog_1_method_15_code 99 = .ok (.invokevirtual 226, 3) := by decide +kernel
set_option maxRecDepth 20000 in
theorem w_475 : Cond.methodLink "MovieBoxes" 226 ⟨"MovieBoxes$Track", "gather", "(LMovieBoxes$Holder;)Z"⟩ ∈ gt := gt_of (in_t2 (List.mem_of_getElem? (i := 235) rfl)) rfl
set_option maxRecDepth 20000 in
theorem w_476 : Cond.instanceMethod ⟨"MovieBoxes$Track", "gather", "(LMovieBoxes$Holder;)Z"⟩ ∈ gt := gt_of (in_t2 (List.mem_of_getElem? (i := 236) rfl)) rfl
set_option maxRecDepth 20000 in
theorem w_477 : Cond.selects "MovieBoxes$Track" ⟨"MovieBoxes$Track", "gather", "(LMovieBoxes$Holder;)Z"⟩ ⟨"MovieBoxes$Track", "gather", "(LMovieBoxes$Holder;)Z"⟩ ∈ gt := gt_of (in_t2 (List.mem_of_getElem? (i := 237) rfl)) rfl
set_option maxRecDepth 20000 in
theorem w_7 : Cond.initialized "MovieBoxes$Track" ∈ gt := gt_of (in_t1 (List.mem_of_getElem? (i := 7) rfl)) rfl
set_option maxRecDepth 20000 in
theorem w_478 : Cond.code ⟨"MovieBoxes$Track", "gather", "(LMovieBoxes$Holder;)Z"⟩ prog_9_method_2_code 4 (some .boolean) ∈ gt := gt_of (in_t2 (List.mem_of_getElem? (i := 238) rfl)) rfl
theorem lk_X_226 : LkV "MovieBoxes" 226 q_K_gather 1 := ⟨(List.forall_mem_cons.mpr ⟨w_475, (List.forall_mem_cons.mpr ⟨w_476, (List.forall_mem_cons.mpr ⟨w_477, (List.forall_mem_cons.mpr ⟨w_7, (fun _ h => absurd h List.not_mem_nil)⟩)⟩)⟩)⟩), w_478, by decide +kernel⟩
theorem d_X_sorted_102 : decode prog_1_method_15_code 102 = .ok (.ifCond .ne 5, 3) := by decide +kernel
theorem d_X_sorted_107 : decode prog_1_method_15_code 107 = .ok (.aload_n 0, 1) := by decide +kernel
theorem d_X_sorted_108 : decode prog_1_method_15_code 108 = .ok (.dup, 1) := by decide +kernel
theorem d_X_sorted_109 : decode prog_1_method_15_code 109 = .ok (.getfield 189, 3) := by decide +kernel
theorem d_X_sorted_112 : decode prog_1_method_15_code 112 = .ok (.iconst 1, 1) := by decide +kernel
theorem d_X_sorted_113 : decode prog_1_method_15_code 113 = .ok (.iadd, 1) := by decide +kernel
theorem d_X_sorted_114 : decode prog_1_method_15_code 114 = .ok (.putfield 189, 3) := by decide +kernel
theorem d_X_sorted_75 : decode prog_1_method_15_code 75 = .ok (.goto 42, 3) := by decide +kernel
theorem d_X_sorted_47 : decode prog_1_method_15_code 47 = .ok (.aload_n 0, 1) := by decide +kernel
theorem d_X_sorted_48 : decode prog_1_method_15_code 48 = .ok (.getfield 192, 3) := by decide +kernel
set_option maxRecDepth 20000 in
theorem w_168 : Cond.fieldLink "MovieBoxes" 192 "MovieBoxes" "movie" "LMovieBoxes$Holder;" ∈ gt := gt_of (in_t1 (List.mem_of_getElem? (i := 168) rfl)) rfl
theorem fl_X_192_0 : FL "MovieBoxes" 192 0 6 false := ⟨_, _, _, "MovieBoxes", rfl, by decide, rfl, Or.inl w_168, Or.inl rfl⟩
theorem d_X_sorted_51 : decode prog_1_method_15_code 51 = .ok (.ifnonnull 5, 3) := by decide +kernel
theorem d_X_sorted_56 : decode prog_1_method_15_code 56 = .ok (.aload_n 0, 1) := by decide +kernel
theorem d_X_sorted_57 : decode prog_1_method_15_code 57 = .ok (.getfield 192, 3) := by decide +kernel
theorem d_X_sorted_60 : decode prog_1_method_15_code 60 = .ok (.getfield 219, 3) := by decide +kernel
set_option maxRecDepth 20000 in
theorem w_40 : Cond.fieldLink "MovieBoxes" 219 "MovieBoxes$Holder" "first" "LMovieBoxes$Box;" ∈ gt := gt_of (in_t1 (List.mem_of_getElem? (i := 40) rfl)) rfl
theorem fl_X_219_1 : FL "MovieBoxes" 219 1 11 false := ⟨_, _, _, "MovieBoxes$Holder", rfl, by decide, rfl, Or.inl w_40, Or.inl rfl⟩
theorem d_X_sorted_63 : decode prog_1_method_15_code 63 = .ok (.astore_n 1, 1) := by decide +kernel
theorem d_X_sorted_8 : decode prog_1_method_15_code 8 = .ok (.aload_n 1, 1) := by decide +kernel
theorem d_X_sorted_9 : decode prog_1_method_15_code 9 = .ok (.ifnull 38, 3) := by decide +kernel
theorem d_X_sorted_39 : decode prog_1_method_15_code 39 = .ok (.aload_n 1, 1) := by decide +kernel
theorem d_X_sorted_40 : decode prog_1_method_15_code 40 = .ok (.getfield 223, 3) := by decide +kernel
theorem d_X_sorted_43 : decode prog_1_method_15_code 43 = .ok (.astore_n 1, 1) := by decide +kernel
theorem d_X_sorted_44 : decode prog_1_method_15_code 44 = .ok (.goto (-36), 3) := by decide +kernel
theorem d_X_sorted_12 : decode prog_1_method_15_code 12 = .ok (.aload_n 1, 1) := by decide +kernel
theorem d_X_sorted_13 : decode prog_1_method_15_code 13 = .ok (.instanceof 16, 3) := by decide +kernel
theorem d_X_sorted_16 : decode prog_1_method_15_code 16 = .ok (.ifCond .ne 6, 3) := by decide +kernel
theorem d_X_sorted_22 : decode prog_1_method_15_code 22 = .ok (.aload_n 0, 1) := by decide +kernel
theorem d_X_sorted_23 : decode prog_1_method_15_code 23 = .ok (.getfield 192, 3) := by decide +kernel
theorem d_X_sorted_26 : decode prog_1_method_15_code 26 = .ok (.ifnull 5, 3) := by decide +kernel
theorem d_X_sorted_31 : decode prog_1_method_15_code 31 = .ok (.aload_n 0, 1) := by decide +kernel
theorem d_X_sorted_32 : decode prog_1_method_15_code 32 = .ok (.aload_n 1, 1) := by decide +kernel
theorem d_X_sorted_33 : decode prog_1_method_15_code 33 = .ok (.checkcast 16, 3) := by decide +kernel
theorem d_X_sorted_36 : decode prog_1_method_15_code 36 = .ok (.putfield 192, 3) := by decide +kernel
theorem d_X_sorted_19 : decode prog_1_method_15_code 19 = .ok (.goto 20, 3) := by decide +kernel
theorem d_X_sorted_0 : decode prog_1_method_15_code 0 = .ok (.aload_n 0, 1) := by decide +kernel
theorem d_X_sorted_1 : decode prog_1_method_15_code 1 = .ok (.getfield 19, 3) := by decide +kernel
set_option maxRecDepth 20000 in
theorem w_167 : Cond.fieldLink "MovieBoxes" 19 "MovieBoxes" "root" "LMovieBoxes$Holder;" ∈ gt := gt_of (in_t1 (List.mem_of_getElem? (i := 167) rfl)) rfl
theorem fl_X_19_0 : FL "MovieBoxes" 19 0 5 true := ⟨_, _, _, "MovieBoxes", rfl, by decide, rfl, Or.inl w_167, Or.inl rfl⟩
theorem d_X_sorted_4 : decode prog_1_method_15_code 4 = .ok (.getfield 219, 3) := by decide +kernel
theorem d_X_sorted_7 : decode prog_1_method_15_code 7 = .ok (.astore_n 1, 1) := by decide +kernel
/-! ===== the component: sorted ===== -/
def chH (z : mS) (h : Int) : Int → Bool := fun j => decide (z 7 j = h ∧ z 27 j = 1)
theorem chH_t {z : mS} {h j : Int} : chH z h j = true ↔ z 7 j = h ∧ z 27 j = 1 := by unfold chH; exact decide_eq_true_iff
theorem chH_f {z : mS} {h j : Int} : chH z h j = false ↔ ¬ (z 7 j = h ∧ z 27 j = 1) := by unfold chH; exact decide_eq_false_iff_not
/-- the movie; whether the kinds are in order -/
abbrev mvZ (z : mS) (n : Nat) : Int := lsb (chH z (-1)) n
def sdO (z : mS) (n : Nat) : Prop := cnb (chH z (-1)) n = 1 ∧ (1 ≤ cnb (chH z (mvZ z n)) n ∧ cnb (chH z (mvZ z n)) n ≤ 2) ∧ ∀ j : Int, 0 ≤ j → j < n → chH z (mvZ z n) j = true → gOk z j n
theorem bI_0 {z : mS} {n : Nat} {i x : Int} (h : bI z n) : bI (sset z 0 i x) n := h
theorem sset_sset (z : mS) (c : Nat) (i a b : Int) : sset (sset z c i a) c i b = sset z c i b := by
  funext c' j
  rw [sset_at, sset_at, sset_at]
  split
  · rw [updI_at, updI_at]
    split
    · rfl
    · rename_i q; rw [sset_nj q]
  · rfl
theorem xwp_movieN {G : gG} {y : xP} {z : mS} {b : Int} (hb : 0 ≤ b) : (xW G y z).set 0 (yc y 0, .inr (0, (xF y z).set 6 (.ref (yo y b)))) = xW G y (sset z 0 2 b) := by
  have : Value.ref (yo y b) = va_rf (rN (yo y) b) := by rw [rN_nn hb]; rfl
  rw [this]
  rfl
section XSORTED
variable (G : gG) (l : Launch) (y : xP)
set_option maxRecDepth 8000 in
set_option maxHeartbeats 8000000 in
theorem c_X_sorted (z : mS) (hB : bI z (yn y)) (h02 : z 0 2 = -1) (h03 : z 0 3 = 0) : Ct G l q_X_sorted 1 0 0 [.ref (yc y 0)] (xW G y z) (fun r w => ∃ (tb' : Int → Option Nat) (m' c' : Int), r = some (vI (b2 (sdO z (yn y)))) ∧ w = xW G (yT y tb') (sset (sset z 0 2 m') 0 3 c') ∧ (-1 ≤ m' ∧ m' < yn y) ∧ (sdO z (yn y) → m' = mvZ z (yn y) ∧ c' = cnb (chH z (mvZ z (yn y))) (yn y) ∧ ∀ j : Int, 0 ≤ j → j < yn y → chH z (mvZ z (yn y)) j = true → ∀ sl, 0 ≤ sl → sl < 7 → tb' (tix (cnb (chH z (mvZ z (yn y))) j.toNat).toNat sl) = rN (yo y) (gk z j sl (yn y)))) := by
  refine Ct.intro [some (.ref (yc y 0)), none] (by decide) (Nat.le_of_ble_eq_true rfl) rfl (fun sz => ?_)
  generalize hQ : (fun r w => ∃ (tb' : Int → Option Nat) (m' c' : Int), r = some (vI (b2 (sdO z (yn y)))) ∧ w = xW G (yT y tb') (sset (sset z 0 2 m') 0 3 c') ∧ (-1 ≤ m' ∧ m' < yn y) ∧ (sdO z (yn y) → m' = mvZ z (yn y) ∧ c' = cnb (chH z (mvZ z (yn y))) (yn y) ∧ ∀ j : Int, 0 ≤ j → j < yn y → chH z (mvZ z (yn y)) j = true → ∀ sl, 0 ≤ sl → sl < 7 → tb' (tix (cnb (chH z (mvZ z (yn y))) j.toNat).toNat sl) = rN (yo y) (gk z j sl (yn y)))) = Q
  have fin0 : ∀ (tb' : Int → Option Nat) (m' c' : Int) lv, (-1 ≤ m' ∧ m' < yn y) → ¬ sdO z (yn y) → ∀ pc, pc = 29 ∨ pc = 54 ∨ pc = 105 ∨ pc = 136 → WP (mth G l q_X_sorted 1 0 0 (xW G y z) sz Q) 0 0 (xW G (yT y tb') (sset (sset z 0 2 m') 0 3 c')) pc lv [] := by
    intro tb' m' c' lv hm hno pc hpc
    have hq : Q (some (vI 0)) (xW G (yT y tb') (sset (sset z 0 2 m') 0 3 c')) := by
      rw [← hQ]
      exact ⟨_, _, _, by rw [b2_f hno], rfl, hm, fun q => absurd q hno⟩
    rcases hpc with rfl | rfl | rfl | rfl
    · refine r_iconst d_X_sorted_29 ?_
      refine r_zret d_X_sorted_30 rfl (by first | exact Or.inl rfl | exact Or.inr rfl) (Nat.le_of_ble_eq_true rfl) (Nat.le_of_ble_eq_true rfl) ?_
      exact hq
    · refine r_iconst d_X_sorted_54 ?_
      refine r_zret d_X_sorted_55 rfl (by first | exact Or.inl rfl | exact Or.inr rfl) (Nat.le_of_ble_eq_true rfl) (Nat.le_of_ble_eq_true rfl) ?_
      exact hq
    · refine r_iconst d_X_sorted_105 ?_
      refine r_zret d_X_sorted_106 rfl (by first | exact Or.inl rfl | exact Or.inr rfl) (Nat.le_of_ble_eq_true rfl) (Nat.le_of_ble_eq_true rfl) ?_
      exact hq
    · refine r_iconst d_X_sorted_136 ?_
      refine r_zret d_X_sorted_137 rfl (by first | exact Or.inl rfl | exact Or.inr rfl) (Nat.le_of_ble_eq_true rfl) (Nat.le_of_ble_eq_true rfl) ?_
      exact hq
  have e03 : ∀ m', sset z 0 2 m' = sset (sset z 0 2 m') 0 3 0 := by
    intro m'
    have : (sset z 0 2 m') 0 3 = 0 := h03
    conv => rhs; rw [← this, sset_self]
  have mb := lsb_b (chH z (-1)) (yn y)
  generalize hmv : mvZ z (yn y) = mv at *
  change lsb (chH z (-1)) (yn y) = mv at hmv
  rw [hmv] at mb
  -- the second loop
  have lp2 : cnb (chH z (-1)) (yn y) = 1 → 0 ≤ mv → ∀ (F m : Nat) (tb' : Int → Option Nat), yn y - m ≤ F → m ≤ yn y → cnb (chH z mv) m ≤ 2 → (∀ j : Int, 0 ≤ j → j < m → chH z mv j = true → gOk z j (yn y) ∧ ∀ sl, 0 ≤ sl → sl < 7 → tb' (tix (cnb (chH z mv) j.toNat).toNat sl) = rN (yo y) (gk z j sl (yn y))) → WP (mth G l q_X_sorted 1 0 0 (xW G y z) sz Q) 0 0 (xW G (yT y tb') (sset (sset z 0 2 mv) 0 3 (cnb (chH z mv) m))) 64 [some (.ref (yc y 0)), some (va_rf (rN (yo y) (nxt (z 7) mv (yn y - m) m)))] [] := by
    intro hc1 hmv0 F
    have fin : ∀ (m : Nat) (tb' : Int → Option Nat) lv, m ≤ yn y → cnb (chH z mv) m ≤ 2 → (∀ j : Int, 0 ≤ j → j < m → chH z mv j = true → gOk z j (yn y) ∧ ∀ sl, 0 ≤ sl → sl < 7 → tb' (tix (cnb (chH z mv) j.toNat).toNat sl) = rN (yo y) (gk z j sl (yn y))) → (∀ j : Int, m ≤ j → j < yn y → z 7 j ≠ mv) → WP (mth G l q_X_sorted 1 0 0 (xW G y z) sz Q) 0 0 (xW G (yT y tb') (sset (sset z 0 2 mv) 0 3 (cnb (chH z mv) m))) 125 (some (.ref (yc y 0)) :: lv) [] := by
      intro m tb' lv hm hc2 hj hno
      have ec : cnb (chH z mv) (yn y) = cnb (chH z mv) m := cnb_cut hm (fun j a b => chH_f.mpr (fun q => hno j a b q.1))
      have hcn := cnb_nn (chH z mv) m
      refine r_aload_n d_X_sorted_125 rfl rfl ?_
      refine r_get d_X_sorted_126 fl_X_189_0 0 rfl rfl ?_
      show WP _ _ _ _ _ _ (vI (cnb (chH z mv) m) :: _)
      refine r_if_le 136 d_X_sorted_129 (by decide) (by unfold i32; omega) (fun h1 => ?_) (fun h1 => ?_)
      · exact fin0 _ _ _ _ (by omega) (fun q => by have := q.2.1.1; rw [show mvZ z (yn y) = mv from hmv, ec] at this; omega) 136 (by omega)
      · have hsd : sdO z (yn y) := by
          refine ⟨hc1, ?_, fun j a b c => ?_⟩
          · rw [show mvZ z (yn y) = mv from hmv, ec]; omega
          · rw [show mvZ z (yn y) = mv from hmv] at c
            have hjm : j < m := by
              by_cases q : j < m
              · exact q
              · exact absurd (chH_t.mp c).1 (hno j (by omega) b)
            exact (hj j a hjm c).1
        refine r_iconst d_X_sorted_132 ?_
        refine r_goto 137 d_X_sorted_133 (by decide) ?_
        refine r_zret d_X_sorted_137 rfl (by first | exact Or.inl rfl | exact Or.inr rfl) (Nat.le_of_ble_eq_true rfl) (Nat.le_of_ble_eq_true rfl) ?_
        rw [← hQ]
        refine ⟨_, _, _, by rw [b2_t hsd], rfl, by omega, fun _ => ⟨rfl, ec.symm, fun j a b c => ?_⟩⟩
        · have hjm : j < m := by
            by_cases q : j < m
            · exact q
            · exact absurd (chH_t.mp c).1 (hno j (by omega) b)
          exact (hj j a hjm c).2
    induction F with
    | zero =>
      intro m tb' hF hm hc2 hj
      rw [show yn y - m = 0 by omega]
      refine r_aload_n d_X_sorted_64 rfl (isRf_rf _) ?_
      refine r_ifnull 125 d_X_sorted_65 (by decide) (fun hn => ?_) (fun hna hn => ?_)
      · exact fin m _ _ hm hc2 hj (fun j a b => by omega)
      · cases hn
    | succ F ih =>
      intro m tb' hF hm hc2 hj
      rcases nxt_step (z := z) (h := mv) hm with ⟨e, hno⟩ | ⟨b, e, b1, b2, b3, b4⟩
      · rw [e]
        refine r_aload_n d_X_sorted_64 rfl (isRf_rf _) ?_
        refine r_ifnull 125 d_X_sorted_65 (by decide) (fun hn => ?_) (fun hna hn => ?_)
        · exact fin m _ _ hm hc2 hj hno
        · cases hn
      · rw [e, rN_nn (by omega)]
        have ecb : cnb (chH z mv) b = cnb (chH z mv) m := cnb_cut b1 (fun j a c => chH_f.mpr (fun q => b4 j a c q.1))
        have hcn := cnb_nn (chH z mv) m
        have hkb : -1 ≤ (b : Int) ∧ (b : Int) < yn y := by omega
        have hcb := bI_cl hB hkb.1 hkb.2
        have hj2 : ∀ j : Int, 0 ≤ j → j < b → chH z mv j = true → j < m := by
          intro j a c d
          by_cases q : j < m
          · exact q
          · exact absurd (chH_t.mp d).1 (b4 j (by omega) c)
        have nx : ∀ (tb2 : Int → Option Nat) (c2 : Int), c2 = cnb (chH z mv) (b + 1) → c2 ≤ 2 → (∀ j : Int, 0 ≤ j → j < ((b + 1 : Nat) : Int) → chH z mv j = true → gOk z j (yn y) ∧ ∀ sl, 0 ≤ sl → sl < 7 → tb2 (tix (cnb (chH z mv) j.toNat).toNat sl) = rN (yo y) (gk z j sl (yn y))) → WP (mth G l q_X_sorted 1 0 0 (xW G y z) sz Q) 0 0 (xW G (yT y tb2) (sset (sset z 0 2 mv) 0 3 c2)) 117 [some (.ref (yc y 0)), some (.ref (yo y b))] [] := by
          intro tb2 c2 ec2 hc3 hj3
          subst ec2
          refine r_aload_n d_X_sorted_117 rfl rfl ?_
          refine r_getB d_X_sorted_118 fb_X_223 ((b : Int)) hkb hcb rfl ?_
          show WP _ _ _ _ _ _ (va_rf (rN (yo y) (z 23 b)) :: _)
          rw [bI_next hB b2, b3]
          refine r_astore_n d_X_sorted_121 (Nat.le_of_ble_eq_true rfl) rfl (isRf_rf _) ?_
          show WP _ _ _ _ _ [_, _] _
          refine r_goto 64 d_X_sorted_122 (by decide) ?_
          exact ih (b + 1) _ (by omega) (by omega) hc3 hj3
        refine r_aload_n d_X_sorted_64 rfl rfl ?_
        refine r_ifnull (r := some (yo y b)) 125 d_X_sorted_65 (by decide) (fun q => by cases q) (fun _ _ => ?_)
        refine r_aload_n d_X_sorted_68 rfl rfl ?_
        refine r_instH d_X_sorted_69 w_29 b hkb hcb (fun h3 => ?_) (fun h3 => ?_)
        · have h3 : z 27 b = 1 := h3
          have hpb : chH z mv b = true := chH_t.mpr ⟨b3, h3⟩
          have hcs := cnb_s hpb
          have hcl := cnb_lt (p := chH z mv) (a := (b : Int)) (n := yn y) (by omega) (by omega) hpb
          have ebn : ((b : Int)).toNat = b := by omega
          rw [ebn] at hcl
          refine r_if_ne 78 d_X_sorted_72 (by decide) (by unfold i32; omega) (fun hx => ?_) (fun hx => ?_)
          · refine r_aload_n d_X_sorted_78 rfl rfl ?_
            refine r_get d_X_sorted_79 fl_X_189_0 0 rfl rfl ?_
            refine r_iconst d_X_sorted_82 ?_
            show WP _ _ _ _ _ _ (_ :: vI (cnb (chH z mv) m) :: _)
            refine r_icmp_eq 105 d_X_sorted_83 (by decide) (by unfold i32; omega) (by unfold i32; omega) (fun h4 => ?_) (fun h4 => ?_)
            · exact fin0 _ _ _ _ (by omega) (fun q => by have := q.2.1.2; rw [show mvZ z (yn y) = mv from hmv] at this; omega) 105 (by omega)
            · obtain ⟨t, ht⟩ : ∃ t : Nat, cnb (chH z mv) m = t := ⟨(cnb (chH z mv) m).toNat, by omega⟩
              have ht1 : t ≤ 1 := by omega
              refine r_aload_n d_X_sorted_86 rfl rfl ?_
              refine r_get d_X_sorted_87 fl_X_43_0 0 rfl rfl ?_
              refine r_aload_n d_X_sorted_90 rfl rfl ?_
              refine r_get d_X_sorted_91 fl_X_189_0 0 rfl rfl ?_
              show WP _ _ _ _ _ _ (vI (cnb (chH z mv) m) :: _)
              rw [ht]
              refine r_aald d_X_sorted_94 6 rfl rfl (by omega) ?_
              refine r_aload_n d_X_sorted_95 rfl rfl ?_
              refine r_castH d_X_sorted_96 w_29 b hkb h3 ?_
              show WP _ _ _ _ _ _ (_ :: .ref (yc y (7 + t)) :: _)
              refine r_cV1 d_X_sorted_99 lk_X_226 (c_K_gather G l (yT y tb') (sset (sset z 0 2 mv) 0 3 t) t b ht1 hkb h3 hB) (7+t) rfl (xw_k ht1) (Nat.le_of_ble_eq_true rfl) (rok rfl rfl) ⟨(Nat.le_of_ble_eq_true rfl), (Nat.le_of_ble_eq_true rfl)⟩ (fun r ws2 hq => ?_)
              obtain ⟨tb2, rfl, rfl, g1, g2⟩ := hq
              show WP _ _ _ _ _ _ (_ :: _)
              have hgo : gOk (sset (sset z 0 2 mv) 0 3 t) b (yn (yT y tb')) ↔ gOk z b (yn y) := Iff.rfl
              rw [b2_c hgo]
              refine r_if_ne 107 d_X_sorted_102 (by decide) (by have := b2_b (gOk z b (yn y)); unfold i32; omega) (fun h5 => ?_) (fun h5 => ?_)
              · have hg : gOk z b (yn y) := b2_1.mp (by have := b2_b (gOk z b (yn y)); omega)
                refine r_aload_n d_X_sorted_107 rfl rfl ?_
                refine r_dup d_X_sorted_108 rfl ?_
                refine r_get d_X_sorted_109 fl_X_189_0 0 rfl rfl ?_
                refine r_iconst d_X_sorted_112 ?_
                refine r_iadd d_X_sorted_113 ?_
                refine r_put _ d_X_sorted_114 fl_X_189_0 0 rfl rfl rfl (Nat.le_of_ble_eq_true rfl) xwp_trackCount ?_
                show WP _ _ _ (xW G (yT y tb2) (sset (sset (sset z 0 2 mv) 0 3 t) 0 3 ((t : Int) + 1))) _ _ _
                rw [sset_sset]
                refine nx _ _ (by omega) (by omega) (fun j a c d => ?_)
                by_cases hjb : j = b
                · subst hjb
                  refine ⟨hg, fun sl s0 s1 => ?_⟩
                  rw [ebn, ecb, ht]
                  exact g2 hg sl s0 s1
                · have hjm := hj2 j a (by omega) d
                  obtain ⟨q1, q2⟩ := hj j a hjm d
                  refine ⟨q1, fun sl s0 s1 => ?_⟩
                  have hcj := cnb_lt (p := chH z mv) (a := j) (n := m) a hjm d
                  have := cnb_nn (chH z mv) j.toNat
                  rw [g1 _ (by omega) (by omega) sl s0]
                  exact q2 sl s0 s1
              · have hg : ¬ gOk z b (yn y) := b2_0.mp (Classical.not_not.mp h5)
                exact fin0 _ _ _ _ (by omega) (fun q => hg (q.2.2 b (by omega) (by omega) (by rw [show mvZ z (yn y) = mv from hmv]; exact hpb))) 105 (by omega)
          · omega
        · have h3 : ¬ z 27 b = 1 := h3
          have hpb : chH z mv b = false := chH_f.mpr (fun q => h3 q.2)
          have hcs : cnb (chH z mv) (b + 1) = cnb (chH z mv) b := cnb_cut (by omega) (fun j a c => by rw [show j = b by omega]; exact hpb)
          refine r_if_ne 78 d_X_sorted_72 (by decide) (by unfold i32; omega) (fun hx => ?_) (fun hx => ?_)
          · omega
          · refine r_goto 117 d_X_sorted_75 (by decide) ?_
            refine nx _ _ (by omega) hc2 (fun j a c d => ?_)
            by_cases hjb : j = b
            · subst hjb; rw [hpb] at d; cases d
            · exact hj j a (hj2 j a (by omega) d) d
  -- between the loops
  have mid : ∀ (m : Nat) lv, m ≤ yn y → cnb (chH z (-1)) m ≤ 1 → (∀ j : Int, m ≤ j → j < yn y → z 7 j ≠ -1) → WP (mth G l q_X_sorted 1 0 0 (xW G y z) sz Q) 0 0 (xW G y (sset z 0 2 (lsb (chH z (-1)) m))) 47 [some (.ref (yc y 0)), lv] [] := by
    intro m lv hm hc hno
    have el : lsb (chH z (-1)) (yn y) = lsb (chH z (-1)) m := lsb_cut hm (fun j a b => chH_f.mpr (fun q => hno j a b q.1))
    have ec : cnb (chH z (-1)) (yn y) = cnb (chH z (-1)) m := cnb_cut hm (fun j a b => chH_f.mpr (fun q => hno j a b q.1))
    rw [← el, hmv, e03]
    refine r_aload_n d_X_sorted_47 rfl rfl ?_
    refine r_get d_X_sorted_48 fl_X_192_0 0 rfl rfl ?_
    show WP _ _ _ _ _ _ (va_rf (rN (yo y) mv) :: _)
    refine r_ifnonnull (r := rN (yo y) mv) 56 d_X_sorted_51 (by decide) (fun q => ?_) (fun a q => ?_)
    · have hm1 := rN_none.mp q
      exact fin0 (yt y) _ _ _ (by omega) (fun q => by
        have q1 := q.1
        have := cnb_0 (p := chH z (-1)) (n := yn y)
        rw [hmv] at this
        have := this.mpr (by omega)
        omega) 54 (by omega)
    · have hm0 : 0 ≤ mv := Classical.byContradiction fun h => by rw [rN_none.mpr (by omega)] at q; cases q
      have hmb : -1 ≤ mv ∧ mv < yn y := by omega
      have hm3 := (chH_t.mp (mb.resolve_left (by omega)).2.2).2
      have hcn := cnb_0 (p := chH z (-1)) (n := yn y)
      rw [hmv] at hcn
      have hc1 : cnb (chH z (-1)) (yn y) = 1 := by
        have := cnb_nn (chH z (-1)) (yn y)
        have : ¬ cnb (chH z (-1)) (yn y) = 0 := fun q => by have := hcn.mp q; omega
        omega
      refine r_aload_n d_X_sorted_56 rfl rfl ?_
      refine r_get d_X_sorted_57 fl_X_192_0 0 rfl rfl ?_
      show WP _ _ _ _ _ _ (va_rf (rN (yo y) mv) :: _)
      rw [rN_nn hm0]
      refine r_getX d_X_sorted_60 fl_X_219_1 (mv) hmb hm3 rfl ?_
      show WP _ _ _ _ _ _ (va_rf (rN (yo y) (z 24 mv)) :: _)
      rw [(hB.1.1 mv hmb.1 hmb.2).1]
      refine r_astore_n d_X_sorted_63 (Nat.le_of_ble_eq_true rfl) rfl (isRf_rf _) ?_
      show WP _ _ _ _ _ [_, _] _
      have := lp2 hc1 hm0 (yn y) 0 (yt y) (by omega) (by omega) (by show (0 : Int) ≤ 2; omega) (fun j a b => by omega)
      exact this
  have lp1 : ∀ (F m : Nat), yn y - m ≤ F → m ≤ yn y → cnb (chH z (-1)) m ≤ 1 → WP (mth G l q_X_sorted 1 0 0 (xW G y z) sz Q) 0 0 (xW G y (sset z 0 2 (lsb (chH z (-1)) m))) 8 [some (.ref (yc y 0)), some (va_rf (rN (yo y) (nxt (z 7) (-1) (yn y - m) m)))] [] := by
    intro F
    induction F with
    | zero =>
      intro m hF hm hc
      rw [show yn y - m = 0 by omega]
      refine r_aload_n d_X_sorted_8 rfl (isRf_rf _) ?_
      refine r_ifnull 47 d_X_sorted_9 (by decide) (fun hn => ?_) (fun hna hn => ?_)
      · exact mid m _ hm hc (fun j a b => by omega)
      · cases hn
    | succ F ih =>
      intro m hF hm hc
      rcases nxt_step (z := z) (h := -1) hm with ⟨e, hno⟩ | ⟨b, e, b1, b2, b3, b4⟩
      · rw [e]
        refine r_aload_n d_X_sorted_8 rfl (isRf_rf _) ?_
        refine r_ifnull 47 d_X_sorted_9 (by decide) (fun hn => ?_) (fun hna hn => ?_)
        · exact mid m _ hm hc hno
        · cases hn
      · rw [e, rN_nn (by omega)]
        have ecb : cnb (chH z (-1)) b = cnb (chH z (-1)) m := cnb_cut b1 (fun j a c => chH_f.mpr (fun q => b4 j a c q.1))
        have elb : lsb (chH z (-1)) b = lsb (chH z (-1)) m := lsb_cut b1 (fun j a c => chH_f.mpr (fun q => b4 j a c q.1))
        have hkb : -1 ≤ (b : Int) ∧ (b : Int) < yn y := by omega
        have hcb := bI_cl hB hkb.1 hkb.2
        have nx : ∀ x : Int, x = lsb (chH z (-1)) (b + 1) → cnb (chH z (-1)) (b + 1) ≤ 1 → WP (mth G l q_X_sorted 1 0 0 (xW G y z) sz Q) 0 0 (xW G y (sset z 0 2 x)) 39 [some (.ref (yc y 0)), some (.ref (yo y b))] [] := by
          intro x ex hc3
          subst ex
          refine r_aload_n d_X_sorted_39 rfl rfl ?_
          refine r_getB d_X_sorted_40 fb_X_223 ((b : Int)) hkb hcb rfl ?_
          show WP _ _ _ _ _ _ (va_rf (rN (yo y) (z 23 b)) :: _)
          rw [bI_next hB b2, b3]
          refine r_astore_n d_X_sorted_43 (Nat.le_of_ble_eq_true rfl) rfl (isRf_rf _) ?_
          show WP _ _ _ _ _ [_, _] _
          refine r_goto 8 d_X_sorted_44 (by decide) ?_
          exact ih (b + 1) (by omega) (by omega) hc3
        refine r_aload_n d_X_sorted_8 rfl rfl ?_
        refine r_ifnull (r := some (yo y b)) 47 d_X_sorted_9 (by decide) (fun q => by cases q) (fun _ _ => ?_)
        refine r_aload_n d_X_sorted_12 rfl rfl ?_
        refine r_instH d_X_sorted_13 w_29 b hkb hcb (fun h3 => ?_) (fun h3 => ?_)
        · have h3 : z 27 b = 1 := h3
          have hpb : chH z (-1) b = true := chH_t.mpr ⟨b3, h3⟩
          have hcs := cnb_s hpb
          have hls := lsb_s hpb
          refine r_if_ne 22 d_X_sorted_16 (by decide) (by unfold i32; omega) (fun hx => ?_) (fun hx => ?_)
          · refine r_aload_n d_X_sorted_22 rfl rfl ?_
            refine r_get d_X_sorted_23 fl_X_192_0 0 rfl rfl ?_
            show WP _ _ _ _ _ _ (va_rf (rN (yo y) (lsb (chH z (-1)) m)) :: _)
            refine r_ifnull 31 d_X_sorted_26 (by decide) (fun hn => ?_) (fun hna hn => ?_)
            · have hl := rN_none.mp hn
              have hlb := lsb_b (chH z (-1)) m
              have hc0 := cnb_0.mpr (show lsb (chH z (-1)) m = -1 by omega)
              refine r_aload_n d_X_sorted_31 rfl rfl ?_
              refine r_aload_n d_X_sorted_32 rfl rfl ?_
              refine r_castH d_X_sorted_33 w_29 b hkb h3 ?_
              refine r_put _ d_X_sorted_36 fl_X_192_0 0 rfl rfl rfl (Nat.le_of_ble_eq_true rfl) (xwp_movieN (by omega)) ?_
              rw [sset_sset]
              exact nx _ hls.symm (by omega)
            · have hl : 0 ≤ lsb (chH z (-1)) m := Classical.byContradiction fun h => by rw [rN_none.mpr (by omega)] at hn; cases hn
              rw [e03]
              have hlb := lsb_b (chH z (-1)) m
              have hcl := cnb_lt (p := chH z (-1)) (a := (b : Int)) (n := yn y) (by omega) (by omega) hpb
              rw [show ((b : Int)).toNat = b by omega] at hcl
              have hc0 := cnb_0 (p := chH z (-1)) (n := m)
              have hcn := cnb_nn (chH z (-1)) m
              have : ¬ cnb (chH z (-1)) m = 0 := fun q => by have := hc0.mp q; omega
              exact fin0 (yt y) _ _ _ (by omega) (fun q => by have := q.1; omega) 29 (by omega)
          · omega
        · have h3 : ¬ z 27 b = 1 := h3
          have hpb : chH z (-1) b = false := chH_f.mpr (fun q => h3 q.2)
          refine r_if_ne 22 d_X_sorted_16 (by decide) (by unfold i32; omega) (fun hx => ?_) (fun hx => ?_)
          · omega
          · refine r_goto 39 d_X_sorted_19 (by decide) ?_
            refine nx _ ?_ ?_
            · rw [lsb_cut (m := b) (n := b + 1) (by omega) (fun j a c => by rw [show j = b by omega]; exact hpb), elb]
            · rw [cnb_cut (m := b) (n := b + 1) (by omega) (fun j a c => by rw [show j = b by omega]; exact hpb), ecb]; exact hc
  refine r_aload_n d_X_sorted_0 rfl rfl ?_
  refine r_get d_X_sorted_1 fl_X_19_0 0 rfl rfl ?_
  refine r_getX d_X_sorted_4 fl_X_219_1 (-1) ⟨by omega, by omega⟩ hB.2.1 rfl ?_
  show WP _ _ _ _ _ _ (va_rf (rN (yo y) (z 24 (-1))) :: _)
  rw [(hB.1.1 (-1) (by omega) (by omega)).1]
  refine r_astore_n d_X_sorted_7 (Nat.le_of_ble_eq_true rfl) rfl (isRf_rf _) ?_
  show WP _ _ _ _ _ [_, _] _
  have e0 : sset z 0 2 (lsb (chH z (-1)) 0) = z := by
    show sset z 0 2 (-1) = z
    rw [← h02, sset_self]
  have := lp1 (yn y) 0 (by omega) (by omega) (by show (0 : Int) ≤ 1; omega)
  rw [e0] at this
  exact this
end XSORTED
