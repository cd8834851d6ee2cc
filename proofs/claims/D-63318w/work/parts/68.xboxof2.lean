abbrev q_X_boxOf : Mi := (⟨"MovieBoxes", "boxOf", "(LMovieBoxes$Kind;)LMovieBoxes$Box;"⟩, prog_1_method_10_code, 4, (some (.object "MovieBoxes$Box")))
theorem d_X_boxOf_0 : decode prog_1_method_10_code 0 = .ok (.aload_n 1, 1) := by decide +kernel
theorem d_X_boxOf_1 : decode prog_1_method_10_code 1 = .ok (.invokestatic 116, 3) := by decide +kernel
set_option maxRecDepth 20000 in
theorem w_295 : Cond.methodLink "MovieBoxes" 116 ⟨"MovieBoxes", "classOf", "(LMovieBoxes$Kind;)I"⟩ ∈ gt := gt_of (in_t2 (List.mem_of_getElem? (i := 55) rfl)) rfl
set_option maxRecDepth 20000 in
theorem w_296 : Cond.static ⟨"MovieBoxes", "classOf", "(LMovieBoxes$Kind;)I"⟩ ∈ gt := gt_of (in_t2 (List.mem_of_getElem? (i := 56) rfl)) rfl
set_option maxRecDepth 20000 in
theorem w_1 : Cond.initialized "MovieBoxes" ∈ gt := gt_of (in_t1 (List.mem_of_getElem? (i := 1) rfl)) rfl
set_option maxRecDepth 20000 in
theorem w_297 : Cond.code ⟨"MovieBoxes", "classOf", "(LMovieBoxes$Kind;)I"⟩ prog_1_method_8_code 1 (some .int) ∈ gt := gt_of (in_t2 (List.mem_of_getElem? (i := 57) rfl)) rfl
theorem lk_X_116 : LkS "MovieBoxes" 116 q_X_classOf 1 := ⟨(List.forall_mem_cons.mpr ⟨w_295, (List.forall_mem_cons.mpr ⟨w_296, (List.forall_mem_cons.mpr ⟨w_1, (fun _ h => absurd h List.not_mem_nil)⟩)⟩)⟩), w_297, by decide +kernel⟩
theorem d_X_boxOf_4 : decode prog_1_method_10_code 4 = .ok (.istore_n 2, 1) := by decide +kernel
theorem d_X_boxOf_5 : decode prog_1_method_10_code 5 = .ok (.bipush 20, 2) := by decide +kernel
theorem d_X_boxOf_7 : decode prog_1_method_10_code 7 = .ok (.iload_n 2, 1) := by decide +kernel
theorem d_X_boxOf_8 : decode prog_1_method_10_code 8 = .ok (.imul, 1) := by decide +kernel
theorem d_X_boxOf_9 : decode prog_1_method_10_code 9 = .ok (.aload_n 0, 1) := by decide +kernel
theorem d_X_boxOf_10 : decode prog_1_method_10_code 10 = .ok (.getfield 36, 3) := by decide +kernel
set_option maxRecDepth 20000 in
theorem w_171 : Cond.fieldLink "MovieBoxes" 36 "MovieBoxes" "used" "[I" ∈ gt := gt_of (in_t1 (List.mem_of_getElem? (i := 171) rfl)) rfl
theorem fl_X_36_0 : FL "MovieBoxes" 36 0 9 true := ⟨_, _, _, "MovieBoxes", rfl, by decide, rfl, Or.inl w_171, Or.inl rfl⟩
theorem d_X_boxOf_13 : decode prog_1_method_10_code 13 = .ok (.iload_n 2, 1) := by decide +kernel
theorem d_X_boxOf_14 : decode prog_1_method_10_code 14 = .ok (.dup2, 1) := by decide +kernel
theorem d_X_boxOf_15 : decode prog_1_method_10_code 15 = .ok (.iaload, 1) := by decide +kernel
theorem d_X_boxOf_16 : decode prog_1_method_10_code 16 = .ok (.dup_x2, 1) := by decide +kernel
theorem d_X_boxOf_17 : decode prog_1_method_10_code 17 = .ok (.iconst 1, 1) := by decide +kernel
theorem d_X_boxOf_18 : decode prog_1_method_10_code 18 = .ok (.iadd, 1) := by decide +kernel
theorem d_X_boxOf_19 : decode prog_1_method_10_code 19 = .ok (.iastore, 1) := by decide +kernel
theorem d_X_boxOf_20 : decode prog_1_method_10_code 20 = .ok (.iadd, 1) := by decide +kernel
theorem d_X_boxOf_21 : decode prog_1_method_10_code 21 = .ok (.istore_n 3, 1) := by decide +kernel
theorem d_X_boxOf_41 : decode prog_1_method_10_code 41 = .ok (.aload_n 0, 1) := by decide +kernel
theorem d_X_boxOf_42 : decode prog_1_method_10_code 42 = .ok (.getfield 32, 3) := by decide +kernel
set_option maxRecDepth 20000 in
theorem w_170 : Cond.fieldLink "MovieBoxes" 32 "MovieBoxes" "kept" "[LMovieBoxes$Box;" ∈ gt := gt_of (in_t1 (List.mem_of_getElem? (i := 170) rfl)) rfl
theorem fl_X_32_0 : FL "MovieBoxes" 32 0 8 true := ⟨_, _, _, "MovieBoxes", rfl, by decide, rfl, Or.inl w_170, Or.inl rfl⟩
theorem d_X_boxOf_45 : decode prog_1_method_10_code 45 = .ok (.iload_n 3, 1) := by decide +kernel
theorem d_X_boxOf_46 : decode prog_1_method_10_code 46 = .ok (.aaload, 1) := by decide +kernel
theorem d_X_boxOf_47 : decode prog_1_method_10_code 47 = .ok (.aload_n 1, 1) := by decide +kernel
theorem d_X_boxOf_51 : decode prog_1_method_10_code 51 = .ok (.aload_n 0, 1) := by decide +kernel
theorem d_X_boxOf_52 : decode prog_1_method_10_code 52 = .ok (.getfield 32, 3) := by decide +kernel
theorem d_X_boxOf_55 : decode prog_1_method_10_code 55 = .ok (.iload_n 3, 1) := by decide +kernel
theorem d_X_boxOf_56 : decode prog_1_method_10_code 56 = .ok (.aaload, 1) := by decide +kernel
theorem d_X_boxOf_57 : decode prog_1_method_10_code 57 = .ok (.areturn, 1) := by decide +kernel
theorem d_X_boxOf_48 : decode prog_1_method_10_code 48 = .ok (.invokevirtual 124, 3) := by decide +kernel
set_option maxRecDepth 20000 in
theorem w_399 : Cond.methodLink "MovieBoxes" 124 ⟨"MovieBoxes$Box", "reset", "(LMovieBoxes$Kind;)V"⟩ ∈ gt := gt_of (in_t2 (List.mem_of_getElem? (i := 159) rfl)) rfl
set_option maxRecDepth 20000 in
theorem w_967 : Cond.selects "MovieBoxes$Holder" ⟨"MovieBoxes$Box", "reset", "(LMovieBoxes$Kind;)V"⟩ ⟨"MovieBoxes$Holder", "reset", "(LMovieBoxes$Kind;)V"⟩ ∈ gt := gt_of (in_t5 (List.mem_of_getElem? (i := 7) rfl)) rfl
set_option maxRecDepth 20000 in
theorem w_237 : Cond.instanceMethod ⟨"MovieBoxes$Holder", "reset", "(LMovieBoxes$Kind;)V"⟩ ∈ gt := gt_of (in_t1 (List.mem_of_getElem? (i := 237) rfl)) rfl
set_option maxRecDepth 20000 in
theorem nw_404 : Cond.declares ⟨"MovieBoxes$Box", "reset", "(LMovieBoxes$Kind;)V"⟩ ∈ nwl := nw_of (in_t2 (List.mem_of_getElem? (i := 164) rfl)) rfl
set_option maxRecDepth 20000 in
theorem w_239 : Cond.code ⟨"MovieBoxes$Holder", "reset", "(LMovieBoxes$Kind;)V"⟩ prog_3_method_2_code 2 (none : Option Jvm.ClassFile.FieldType) ∈ gt := gt_of (in_t1 (List.mem_of_getElem? (i := 239) rfl)) rfl
theorem lu_X_124_H : LkU "MovieBoxes" 124 "MovieBoxes$Holder" "MovieBoxes$Box" ⟨"MovieBoxes$Box", "reset", "(LMovieBoxes$Kind;)V"⟩ q_H_reset 1 := ⟨(List.forall_mem_cons.mpr ⟨w_399, (List.forall_mem_cons.mpr ⟨w_966, (List.forall_mem_cons.mpr ⟨w_967, (List.forall_mem_cons.mpr ⟨w_237, (List.forall_mem_cons.mpr ⟨w_3, (fun _ h => absurd h List.not_mem_nil)⟩)⟩)⟩)⟩)⟩), w_239, Or.inl nw_404, by decide +kernel⟩
set_option maxRecDepth 20000 in
theorem w_969 : Cond.selects "MovieBoxes$PlaceTable" ⟨"MovieBoxes$Box", "reset", "(LMovieBoxes$Kind;)V"⟩ ⟨"MovieBoxes$PlaceTable", "reset", "(LMovieBoxes$Kind;)V"⟩ ∈ gt := gt_of (in_t5 (List.mem_of_getElem? (i := 9) rfl)) rfl
set_option maxRecDepth 20000 in
theorem w_400 : Cond.instanceMethod ⟨"MovieBoxes$PlaceTable", "reset", "(LMovieBoxes$Kind;)V"⟩ ∈ gt := gt_of (in_t2 (List.mem_of_getElem? (i := 160) rfl)) rfl
set_option maxRecDepth 20000 in
theorem w_401 : Cond.code ⟨"MovieBoxes$PlaceTable", "reset", "(LMovieBoxes$Kind;)V"⟩ prog_6_method_2_code 2 (none : Option Jvm.ClassFile.FieldType) ∈ gt := gt_of (in_t2 (List.mem_of_getElem? (i := 161) rfl)) rfl
theorem lu_X_124_P : LkU "MovieBoxes" 124 "MovieBoxes$PlaceTable" "MovieBoxes$Box" ⟨"MovieBoxes$Box", "reset", "(LMovieBoxes$Kind;)V"⟩ q_P_reset 1 := ⟨(List.forall_mem_cons.mpr ⟨w_399, (List.forall_mem_cons.mpr ⟨w_966, (List.forall_mem_cons.mpr ⟨w_969, (List.forall_mem_cons.mpr ⟨w_400, (List.forall_mem_cons.mpr ⟨w_13, (fun _ h => absurd h List.not_mem_nil)⟩)⟩)⟩)⟩)⟩), w_401, Or.inl nw_404, by decide +kernel⟩
set_option maxRecDepth 20000 in
theorem w_970 : Cond.selects "MovieBoxes$SizeTable" ⟨"MovieBoxes$Box", "reset", "(LMovieBoxes$Kind;)V"⟩ ⟨"MovieBoxes$Box", "reset", "(LMovieBoxes$Kind;)V"⟩ ∈ gt := gt_of (in_t5 (List.mem_of_getElem? (i := 10) rfl)) rfl
theorem lu_X_124_S : LkU "MovieBoxes" 124 "MovieBoxes$SizeTable" "MovieBoxes$Box" ⟨"MovieBoxes$Box", "reset", "(LMovieBoxes$Kind;)V"⟩ q_B_reset 1 := ⟨(List.forall_mem_cons.mpr ⟨w_399, (List.forall_mem_cons.mpr ⟨w_966, (List.forall_mem_cons.mpr ⟨w_970, (List.forall_mem_cons.mpr ⟨w_241, (List.forall_mem_cons.mpr ⟨w_2, (fun _ h => absurd h List.not_mem_nil)⟩)⟩)⟩)⟩)⟩), w_242, Or.inl nw_404, by decide +kernel⟩
set_option maxRecDepth 20000 in
theorem w_971 : Cond.selects "MovieBoxes$Table" ⟨"MovieBoxes$Box", "reset", "(LMovieBoxes$Kind;)V"⟩ ⟨"MovieBoxes$Box", "reset", "(LMovieBoxes$Kind;)V"⟩ ∈ gt := gt_of (in_t5 (List.mem_of_getElem? (i := 11) rfl)) rfl
theorem lu_X_124_T : LkU "MovieBoxes" 124 "MovieBoxes$Table" "MovieBoxes$Box" ⟨"MovieBoxes$Box", "reset", "(LMovieBoxes$Kind;)V"⟩ q_B_reset 1 := ⟨(List.forall_mem_cons.mpr ⟨w_399, (List.forall_mem_cons.mpr ⟨w_966, (List.forall_mem_cons.mpr ⟨w_971, (List.forall_mem_cons.mpr ⟨w_241, (List.forall_mem_cons.mpr ⟨w_2, (fun _ h => absurd h List.not_mem_nil)⟩)⟩)⟩)⟩)⟩), w_242, Or.inl nw_404, by decide +kernel⟩
set_option maxRecDepth 20000 in
theorem w_968 : Cond.selects "MovieBoxes$Leaf" ⟨"MovieBoxes$Box", "reset", "(LMovieBoxes$Kind;)V"⟩ ⟨"MovieBoxes$Box", "reset", "(LMovieBoxes$Kind;)V"⟩ ∈ gt := gt_of (in_t5 (List.mem_of_getElem? (i := 8) rfl)) rfl
theorem lu_X_124_L : LkU "MovieBoxes" 124 "MovieBoxes$Leaf" "MovieBoxes$Box" ⟨"MovieBoxes$Box", "reset", "(LMovieBoxes$Kind;)V"⟩ q_B_reset 1 := ⟨(List.forall_mem_cons.mpr ⟨w_399, (List.forall_mem_cons.mpr ⟨w_966, (List.forall_mem_cons.mpr ⟨w_968, (List.forall_mem_cons.mpr ⟨w_241, (List.forall_mem_cons.mpr ⟨w_2, (fun _ h => absurd h List.not_mem_nil)⟩)⟩)⟩)⟩)⟩), w_242, Or.inl nw_404, by decide +kernel⟩
theorem d_X_boxOf_22 : decode prog_1_method_10_code 22 = .ok (.aload_n 0, 1) := by decide +kernel
theorem d_X_boxOf_23 : decode prog_1_method_10_code 23 = .ok (.getfield 32, 3) := by decide +kernel
theorem d_X_boxOf_26 : decode prog_1_method_10_code 26 = .ok (.iload_n 3, 1) := by decide +kernel
theorem d_X_boxOf_27 : decode prog_1_method_10_code 27 = .ok (.aaload, 1) := by decide +kernel
theorem d_X_boxOf_28 : decode prog_1_method_10_code 28 = .ok (.ifnonnull 13, 3) := by decide +kernel
theorem d_X_boxOf_31 : decode prog_1_method_10_code 31 = .ok (.aload_n 0, 1) := by decide +kernel
theorem d_X_boxOf_32 : decode prog_1_method_10_code 32 = .ok (.getfield 32, 3) := by decide +kernel
theorem d_X_boxOf_35 : decode prog_1_method_10_code 35 = .ok (.iload_n 3, 1) := by decide +kernel
theorem d_X_boxOf_36 : decode prog_1_method_10_code 36 = .ok (.iload_n 2, 1) := by decide +kernel
theorem d_X_boxOf_37 : decode prog_1_method_10_code 37 = .ok (.invokestatic 120, 3) := by decide +kernel
set_option maxRecDepth 20000 in
theorem w_304 : Cond.methodLink "MovieBoxes" 120 ⟨"MovieBoxes", "newBox", "(I)LMovieBoxes$Box;"⟩ ∈ gt := gt_of (in_t2 (List.mem_of_getElem? (i := 64) rfl)) rfl
set_option maxRecDepth 20000 in
theorem w_305 : Cond.static ⟨"MovieBoxes", "newBox", "(I)LMovieBoxes$Box;"⟩ ∈ gt := gt_of (in_t2 (List.mem_of_getElem? (i := 65) rfl)) rfl
set_option maxRecDepth 20000 in
theorem w_306 : Cond.code ⟨"MovieBoxes", "newBox", "(I)LMovieBoxes$Box;"⟩ prog_1_method_9_code 1 (some (.object "MovieBoxes$Box")) ∈ gt := gt_of (in_t2 (List.mem_of_getElem? (i := 66) rfl)) rfl
theorem lk_X_120 : LkS "MovieBoxes" 120 q_X_newBox 1 := ⟨(List.forall_mem_cons.mpr ⟨w_304, (List.forall_mem_cons.mpr ⟨w_305, (List.forall_mem_cons.mpr ⟨w_1, (fun _ h => absurd h List.not_mem_nil)⟩)⟩)⟩), w_306, by decide +kernel⟩
theorem d_X_boxOf_40 : decode prog_1_method_10_code 40 = .ok (.aastore, 1) := by decide +kernel
/-! ===== the component: boxOf, its contract ===== -/
/-- a box not in use, of class c, at address a -/
def gBox (G : gG) (a c : Nat) (e : Nat × va_E) : Prop := ∃ (oo : Int → Nat) (zz : mS) (kk : Int), e = (a, .inr (c, bF G oo zz kk c))
/-- what kept holds -/
def kI (G : gG) (y : xP) (z : mS) : Prop :=
  (∀ k : Int, 0 ≤ k → k ≤ 4 → 0 ≤ z 21 k ∧ z 21 k ≤ yn y) ∧
  (∀ (u : Int) (a : Nat), 0 ≤ u → u < 100 → yk y u = some a → (∃ e ∈ yR y, gBox G a (clN (u / 20)).toNat e) ∨ ((∃ j : Int, 0 ≤ j ∧ j < yn y ∧ a = yo y j ∧ z 27 j = clN (u / 20)) ∧ u % 20 < z 21 (u / 20))) ∧
  (∀ (u v : Int) (a : Nat), 0 ≤ u → u < 100 → 0 ≤ v → v < 100 → yk y u = some a → yk y v = some a → u = v)
theorem clO_b {o : Int} (h : 0 ≤ o) : 0 ≤ clO o ∧ clO o ≤ 4 := by unfold clO; repeat' split; all_goals omega
theorem clN_b (k : Int) : 1 ≤ clN k ∧ clN k ≤ 5 := by unfold clN; repeat' split; all_goals omega
theorem xw_R {G : gG} {y : xP} {z : mS} {i : Nat} {e : Nat × va_E} (h : (yR y)[i]? = some e) : (xW G y z)[13 + yn y + i]? = some e := by
  rw [show 13 + yn y + i = (yn y + 1 + i) + 12 by omega]
  show (xB G (yo y) z (yn y) ++ (yR y ++ yE y))[yn y + 1 + i]? = some e
  rw [List.getElem?_append_right (by rw [xB_len]; omega), xB_len, Nat.add_sub_cancel_left]
  exact app_l h
theorem xw_Rset {G : gG} {y : xP} {z : mS} {i : Nat} {e e' : Nat × va_E} (h : (yR y)[i]? = some e) : (xW G y z).set (13 + yn y + i) e' = xH G y z ++ (xB G (yo y) z (yn y) ++ ((yR y).set i e' ++ yE y)) := by
  rw [show 13 + yn y + i = (yn y + 1 + i) + 12 by omega]
  show xH G y z ++ (xB G (yo y) z (yn y) ++ (yR y ++ yE y)).set (yn y + 1 + i) e' = _
  rw [List.set_append_right _ _ (by rw [xB_len]; omega), xB_len, Nat.add_sub_cancel_left, set_l h]
theorem xw_mem {G : gG} {y : xP} {z : mS} {e : Nat × va_E} (h : e ∈ yR y) : e.1 ∈ (xW G y z).map Prod.fst := by
  rw [xW_eq]
  exact List.mem_map.mpr ⟨e, List.mem_append_right _ (List.mem_append_right _ (List.mem_append_left _ h)), rfl⟩
theorem xw_memB {G : gG} {y : xP} {z : mS} {j : Int} (h : -1 ≤ j ∧ j < yn y) : yo y j ∈ (xW G y z).map Prod.fst :=
  List.mem_map.mpr ⟨_, List.mem_of_getElem? (xw_b h), rfl⟩
/-- a kept box lies in the world -/
theorem kI_in {G : gG} {y : xP} {z z' : mS} (hK : kI G y z) {u : Int} {a : Nat} (h0 : 0 ≤ u) (h1 : u < 100) (h : yk y u = some a) : a ∈ (xW G y z').map Prod.fst := by
  rcases hK.2.1 u a h0 h1 h with ⟨e, he, oo, zz, kk, rfl⟩ | ⟨⟨j, j0, j1, rfl, -⟩, -⟩
  · exact xw_mem he
  · exact xw_memB (by omega)
theorem kI_app {G : gG} {y : xP} {z : mS} (hK : kI G y z) {k : Int} (hk : 0 ≤ k ∧ k ≤ 4) {u : Int} (hu : 0 ≤ u ∧ u < 100 ∧ u / 20 = k ∧ u % 20 = z 21 k) {a : Nat} {kp : Int → Option Nat} {R : va_W} {w : mS} (hu2 : kp u = some a) (hkp : ∀ v, v ≠ u → kp v = yk y v) (hR : ∀ v a', 0 ≤ v → v < 100 → v ≠ u → yk y v = some a' → ∀ e ∈ yR y, gBox G a' (clN (v / 20)).toNat e → e ∈ R) (hne : ∀ v, 0 ≤ v → v < 100 → v ≠ u → yk y v ≠ some a) : kI G (yA y a kp R) (zA (sset z 21 k (z 21 k + 1)) (yn y) (clN k) w) := by
  have e21 : ∀ j, zA (sset z 21 k (z 21 k + 1)) (yn y) (clN k) w 21 j = if j = k then z 21 k + 1 else z 21 j := fun j => by
    rw [zA_no (Or.inr rfl), sset_at, if_pos rfl, updI_at]
  have hkk := hK.1 k hk.1 hk.2
  refine ⟨fun j j0 j1 => ?_, fun v a' v0 v1 hv => ?_, fun v v' a' v0 v1 v2 v3 hv hv' => ?_⟩
  · have := hK.1 j j0 j1
    rw [e21 j]
    show _ ∧ _ ≤ ((yn y + 1 : Nat) : Int)
    split <;> omega
  · by_cases h : v = u
    · subst h
      have ha : a = a' := by have := hu2.symm.trans hv; exact Option.some.inj this
      subst ha
      refine Or.inr ⟨⟨yn y, by omega, ?_, ?_, ?_⟩, ?_⟩
      · show ((yn y : Nat) : Int) < ((yn y + 1 : Nat) : Int); omega
      · show a = updI (yo y) (yn y) a (yn y); rw [updI_at, if_pos rfl]
      · rw [hu.2.2.1]; unfold zA; rw [if_pos ⟨rfl, rfl⟩, if_pos rfl]
      · rw [e21, hu.2.2.1, if_pos rfl]; omega
    · have hv0 : yk y v = some a' := by rw [← hkp v h]; exact hv
      rcases hK.2.1 v a' v0 v1 hv0 with ⟨e, he, hg⟩ | ⟨⟨j, j0, j1, j2, j3⟩, j4⟩
      · exact Or.inl ⟨e, hR v a' v0 v1 h hv0 e he hg, hg⟩
      · refine Or.inr ⟨⟨j, j0, ?_, ?_, ?_⟩, ?_⟩
        · show j < ((yn y + 1 : Nat) : Int); omega
        · show a' = updI (yo y) (yn y) a j; rw [updI_at, if_neg (by omega)]; exact j2
        · rw [zA_no (Or.inl (by omega)), sset_ne (by omega)]; exact j3
        · rw [e21]
          by_cases hh : v / 20 = k
          · rw [if_pos hh]; rw [hh] at j4; omega
          · rw [if_neg hh]; exact j4
  · by_cases h : v = u
    · subst h
      by_cases h' : v' = v
      · exact h'.symm
      · have ha : a = a' := by have := hu2.symm.trans hv; exact Option.some.inj this
        subst ha
        exact absurd (by rw [← hkp v' h']; exact hv') (hne v' v2 v3 h')
    · by_cases h' : v' = u
      · subst h'
        have ha : a = a' := by have := hu2.symm.trans hv'; exact Option.some.inj this
        subst ha
        exact absurd (by rw [← hkp v h]; exact hv) (hne v v0 v1 h)
      · exact hK.2.2 v v' a' v0 v1 v2 v3 (by rw [← hkp v h]; exact hv) (by rw [← hkp v' h']; exact hv')
section XBOXOF
variable (G : gG) (l : Launch) (y : xP)
theorem c_X_boxOf (z : mS) (o : Nat) (ho : o < 12) (hK : kI G y z) (hn : yn y ≤ 19) (ht : trB z (yn y)) : Ct G l q_X_boxOf 6 1 14 [.ref (yc y 0), .ref (gE G o)] (xW G y z) (fun r w => ∃ (b : Nat) (kp : Int → Option Nat) (R : va_W) (zz : mS) (kk : Int), r = some (Value.ref b) ∧ w = xW G (yA y b kp R) (zA (sset z 21 (clO o) (z 21 (clO o) + 1)) (yn y) (clN (clO o)) (zR zz kk o)) ∧ kI G (yA y b kp R) (zA (sset z 21 (clO o) (z 21 (clO o) + 1)) (yn y) (clN (clO o)) (zR zz kk o))) := by
  refine Ct.intro [some (.ref (yc y 0)), some (.ref (gE G o)), none, none] (by decide) (Nat.le_of_ble_eq_true rfl) rfl (fun sz => ?_)
  generalize hQ : (fun r w => ∃ (b : Nat) (kp : Int → Option Nat) (R : va_W) (zz : mS) (kk : Int), r = some (Value.ref b) ∧ w = xW G (yA y b kp R) (zA (sset z 21 (clO o) (z 21 (clO o) + 1)) (yn y) (clN (clO o)) (zR zz kk o)) ∧ kI G (yA y b kp R) (zA (sset z 21 (clO o) (z 21 (clO o) + 1)) (yn y) (clN (clO o)) (zR zz kk o))) = Q
  have hk := clO_b (o := (o : Int)) (by omega)
  obtain ⟨hu0, hu1⟩ := hK.1 _ hk.1 hk.2
  generalize hkd : clO (o : Int) = k at hk hu0 hu1 hQ ⊢
  have hc := clN_b k
  refine r_aload_n d_X_boxOf_0 rfl rfl ?_
  refine r_cS1 d_X_boxOf_1 lk_X_116 (c_X_classOf G l _ o ho) (Nat.le_of_ble_eq_true rfl) (rok rfl rfl) ⟨(Nat.le_of_ble_eq_true rfl), (Nat.le_of_ble_eq_true rfl)⟩ (fun r ws2 hq => ?_)
  obtain ⟨rfl, hw⟩ := hq; rw [hw]; clear hw
  show WP _ _ _ _ _ _ (_ :: _)
  rw [hkd]
  refine r_istore_n d_X_boxOf_4 (Nat.le_of_ble_eq_true rfl) rfl ?_
  show WP _ _ _ _ _ [_, _, _, _] _
  refine r_bipush d_X_boxOf_5 (by decide) ?_
  refine r_iload_n d_X_boxOf_7 rfl ?_
  refine r_imul d_X_boxOf_8 ?_
  refine r_aload_n d_X_boxOf_9 rfl rfl ?_
  refine r_get d_X_boxOf_10 fl_X_36_0 0 rfl rfl ?_
  refine r_iload_n d_X_boxOf_13 rfl ?_
  refine r_dup2 d_X_boxOf_14 rfl rfl ?_
  refine r_iald d_X_boxOf_15 5 rfl (by omega) ?_
  refine r_dup_x2 d_X_boxOf_16 rfl rfl rfl ?_
  refine r_iconst d_X_boxOf_17 ?_
  refine r_iadd d_X_boxOf_18 ?_
  refine r_iast _ d_X_boxOf_19 5 rfl (by omega) xw_5 ?_
  refine r_iadd d_X_boxOf_20 ?_
  refine r_istore_n d_X_boxOf_21 (Nat.le_of_ble_eq_true rfl) rfl ?_
  show WP _ _ _ _ _ [_, _, _, _] _
  -- now: at = 20 * k + used[k]
  have hu : 0 ≤ 20 * k + z 21 k ∧ 20 * k + z 21 k < 100 ∧ (20 * k + z 21 k) / 20 = k ∧ (20 * k + z 21 k) % 20 = z 21 k := by omega
  generalize hud : 20 * k + z 21 k = u at hu ⊢
  generalize hz1 : sset z 21 k (z 21 k + 1) = z1 at hQ ⊢
  have z1c : ∀ c, c ≠ 21 → z1 c = z c := fun c h => by rw [← hz1]; exact sset_ne h
  have ht1 : trB z1 (yn y) := by
    unfold trB
    rw [z1c 0 (by omega), z1c 23 (by omega), z1c 24 (by omega), z1c 25 (by omega)]
    exact ht
  have rst : ∀ (kc nc : Nat) (ws : va_W) (kp : Int → Option Nat) (R : va_W) (q a : Nat) (oo : Int → Nat) (zz : mS) (kk : Int), kc ≤ 1 → nc ≤ 14 → ws[0]? = some (yc y 0, .inr (0, xF y z1)) → ws[4]? = some (yc y 4, aQ G 2 100 kp) → kp u = some a → ws[q]? = some (a, .inr ((clN k).toNat, bF G oo zz kk (clN k).toNat)) → (ws.set q (a, .inr ((clN k).toNat, bF G (yo y) (zR zz kk o) (yn y) (clN k).toNat))).Perm (xW G (yA y a kp R) (zA z1 (yn y) (clN k) (zR zz kk o))) → kI G (yA y a kp R) (zA z1 (yn y) (clN k) (zR zz kk o)) → WP (mth G l q_X_boxOf 6 1 14 (xW G y z) sz Q) kc nc ws 41 [some (.ref (yc y 0)), some (.ref (gE G o)), some (vI k), some (vI u)] [] := by
    intro kc nc ws kp R q a oo zz kk h1 h2 h3 h4 h5 h6 h7 h8
    have q0 : q ≠ 0 := by
      rintro rfl
      rw [h3] at h6
      have := congrArg (fun e : Option (Nat × va_E) => match e with | some (_, .inr (c, _)) => c | _ => 0) h6
      simp only at this
      omega
    have q4 : q ≠ 4 := by
      rintro rfl
      rw [h4] at h6
      cases h6
    refine r_aload_n d_X_boxOf_41 rfl rfl ?_
    refine r_get d_X_boxOf_42 fl_X_32_0 0 h3 rfl ?_
    refine r_iload_n d_X_boxOf_45 rfl ?_
    refine r_aald d_X_boxOf_46 4 h4 rfl (by omega) ?_
    rw [h5]
    show WP _ _ _ _ _ _ (.ref a :: _)
    refine r_aload_n d_X_boxOf_47 rfl rfl ?_
    have fin : ∀ fs', fs' = bF G (yo y) (zR zz kk o) (yn y) (clN k).toNat → WP (mth G l q_X_boxOf 6 1 14 (xW G y z) sz Q) kc nc (ws.set q (a, .inr ((clN k).toNat, fs'))) 51 [some (.ref (yc y 0)), some (.ref (gE G o)), some (vI k), some (vI u)] [] := by
      intro fs' e
      subst e
      have h3' : (ws.set q (a, .inr ((clN k).toNat, bF G (yo y) (zR zz kk o) (yn y) (clN k).toNat)))[0]? = _ := set_no h3 q0
      have h4' : (ws.set q (a, .inr ((clN k).toNat, bF G (yo y) (zR zz kk o) (yn y) (clN k).toNat)))[4]? = _ := set_no h4 q4
      refine r_aload_n d_X_boxOf_51 rfl rfl ?_
      refine r_get d_X_boxOf_52 fl_X_32_0 0 h3' rfl ?_
      refine r_iload_n d_X_boxOf_55 rfl ?_
      refine r_aald d_X_boxOf_56 4 h4' rfl (by omega) ?_
      rw [h5]
      show WP _ _ _ _ _ _ [.ref a]
      refine wp_perm h7 ?_
      refine r_aret d_X_boxOf_57 rfl (Or.inl ⟨_, rfl⟩) rfl h1 h2 ?_
      rw [← hQ]; exact ⟨a, kp, R, zz, kk, rfl, rfl, h8⟩
    rcases (by omega : k = 0 ∨ k = 1 ∨ k = 2 ∨ k = 3 ∨ k = 4) with hk2 | hk2 | hk2 | hk2 | hk2
    · have e : (clN k).toNat = 1 := by rw [hk2]; rfl
      rw [e] at h6 fin
      refine r_kU1 d_X_boxOf_48 lu_X_124_H (c_H_reset G l ws q a o _ h6 (Nat.le_of_ble_eq_true rfl)) q rfl h6 (Nat.le_of_ble_eq_true rfl) (rok rfl rfl) ⟨h1, h2⟩ (fun r ws2 hq => ?_)
      obtain ⟨rfl, hw⟩ := hq; rw [hw]; clear hw
      show WP _ _ _ _ _ _ _
      exact fin _ rs_H
    · have e : (clN k).toNat = 4 := by rw [hk2]; rfl
      rw [e] at h6 fin
      refine r_kU1 d_X_boxOf_48 lu_X_124_P (c_P_reset G l ws q a o _ h6 (Nat.le_of_ble_eq_true rfl)) q rfl h6 (Nat.le_of_ble_eq_true rfl) (rok rfl rfl) ⟨h1, h2⟩ (fun r ws2 hq => ?_)
      obtain ⟨rfl, hw⟩ := hq; rw [hw]; clear hw
      show WP _ _ _ _ _ _ _
      exact fin _ rs_P
    · have e : (clN k).toNat = 5 := by rw [hk2]; rfl
      rw [e] at h6 fin
      refine r_kU1 d_X_boxOf_48 lu_X_124_S (c_B_reset G l ws q a 5 o _ h6 (by omega) (bF_len _ _ _ _ _)) q rfl h6 (Nat.le_of_ble_eq_true rfl) (rok rfl rfl) ⟨h1, h2⟩ (fun r ws2 hq => ?_)
      obtain ⟨rfl, hw⟩ := hq; rw [hw]; clear hw
      show WP _ _ _ _ _ _ _
      exact fin _ (rs_B (by omega))
    · have e : (clN k).toNat = 3 := by rw [hk2]; rfl
      rw [e] at h6 fin
      refine r_kU1 d_X_boxOf_48 lu_X_124_T (c_B_reset G l ws q a 3 o _ h6 (by omega) (bF_len _ _ _ _ _)) q rfl h6 (Nat.le_of_ble_eq_true rfl) (rok rfl rfl) ⟨h1, h2⟩ (fun r ws2 hq => ?_)
      obtain ⟨rfl, hw⟩ := hq; rw [hw]; clear hw
      show WP _ _ _ _ _ _ _
      exact fin _ (rs_B (by omega))
    · have e : (clN k).toNat = 2 := by rw [hk2]; rfl
      rw [e] at h6 fin
      refine r_kU1 d_X_boxOf_48 lu_X_124_L (c_B_reset G l ws q a 2 o _ h6 (by omega) (bF_len _ _ _ _ _)) q rfl h6 (Nat.le_of_ble_eq_true rfl) (rok rfl rfl) ⟨h1, h2⟩ (fun r ws2 hq => ?_)
      obtain ⟨rfl, hw⟩ := hq; rw [hw]; clear hw
      show WP _ _ _ _ _ _ _
      exact fin _ (rs_B (by omega))
  refine r_aload_n d_X_boxOf_22 rfl rfl ?_
  refine r_get d_X_boxOf_23 fl_X_32_0 0 rfl rfl ?_
  refine r_iload_n d_X_boxOf_26 rfl ?_
  refine r_aald d_X_boxOf_27 4 rfl rfl (by omega) ?_
  refine r_ifnonnull 41 d_X_boxOf_28 (by decide) (fun h5 => ?_) (fun h5a h5 => ?_)
  · refine r_aload_n d_X_boxOf_31 rfl rfl ?_
    refine r_get d_X_boxOf_32 fl_X_32_0 0 rfl rfl ?_
    refine r_iload_n d_X_boxOf_35 rfl ?_
    refine r_iload_n d_X_boxOf_36 rfl ?_
    refine r_kS1 d_X_boxOf_37 lk_X_120 (c_X_newBox G l _ k hk) (Nat.le_of_ble_eq_true rfl) (rok rfl rfl) ⟨(Nat.le_of_ble_eq_true rfl), (Nat.le_of_ble_eq_true rfl)⟩ (fun r ws2 hq => ?_)
    obtain ⟨q, rfl, hw⟩ := hq; rw [hw]; clear hw
    show WP _ _ _ _ _ _ (_ :: _)
    obtain ⟨Cn, T, N0, hcc, hcast, -⟩ := bxC (c := (clN k).toNat) (by omega)
    refine r_aast (xW G (yK y (updI (yk y) u (some q))) z1 ++ [(q, .inr ((clN k).toNat, bF G (fun _ => 0) zD 0 (clN k).toNat))]) d_X_boxOf_40 4 (app_l rfl) rfl hcc app_e hcast (by omega) (set_l rfl) ?_
    refine wp_nd (fun hnd => ?_)
    have hq : ∀ a, a ∈ (xW G y z1).map Prod.fst → a ≠ q := by
      intro a ha e
      subst e
      rw [List.map_append] at hnd
      exact (List.nodup_append.mp hnd).2.2 a ha a List.mem_cons_self rfl
    refine rst 1 14 _ (updI (yk y) u (some q)) (yR y) (xW G (yK y (updI (yk y) u (some q))) z1).length q (fun _ => 0) zD 0 (Nat.le_refl _) (Nat.le_refl _) rfl rfl (by rw [updI_at, if_pos rfl]) app_e ?_ ?_
    · rw [set_e, xW_app ht1 ⟨by show (-1 : Int) < 0; omega, by show (-1 : Int) < 0; omega, by show (-1 : Int) < 0; omega⟩]
      show ((xH G (yK y (updI (yk y) u (some q))) z1 ++ (xB G (yo y) z1 (yn y) ++ (yR y ++ yE y))) ++ [_]).Perm _
      rw [List.append_assoc, List.append_assoc]
      exact List.Perm.append_left _ (List.Perm.append_left _ (List.perm_append_singleton _ _))
    · rw [← hz1]
      refine kI_app hK hk hu (by rw [updI_at, if_pos rfl]) (fun v hv => by rw [updI_at, if_neg hv]) (fun v a' _ _ _ _ e he _ => he) (fun v v0 v1 hv h => ?_)
      exact hq q (kI_in hK v0 v1 h) rfl
  · rcases hK.2.1 u h5a hu.1 hu.2.1 h5 with ⟨e, he, oo, zz, kk, rfl⟩ | ⟨-, h6⟩
    · rw [hu.2.2.1] at he
      obtain ⟨i, hi⟩ := List.getElem?_of_mem he
      refine rst 0 0 _ (yk y) ((yR y).eraseIdx i) (13 + yn y + i) h5a oo zz kk (by omega) (by omega) rfl rfl h5 (xw_R hi) ?_ ?_
      · rw [xw_Rset hi, xW_app ht1 ⟨by show (-1 : Int) < 0; omega, by show (-1 : Int) < 0; omega, by show (-1 : Int) < 0; omega⟩]
        exact List.Perm.append_left _ (List.Perm.append_left _ ((perm_set (List.getElem?_eq_some_iff.mp hi).1).append_right _))
      · rw [← hz1]
        refine kI_app hK hk hu h5 (fun v hv => rfl) (fun v a' v0 v1 hv h e he hg => ?_) (fun v v0 v1 hv h => hv (hK.2.2 v u h5a v0 v1 hu.1 hu.2.1 h h5))
        rw [List.mem_eraseIdx_iff_getElem?]
        obtain ⟨j, hj⟩ := List.getElem?_of_mem he
        refine ⟨j, ?_, hj⟩
        rintro rfl
        rw [hi] at hj
        obtain ⟨oo', zz', kk', e2⟩ := hg
        rw [e2] at hj
        have : h5a = a' := congrArg Prod.fst (Option.some.inj hj)
        subst this
        exact hv (hK.2.2 v u h5a v0 v1 hu.1 hu.2.1 h h5)
    · rw [hu.2.2.1, hu.2.2.2] at h6
      omega
end XBOXOF
