abbrev q_X_read : Mi := (⟨"MovieBoxes", "read", "()I"⟩, prog_1_method_13_code, 2, (some .int))
theorem d_X_read_0 : decode prog_1_method_13_code 0 = .ok (.aload_n 0, 1) := by decide +kernel
theorem d_X_read_1 : decode prog_1_method_13_code 1 = .ok (.getfield 54, 3) := by decide +kernel
theorem d_X_read_4 : decode prog_1_method_13_code 4 = .ok (.ifCond .eq 8, 3) := by decide +kernel
theorem d_X_read_12 : decode prog_1_method_13_code 12 = .ok (.aload_n 0, 1) := by decide +kernel
theorem d_X_read_13 : decode prog_1_method_13_code 13 = .ok (.iconst 1, 1) := by decide +kernel
theorem d_X_read_14 : decode prog_1_method_13_code 14 = .ok (.putfield 54, 3) := by decide +kernel
theorem d_X_read_17 : decode prog_1_method_13_code 17 = .ok (.aload_n 0, 1) := by decide +kernel
theorem d_X_read_18 : decode prog_1_method_13_code 18 = .ok (.getfield 26, 3) := by decide +kernel
theorem d_X_read_21 : decode prog_1_method_13_code 21 = .ok (.invokevirtual 186, 3) := by decide +kernel
set_option maxRecDepth 20000 in
theorem w_230 : Cond.methodLink "MovieBoxes" 186 ⟨"java/util/ArrayList", "clear", "()V"⟩ ∈ gt := gt_of (in_t1 (List.mem_of_getElem? (i := 230) rfl)) rfl
set_option maxRecDepth 20000 in
theorem w_231 : Cond.instanceMethod ⟨"java/util/ArrayList", "clear", "()V"⟩ ∈ gt := gt_of (in_t1 (List.mem_of_getElem? (i := 231) rfl)) rfl
set_option maxRecDepth 20000 in
theorem w_232 : Cond.selects "java/util/ArrayList" ⟨"java/util/ArrayList", "clear", "()V"⟩ ⟨"java/util/ArrayList", "clear", "()V"⟩ ∈ gt := gt_of (in_t1 (List.mem_of_getElem? (i := 232) rfl)) rfl
set_option maxRecDepth 20000 in
theorem w_233 : Cond.code ⟨"java/util/ArrayList", "clear", "()V"⟩ prog_21_method_40_code 4 (none : Option Jvm.ClassFile.FieldType) ∈ gt := gt_of (in_t1 (List.mem_of_getElem? (i := 233) rfl)) rfl
theorem lk_X_186 : LkV "MovieBoxes" 186 q_A_clear 0 := ⟨(List.forall_mem_cons.mpr ⟨w_230, (List.forall_mem_cons.mpr ⟨w_231, (List.forall_mem_cons.mpr ⟨w_232, (List.forall_mem_cons.mpr ⟨w_6, (fun _ h => absurd h List.not_mem_nil)⟩)⟩)⟩)⟩), w_233, by decide +kernel⟩
theorem d_X_read_24 : decode prog_1_method_13_code 24 = .ok (.aload_n 0, 1) := by decide +kernel
theorem d_X_read_25 : decode prog_1_method_13_code 25 = .ok (.iconst 0, 1) := by decide +kernel
theorem d_X_read_26 : decode prog_1_method_13_code 26 = .ok (.putfield 189, 3) := by decide +kernel
theorem d_X_read_29 : decode prog_1_method_13_code 29 = .ok (.aload_n 0, 1) := by decide +kernel
theorem d_X_read_30 : decode prog_1_method_13_code 30 = .ok (.aconst_null, 1) := by decide +kernel
theorem d_X_read_31 : decode prog_1_method_13_code 31 = .ok (.putfield 192, 3) := by decide +kernel
theorem d_X_read_54 : decode prog_1_method_13_code 54 = .ok (.aload_n 0, 1) := by decide +kernel
theorem d_X_read_55 : decode prog_1_method_13_code 55 = .ok (.getfield 19, 3) := by decide +kernel
theorem d_X_read_58 : decode prog_1_method_13_code 58 = .ok (.getstatic 64, 3) := by decide +kernel
theorem d_X_read_61 : decode prog_1_method_13_code 61 = .ok (.invokevirtual 195, 3) := by decide +kernel
set_option maxRecDepth 20000 in
theorem w_236 : Cond.methodLink "MovieBoxes" 195 ⟨"MovieBoxes$Holder", "reset", "(LMovieBoxes$Kind;)V"⟩ ∈ gt := gt_of (in_t1 (List.mem_of_getElem? (i := 236) rfl)) rfl
set_option maxRecDepth 20000 in
theorem w_238 : Cond.selects "MovieBoxes$Holder" ⟨"MovieBoxes$Holder", "reset", "(LMovieBoxes$Kind;)V"⟩ ⟨"MovieBoxes$Holder", "reset", "(LMovieBoxes$Kind;)V"⟩ ∈ gt := gt_of (in_t1 (List.mem_of_getElem? (i := 238) rfl)) rfl
theorem lk_X_195 : LkV "MovieBoxes" 195 q_H_reset 1 := ⟨(List.forall_mem_cons.mpr ⟨w_236, (List.forall_mem_cons.mpr ⟨w_237, (List.forall_mem_cons.mpr ⟨w_238, (List.forall_mem_cons.mpr ⟨w_3, (fun _ h => absurd h List.not_mem_nil)⟩)⟩)⟩)⟩), w_239, by decide +kernel⟩
theorem d_X_read_64 : decode prog_1_method_13_code 64 = .ok (.aload_n 0, 1) := by decide +kernel
theorem d_X_read_65 : decode prog_1_method_13_code 65 = .ok (.getfield 19, 3) := by decide +kernel
theorem d_X_read_68 : decode prog_1_method_13_code 68 = .ok (.aload_n 0, 1) := by decide +kernel
theorem d_X_read_69 : decode prog_1_method_13_code 69 = .ok (.getfield 50, 3) := by decide +kernel
theorem d_X_read_72 : decode prog_1_method_13_code 72 = .ok (.putfield 196, 3) := by decide +kernel
set_option maxRecDepth 20000 in
theorem w_76 : Cond.fieldLink "MovieBoxes" 196 "MovieBoxes$Holder" "size" "I" ∈ gt := gt_of (in_t1 (List.mem_of_getElem? (i := 76) rfl)) rfl
set_option maxRecDepth 20000 in
theorem w_77 : Cond.sameField "MovieBoxes$Holder" "MovieBoxes$Box" "size" "I" ∈ gt := gt_of (in_t1 (List.mem_of_getElem? (i := 77) rfl)) rfl
theorem fl_X_196_1 : FL "MovieBoxes" 196 1 4 false := ⟨_, _, _, "MovieBoxes$Holder", rfl, by decide, rfl, Or.inl w_76, Or.inr w_77⟩
theorem fl_X_196_2 : FL "MovieBoxes" 196 2 4 false := ⟨_, _, _, "MovieBoxes$Holder", rfl, by decide, rfl, Or.inl w_76, Or.inr w_77⟩
theorem fl_X_196_3 : FL "MovieBoxes" 196 3 4 false := ⟨_, _, _, "MovieBoxes$Holder", rfl, by decide, rfl, Or.inl w_76, Or.inr w_77⟩
theorem fl_X_196_4 : FL "MovieBoxes" 196 4 4 false := ⟨_, _, _, "MovieBoxes$Holder", rfl, by decide, rfl, Or.inl w_76, Or.inr w_77⟩
theorem fl_X_196_5 : FL "MovieBoxes" 196 5 4 false := ⟨_, _, _, "MovieBoxes$Holder", rfl, by decide, rfl, Or.inl w_76, Or.inr w_77⟩
theorem fb_X_196 : FB "MovieBoxes" 196 4 .int := fb5 fl_X_196_1 fl_X_196_2 fl_X_196_3 fl_X_196_4 fl_X_196_5 rfl rfl rfl rfl rfl
theorem d_X_read_75 : decode prog_1_method_13_code 75 = .ok (.aload_n 0, 1) := by decide +kernel
theorem d_X_read_76 : decode prog_1_method_13_code 76 = .ok (.getfield 19, 3) := by decide +kernel
theorem d_X_read_79 : decode prog_1_method_13_code 79 = .ok (.iconst (-1), 1) := by decide +kernel
theorem d_X_read_80 : decode prog_1_method_13_code 80 = .ok (.putfield 166, 3) := by decide +kernel
theorem d_X_read_83 : decode prog_1_method_13_code 83 = .ok (.aload_n 0, 1) := by decide +kernel
theorem d_X_read_84 : decode prog_1_method_13_code 84 = .ok (.aload_n 0, 1) := by decide +kernel
theorem d_X_read_85 : decode prog_1_method_13_code 85 = .ok (.aload_n 0, 1) := by decide +kernel
theorem d_X_read_86 : decode prog_1_method_13_code 86 = .ok (.getfield 19, 3) := by decide +kernel
theorem d_X_read_89 : decode prog_1_method_13_code 89 = .ok (.iconst 0, 1) := by decide +kernel
theorem d_X_read_90 : decode prog_1_method_13_code 90 = .ok (.invokestatic 178, 3) := by decide +kernel
theorem d_X_read_93 : decode prog_1_method_13_code 93 = .ok (.putfield 183, 3) := by decide +kernel
set_option maxRecDepth 20000 in
theorem w_166 : Cond.fieldLink "MovieBoxes" 183 "MovieBoxes" "fault" "I" ∈ gt := gt_of (in_t1 (List.mem_of_getElem? (i := 166) rfl)) rfl
theorem fl_X_183_0 : FL "MovieBoxes" 183 0 4 false := ⟨_, _, _, "MovieBoxes", rfl, by decide, rfl, Or.inl w_166, Or.inl rfl⟩
theorem d_X_read_96 : decode prog_1_method_13_code 96 = .ok (.aload_n 0, 1) := by decide +kernel
theorem d_X_read_97 : decode prog_1_method_13_code 97 = .ok (.getfield 183, 3) := by decide +kernel
theorem d_X_read_100 : decode prog_1_method_13_code 100 = .ok (.ifCond .ne 11, 3) := by decide +kernel
theorem d_X_read_111 : decode prog_1_method_13_code 111 = .ok (.aload_n 0, 1) := by decide +kernel
theorem d_X_read_112 : decode prog_1_method_13_code 112 = .ok (.getfield 183, 3) := by decide +kernel
theorem d_X_read_115 : decode prog_1_method_13_code 115 = .ok (.ireturn, 1) := by decide +kernel
theorem d_X_read_103 : decode prog_1_method_13_code 103 = .ok (.aload_n 0, 1) := by decide +kernel
theorem d_X_read_104 : decode prog_1_method_13_code 104 = .ok (.aload_n 0, 1) := by decide +kernel
theorem d_X_read_105 : decode prog_1_method_13_code 105 = .ok (.invokevirtual 197, 3) := by decide +kernel
set_option maxRecDepth 20000 in
theorem w_467 : Cond.methodLink "MovieBoxes" 197 ⟨"MovieBoxes", "judge", "()I"⟩ ∈ gt := gt_of (in_t2 (List.mem_of_getElem? (i := 227) rfl)) rfl
set_option maxRecDepth 20000 in
theorem w_469 : Cond.instanceMethod ⟨"MovieBoxes", "judge", "()I"⟩ ∈ gt := gt_of (in_t2 (List.mem_of_getElem? (i := 229) rfl)) rfl
set_option maxRecDepth 20000 in
theorem ws_X_judge : Cond.selects "MovieBoxes" ⟨"MovieBoxes", "judge", "()I"⟩ ⟨"MovieBoxes", "judge", "()I"⟩ ∈ gt := gt_of (in_p1 (List.mem_of_getElem? (i := 6) rfl)) rfl
set_option maxRecDepth 20000 in
theorem w_470 : Cond.code ⟨"MovieBoxes", "judge", "()I"⟩ prog_1_method_14_code 3 (some .int) ∈ gt := gt_of (in_t2 (List.mem_of_getElem? (i := 230) rfl)) rfl
theorem lk_X_197 : LkV "MovieBoxes" 197 q_X_judge 0 := ⟨(List.forall_mem_cons.mpr ⟨w_467, (List.forall_mem_cons.mpr ⟨w_469, (List.forall_mem_cons.mpr ⟨ws_X_judge, (List.forall_mem_cons.mpr ⟨w_1, (fun _ h => absurd h List.not_mem_nil)⟩)⟩)⟩)⟩), w_470, by decide +kernel⟩
theorem d_X_read_108 : decode prog_1_method_13_code 108 = .ok (.putfield 183, 3) := by decide +kernel
theorem d_X_read_36 : decode prog_1_method_13_code 36 = .ok (.iload_n 1, 1) := by decide +kernel
theorem d_X_read_37 : decode prog_1_method_13_code 37 = .ok (.iconst 5, 1) := by decide +kernel
theorem d_X_read_38 : decode prog_1_method_13_code 38 = .ok (.if_icmp .ge 16, 3) := by decide +kernel
theorem d_X_read_41 : decode prog_1_method_13_code 41 = .ok (.aload_n 0, 1) := by decide +kernel
theorem d_X_read_42 : decode prog_1_method_13_code 42 = .ok (.getfield 36, 3) := by decide +kernel
theorem d_X_read_45 : decode prog_1_method_13_code 45 = .ok (.iload_n 1, 1) := by decide +kernel
theorem d_X_read_46 : decode prog_1_method_13_code 46 = .ok (.iconst 0, 1) := by decide +kernel
theorem d_X_read_47 : decode prog_1_method_13_code 47 = .ok (.iastore, 1) := by decide +kernel
theorem d_X_read_48 : decode prog_1_method_13_code 48 = .ok (.iinc 1 1, 3) := by decide +kernel
theorem d_X_read_51 : decode prog_1_method_13_code 51 = .ok (.goto (-15), 3) := by decide +kernel
theorem d_X_read_34 : decode prog_1_method_13_code 34 = .ok (.iconst 0, 1) := by decide +kernel
theorem d_X_read_35 : decode prog_1_method_13_code 35 = .ok (.istore_n 1, 1) := by decide +kernel
theorem d_X_read_7 : decode prog_1_method_13_code 7 = .ok (.aload_n 0, 1) := by decide +kernel
theorem d_X_read_8 : decode prog_1_method_13_code 8 = .ok (.getfield 183, 3) := by decide +kernel
theorem d_X_read_11 : decode prog_1_method_13_code 11 = .ok (.ireturn, 1) := by decide +kernel
/-! ===== the component: what is known between calls; clear ===== -/
def xI (G : gG) (y : xP) (z : mS) : Prop := (0 ≤ z 0 0 ∧ z 0 0 ≤ 1000) ∧ byOk z ∧ (yn y ≤ 20 ∧ z 0 1 = yn y) ∧ kI G y z ∧ elO G y (yn y) ∧ (∀ k : Int, -1 ≤ k → k < yn y → 1 ≤ z 27 k ∧ z 27 k ≤ 5) ∧ (z 27 (-1) = 1 ∧ z 2 (-1) = 0 ∧ z 5 (-1) = 0) ∧ (z 0 5 = 0 ∨ z 0 5 = 1)
/-- what a reading leaves: f its answer, v the model's state -/
def jQ (G : gG) (y : xP) (z : mS) (f : Int) (v : mS) : Prop := z 0 6 = f ∧ (f ≠ 1 → f ≠ 2 → qI G y z v) ∧ (f = 0 → z 0 2 = v 0 2 ∧ z 0 3 = v 0 3 ∧ (∀ k : Int, 0 ≤ k → k < yn y → z 18 k = 0) ∧ ∀ t : Nat, (t : Int) < v 0 3 → tK y z v t ∧ chA v t ∧ (0 ≤ tb v t 6 → syA v t))
section CG
variable {u v : mS}
theorem ts_cg (h : agr u v) (t sl : Int) : ts v t sl = ts u t sl := by
  unfold ts
  rw [pbx_cg h, tb_cg h, tb_cg h, tb_cg h]
theorem tX_cg {y : xP} {z : mS} (h : agr u v) {sl k : Int} (hX : tX y z u sl k) : tX y z v sl k := by
  unfold tX at hX ⊢
  rw [h 1 (by omega), h 2 (by omega), h 5 (by omega), h 4 (by omega), pv_cg h]
  exact hX
theorem tK_cg {y : xP} {z : mS} {t : Nat} (h : agr u v) (hK : tK y z u t) : tK y z v t := by
  obtain ⟨⟨a1, a2, a3⟩, b, c, d⟩ := hK
  refine ⟨⟨a1, a2, byOk_cg h a3⟩, fun sl s0 s1 => by rw [ts_cg h]; exact b sl s0 s1, fun sl s0 s1 hp => ?_, ?_⟩
  · rw [ts_cg h] at hp ⊢
    exact tX_cg h (c sl s0 s1 hp)
  · rw [ts_cg h, ts_cg h, ts_cg h, ts_cg h]; exact d
theorem chA_cg {t : Int} (h : agr u v) (hA : chA u t) : chA v t := by
  unfold chA cR cF cM at hA ⊢
  rw [pv_cg h, tb_cg h]
  exact hA
theorem syA_cg {t : Int} (h : agr u v) (hA : syA u t) : syA v t := by
  unfold syA at hA ⊢
  rw [pv_cg h, tb_cg h]
  exact hA
theorem qI_cg2 {G : gG} {y : xP} {z : mS} (h : ∀ c, c ≤ 7 → v c = u c) (hq : qI G y z u) : qI G y z v := by
  obtain ⟨⟨a1, a2, a3, a4, a5⟩, b2, b3, b4, b5, b6⟩ := hq
  refine ⟨⟨a1, a2, by rw [h 0 (by omega)]; exact a3, by rw [h 1 (by omega)]; exact a4, a5⟩, b2, b3, b4, b5, fun k k0 k1 => ?_⟩
  rw [h 2 (by omega), h 3 (by omega), h 4 (by omega), h 5 (by omega), h 6 (by omega), h 7 (by omega)]
  exact b6 k k0 k1
end CG
theorem xw_gen {G : gG} {y : xP} {z z' : mS} {k : Int} (h : -1 ≤ k ∧ k < yn y) (hz : ∀ (c : Nat) (j : Int), j ≠ k ∨ bcl c = false → z' c j = z c j) : (xW G y z).set (13 + k).toNat (bC G (yo y) z' k) = xW G y z' := by
  rw [show (13 + k).toNat = (k + 1).toNat + 12 by omega]
  have e := xB_set (G := G) (oa := yo y) (n := yn y) (k := k) (z := z) (z' := z') h (fun j hj => bC_cg (fun c' _ => hz c' j (Or.inl hj)))
  have e0 : ∀ c, bcl c = false → z' c = z c := fun c hc => funext fun j => hz c j (Or.inr hc)
  unfold xW xF
  rw [e0 0 rfl, e0 1 rfl, e0 20 rfl, e0 21 rfl, e0 22 rfl, ← e]
  exact congrArg (fun L => _ :: _ :: _ :: _ :: _ :: _ :: _ :: _ :: _ :: _ :: _ :: _ :: L) (List.set_append_left _ _ (by rw [xB_len]; omega))
/-- the boxes in use become boxes not in use -/
def xbs (G : gG) (y : xP) (z : mS) : va_W := (List.range (yn y)).map (fun i : Nat => bC G (yo y) z (i : Int))
abbrev y0P (G : gG) (y : xP) (z : mS) : xP := (yc y, yo y, yk y, 0, xbs G y z ++ yR y, ye y, yE y, yt y)
theorem xW_y0 (G : gG) (y : xP) (z : mS) : xW G y z = xW G (y0P G y z) z := by
  rw [xW_eq, xW_eq]
  show xH G y z ++ (xB G (yo y) z (yn y) ++ (yR y ++ yE y)) = xH G y z ++ (xB G (yo y) z 0 ++ ((xbs G y z ++ yR y) ++ yE y))
  congr 1
  have e : xB G (yo y) z (yn y) = xB G (yo y) z 0 ++ xbs G y z := by
    unfold xB xbs
    rw [List.range_succ_eq_map, List.map_cons, List.map_map]
    show _ :: _ = _ :: _
    congr 1
    refine List.map_congr_left (fun i _ => ?_)
    show bC G (yo y) z (((i + 1 : Nat) : Int) - 1) = _
    rw [show ((i + 1 : Nat) : Int) - 1 = (i : Int) by omega]
  rw [e, List.append_assoc, List.append_assoc]
theorem kI_y0 {G : gG} {y : xP} {z z' : mS} (h : kI G y z) (h27 : ∀ k : Int, 0 ≤ k → k < yn y → z' 27 k = z 27 k) (hcl : ∀ k : Int, 0 ≤ k → k < yn y → 1 ≤ z 27 k ∧ z 27 k ≤ 5) (h21 : ∀ k : Int, 0 ≤ k → k ≤ 4 → z' 21 k = 0) : kI G (y0P G y z') z' := by
  refine ⟨fun k k0 k1 => ?_, fun u a u0 u1 hu => Or.inl ?_, h.2.2⟩
  · rw [h21 k k0 k1]
    exact ⟨by omega, by show (0 : Int) ≤ ((0 : Nat) : Int); omega⟩
  · rcases h.2.1 u a u0 u1 hu with ⟨e, e1, e2⟩ | ⟨⟨j, j0, j1, j2, j3⟩, -⟩
    · exact ⟨e, List.mem_append_right _ e1, e2⟩
    · refine ⟨bC G (yo y) z' j, List.mem_append_left _ ?_, ?_⟩
      · unfold xbs
        refine List.mem_map.mpr ⟨j.toNat, List.mem_range.mpr (by omega), ?_⟩
        rw [show ((j.toNat : Nat) : Int) = j by omega]
      · refine ⟨yo y, z', j, ?_⟩
        unfold bC
        rw [h27 j j0 j1, j3, j2]
theorem c_X_clear (G : gG) (l : Launch) (y : xP) (z : mS) (h1 : z 0 1 = yn y) (hcl : ∀ k : Int, 0 ≤ k → k < yn y → 1 ≤ z 27 k ∧ z 27 k ≤ 5) (hE : elO G y (yn y)) : Ct G l q_A_clear 0 0 0 [.ref (yc y 3)] (xW G y z) (fun r w => r = none ∧ ∃ E', w = xW G (yL y (ye y) E') (sset (sset z 0 7 (z 0 7 + 1)) 0 1 0) ∧ elO G (yL y (ye y) E') 0) := by
  have e0 : xW G y z = (xH G y z ++ (xB G (yo y) z (yn y) ++ yR y)) ++ yE y := by rw [xW_eq, List.append_assoc, List.append_assoc]
  have hat : ∀ k : Int, 0 ≤ k → k < yn y → (xH G y z ++ (xB G (yo y) z (yn y) ++ yR y))[(13 + k).toNat]? = some (yo y k, .inr ((z 27 k).toNat, bF G (yo y) z k (z 27 k).toNat)) := by
    intro k k0 k1
    rw [show (13 + k).toNat = (k + 1).toNat + 12 by omega]
    show (xB G (yo y) z (yn y) ++ yR y)[(k + 1).toNat]? = _
    exact app_l (xB_at ⟨by omega, k1⟩)
  rw [e0]
  have hel : elB (xH G y z ++ (xB G (yo y) z (yn y) ++ yR y)) (gO (yo y) (yn y)) := by
    intro i a ha
    unfold gO at ha
    split at ha
    · rename_i hi
      have := hcl i hi.1 (by omega)
      exact ⟨_, _, _, by rw [← Option.some.inj ha]; exact hat i hi.1 (by omega), by omega, by omega⟩
    · cases ha
  have hE2 : elE G (xH G y z ++ (xB G (yo y) z (yn y) ++ yR y)) (yE y) (ye y) (z 0 1) (gO (yo y) (yn y)) := by
    rw [h1]
    rcases hE with h | ⟨N, a1, a2, a3, a4, a5⟩
    · exact Or.inl h
    · exact Or.inr ⟨N, a1, a2, a3, a4, a5, hel⟩
  refine (c_A_clear G l (xH G y z ++ (xB G (yo y) z (yn y) ++ yR y)) (yE y) 3 (yc y 3) (ye y) (z 0 7) (z 0 1) (gO (yo y) (yn y)) rfl hE2 (fun i a ha => ?_)).post ?_
  · unfold gO at ha
    split at ha
    · rw [h1]; assumption
    · cases ha
  · rintro r w ⟨e1, E', e2, e3⟩
    refine ⟨e1, E', ?_, ?_⟩
    · rw [e2]
      generalize hz : sset (sset z 0 7 (z 0 7 + 1)) 0 1 0 = z1
      have ex : (xH G y z ++ (xB G (yo y) z (yn y) ++ yR y)).set 3 (yc y 3, .inr (8, [vI (z 0 7 + 1), .ref (ye y), vI 0])) = xH G (yL y (ye y) E') z1 ++ (xB G (yo y) z1 (yn y) ++ yR y) := by rw [← hz]; rfl
      rw [ex, List.append_assoc, List.append_assoc]
      rfl
    · have eg : gO (yo y) 0 = fun _ => none := by funext i; unfold gO; rw [if_neg (by omega)]
      rcases e3 with ⟨q1, q2, q3⟩ | ⟨N, q1, q2, q3, q4⟩
      · exact Or.inl ⟨q1, q3, rfl⟩
      · exact Or.inr ⟨N, by show E' = [(ye y, aQ G 5 N (gO (yo y) 0))]; rw [eg]; exact q1, q3, q4, by omega, by omega⟩
section XREAD
variable (G : gG) (l : Launch) (y : xP)
set_option maxRecDepth 8000 in
set_option maxHeartbeats 8000000 in
theorem c_X_read (z s0 : mS) (hI : xI G y z) (hm : mI s0) (hs0 : s0 0 0 = z 0 0) (hs1 : s0 1 = z 1) (hfr : z 0 5 = 1 → ∃ f v, ckR s0 f v ∧ jQ G y z f v) : Ct G l q_X_read 11 61 1134 [.ref (yc y 0)] (xW G y z) (fun r w => ∃ (f : Int) (v : mS) (y' : xP) (z' : mS), r = some (vI f) ∧ w = xW G y' z' ∧ ckR s0 f v ∧ jQ G y' z' f v ∧ xI G y' z' ∧ z' 0 0 = z 0 0 ∧ z' 1 = z 1 ∧ z' 0 5 = 1 ∧ yc y' = yc y) := by
  obtain ⟨i1, i2, ⟨i3, i3'⟩, i4, i5, i6, ⟨i7, i7', i7''⟩, i8⟩ := id hI
  refine Ct.intro [some (.ref (yc y 0)), none] (by decide) (Nat.le_of_ble_eq_true rfl) rfl (fun sz => ?_)
  generalize hQ : (fun r w => ∃ (f : Int) (v : mS) (y' : xP) (z' : mS), r = some (vI f) ∧ w = xW G y' z' ∧ ckR s0 f v ∧ jQ G y' z' f v ∧ xI G y' z' ∧ z' 0 0 = z 0 0 ∧ z' 1 = z 1 ∧ z' 0 5 = 1 ∧ yc y' = yc y) = Q
  refine r_aload_n d_X_read_0 rfl rfl ?_
  refine r_get d_X_read_1 fl_X_54_0 0 rfl rfl ?_
  refine r_if_eq 12 d_X_read_4 (by decide) (by unfold i32; omega) (fun h1 => ?_) (fun h1 => ?_)
  · -- a reading
    refine r_aload_n d_X_read_12 rfl rfl ?_
    refine r_iconst d_X_read_13 ?_
    refine r_put _ d_X_read_14 fl_X_54_0 0 rfl rfl rfl (Nat.le_of_ble_eq_true rfl) xwp_fresh ?_
    refine r_aload_n d_X_read_17 rfl rfl ?_
    refine r_get d_X_read_18 fl_X_26_0 0 rfl rfl ?_
    refine r_kV0 d_X_read_21 lk_X_186 (c_X_clear G l y (sset z 0 5 1) i3' (fun k k0 k1 => i6 k (by omega) k1) i5) 3 rfl rfl (Nat.le_of_ble_eq_true rfl) (rok rfl rfl) ⟨(Nat.le_of_ble_eq_true rfl), (Nat.le_of_ble_eq_true rfl)⟩ (fun r ws2 hq => ?_)
    obtain ⟨rfl, E', rfl, hE⟩ := hq
    show WP _ _ _ _ _ _ _
    refine r_aload_n d_X_read_24 rfl rfl ?_
    refine r_iconst d_X_read_25 ?_
    refine r_put _ d_X_read_26 fl_X_189_0 0 rfl rfl rfl (Nat.le_of_ble_eq_true rfl) xwp_trackCount ?_
    refine r_aload_n d_X_read_29 rfl rfl ?_
    refine r_null d_X_read_30 ?_
    refine r_put _ d_X_read_31 fl_X_192_0 0 rfl rfl rfl (Nat.le_of_ble_eq_true rfl) (xwp_movie (x := -1)) ?_
    generalize hza : sset (sset (sset (sset (sset z 0 5 1) 0 7 (sset z 0 5 1 0 7 + 1)) 0 1 0) 0 3 0) 0 2 (-1) = za
    have a0 : za 0 0 = z 0 0 := by rw [← hza]; rfl
    have a1 : za 0 1 = 0 := by rw [← hza]; rfl
    have a2 : za 0 2 = -1 := by rw [← hza]; rfl
    have a3 : za 0 3 = 0 := by rw [← hza]; rfl
    have a5 : za 0 5 = 1 := by rw [← hza]; rfl
    have ac : ∀ c, c ≠ 0 → za c = z c := fun c hc => by rw [← hza, sset_ne hc, sset_ne hc, sset_ne hc, sset_ne hc, sset_ne hc]
    show WP _ _ _ (xW G (yL y (ye y) E') za) _ _ _
    have eyc : yc y = yc (yL y (ye y) E') := rfl
    have eyo : yo y = yo (yL y (ye y) E') := rfl
    have eyn : yn y = yn (yL y (ye y) E') := rfl
    have ekI : kI G (yL y (ye y) E') z := i4
    rw [eyn] at i3 i3' i6
    rw [eyc]
    generalize yL y (ye y) E' = y1 at hE eyc eyo eyn ekI i3 i3' i6 ⊢
    -- behind the loop
    have c54 : ∀ (zb : mS) (x1 : Option Value), (∀ c, c ≠ 21 → zb c = za c) → (∀ k : Int, 0 ≤ k → k ≤ 4 → zb 21 k = 0) → WP (mth G l q_X_read 11 61 1134 (xW G y z) sz Q) 0 0 (xW G y1 zb) 54 [some (.ref (yc y1 0)), x1] [] := by
      intro zb x1 hzb hz21
      have b27 : zb 27 (-1) = 1 := by rw [hzb 27 (by omega), ac 27 (by omega)]; exact i7
      have b2 : zb 2 (-1) = 0 := by rw [hzb 2 (by omega), ac 2 (by omega)]; exact i7'
      have b5 : zb 5 (-1) = 0 := by rw [hzb 5 (by omega), ac 5 (by omega)]; exact i7''
      have hk1 : -1 ≤ (-1 : Int) ∧ (-1 : Int) < yn y1 := by omega
      refine r_aload_n d_X_read_54 rfl rfl ?_
      refine r_get d_X_read_55 fl_X_19_0 0 rfl rfl ?_
      refine r_getsK (i := 11) d_X_read_58 (by decide) w_234 ?_
      refine r_cV1 d_X_read_61 lk_X_195 (c_H_reset G l (xW G y1 zb) 12 (yo y1 (-1)) 11 (bF G (yo y1) zb (-1) 1) (xw_bc (kb := -1) hk1 b27) (Nat.le_of_ble_eq_true rfl)) 12 rfl (xw_bc (kb := -1) hk1 b27) (Nat.le_of_ble_eq_true rfl) (rok rfl rfl) ⟨(Nat.le_of_ble_eq_true rfl), (Nat.le_of_ble_eq_true rfl)⟩ (fun r ws2 hq => ?_)
      obtain ⟨rfl, rfl⟩ := hq
      show WP _ _ _ _ _ _ _
      have ew : (xW G y1 zb).set 12 (yo y1 (-1), .inr (1, ((((bF G (yo y1) zb (-1) 1).set 0 (.ref (gE G 11))).set 8 .null).set 11 .null).set 12 .null)) = xW G y1 (zA zb (-1) 1 (zR zb (-1) 11)) := by
        have := xw_gen (G := G) (y := y1) (z := zb) (z' := zA zb (-1) 1 (zR zb (-1) 11)) hk1 (fun c j hj => zA_no hj)
        rw [← this]
        congr 1
      rw [ew]
      have d27 : zA zb (-1) 1 (zR zb (-1) 11) 27 (-1) = 1 := by unfold zA; rw [if_pos ⟨rfl, rfl⟩, if_pos rfl]
      have dd : ∀ c, bcl c = true → c ≠ 27 → zA zb (-1) 1 (zR zb (-1) 11) c (-1) = zR zb (-1) 11 c (-1) := fun c h1 h2 => by unfold zA; rw [if_pos ⟨rfl, h1⟩, if_neg h2]
      have d2 : zA zb (-1) 1 (zR zb (-1) 11) 2 (-1) = 0 := by rw [dd 2 rfl (by omega)]; exact b2
      have d5 : zA zb (-1) 1 (zR zb (-1) 11) 5 (-1) = 0 := by rw [dd 5 rfl (by omega)]; exact b5
      have d23 : zA zb (-1) 1 (zR zb (-1) 11) 23 (-1) = -1 := by rw [dd 23 rfl (by omega)]; rfl
      have d24 : zA zb (-1) 1 (zR zb (-1) 11) 24 (-1) = -1 := by rw [dd 24 rfl (by omega)]; rfl
      have d25 : zA zb (-1) 1 (zR zb (-1) 11) 25 (-1) = -1 := by rw [dd 25 rfl (by omega)]; rfl
      have dn : ∀ c, bcl c = false → zA zb (-1) 1 (zR zb (-1) 11) c = zb c := fun c hc => zA_no' hc
      have dk : ∀ (c : Nat) (k : Int), 0 ≤ k → zA zb (-1) 1 (zR zb (-1) 11) c k = zb c k := fun c k hk => zA_no (Or.inl (by omega))
      generalize zA zb (-1) 1 (zR zb (-1) 11) = zc at d27 d2 d5 d23 d24 d25 dn dk ⊢
      have hc1 : 1 ≤ zc 27 (-1) ∧ zc 27 (-1) ≤ 5 := by omega
      refine r_aload_n d_X_read_64 rfl rfl ?_
      refine r_get d_X_read_65 fl_X_19_0 0 rfl rfl ?_
      refine r_aload_n d_X_read_68 rfl rfl ?_
      refine r_get d_X_read_69 fl_X_50_0 0 rfl rfl ?_
      refine r_putB (c := 3) d_X_read_72 fb_X_196 (-1) hk1 hc1 rfl rfl rfl (bs_of (by decide) rfl) ?_
      show WP _ _ _ (xW G y1 (sset zc 3 (-1) (zc 0 0))) _ _ _
      refine r_aload_n d_X_read_75 rfl rfl ?_
      refine r_get d_X_read_76 fl_X_19_0 0 rfl rfl ?_
      refine r_iconst d_X_read_79 ?_
      refine r_putB (c := 28) d_X_read_80 fb_X_166 (-1) hk1 hc1 rfl rfl rfl (bs_of (by decide) rfl) ?_
      show WP _ _ _ (xW G y1 (sset (sset zc 3 (-1) (zc 0 0)) 28 (-1) (-1))) _ _ _
      have e00 : zc 0 0 = z 0 0 := by rw [dn 0 rfl, hzb 0 (by omega)]; exact a0
      rw [e00]
      have f3 : sset (sset zc 3 (-1) (z 0 0)) 28 (-1) (-1) 3 (-1) = z 0 0 := by rw [sset_ne (by omega), sset_eq]
      have f28 : sset (sset zc 3 (-1) (z 0 0)) 28 (-1) (-1) 28 (-1) = -1 := sset_eq
      have fo : ∀ c, c ≠ 3 → c ≠ 28 → sset (sset zc 3 (-1) (z 0 0)) 28 (-1) (-1) c = zc c := fun c h1 h2 => by rw [sset_ne h2, sset_ne h1]
      generalize sset (sset zc 3 (-1) (z 0 0)) 28 (-1) (-1) = zd at f3 f28 fo ⊢
      have g0 : ∀ j, zd 0 j = za 0 j := fun j => by rw [fo 0 (by omega) (by omega), dn 0 rfl, hzb 0 (by omega)]
      have g1 : zd 1 = z 1 := by rw [fo 1 (by omega) (by omega), dn 1 rfl, hzb 1 (by omega), ac 1 (by omega)]
      have g27 : ∀ k : Int, 0 ≤ k → zd 27 k = z 27 k := fun k hk => by rw [fo 27 (by omega) (by omega), dk 27 k hk, hzb 27 (by omega), ac 27 (by omega)]
      rw [xW_y0 G y1 zd]
      have hKI : kI G (y0P G y1 zd) zd := kI_y0 ekI (fun k k0 k1 => g27 k k0) (fun k k0 k1 => i6 k (by omega) k1) (fun k k0 k1 => by rw [fo 21 (by omega) (by omega), dn 21 rfl]; exact hz21 k k0 k1)
      have hEI : elO G (y0P G y1 zd) ((0 : Nat) : Int) := hE
      have ey : yc y1 0 = yc (y0P G y1 zd) 0 := rfl
      have eo : yo y1 (-1) = yo (y0P G y1 zd) (-1) := rfl
      have eyc2 : yc (y0P G y1 zd) = yc y1 := rfl
      have en : yn (y0P G y1 zd) = 0 := rfl
      rw [ey]
      generalize y0P G y1 zd = y2 at hKI hEI ey eo eyc2 en ⊢
      have r01 : rd0 s0 0 1 = 0 := by unfold rd0; rw [sset_ne (by omega), sset_ne (by omega), sset_eq]
      have r1 : rd0 s0 1 = s0 1 := by unfold rd0; rw [sset_ne (by omega), sset_ne (by omega), sset_ne (by omega)]
      have r8 : rd0 s0 8 ((0 : Nat) : Int) = z 0 0 := by unfold rd0; rw [sset_ne (by omega)]; exact sset_eq.trans hs0
      have r9 : rd0 s0 9 ((0 : Nat) : Int) = -1 := by unfold rd0; exact sset_eq
      have z2 : zd 2 (-1) = 0 := by rw [fo 2 (by omega) (by omega)]; exact d2
      have z5 : zd 5 (-1) = 0 := by rw [fo 5 (by omega) (by omega)]; exact d5
      have z27 : zd 27 (-1) = 1 := by rw [fo 27 (by omega) (by omega)]; exact d27
      have hpI : pI G y2 zd (rd0 s0) := by
        refine ⟨⟨by omega, by rw [g0, a1, en]; rfl, by rw [r01, en]; rfl, by rw [r1, hs1, g1], by unfold byOk; rw [g1]; exact i2, by rw [g0, a2]; omega⟩, hKI, ?_, by rw [en]; exact hEI, ⟨z27, by rw [fo 23 (by omega) (by omega)]; exact d23⟩, fun k k0 k1 => by rw [en] at k1; omega⟩
        rw [en]
        refine ⟨fun h h0 h1 => ?_, fun k k0 k1 => by omega, fun k k0 k1 => by omega⟩
        have : h = -1 := by omega
        subst this
        rw [fo 24 (by omega) (by omega), fo 25 (by omega) (by omega), d24, d25]
        exact ⟨rfl, rfl⟩
      have hfu := rowL_fu 100 (rd0 s0) 0 0 (by omega)
      have hrN : rowN 100 (rd0 s0) 0 0 ≤ 20 := by unfold rowN; omega
      have hRR := c_X_readRow0 G l 100 y2 zd (rd0 s0) (-1) hpI (by omega) z27 f28 (by rw [r8, z2, f3]; omega) r9 (by omega) (by omega) (by omega) (by omega)
      rw [show zd 2 (-1) + zd 5 (-1) = 0 by omega] at hRR
      refine r_aload_n d_X_read_83 rfl rfl ?_
      refine r_aload_n d_X_read_84 rfl rfl ?_
      refine r_aload_n d_X_read_85 rfl rfl ?_
      refine r_get d_X_read_86 fl_X_19_0 0 rfl rfl ?_
      refine r_iconst d_X_read_89 ?_
      refine r_kS3 d_X_read_90 lk_X_178 (hRR) (Nat.le_of_ble_eq_true rfl) (rok rfl rfl) ⟨show _ ≤ 61 by omega, show _ ≤ 1134 by omega⟩ (fun r ws2 hq => ?_)
      obtain ⟨y3, z3, rfl, rfl, hp3, hf3⟩ := hq
      show WP _ _ _ _ _ _ (_ :: _)
      rw [← rdL_rowL]
      rw [← rdL_rowL] at hp3
      obtain ⟨m1, m2, m3, m4, m5⟩ := rd_ok s0 hm
      have m6 := rd_o2 s0
      generalize hrd : rdL 100 (rd0 s0) 0 0 = RD at m1 m2 m3 m4 m5 m6 hp3 ⊢
      obtain ⟨f0, s⟩ := RD
      change f0 = 0 ∨ f0 = 1 ∨ f0 = 2 at m1
      change rdOk s at m2
      change hoOk s at m3
      change o2Ok s at m6
      change pI G y3 z3 s at hp3
      show WP _ _ _ _ _ _ (vI f0 :: _)
      obtain ⟨⟨n1, n2, n3⟩, n4, n5, n6, n7, n8, n9⟩ := hf3
      have hc3 : yc y2 = yc y3 := n1.symm
      rw [hc3]
      refine r_put _ d_X_read_93 fl_X_183_0 0 rfl rfl rfl (Nat.le_of_ble_eq_true rfl) xwp_fault ?_
      refine r_aload_n d_X_read_96 rfl rfl ?_
      refine r_get d_X_read_97 fl_X_183_0 0 rfl rfl ?_
      show WP _ _ _ (xW G y3 (sset z3 0 6 f0)) _ _ (vI f0 :: _)
      have x0 : ∀ j, j ≠ 1 → j ≠ 7 → z3 0 j = za 0 j := fun j h1 h2 => (n6 j h1 h2).trans (g0 j)
      have x27 : z3 27 (-1) = 1 := by rw [n5 27 (-1) rfl (by omega) (by omega) (by omega) (by omega)]; exact z27
      have x2 : z3 2 (-1) = 0 := by rw [n5 2 (-1) rfl (by omega) (by omega) (by omega) (by omega)]; exact z2
      have x5 : z3 5 (-1) = 0 := by rw [n5 5 (-1) rfl (by omega) (by omega) (by omega) (by omega)]; exact z5
      have x1 : z3 1 = z 1 := n7.trans g1
      have eycA : yc y3 = yc y := by rw [n1, eyc2, ← eyc]
      have hxI : ∀ (tb' : Int → Option Nat) (zz : mS), (∀ c, c ≠ 0 → c ≠ 17 → zz c = z3 c) → (∀ j, j ≠ 2 → j ≠ 3 → j ≠ 6 → zz 0 j = z3 0 j) → xI G (yT y3 tb') zz := by
        intro tb' zz h1 h2
        refine ⟨?_, ?_, ⟨hp3.1.1, ?_⟩, ?_, ?_, fun k k0 k1 => ?_, ⟨?_, ?_, ?_⟩, ?_⟩
        · rw [h2 0 (by omega) (by omega) (by omega), x0 0 (by omega) (by omega), a0]; exact i1
        · unfold byOk; rw [h1 1 (by omega) (by omega), x1]; exact i2
        · rw [h2 1 (by omega) (by omega) (by omega)]; exact hp3.1.2.1
        · exact kI_cg (y := yT y3 tb') (z := z3) (h1 21 (by omega) (by omega)) (fun j _ => by rw [h1 27 (by omega) (by omega)]) hp3.2.1
        · exact hp3.2.2.2.1
        · rw [h1 27 (by omega) (by omega)]; exact pI_cl hp3 k0 k1
        · rw [h1 27 (by omega) (by omega)]; exact x27
        · rw [h1 2 (by omega) (by omega)]; exact x2
        · rw [h1 5 (by omega) (by omega)]; exact x5
        · rw [h2 5 (by omega) (by omega) (by omega), x0 5 (by omega) (by omega), a5]; exact Or.inr rfl
      refine r_if_ne 111 d_X_read_100 (by decide) (by unfold i32; omega) (fun h2 => ?_) (fun h2 => ?_)
      · -- nested wrongly, or too many
        refine r_aload_n d_X_read_111 rfl rfl ?_
        refine r_get d_X_read_112 fl_X_183_0 0 rfl rfl ?_
        refine r_iret d_X_read_115 rfl (by first | omega | exact (show _ ≤ 61 by omega) | exact (show _ ≤ 1134 by omega)) (by first | omega | exact (show _ ≤ 61 by omega) | exact (show _ ≤ 1134 by omega)) ?_
        rw [← hQ]
        refine ⟨f0, s, y3, _, rfl, rfl, ?_, ⟨sset_eq, fun q1 q2 => by omega, fun q => by omega⟩, hxI (yt y3) _ (fun c a b => sset_ne a) (fun j a b c => sset_nj c), ?_, ?_, ?_, eycA⟩
        · unfold ckR
          rw [hrd]
          exact Or.inl ⟨by show 0 < f0; omega, rfl, rfl⟩
        · rw [sset_nj (by omega), x0 0 (by omega) (by omega)]; exact a0
        · rw [sset_ne (by omega)]; exact x1
        · rw [sset_nj (by omega), x0 5 (by omega) (by omega)]; exact a5
      · have h2 : f0 = 0 := by omega
        subst h2
        have hq3 : qI G y3 (sset z3 0 6 0) s := qI_cg ⟨rfl, rfl, rfl, rfl, rfl, rfl⟩ (by rw [sset_nj (by omega)]) (fun c hc => sset_ne (by rintro rfl; revert hc; decide)) (pI_q hp3)
        refine r_aload_n d_X_read_103 rfl rfl ?_
        refine r_aload_n d_X_read_104 rfl rfl ?_
        refine r_kV0 d_X_read_105 lk_X_197 (c_X_judge G l y3 (sset z3 0 6 0) s (kdF s (s 0 1).toNat).1 hq3 m2 m3 m6 (by rw [sset_nj (by omega), x0 2 (by omega) (by omega)]; exact a2) (by rw [sset_nj (by omega), x0 3 (by omega) (by omega)]; exact a3) rfl) 0 rfl rfl (Nat.le_of_ble_eq_true rfl) (rok rfl rfl) ⟨show _ ≤ 61 by omega, show _ ≤ 1134 by omega⟩ (fun r ws2 hq => ?_)
        obtain ⟨f, tb', z6, rfl, rfl, hj, w1, w2, w3, w4⟩ := hq
        show WP _ _ _ _ _ _ (_ :: _)
        show WP _ _ _ _ _ _ (vI f :: _)
        refine r_put _ d_X_read_108 fl_X_183_0 0 rfl rfl rfl (Nat.le_of_ble_eq_true rfl) xwp_fault ?_
        refine r_aload_n d_X_read_111 rfl rfl ?_
        refine r_get d_X_read_112 fl_X_183_0 0 rfl rfl ?_
        refine r_iret d_X_read_115 rfl (by first | omega | exact (show _ ≤ 61 by omega) | exact (show _ ≤ 1134 by omega)) (by first | omega | exact (show _ ≤ 61 by omega) | exact (show _ ≤ 1134 by omega)) ?_
        show Q (some (vI f)) (xW G (yT y3 tb') (sset z6 0 6 f))
        rw [← hQ]
        generalize hu : (kdF s (s 0 1).toNat).1 = u at hj w4
        have v1 : ∀ c, c ≠ 0 → c ≠ 17 → sset z6 0 6 f c = z3 c := fun c a b => by rw [sset_ne a, w1 c a b, sset_ne a]
        have v2 : ∀ j, j ≠ 2 → j ≠ 3 → j ≠ 6 → sset z6 0 6 f 0 j = z3 0 j := fun j a b c => by rw [sset_nj c, w2 j a b, sset_nj c]
        have hqs : qI G (yT y3 tb') (sset z6 0 6 f) s := qI_cg ⟨rfl, rfl, rfl, rfl, rfl, rfl⟩ (by rw [v2 1 (by omega) (by omega) (by omega)]) (fun c hc => v1 c (by rintro rfl; revert hc; decide) (by rintro rfl; revert hc; decide)) (pI_q hp3)
        have huc := kc_u m2 m3 hu.symm
        have hu01 : u 0 1 = s 0 1 := by rw [← hu]; exact (kdF_I s m2 m3 (s 0 1).toNat (by have := m2.1.1; omega)).1.2.2.1
        have hqu : qI G (yT y3 tb') (sset z6 0 6 f) u := qI_u hqs huc hu01
        have tkk : ∀ t : Nat, tK (yT y3 tb') z6 u t → tK (yT y3 tb') (sset z6 0 6 f) u t := fun t h => h
        have hst := agr_stT u (u 0 3).toNat
        have hck : ckR s0 f (if f = 6 ∨ f = 0 then stT u (u 0 3).toNat else u) := by
          unfold ckR
          rw [hrd]
          right
          refine ⟨rfl, ?_⟩
          show (kdR s = 1 ∧ f = 3 ∧ _ = (kdF s (s 0 1).toNat).1) ∨ _
          rw [hu]
          rcases hj with ⟨q1, rfl⟩ | ⟨q1, ⟨q2, rfl⟩ | ⟨q2, ⟨q3, rfl⟩ | ⟨q3, ⟨q4, rfl⟩ | ⟨q4, rfl⟩⟩⟩⟩
          · exact Or.inl ⟨q1, rfl, if_neg (by omega)⟩
          · exact Or.inr ⟨q1, Or.inl ⟨q2, rfl, if_neg (by omega)⟩⟩
          · exact Or.inr ⟨q1, Or.inr ⟨q2, Or.inl ⟨q3, rfl, if_neg (by omega)⟩⟩⟩
          · exact Or.inr ⟨q1, Or.inr ⟨q2, Or.inr ⟨q3, if_pos (Or.inl rfl), Or.inl ⟨q4, rfl⟩⟩⟩⟩
          · exact Or.inr ⟨q1, Or.inr ⟨q2, Or.inr ⟨q3, if_pos (Or.inr rfl), Or.inr ⟨q4, rfl⟩⟩⟩⟩
        refine ⟨f, _, yT y3 tb', sset z6 0 6 f, rfl, rfl, hck, ⟨sset_eq, fun _ _ => ?_, fun e => ?_⟩, hxI tb' _ v1 v2, ?_, ?_, ?_, eycA⟩
        · split
          · exact qI_cg2 (fun c hc => hst c (by omega)) hqu
          · exact hqu
        · subst e
          rw [if_pos (Or.inr rfl)]
          obtain ⟨k1, k2, k3⟩ := w4 rfl
          refine ⟨?_, ?_, fun k k0 k1 => ?_, fun t ht => ?_⟩
          · rw [sset_nj (by omega), k1, hst 0 (by omega)]
          · rw [sset_nj (by omega), k2, hst 0 (by omega)]
          · rw [v1 18 (by omega) (by omega)]; exact (hp3.2.2.2.2.2 k k0 k1).2.2.2.2
          · rw [hst 0 (by omega)] at ht
            obtain ⟨j1, j2, j3⟩ := k3 t ht
            exact ⟨tK_cg hst (tkk t j1), chA_cg hst j2, fun q => syA_cg hst (j3 (by rw [tb_cg hst] at q; exact q))⟩
        · rw [v2 0 (by omega) (by omega) (by omega), x0 0 (by omega) (by omega)]; exact a0
        · rw [v1 1 (by omega) (by omega)]; exact x1
        · rw [v2 5 (by omega) (by omega) (by omega), x0 5 (by omega) (by omega)]; exact a5
    have lp : ∀ (f k : Nat) (zb : mS), k + f = 5 → (∀ c, c ≠ 21 → zb c = za c) → (∀ j : Int, 0 ≤ j → j < k → zb 21 j = 0) → WP (mth G l q_X_read 11 61 1134 (xW G y z) sz Q) 0 0 (xW G y1 zb) 36 [some (.ref (yc y1 0)), some (vI k)] [] := by
      intro f
      induction f with
      | zero =>
        intro k zb hk h1 h2
        refine r_iload_n d_X_read_36 rfl ?_
        refine r_iconst d_X_read_37 ?_
        refine r_icmp_ge 54 d_X_read_38 (by decide) (by unfold i32; omega) (by unfold i32; omega) (fun h3 => ?_) (fun h3 => ?_)
        · exact c54 zb _ h1 (fun j a b => h2 j a (by omega))
        · omega
      | succ f ih =>
        intro k zb hk h1 h2
        refine r_iload_n d_X_read_36 rfl ?_
        refine r_iconst d_X_read_37 ?_
        refine r_icmp_ge 54 d_X_read_38 (by decide) (by unfold i32; omega) (by unfold i32; omega) (fun h3 => ?_) (fun h3 => ?_)
        · omega
        · refine r_aload_n d_X_read_41 rfl rfl ?_
          refine r_get d_X_read_42 fl_X_36_0 0 rfl rfl ?_
          refine r_iload_n d_X_read_45 rfl ?_
          refine r_iconst d_X_read_46 ?_
          refine r_iast _ d_X_read_47 5 rfl (by omega) xw_5 ?_
          refine r_iinc d_X_read_48 rfl (Nat.le_of_ble_eq_true rfl) rfl ?_
          show WP _ _ _ _ _ [_, _] _
          refine r_goto 36 d_X_read_51 (by decide) ?_
          refine ih (k + 1) _ (by omega) (fun c hc => by show sset zb 21 k 0 c = _; rw [sset_ne hc]; exact h1 c hc) (fun j a b => ?_)
          show sset zb 21 k 0 21 j = 0
          by_cases e : j = k
          · subst e; exact sset_eq
          · rw [sset_nj e]; exact h2 j a (by omega)
    refine r_iconst d_X_read_34 ?_
    refine r_istore_n d_X_read_35 (Nat.le_of_ble_eq_true rfl) rfl ?_
    show WP _ _ _ _ _ [_, _] _
    exact lp 5 0 za rfl (fun _ _ => rfl) (fun j a b => by omega)
  · -- read already
    have h5 : z 0 5 = 1 := by omega
    obtain ⟨f, v, q1, q2⟩ := hfr h5
    refine r_aload_n d_X_read_7 rfl rfl ?_
    refine r_get d_X_read_8 fl_X_183_0 0 rfl rfl ?_
    refine r_iret d_X_read_11 rfl (Nat.le_of_ble_eq_true rfl) (Nat.le_of_ble_eq_true rfl) ?_
    rw [← hQ]
    exact ⟨f, v, y, z, by rw [← q2.1], rfl, q1, q2, hI, rfl, rfl, h5, rfl⟩
end XREAD
