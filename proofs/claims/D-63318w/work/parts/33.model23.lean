abbrev q_M_fastStart : Mi := (⟨"MovieBoxesModel", "fastStart", "()I"⟩, prog_12_method_45_code, 6, (some .int))
theorem d_M_fastStart_0 : decode prog_12_method_45_code 0 = .ok (.aload_n 0, 1) := by decide +kernel
theorem d_M_fastStart_1 : decode prog_12_method_45_code 1 = .ok (.invokevirtual 137, 3) := by decide +kernel
theorem d_M_fastStart_4 : decode prog_12_method_45_code 4 = .ok (.istore_n 1, 1) := by decide +kernel
theorem d_M_fastStart_5 : decode prog_12_method_45_code 5 = .ok (.iload_n 1, 1) := by decide +kernel
theorem d_M_fastStart_6 : decode prog_12_method_45_code 6 = .ok (.ifCond .le 5, 3) := by decide +kernel
theorem d_M_fastStart_11 : decode prog_12_method_45_code 11 = .ok (.aload_n 0, 1) := by decide +kernel
theorem d_M_fastStart_12 : decode prog_12_method_45_code 12 = .ok (.invokevirtual 168, 3) := by decide +kernel
set_option maxRecDepth 20000 in
theorem w_937 : Cond.methodLink "MovieBoxesModel" 168 ⟨"MovieBoxesModel", "firstData", "()I"⟩ ∈ gt := gt_of (in_t4 (List.mem_of_getElem? (i := 217) rfl)) rfl
set_option maxRecDepth 20000 in
theorem w_939 : Cond.instanceMethod ⟨"MovieBoxesModel", "firstData", "()I"⟩ ∈ gt := gt_of (in_t4 (List.mem_of_getElem? (i := 219) rfl)) rfl
set_option maxRecDepth 20000 in
theorem ws_M_firstData : Cond.selects "MovieBoxesModel" ⟨"MovieBoxesModel", "firstData", "()I"⟩ ⟨"MovieBoxesModel", "firstData", "()I"⟩ ∈ gt := gt_of (in_p3 (List.mem_of_getElem? (i := 7) rfl)) rfl
set_option maxRecDepth 20000 in
theorem w_940 : Cond.code ⟨"MovieBoxesModel", "firstData", "()I"⟩ prog_12_method_44_code 2 (some .int) ∈ gt := gt_of (in_t4 (List.mem_of_getElem? (i := 220) rfl)) rfl
theorem lk_M_168 : LkV "MovieBoxesModel" 168 q_M_firstData 0 := ⟨(List.forall_mem_cons.mpr ⟨w_937, (List.forall_mem_cons.mpr ⟨w_939, (List.forall_mem_cons.mpr ⟨ws_M_firstData, (List.forall_mem_cons.mpr ⟨w_8, (fun _ h => absurd h List.not_mem_nil)⟩)⟩)⟩)⟩), w_940, by decide +kernel⟩
theorem d_M_fastStart_28 : decode prog_12_method_45_code 28 = .ok (.aload_n 0, 1) := by decide +kernel
theorem d_M_fastStart_29 : decode prog_12_method_45_code 29 = .ok (.getfield 16, 3) := by decide +kernel
theorem d_M_fastStart_32 : decode prog_12_method_45_code 32 = .ok (.aload_n 0, 1) := by decide +kernel
theorem d_M_fastStart_33 : decode prog_12_method_45_code 33 = .ok (.getfield 96, 3) := by decide +kernel
theorem d_M_fastStart_36 : decode prog_12_method_45_code 36 = .ok (.iaload, 1) := by decide +kernel
theorem d_M_fastStart_37 : decode prog_12_method_45_code 37 = .ok (.ireturn, 1) := by decide +kernel
theorem d_M_fastStart_15 : decode prog_12_method_45_code 15 = .ok (.istore_n 2, 1) := by decide +kernel
theorem d_M_fastStart_16 : decode prog_12_method_45_code 16 = .ok (.iload_n 2, 1) := by decide +kernel
theorem d_M_fastStart_17 : decode prog_12_method_45_code 17 = .ok (.ifCond .lt 11, 3) := by decide +kernel
theorem d_M_fastStart_20 : decode prog_12_method_45_code 20 = .ok (.iload_n 2, 1) := by decide +kernel
theorem d_M_fastStart_21 : decode prog_12_method_45_code 21 = .ok (.aload_n 0, 1) := by decide +kernel
theorem d_M_fastStart_22 : decode prog_12_method_45_code 22 = .ok (.getfield 96, 3) := by decide +kernel
theorem d_M_fastStart_25 : decode prog_12_method_45_code 25 = .ok (.if_icmp .le 13, 3) := by decide +kernel
theorem d_M_fastStart_43 : decode prog_12_method_45_code 43 = .ok (.iload 4, 2) := by decide +kernel
theorem d_M_fastStart_45 : decode prog_12_method_45_code 45 = .ok (.iconst 4, 1) := by decide +kernel
theorem d_M_fastStart_46 : decode prog_12_method_45_code 46 = .ok (.if_icmp .ge 35, 3) := by decide +kernel
theorem d_M_fastStart_81 : decode prog_12_method_45_code 81 = .ok (.aload_n 0, 1) := by decide +kernel
theorem d_M_fastStart_82 : decode prog_12_method_45_code 82 = .ok (.iload_n 3, 1) := by decide +kernel
theorem d_M_fastStart_83 : decode prog_12_method_45_code 83 = .ok (.invokevirtual 171, 3) := by decide +kernel
set_option maxRecDepth 20000 in
theorem w_941 : Cond.methodLink "MovieBoxesModel" 171 ⟨"MovieBoxesModel", "layout", "(I)I"⟩ ∈ gt := gt_of (in_t4 (List.mem_of_getElem? (i := 221) rfl)) rfl
set_option maxRecDepth 20000 in
theorem w_943 : Cond.instanceMethod ⟨"MovieBoxesModel", "layout", "(I)I"⟩ ∈ gt := gt_of (in_t4 (List.mem_of_getElem? (i := 223) rfl)) rfl
set_option maxRecDepth 20000 in
theorem ws_M_layout : Cond.selects "MovieBoxesModel" ⟨"MovieBoxesModel", "layout", "(I)I"⟩ ⟨"MovieBoxesModel", "layout", "(I)I"⟩ ∈ gt := gt_of (in_p3 (List.mem_of_getElem? (i := 8) rfl)) rfl
set_option maxRecDepth 20000 in
theorem w_944 : Cond.code ⟨"MovieBoxesModel", "layout", "(I)I"⟩ prog_12_method_41_code 6 (some .int) ∈ gt := gt_of (in_t4 (List.mem_of_getElem? (i := 224) rfl)) rfl
theorem lk_M_171 : LkV "MovieBoxesModel" 171 q_M_layout 1 := ⟨(List.forall_mem_cons.mpr ⟨w_941, (List.forall_mem_cons.mpr ⟨w_943, (List.forall_mem_cons.mpr ⟨ws_M_layout, (List.forall_mem_cons.mpr ⟨w_8, (fun _ h => absurd h List.not_mem_nil)⟩)⟩)⟩)⟩), w_944, by decide +kernel⟩
theorem d_M_fastStart_86 : decode prog_12_method_45_code 86 = .ok (.istore 4, 2) := by decide +kernel
theorem d_M_fastStart_88 : decode prog_12_method_45_code 88 = .ok (.aload_n 0, 1) := by decide +kernel
theorem d_M_fastStart_89 : decode prog_12_method_45_code 89 = .ok (.getfield 58, 3) := by decide +kernel
theorem d_M_fastStart_92 : decode prog_12_method_45_code 92 = .ok (.aload_n 0, 1) := by decide +kernel
theorem d_M_fastStart_93 : decode prog_12_method_45_code 93 = .ok (.getfield 16, 3) := by decide +kernel
theorem d_M_fastStart_96 : decode prog_12_method_45_code 96 = .ok (.aload_n 0, 1) := by decide +kernel
theorem d_M_fastStart_97 : decode prog_12_method_45_code 97 = .ok (.getfield 96, 3) := by decide +kernel
theorem d_M_fastStart_100 : decode prog_12_method_45_code 100 = .ok (.iaload, 1) := by decide +kernel
theorem d_M_fastStart_101 : decode prog_12_method_45_code 101 = .ok (.isub, 1) := by decide +kernel
theorem d_M_fastStart_102 : decode prog_12_method_45_code 102 = .ok (.iload 4, 2) := by decide +kernel
theorem d_M_fastStart_104 : decode prog_12_method_45_code 104 = .ok (.iadd, 1) := by decide +kernel
theorem d_M_fastStart_105 : decode prog_12_method_45_code 105 = .ok (.sipush 1000, 3) := by decide +kernel
theorem d_M_fastStart_108 : decode prog_12_method_45_code 108 = .ok (.if_icmp .le 6, 3) := by decide +kernel
theorem d_M_fastStart_114 : decode prog_12_method_45_code 114 = .ok (.aload_n 0, 1) := by decide +kernel
theorem d_M_fastStart_115 : decode prog_12_method_45_code 115 = .ok (.aload_n 0, 1) := by decide +kernel
theorem d_M_fastStart_116 : decode prog_12_method_45_code 116 = .ok (.getfield 13, 3) := by decide +kernel
theorem d_M_fastStart_119 : decode prog_12_method_45_code 119 = .ok (.iload_n 2, 1) := by decide +kernel
theorem d_M_fastStart_120 : decode prog_12_method_45_code 120 = .ok (.iaload, 1) := by decide +kernel
theorem d_M_fastStart_121 : decode prog_12_method_45_code 121 = .ok (.iload_n 3, 1) := by decide +kernel
theorem d_M_fastStart_122 : decode prog_12_method_45_code 122 = .ok (.iload 4, 2) := by decide +kernel
theorem d_M_fastStart_124 : decode prog_12_method_45_code 124 = .ok (.invokevirtual 177, 3) := by decide +kernel
set_option maxRecDepth 20000 in
theorem w_953 : Cond.methodLink "MovieBoxesModel" 177 ⟨"MovieBoxesModel", "write", "(III)V"⟩ ∈ gt := gt_of (in_t4 (List.mem_of_getElem? (i := 233) rfl)) rfl
set_option maxRecDepth 20000 in
theorem w_955 : Cond.instanceMethod ⟨"MovieBoxesModel", "write", "(III)V"⟩ ∈ gt := gt_of (in_t4 (List.mem_of_getElem? (i := 235) rfl)) rfl
set_option maxRecDepth 20000 in
theorem ws_M_write : Cond.selects "MovieBoxesModel" ⟨"MovieBoxesModel", "write", "(III)V"⟩ ⟨"MovieBoxesModel", "write", "(III)V"⟩ ∈ gt := gt_of (in_p3 (List.mem_of_getElem? (i := 11) rfl)) rfl
set_option maxRecDepth 20000 in
theorem w_956 : Cond.code ⟨"MovieBoxesModel", "write", "(III)V"⟩ prog_12_method_47_code 5 (none : Option Jvm.ClassFile.FieldType) ∈ gt := gt_of (in_t4 (List.mem_of_getElem? (i := 236) rfl)) rfl
theorem lk_M_177 : LkV "MovieBoxesModel" 177 q_M_write 3 := ⟨(List.forall_mem_cons.mpr ⟨w_953, (List.forall_mem_cons.mpr ⟨w_955, (List.forall_mem_cons.mpr ⟨ws_M_write, (List.forall_mem_cons.mpr ⟨w_8, (fun _ h => absurd h List.not_mem_nil)⟩)⟩)⟩)⟩), w_956, by decide +kernel⟩
theorem d_M_fastStart_127 : decode prog_12_method_45_code 127 = .ok (.iload 4, 2) := by decide +kernel
theorem d_M_fastStart_129 : decode prog_12_method_45_code 129 = .ok (.ireturn, 1) := by decide +kernel
theorem d_M_fastStart_111 : decode prog_12_method_45_code 111 = .ok (.bipush (-2), 2) := by decide +kernel
theorem d_M_fastStart_113 : decode prog_12_method_45_code 113 = .ok (.ireturn, 1) := by decide +kernel
theorem d_M_fastStart_49 : decode prog_12_method_45_code 49 = .ok (.aload_n 0, 1) := by decide +kernel
theorem d_M_fastStart_50 : decode prog_12_method_45_code 50 = .ok (.iload 4, 2) := by decide +kernel
theorem d_M_fastStart_52 : decode prog_12_method_45_code 52 = .ok (.invokevirtual 171, 3) := by decide +kernel
theorem d_M_fastStart_75 : decode prog_12_method_45_code 75 = .ok (.iinc 4 1, 3) := by decide +kernel
theorem d_M_fastStart_78 : decode prog_12_method_45_code 78 = .ok (.goto (-35), 3) := by decide +kernel
theorem d_M_fastStart_55 : decode prog_12_method_45_code 55 = .ok (.istore 5, 2) := by decide +kernel
theorem d_M_fastStart_57 : decode prog_12_method_45_code 57 = .ok (.iload_n 3, 1) := by decide +kernel
theorem d_M_fastStart_58 : decode prog_12_method_45_code 58 = .ok (.ifCond .ge 17, 3) := by decide +kernel
theorem d_M_fastStart_61 : decode prog_12_method_45_code 61 = .ok (.aload_n 0, 1) := by decide +kernel
theorem d_M_fastStart_62 : decode prog_12_method_45_code 62 = .ok (.iload 5, 2) := by decide +kernel
theorem d_M_fastStart_64 : decode prog_12_method_45_code 64 = .ok (.invokevirtual 174, 3) := by decide +kernel
set_option maxRecDepth 20000 in
theorem w_945 : Cond.methodLink "MovieBoxesModel" 174 ⟨"MovieBoxesModel", "tooNarrow", "(I)I"⟩ ∈ gt := gt_of (in_t4 (List.mem_of_getElem? (i := 225) rfl)) rfl
set_option maxRecDepth 20000 in
theorem w_947 : Cond.instanceMethod ⟨"MovieBoxesModel", "tooNarrow", "(I)I"⟩ ∈ gt := gt_of (in_t4 (List.mem_of_getElem? (i := 227) rfl)) rfl
set_option maxRecDepth 20000 in
theorem ws_M_tooNarrow : Cond.selects "MovieBoxesModel" ⟨"MovieBoxesModel", "tooNarrow", "(I)I"⟩ ⟨"MovieBoxesModel", "tooNarrow", "(I)I"⟩ ∈ gt := gt_of (in_p3 (List.mem_of_getElem? (i := 9) rfl)) rfl
set_option maxRecDepth 20000 in
theorem w_948 : Cond.code ⟨"MovieBoxesModel", "tooNarrow", "(I)I"⟩ prog_12_method_43_code 6 (some .int) ∈ gt := gt_of (in_t4 (List.mem_of_getElem? (i := 228) rfl)) rfl
theorem lk_M_174 : LkV "MovieBoxesModel" 174 q_M_tooNarrow 1 := ⟨(List.forall_mem_cons.mpr ⟨w_945, (List.forall_mem_cons.mpr ⟨w_947, (List.forall_mem_cons.mpr ⟨ws_M_tooNarrow, (List.forall_mem_cons.mpr ⟨w_8, (fun _ h => absurd h List.not_mem_nil)⟩)⟩)⟩)⟩), w_948, by decide +kernel⟩
theorem d_M_fastStart_67 : decode prog_12_method_45_code 67 = .ok (.iload 4, 2) := by decide +kernel
theorem d_M_fastStart_69 : decode prog_12_method_45_code 69 = .ok (.if_icmp .ne 6, 3) := by decide +kernel
theorem d_M_fastStart_72 : decode prog_12_method_45_code 72 = .ok (.iload 4, 2) := by decide +kernel
theorem d_M_fastStart_74 : decode prog_12_method_45_code 74 = .ok (.istore_n 3, 1) := by decide +kernel
theorem d_M_fastStart_38 : decode prog_12_method_45_code 38 = .ok (.iconst (-1), 1) := by decide +kernel
theorem d_M_fastStart_39 : decode prog_12_method_45_code 39 = .ok (.istore_n 3, 1) := by decide +kernel
theorem d_M_fastStart_40 : decode prog_12_method_45_code 40 = .ok (.iconst 0, 1) := by decide +kernel
theorem d_M_fastStart_41 : decode prog_12_method_45_code 41 = .ok (.istore 4, 2) := by decide +kernel
theorem d_M_fastStart_9 : decode prog_12_method_45_code 9 = .ok (.iconst (-1), 1) := by decide +kernel
theorem d_M_fastStart_10 : decode prog_12_method_45_code 10 = .ok (.ireturn, 1) := by decide +kernel
/-! ===== the model: fastStart ===== -/
def agx (s u : mS) : Prop := ∀ c, c ≠ 13 → c ≠ 14 → c ≠ 15 → u c = s c
theorem agx.a {s u : mS} (h : agx s u) : agr s u := fun c hc => h c (by omega) (by omega) (by omega)
theorem agx.tr {s u v : mS} (h : agx s u) (g : agx u v) : agx s v := fun c h1 h2 h3 => (g c h1 h2 h3).trans (h c h1 h2 h3)
theorem lyP_cg {s u x : mS} {w : Int} (h : agx s u) (hy : lyP u w x) : lyP s w x := by
  refine ⟨h.tr hy.1, fun k h1 h2 h3 => ?_⟩
  have e0 : u 0 = s 0 := h 0 (by omega) (by omega) (by omega)
  have e6 : u 6 = s 6 := h 6 (by omega) (by omega) (by omega)
  have e5 : u 5 = s 5 := h 5 (by omega) (by omega) (by omega)
  have := hy.2 k (by rw [e0]; exact h1) (by rw [e0]; exact h2) (by rw [e0, e6]; exact h3)
  rw [nlF_cg h.a, pyF_cg h.a] at this
  unfold nhO at this ⊢
  rw [e5] at this
  exact this
noncomputable def stq (v : mS) : Nat → Int
  | 0 => -1
  | w + 1 => if stq v w < 0 ∧ tnO v (nlF v w 3 (v 0 2)) = w then w else stq v w
theorem stq_b (v : mS) : ∀ n : Nat, -1 ≤ stq v n ∧ stq v n < n
  | 0 => by unfold stq; omega
  | n + 1 => by
    have := stq_b v n
    unfold stq
    split <;> omega
theorem rsL_len {s : mS} {to : Int} (h1 : to ≤ s 2 (s 0 2)) (h2 : 0 ≤ s 3 (s 0 2)) : ∀ n : Nat, ((rsL s to n).length : Int) = if to + n ≤ s 2 (s 0 2) then (n : Int) else if to + n ≤ s 2 (s 0 2) + s 3 (s 0 2) then s 2 (s 0 2) - to else n - s 3 (s 0 2)
  | 0 => by rw [if_pos (by omega)]; rfl
  | n + 1 => by
    have ih := rsL_len h1 h2 n
    show ((rsL s to n ++ (if to + n < s 2 (s 0 2) ∨ s 2 (s 0 2) + s 3 (s 0 2) ≤ to + n then [s 1 (to + n)] else [])).length : Int) = _
    rw [List.length_append, Int.natCast_add, ih]
    generalize s 2 (s 0 2) = a at *
    generalize s 3 (s 0 2) = b at *
    by_cases c1 : to + (n : Int) < a
    · rw [if_pos (Or.inl c1), if_pos (show to + (n : Int) ≤ a by omega), if_pos (show to + ((n + 1 : Nat) : Int) ≤ a by omega), List.length_singleton]; omega
    · by_cases c2 : a + b ≤ to + (n : Int)
      · rw [if_pos (Or.inr c2), List.length_singleton, if_neg (show ¬ to + ((n + 1 : Nat) : Int) ≤ a by omega), if_neg (show ¬ to + ((n + 1 : Nat) : Int) ≤ a + b by omega)]
        by_cases c3 : to + (n : Int) ≤ a
        · rw [if_pos c3]; omega
        · rw [if_neg c3]
          by_cases c4 : to + (n : Int) ≤ a + b
          · rw [if_pos c4]; omega
          · rw [if_neg c4]; omega
      · rw [if_neg (show ¬ (to + (n : Int) < a ∨ a + b ≤ to + (n : Int)) by omega), List.length_nil, if_neg (show ¬ to + ((n + 1 : Nat) : Int) ≤ a by omega), if_pos (show to + ((n + 1 : Nat) : Int) ≤ a + b by omega)]
        by_cases c3 : to + (n : Int) ≤ a
        · rw [if_pos c3]; omega
        · rw [if_neg c3, if_pos (by omega)]; omega
/-- the new file's length -/
theorem wrAll_len {v : mS} (h : fsOk v) (ho : orOk v (v 0 0)) (w : Int) {d : Int} (hd : 0 ≤ d ∧ d < v 0 2) (hd2 : v 6 d = 0) : ((wrAll v w (nlF v w 3 (v 0 2)) (v 2 d)).length : Int) = v 0 0 - v 3 (v 0 2) + nlF v w 3 (v 0 2) ∧ 0 ≤ v 2 d ∧ v 2 d ≤ v 0 0 := by
  have hmv := h.2.1.1
  have b1 := h.1.2.1.2 d (by omega) (by omega)
  have b2 := h.1.2.1.2 (v 0 2) hmv.1 hmv.2.1
  have o1 := ho.1 (v 0 2) hmv.1 hmv.2.1
  have o2 := ho.2 d (v 0 2) hd.1 hd.2 hmv.2.1 hd2 hmv.2.2.1
  have hl := rsL_len (s := v) (to := v 2 d) (by omega) (by omega) (v 0 0 - v 2 d).toNat
  have hbl := bxL_len h w (nlF v w 3 (v 0 2))
  refine ⟨?_, by omega, by omega⟩
  unfold wrAll
  rw [List.length_append, List.length_append, filL_len, Int.natCast_add, Int.natCast_add, hbl, hl]
  by_cases c1 : v 2 d + ((v 0 0 - v 2 d).toNat : Int) ≤ v 2 (v 0 2)
  · rw [if_pos c1]; omega
  · rw [if_neg c1]
    by_cases c2 : v 2 d + ((v 0 0 - v 2 d).toNat : Int) ≤ v 2 (v 0 2) + v 3 (v 0 2)
    · rw [if_pos c2]; omega
    · rw [if_neg c2]; omega
/-- what fastStart answers and leaves -/
def fsR (s0 : mS) (r : Int) (x : mS) : Prop := ∃ f v, ckR s0 f v ∧ ((0 < f ∧ r = -1 ∧ x = v) ∨ (f = 0 ∧ (fdx v (v 0 1).toNat 0 < 0 ∨ v 0 2 < fdx v (v 0 1).toNat 0) ∧ r = v 3 (v 0 2) ∧ x = v) ∨ (f = 0 ∧ (0 ≤ fdx v (v 0 1).toNat 0 ∧ fdx v (v 0 1).toNat 0 < v 0 2) ∧ ((1000 < v 0 0 - v 3 (v 0 2) + nlF v (stq v 4) 3 (v 0 2) ∧ r = -2 ∧ agr v x) ∨ (v 0 0 - v 3 (v 0 2) + nlF v (stq v 4) 3 (v 0 2) ≤ 1000 ∧ r = nlF v (stq v 4) 3 (v 0 2) ∧ x 0 0 = ((wrAll v (stq v 4) (nlF v (stq v 4) 3 (v 0 2)) (v 2 (fdx v (v 0 1).toNat 0))).length : Int) ∧ (∀ j : Nat, x 1 j = if j < (wrAll v (stq v 4) (nlF v (stq v 4) 3 (v 0 2)) (v 2 (fdx v (v 0 1).toNat 0))).length then (wrAll v (stq v 4) (nlF v (stq v 4) 3 (v 0 2)) (v 2 (fdx v (v 0 1).toNat 0))).getD j 0 else v 1 j) ∧ ∀ j : Int, j < 0 → x 1 j = v 1 j))))
section MODEL23
variable (G : gG) (l : Launch) (ad : Nat → Nat)
theorem c_M_fastStart (s0 : mS) (hm : mI s0) : Ct G l q_M_fastStart 5 0 0 [.ref (ad 0)] (mW G ad s0) (fun r w => ∃ n x, fsR s0 n x ∧ r = some (vI n) ∧ w = mW G ad x) := by
  refine Ct.intro [some (.ref (ad 0)), none, none, none, none, none] (by decide) (Nat.le_of_ble_eq_true rfl) rfl (fun sz => ?_)
  generalize hQ : (fun r w => ∃ n x, fsR s0 n x ∧ r = some (vI n) ∧ w = mW G ad x) = Q
  refine r_aload_n d_M_fastStart_0 rfl rfl ?_
  refine r_cV0 d_M_fastStart_1 lk_M_137 (c_M_check G l ad s0 hm) 0 rfl rfl (Nat.le_of_ble_eq_true rfl) (rok rfl rfl) ⟨(Nat.le_of_ble_eq_true rfl), (Nat.le_of_ble_eq_true rfl)⟩ (fun r ws2 hq => ?_)
  obtain ⟨f, v, hck, rfl, rfl⟩ := hq
  show WP _ _ _ _ _ _ (_ :: _)
  have hfb := ckR_b hm hck
  refine r_istore_n d_M_fastStart_4 (Nat.le_of_ble_eq_true rfl) rfl ?_
  show WP _ _ _ _ _ [_, _, _, _, _, _] _
  refine r_iload_n d_M_fastStart_5 rfl ?_
  refine r_if_le 11 d_M_fastStart_6 (by decide) (by unfold i32; omega) (fun g1 => ?_) (fun g1 => ?_)
  · have hf0 : f = 0 := by omega
    subst hf0
    obtain ⟨hor, hfs⟩ := ckR_o hm hck
    have hmm := ckR_m hm hck
    obtain ⟨⟨hb, hr, ho, h3, h4⟩, hmv, hh, ht, hx⟩ := id hfs
    have hT : ∀ t, 0 ≤ t → t < v 0 3 → trOk v t := fun t q0 q1 => (h4 t q0 q1).1
    have hcn := hr.1
    have hsz := hmm.1
    have hmv1 := hmv.1
    have hmb := hr.2 (v 0 2) hmv1.1 hmv1.2.1
    have hE : ∀ n x, fsR s0 n x → Q (some (vI n)) (mW G ad x) := fun n x h => by rw [← hQ]; exact ⟨n, x, h, rfl, rfl⟩
    clear hQ
    refine r_aload_n d_M_fastStart_11 rfl rfl ?_
    refine r_cV0 d_M_fastStart_12 lk_M_168 (c_M_firstData G l ad v hr) 0 rfl rfl (Nat.le_of_ble_eq_true rfl) (rok rfl rfl) ⟨(Nat.le_of_ble_eq_true rfl), (Nat.le_of_ble_eq_true rfl)⟩ (fun r ws2 hq => ?_)
    obtain ⟨rfl, rfl⟩ := hq
    show WP _ _ _ _ _ _ (_ :: _)
    have hfd := fdx_b v (v 0 1).toNat 0 (by omega)
    obtain ⟨d, hd⟩ : ∃ d, d = fdx v (v 0 1).toNat 0 := ⟨_, rfl⟩
    rw [← hd] at hfd ⊢
    have j28 : (d < 0 ∨ v 0 2 < d) → ∀ x3 x4 x5, WP (mth G l q_M_fastStart 5 0 0 (mW G ad s0) sz Q) 0 0 (mW G ad v) 28 [some (.ref (ad 0)), some (vI 0), some (vI d), x3, x4, x5] [] := by
      intro h x3 x4 x5
      refine r_aload_n d_M_fastStart_28 rfl rfl ?_
      refine r_get d_M_fastStart_29 fl_M_16_7 0 rfl rfl ?_
      refine r_aload_n d_M_fastStart_32 rfl rfl ?_
      refine r_get d_M_fastStart_33 fl_M_96_7 0 rfl rfl ?_
      refine r_iald d_M_fastStart_36 3 rfl (by omega) ?_
      refine r_iret d_M_fastStart_37 rfl (Nat.le_of_ble_eq_true rfl) (Nat.le_of_ble_eq_true rfl) ?_
      exact hE _ _ ⟨0, v, hck, Or.inr (Or.inl ⟨rfl, by rw [← hd]; exact h, rfl, rfl⟩)⟩
    refine r_istore_n d_M_fastStart_15 (Nat.le_of_ble_eq_true rfl) rfl ?_
    show WP _ _ _ _ _ [_, _, _, _, _, _] _
    refine r_iload_n d_M_fastStart_16 rfl ?_
    refine r_if_lt 28 d_M_fastStart_17 (by decide) (by unfold i32; omega) (fun g2 => ?_) (fun g2 => ?_)
    · exact j28 (Or.inl g2) _ _ _
    refine r_iload_n d_M_fastStart_20 rfl ?_
    refine r_aload_n d_M_fastStart_21 rfl rfl ?_
    refine r_get d_M_fastStart_22 fl_M_96_7 0 rfl rfl ?_
    refine r_icmp_le 38 d_M_fastStart_25 (by decide) (by unfold i32; omega) (by unfold i32; omega) (fun g3 => ?_) (fun g3 => ?_)
    · have hd1 : 0 ≤ d ∧ d < v 0 2 ∧ v 6 d = 0 := by
        rcases hfd with q | ⟨q1, q2, q3, q4⟩
        · omega
        · have : d ≠ v 0 2 := fun e => by have := q3.2; rw [e] at this; omega
          exact ⟨by omega, by omega, q3.1⟩
      -- the search
      have l1 : ∀ (m w : Nat) (u : mS) (x5 : Option Value), w + m = 4 → agx v u → WP (mth G l q_M_fastStart 5 0 0 (mW G ad s0) sz Q) 0 0 (mW G ad u) 43 [some (.ref (ad 0)), some (vI 0), some (vI d), some (vI (stq v w)), some (vI w), x5] [] := by
        intro m
        induction m with
        | zero =>
          intro w u x5 hw hu
          have hw4 : w = 4 := by omega
          subst hw4
          have ha := hu.a
          have hsb := stq_b v 4
          refine r_iload d_M_fastStart_43 rfl ?_
          refine r_iconst d_M_fastStart_45 ?_
          refine r_icmp_ge 81 d_M_fastStart_46 (by decide) (by unfold i32; omega) (by unfold i32; omega) (fun q1 => ?_) (fun q1 => ?_)
          · refine r_aload_n d_M_fastStart_81 rfl rfl ?_
            refine r_iload_n d_M_fastStart_82 rfl ?_
            refine r_cV1 d_M_fastStart_83 lk_M_171 (c_M_layout G l ad u (stq v 4) (byOk_cg ha hb) (rdOk_cg ha hr) (hoOk_cg ha ho) (by rw [ha 0 (by omega)]; exact h3) (fun t q0 q1 => trOk_cg ha (hT t q0 (by rw [ha 0 (by omega)] at q1; exact q1))) (by rw [ha 0 (by omega)]; exact ⟨hmv1.1, hmv1.2.1⟩) (by unfold wOk; omega)) 0 rfl rfl (Nat.le_of_ble_eq_true rfl) (rok rfl rfl) ⟨(Nat.le_of_ble_eq_true rfl), (Nat.le_of_ble_eq_true rfl)⟩ (fun r ws2 hq => ?_)
            obtain ⟨u2, hy, hnb, rfl, rfl⟩ := hq
            show WP _ _ _ _ _ _ (_ :: _)
            have hy2 := lyP_cg hu hy
            rw [ha 0 (by omega), nlF_cg ha] at hnb ⊢
            obtain ⟨gr, hgr⟩ : ∃ gr, gr = nlF v (stq v 4) 3 (v 0 2) := ⟨_, rfl⟩
            rw [← hgr] at hnb ⊢
            have e0 : u2 0 = v 0 := hy2.1 0 (by omega) (by omega) (by omega)
            have e3 : u2 3 = v 3 := hy2.1 3 (by omega) (by omega) (by omega)
            have e2 : u2 2 = v 2 := hy2.1 2 (by omega) (by omega) (by omega)
            refine r_istore d_M_fastStart_86 (Nat.le_of_ble_eq_true rfl) rfl ?_
            show WP _ _ _ _ _ [_, _, _, _, _, _] _
            refine r_aload_n d_M_fastStart_88 rfl rfl ?_
            refine r_get d_M_fastStart_89 fl_M_58_7 0 rfl rfl ?_
            refine r_aload_n d_M_fastStart_92 rfl rfl ?_
            refine r_get d_M_fastStart_93 fl_M_16_7 0 rfl rfl ?_
            refine r_aload_n d_M_fastStart_96 rfl rfl ?_
            refine r_get d_M_fastStart_97 fl_M_96_7 0 rfl rfl ?_
            rw [e0]
            refine r_iald d_M_fastStart_100 3 rfl (by omega) ?_
            refine r_isub d_M_fastStart_101 ?_
            refine r_iload d_M_fastStart_102 rfl ?_
            refine r_iadd d_M_fastStart_104 ?_
            refine r_sipush d_M_fastStart_105 (by decide) ?_
            rw [e3]
            refine r_icmp_le 114 d_M_fastStart_108 (by decide) (by unfold i32; omega) (by unfold i32; omega) (fun q2 => ?_) (fun q2 => ?_)
            · have hwl := wrAll_len hfs hor (stq v 4) ⟨hd1.1, hd1.2.1⟩ hd1.2.2
              rw [← hgr] at hwl
              refine r_aload_n d_M_fastStart_114 rfl rfl ?_
              refine r_aload_n d_M_fastStart_115 rfl rfl ?_
              refine r_get d_M_fastStart_116 fl_M_13_7 0 rfl rfl ?_
              refine r_iload_n d_M_fastStart_119 rfl ?_
              refine r_iald d_M_fastStart_120 2 rfl (by omega) ?_
              refine r_iload_n d_M_fastStart_121 rfl ?_
              refine r_iload d_M_fastStart_122 rfl ?_
              rw [e2]
              refine r_cV3 d_M_fastStart_124 lk_M_177 (c_M_write G l ad v (stq v 4) gr (v 2 d) u2 hy2 hmm hfs (by unfold wOk; omega) hwl.2 (by omega) (by omega)) 0 rfl rfl (Nat.le_of_ble_eq_true rfl) (rok rfl rfl) ⟨(Nat.le_of_ble_eq_true rfl), (Nat.le_of_ble_eq_true rfl)⟩ (fun r ws2 hq => ?_)
              obtain ⟨rfl, x, x0, x1, x2, rfl⟩ := hq
              show WP _ _ _ _ _ _ _
              refine r_iload d_M_fastStart_127 rfl ?_
              refine r_iret d_M_fastStart_129 rfl (Nat.le_of_ble_eq_true rfl) (Nat.le_of_ble_eq_true rfl) ?_
              refine hE _ _ ⟨0, v, hck, Or.inr (Or.inr ⟨rfl, by rw [← hd]; exact ⟨hd1.1, hd1.2.1⟩, Or.inr ⟨by rw [← hgr]; omega, hgr, ?_⟩⟩)⟩
              rw [← hd, ← hgr]
              exact ⟨x0, x1, x2⟩
            · refine r_bipush d_M_fastStart_111 (by decide) ?_
              refine r_iret d_M_fastStart_113 rfl (Nat.le_of_ble_eq_true rfl) (Nat.le_of_ble_eq_true rfl) ?_
              exact hE _ _ ⟨0, v, hck, Or.inr (Or.inr ⟨rfl, by rw [← hd]; exact ⟨hd1.1, hd1.2.1⟩, Or.inl ⟨by rw [← hgr]; omega, rfl, fun c hc => hy2.1 c (by omega) (by omega) (by omega)⟩⟩)⟩
          · exact absurd q1 (by omega)
        | succ m ih =>
          intro w u x5 hw hu
          have ha := hu.a
          have hsb := stq_b v w
          have eS : stq v (w + 1) = if stq v w < 0 ∧ tnO v (nlF v w 3 (v 0 2)) = w then (w : Int) else stq v w := rfl
          refine r_iload d_M_fastStart_43 rfl ?_
          refine r_iconst d_M_fastStart_45 ?_
          refine r_icmp_ge 81 d_M_fastStart_46 (by decide) (by unfold i32; omega) (by unfold i32; omega) (fun q1 => ?_) (fun q1 => ?_)
          · exact absurd q1 (by omega)
          refine r_aload_n d_M_fastStart_49 rfl rfl ?_
          refine r_iload d_M_fastStart_50 rfl ?_
          refine r_cV1 d_M_fastStart_52 lk_M_171 (c_M_layout G l ad u w (byOk_cg ha hb) (rdOk_cg ha hr) (hoOk_cg ha ho) (by rw [ha 0 (by omega)]; exact h3) (fun t q0 q1 => trOk_cg ha (hT t q0 (by rw [ha 0 (by omega)] at q1; exact q1))) (by rw [ha 0 (by omega)]; exact ⟨hmv1.1, hmv1.2.1⟩) (by unfold wOk; omega)) 0 rfl rfl (Nat.le_of_ble_eq_true rfl) (rok rfl rfl) ⟨(Nat.le_of_ble_eq_true rfl), (Nat.le_of_ble_eq_true rfl)⟩ (fun r ws2 hq => ?_)
          obtain ⟨u2, hy, hnb, rfl, rfl⟩ := hq
          show WP _ _ _ _ _ _ (_ :: _)
          have hy2 := lyP_cg hu hy
          have hu2 : agx v u2 := hy2.1
          have ha2 := hu2.a
          rw [ha 0 (by omega), nlF_cg ha] at hnb ⊢
          have j75 : ∀ st x5, st = stq v (w + 1) → WP (mth G l q_M_fastStart 5 0 0 (mW G ad s0) sz Q) 0 0 (mW G ad u2) 75 [some (.ref (ad 0)), some (vI 0), some (vI d), some (vI st), some (vI w), x5] [] := by
            intro st x5 hst
            rw [hst]
            refine r_iinc d_M_fastStart_75 rfl (Nat.le_of_ble_eq_true rfl) rfl ?_
            show WP _ _ _ _ _ [_, _, _, _, _, _] _
            refine r_goto 43 d_M_fastStart_78 (by decide) ?_
            exact ih (w + 1) u2 _ (by omega) hu2
          refine r_istore d_M_fastStart_55 (Nat.le_of_ble_eq_true rfl) rfl ?_
          show WP _ _ _ _ _ [_, _, _, _, _, _] _
          refine r_iload_n d_M_fastStart_57 rfl ?_
          refine r_if_ge 75 d_M_fastStart_58 (by decide) (by unfold i32; omega) (fun q2 => ?_) (fun q2 => ?_)
          · exact j75 _ _ (by rw [eS, if_neg (by omega)])
          refine r_aload_n d_M_fastStart_61 rfl rfl ?_
          refine r_iload d_M_fastStart_62 rfl ?_
          have h12 : u2 12 = v 12 := hu2 12 (by omega) (by omega) (by omega)
          refine r_cV1 d_M_fastStart_64 lk_M_174 (c_M_tooNarrow G l ad u2 (nlF v w 3 (v 0 2)) (byOk_cg ha2 hb) (rdOk_cg ha2 hr) (by rw [ha2 0 (by omega)]; exact h3) (fun t q0 q1 => trOk_cg ha2 (hT t q0 (by rw [ha2 0 (by omega)] at q1; exact q1))) (hmOk_cg ha2 h12 hh) (by omega)) 0 rfl rfl (Nat.le_of_ble_eq_true rfl) (rok rfl rfl) ⟨(Nat.le_of_ble_eq_true rfl), (Nat.le_of_ble_eq_true rfl)⟩ (fun r ws2 hq => ?_)
          obtain ⟨rfl, rfl⟩ := hq
          show WP _ _ _ _ _ _ (_ :: _)
          rw [tnO_cg ha2 h12]
          have htb : 0 ≤ tnO v (nlF v w 3 (v 0 2)) ∧ tnO v (nlF v w 3 (v 0 2)) ≤ 3 := by
            have q3 := b2_b (tnB v 0 (nlF v w 3 (v 0 2)))
            have q4 := b2_b (tnB v 1 (nlF v w 3 (v 0 2)))
            unfold tnO
            split <;> omega
          refine r_iload d_M_fastStart_67 rfl ?_
          refine r_icmp_ne 75 d_M_fastStart_69 (by decide) (by unfold i32; omega) (by unfold i32; omega) (fun q3 => ?_) (fun q3 => ?_)
          · exact j75 _ _ (by rw [eS, if_neg (fun z => q3 z.2)])
          · refine r_iload d_M_fastStart_72 rfl ?_
            refine r_istore_n d_M_fastStart_74 (Nat.le_of_ble_eq_true rfl) rfl ?_
            show WP _ _ _ _ _ [_, _, _, _, _, _] _
            exact j75 _ _ (by rw [eS, if_pos ⟨by omega, by omega⟩])
      refine r_iconst d_M_fastStart_38 ?_
      refine r_istore_n d_M_fastStart_39 (Nat.le_of_ble_eq_true rfl) rfl ?_
      show WP _ _ _ _ _ [_, _, _, _, _, _] _
      refine r_iconst d_M_fastStart_40 ?_
      refine r_istore d_M_fastStart_41 (Nat.le_of_ble_eq_true rfl) rfl ?_
      show WP _ _ _ _ _ [_, _, _, _, _, _] _
      exact l1 4 0 v none (by omega) (fun _ _ _ _ => rfl)
    · exact j28 (by omega) _ _ _
  · refine r_iconst d_M_fastStart_9 ?_
    refine r_iret d_M_fastStart_10 rfl (Nat.le_of_ble_eq_true rfl) (Nat.le_of_ble_eq_true rfl) ?_
    rw [← hQ]
    exact ⟨-1, v, ⟨f, v, hck, Or.inl ⟨by omega, rfl, rfl⟩⟩, rfl, rfl⟩
end MODEL23
