abbrev q_M_write : Mi := (⟨"MovieBoxesModel", "write", "(III)V"⟩, prog_12_method_47_code, 5, none)
theorem d_M_write_154 : decode prog_12_method_47_code 154 = .ok (.iload 4, 2) := by decide +kernel
theorem d_M_write_156 : decode prog_12_method_47_code 156 = .ok (.aload_n 0, 1) := by decide +kernel
theorem d_M_write_157 : decode prog_12_method_47_code 157 = .ok (.getfield 58, 3) := by decide +kernel
theorem d_M_write_160 : decode prog_12_method_47_code 160 = .ok (.if_icmp .ge 23, 3) := by decide +kernel
theorem d_M_write_183 : decode prog_12_method_47_code 183 = .ok (.return_, 1) := by decide +kernel
theorem d_M_write_163 : decode prog_12_method_47_code 163 = .ok (.aload_n 0, 1) := by decide +kernel
theorem d_M_write_164 : decode prog_12_method_47_code 164 = .ok (.getfield 7, 3) := by decide +kernel
theorem d_M_write_167 : decode prog_12_method_47_code 167 = .ok (.iload 4, 2) := by decide +kernel
theorem d_M_write_169 : decode prog_12_method_47_code 169 = .ok (.aload_n 0, 1) := by decide +kernel
theorem d_M_write_170 : decode prog_12_method_47_code 170 = .ok (.getfield 55, 3) := by decide +kernel
theorem d_M_write_173 : decode prog_12_method_47_code 173 = .ok (.iload 4, 2) := by decide +kernel
theorem d_M_write_175 : decode prog_12_method_47_code 175 = .ok (.iaload, 1) := by decide +kernel
theorem d_M_write_176 : decode prog_12_method_47_code 176 = .ok (.iastore, 1) := by decide +kernel
theorem d_M_write_177 : decode prog_12_method_47_code 177 = .ok (.iinc 4 1, 3) := by decide +kernel
theorem d_M_write_180 : decode prog_12_method_47_code 180 = .ok (.goto (-26), 3) := by decide +kernel
theorem d_M_write_79 : decode prog_12_method_47_code 79 = .ok (.iload 4, 2) := by decide +kernel
theorem d_M_write_81 : decode prog_12_method_47_code 81 = .ok (.aload_n 0, 1) := by decide +kernel
theorem d_M_write_82 : decode prog_12_method_47_code 82 = .ok (.getfield 58, 3) := by decide +kernel
theorem d_M_write_85 : decode prog_12_method_47_code 85 = .ok (.if_icmp .ge 58, 3) := by decide +kernel
theorem d_M_write_143 : decode prog_12_method_47_code 143 = .ok (.aload_n 0, 1) := by decide +kernel
theorem d_M_write_144 : decode prog_12_method_47_code 144 = .ok (.aload_n 0, 1) := by decide +kernel
theorem d_M_write_145 : decode prog_12_method_47_code 145 = .ok (.getfield 181, 3) := by decide +kernel
theorem d_M_write_148 : decode prog_12_method_47_code 148 = .ok (.putfield 58, 3) := by decide +kernel
theorem d_M_write_151 : decode prog_12_method_47_code 151 = .ok (.iconst 0, 1) := by decide +kernel
theorem d_M_write_152 : decode prog_12_method_47_code 152 = .ok (.istore 4, 2) := by decide +kernel
theorem d_M_write_137 : decode prog_12_method_47_code 137 = .ok (.iinc 4 1, 3) := by decide +kernel
theorem d_M_write_140 : decode prog_12_method_47_code 140 = .ok (.goto (-61), 3) := by decide +kernel
theorem d_M_write_126 : decode prog_12_method_47_code 126 = .ok (.aload_n 0, 1) := by decide +kernel
theorem d_M_write_127 : decode prog_12_method_47_code 127 = .ok (.aload_n 0, 1) := by decide +kernel
theorem d_M_write_128 : decode prog_12_method_47_code 128 = .ok (.getfield 7, 3) := by decide +kernel
theorem d_M_write_131 : decode prog_12_method_47_code 131 = .ok (.iload 4, 2) := by decide +kernel
theorem d_M_write_133 : decode prog_12_method_47_code 133 = .ok (.iaload, 1) := by decide +kernel
theorem d_M_write_134 : decode prog_12_method_47_code 134 = .ok (.invokevirtual 184, 3) := by decide +kernel
theorem d_M_write_88 : decode prog_12_method_47_code 88 = .ok (.iload 4, 2) := by decide +kernel
theorem d_M_write_90 : decode prog_12_method_47_code 90 = .ok (.aload_n 0, 1) := by decide +kernel
theorem d_M_write_91 : decode prog_12_method_47_code 91 = .ok (.getfield 13, 3) := by decide +kernel
theorem d_M_write_94 : decode prog_12_method_47_code 94 = .ok (.aload_n 0, 1) := by decide +kernel
theorem d_M_write_95 : decode prog_12_method_47_code 95 = .ok (.getfield 96, 3) := by decide +kernel
theorem d_M_write_98 : decode prog_12_method_47_code 98 = .ok (.iaload, 1) := by decide +kernel
theorem d_M_write_99 : decode prog_12_method_47_code 99 = .ok (.if_icmp .lt 27, 3) := by decide +kernel
theorem d_M_write_102 : decode prog_12_method_47_code 102 = .ok (.iload 4, 2) := by decide +kernel
theorem d_M_write_104 : decode prog_12_method_47_code 104 = .ok (.aload_n 0, 1) := by decide +kernel
theorem d_M_write_105 : decode prog_12_method_47_code 105 = .ok (.getfield 13, 3) := by decide +kernel
theorem d_M_write_108 : decode prog_12_method_47_code 108 = .ok (.aload_n 0, 1) := by decide +kernel
theorem d_M_write_109 : decode prog_12_method_47_code 109 = .ok (.getfield 96, 3) := by decide +kernel
theorem d_M_write_112 : decode prog_12_method_47_code 112 = .ok (.iaload, 1) := by decide +kernel
theorem d_M_write_113 : decode prog_12_method_47_code 113 = .ok (.aload_n 0, 1) := by decide +kernel
theorem d_M_write_114 : decode prog_12_method_47_code 114 = .ok (.getfield 16, 3) := by decide +kernel
theorem d_M_write_117 : decode prog_12_method_47_code 117 = .ok (.aload_n 0, 1) := by decide +kernel
theorem d_M_write_118 : decode prog_12_method_47_code 118 = .ok (.getfield 96, 3) := by decide +kernel
theorem d_M_write_121 : decode prog_12_method_47_code 121 = .ok (.iaload, 1) := by decide +kernel
theorem d_M_write_122 : decode prog_12_method_47_code 122 = .ok (.iadd, 1) := by decide +kernel
theorem d_M_write_123 : decode prog_12_method_47_code 123 = .ok (.if_icmp .lt 14, 3) := by decide +kernel
theorem d_M_write_34 : decode prog_12_method_47_code 34 = .ok (.iload 4, 2) := by decide +kernel
theorem d_M_write_36 : decode prog_12_method_47_code 36 = .ok (.aload_n 0, 1) := by decide +kernel
theorem d_M_write_37 : decode prog_12_method_47_code 37 = .ok (.getfield 64, 3) := by decide +kernel
theorem d_M_write_40 : decode prog_12_method_47_code 40 = .ok (.if_icmp .ge 36, 3) := by decide +kernel
theorem d_M_write_76 : decode prog_12_method_47_code 76 = .ok (.iload_n 1, 1) := by decide +kernel
theorem d_M_write_77 : decode prog_12_method_47_code 77 = .ok (.istore 4, 2) := by decide +kernel
theorem d_M_write_70 : decode prog_12_method_47_code 70 = .ok (.iinc 4 1, 3) := by decide +kernel
theorem d_M_write_73 : decode prog_12_method_47_code 73 = .ok (.goto (-39), 3) := by decide +kernel
theorem d_M_write_62 : decode prog_12_method_47_code 62 = .ok (.aload_n 0, 1) := by decide +kernel
theorem d_M_write_63 : decode prog_12_method_47_code 63 = .ok (.iload 4, 2) := by decide +kernel
theorem d_M_write_65 : decode prog_12_method_47_code 65 = .ok (.iload_n 2, 1) := by decide +kernel
theorem d_M_write_66 : decode prog_12_method_47_code 66 = .ok (.iload_n 3, 1) := by decide +kernel
theorem d_M_write_67 : decode prog_12_method_47_code 67 = .ok (.invokevirtual 188, 3) := by decide +kernel
set_option maxRecDepth 20000 in
theorem w_961 : Cond.methodLink "MovieBoxesModel" 188 ⟨"MovieBoxesModel", "writeBox", "(III)V"⟩ ∈ gt := gt_of (in_t5 (List.mem_of_getElem? (i := 1) rfl)) rfl
set_option maxRecDepth 20000 in
theorem w_963 : Cond.instanceMethod ⟨"MovieBoxesModel", "writeBox", "(III)V"⟩ ∈ gt := gt_of (in_t5 (List.mem_of_getElem? (i := 3) rfl)) rfl
set_option maxRecDepth 20000 in
theorem ws_M_writeBox : Cond.selects "MovieBoxesModel" ⟨"MovieBoxesModel", "writeBox", "(III)V"⟩ ⟨"MovieBoxesModel", "writeBox", "(III)V"⟩ ∈ gt := gt_of (in_p3 (List.mem_of_getElem? (i := 13) rfl)) rfl
set_option maxRecDepth 20000 in
theorem w_964 : Cond.code ⟨"MovieBoxesModel", "writeBox", "(III)V"⟩ prog_12_method_48_code 9 (none : Option Jvm.ClassFile.FieldType) ∈ gt := gt_of (in_t5 (List.mem_of_getElem? (i := 4) rfl)) rfl
theorem lk_M_188 : LkV "MovieBoxesModel" 188 q_M_writeBox 3 := ⟨(List.forall_mem_cons.mpr ⟨w_961, (List.forall_mem_cons.mpr ⟨w_963, (List.forall_mem_cons.mpr ⟨ws_M_writeBox, (List.forall_mem_cons.mpr ⟨w_8, (fun _ h => absurd h List.not_mem_nil)⟩)⟩)⟩)⟩), w_964, by decide +kernel⟩
theorem d_M_write_43 : decode prog_12_method_47_code 43 = .ok (.iload 4, 2) := by decide +kernel
theorem d_M_write_45 : decode prog_12_method_47_code 45 = .ok (.aload_n 0, 1) := by decide +kernel
theorem d_M_write_46 : decode prog_12_method_47_code 46 = .ok (.getfield 96, 3) := by decide +kernel
theorem d_M_write_49 : decode prog_12_method_47_code 49 = .ok (.if_icmp .eq 13, 3) := by decide +kernel
theorem d_M_write_52 : decode prog_12_method_47_code 52 = .ok (.aload_n 0, 1) := by decide +kernel
theorem d_M_write_53 : decode prog_12_method_47_code 53 = .ok (.getfield 25, 3) := by decide +kernel
theorem d_M_write_56 : decode prog_12_method_47_code 56 = .ok (.iload 4, 2) := by decide +kernel
theorem d_M_write_58 : decode prog_12_method_47_code 58 = .ok (.iaload, 1) := by decide +kernel
theorem d_M_write_59 : decode prog_12_method_47_code 59 = .ok (.ifCond .le 11, 3) := by decide +kernel
theorem d_M_write_8 : decode prog_12_method_47_code 8 = .ok (.iload 4, 2) := by decide +kernel
theorem d_M_write_10 : decode prog_12_method_47_code 10 = .ok (.iload_n 1, 1) := by decide +kernel
theorem d_M_write_11 : decode prog_12_method_47_code 11 = .ok (.if_icmp .ge 20, 3) := by decide +kernel
theorem d_M_write_31 : decode prog_12_method_47_code 31 = .ok (.iconst 0, 1) := by decide +kernel
theorem d_M_write_32 : decode prog_12_method_47_code 32 = .ok (.istore 4, 2) := by decide +kernel
theorem d_M_write_14 : decode prog_12_method_47_code 14 = .ok (.aload_n 0, 1) := by decide +kernel
theorem d_M_write_15 : decode prog_12_method_47_code 15 = .ok (.aload_n 0, 1) := by decide +kernel
theorem d_M_write_16 : decode prog_12_method_47_code 16 = .ok (.getfield 7, 3) := by decide +kernel
theorem d_M_write_19 : decode prog_12_method_47_code 19 = .ok (.iload 4, 2) := by decide +kernel
theorem d_M_write_21 : decode prog_12_method_47_code 21 = .ok (.iaload, 1) := by decide +kernel
theorem d_M_write_22 : decode prog_12_method_47_code 22 = .ok (.invokevirtual 184, 3) := by decide +kernel
theorem d_M_write_25 : decode prog_12_method_47_code 25 = .ok (.iinc 4 1, 3) := by decide +kernel
theorem d_M_write_28 : decode prog_12_method_47_code 28 = .ok (.goto (-20), 3) := by decide +kernel
theorem d_M_write_0 : decode prog_12_method_47_code 0 = .ok (.aload_n 0, 1) := by decide +kernel
theorem d_M_write_1 : decode prog_12_method_47_code 1 = .ok (.iconst 0, 1) := by decide +kernel
theorem d_M_write_2 : decode prog_12_method_47_code 2 = .ok (.putfield 181, 3) := by decide +kernel
theorem d_M_write_5 : decode prog_12_method_47_code 5 = .ok (.iconst 0, 1) := by decide +kernel
theorem d_M_write_6 : decode prog_12_method_47_code 6 = .ok (.istore 4, 2) := by decide +kernel
/-! ===== the model: write ===== -/
def filL (s : mS) : Nat → List Int
  | 0 => []
  | p + 1 => filL s p ++ [s 1 p]
def rsL (s : mS) (to : Int) : Nat → List Int
  | 0 => []
  | i + 1 => rsL s to i ++ (if to + i < s 2 (s 0 2) ∨ s 2 (s 0 2) + s 3 (s 0 2) ≤ to + i then [s 1 (to + i)] else [])
/-- the new file -/
def wrAll (s : mS) (w gr to : Int) : List Int := filL s to.toNat ++ bxL s w gr (s 0 1).toNat ++ rsL s to (s 0 0 - to).toNat
theorem filL_len (s : mS) : ∀ n : Nat, (filL s n).length = n
  | 0 => rfl
  | n + 1 => by unfold filL; rw [List.length_append, filL_len s n]; rfl
theorem filL_le {s : mS} {w gr to : Int} {p : Nat} (h : (p : Int) ≤ to) : (filL s p).length ≤ (wrAll s w gr to).length := by
  unfold wrAll
  rw [filL_len, List.length_append, List.length_append, filL_len]; omega
theorem bxL_mono (s : mS) (w gr : Int) {a b : Nat} (h : a ≤ b) : (bxL s w gr a).length ≤ (bxL s w gr b).length := by
  induction b with
  | zero => have : a = 0 := by omega
            subst this; exact Nat.le_refl _
  | succ b ih =>
    rcases Nat.lt_or_ge a (b + 1) with q | q
    · have := ih (by omega)
      show (bxL s w gr a).length ≤ (bxL s w gr b ++ (if (b : Int) = s 0 2 ∨ 0 < s 6 b then wbL s w gr b else [])).length
      rw [List.length_append]
      omega
    · have : a = b + 1 := by omega
      subst this; exact Nat.le_refl _
theorem rsL_mono (s : mS) (to : Int) {a b : Nat} (h : a ≤ b) : (rsL s to a).length ≤ (rsL s to b).length := by
  induction b with
  | zero => have : a = 0 := by omega
            subst this; exact Nat.le_refl _
  | succ b ih =>
    rcases Nat.lt_or_ge a (b + 1) with q | q
    · have := ih (by omega)
      show (rsL s to a).length ≤ (rsL s to b ++ (if to + b < s 2 (s 0 2) ∨ s 2 (s 0 2) + s 3 (s 0 2) ≤ to + b then [s 1 (to + b)] else [])).length
      rw [List.length_append]
      omega
    · have : a = b + 1 := by omega
      subst this; exact Nat.le_refl _
section MODEL22
variable (G : gG) (l : Launch) (ad : Nat → Nat)
theorem c_M_write (s : mS) (w gr to : Int) (u : mS) (hy : lyP s w u) (hm : mI s) (hf : fsOk s) (hw : wOk w) (hto : 0 ≤ to ∧ to ≤ s 0 0) (hgr : 0 ≤ gr ∧ gr ≤ 100000) (hlen : (wrAll s w gr to).length ≤ 1000) : Ct G l q_M_write 4 0 0 [.ref (ad 0), vI to, vI w, vI gr] (mW G ad u) (fun r x => r = none ∧ ∃ v : mS, v 0 0 = ((wrAll s w gr to).length : Int) ∧ (∀ j : Nat, v 1 j = if j < (wrAll s w gr to).length then (wrAll s w gr to).getD j 0 else s 1 j) ∧ (∀ j : Int, j < 0 → v 1 j = s 1 j) ∧ x = mW G ad v) := by
  refine Ct.intro [some (.ref (ad 0)), some (vI to), some (vI w), some (vI gr), none] (by decide) (Nat.le_of_ble_eq_true rfl) rfl (fun sz => ?_)
  generalize hQ : (fun r x => r = none ∧ ∃ v : mS, v 0 0 = ((wrAll s w gr to).length : Int) ∧ (∀ j : Nat, v 1 j = if j < (wrAll s w gr to).length then (wrAll s w gr to).getD j 0 else s 1 j) ∧ (∀ j : Int, j < 0 → v 1 j = s 1 j) ∧ x = mW G ad v) = Q
  obtain ⟨⟨hb, hr, ho, h3, h4⟩, hmv, hh, ht, hx⟩ := id hf
  have hT : ∀ t, 0 ≤ t → t < s 0 3 → trOk s t := fun t q0 q1 => (h4 t q0 q1).1
  have hcn := hr.1
  have hsz := hm.1
  obtain ⟨⟨m1, m2, m3, m4⟩, m5, m6⟩ := id hmv
  have hmb := hr.2 (s 0 2) m1 m2
  have eAll : wrAll s w gr to = filL s to.toNat ++ bxL s w gr (s 0 1).toNat ++ rsL s to (s 0 0 - to).toNat := rfl
  have lAll : (wrAll s w gr to).length = to.toNat + (bxL s w gr (s 0 1).toNat).length + (rsL s to (s 0 0 - to).toNat).length := by
    rw [eAll, List.length_append, List.length_append, filL_len]
  -- the copy back
  have l4 : ∀ (m p : Nat) (v : mS), p + m = (wrAll s w gr to).length → v 0 0 = ((wrAll s w gr to).length : Int) → (∀ i : Nat, i < (wrAll s w gr to).length → v 16 i = (wrAll s w gr to).getD i 0) → (∀ j : Nat, v 1 j = if j < p then (wrAll s w gr to).getD j 0 else s 1 j) → (∀ j : Int, j < 0 → v 1 j = s 1 j) → WP (mth G l q_M_write 4 0 0 (mW G ad u) sz Q) 0 0 (mW G ad v) 154 [some (.ref (ad 0)), some (vI to), some (vI w), some (vI gr), some (vI p)] [] := by
    intro m
    induction m with
    | zero =>
      intro p v hp h0 h16 h1 hneg
      have : p = (wrAll s w gr to).length := by omega
      subst this
      refine r_iload d_M_write_154 rfl ?_
      refine r_aload_n d_M_write_156 rfl rfl ?_
      refine r_get d_M_write_157 fl_M_58_7 0 rfl rfl ?_
      refine r_icmp_ge 183 d_M_write_160 (by decide) (by unfold i32; omega) (by unfold i32; omega) (fun g1 => ?_) (fun g1 => ?_)
      · refine r_vret d_M_write_183 rfl (Nat.le_of_ble_eq_true rfl) (Nat.le_of_ble_eq_true rfl) ?_
        rw [← hQ]; exact ⟨rfl, v, h0, h1, hneg, rfl⟩
      · exact absurd g1 (by omega)
    | succ m ih =>
      intro p v hp h0 h16 h1 hneg
      refine r_iload d_M_write_154 rfl ?_
      refine r_aload_n d_M_write_156 rfl rfl ?_
      refine r_get d_M_write_157 fl_M_58_7 0 rfl rfl ?_
      refine r_icmp_ge 183 d_M_write_160 (by decide) (by unfold i32; omega) (by unfold i32; omega) (fun g1 => ?_) (fun g1 => ?_)
      · exact absurd g1 (by omega)
      refine r_aload_n d_M_write_163 rfl rfl ?_
      refine r_get d_M_write_164 fl_M_7_7 0 rfl rfl ?_
      refine r_iload d_M_write_167 rfl ?_
      refine r_aload_n d_M_write_169 rfl rfl ?_
      refine r_get d_M_write_170 fl_M_55_7 0 rfl rfl ?_
      refine r_iload d_M_write_173 rfl ?_
      refine r_iald d_M_write_175 16 rfl (by omega) ?_
      rw [h16 p (by omega)]
      refine r_iast _ d_M_write_176 1 rfl (by omega) mw_1 ?_
      refine r_iinc d_M_write_177 rfl (Nat.le_of_ble_eq_true rfl) rfl ?_
      show WP _ _ _ _ _ [_, _, _, _, _] _
      refine r_goto 154 d_M_write_180 (by decide) ?_
      refine ih (p + 1) _ (by omega) ?_ ?_ ?_ ?_
      · simp only [sset_at, reduceIte, Nat.reduceEqDiff]; exact h0
      · intro i hi
        simp only [sset_at, reduceIte, Nat.reduceEqDiff]; exact h16 i hi
      · intro j
        simp only [sset_at, updI_at, reduceIte]
        by_cases hj : (j : Int) = p
        · have : j = p := by omega
          subst this
          rw [if_pos rfl, if_pos (by omega)]
        · rw [if_neg hj, h1 j]
          by_cases q : j < p
          · rw [if_pos q, if_pos (by omega)]
          · rw [if_neg q, if_neg (by omega)]
      · intro j hj
        simp only [sset_at, updI_at, reduceIte]
        rw [if_neg (by omega)]; exact hneg j hj
  -- the rest of the file
  have l3 : ∀ (m i : Nat) (v : mS), (i : Int) + m = s 0 0 - to → wrI s w v (filL s to.toNat ++ bxL s w gr (s 0 1).toNat ++ rsL s to i) → WP (mth G l q_M_write 4 0 0 (mW G ad u) sz Q) 0 0 (mW G ad v) 79 [some (.ref (ad 0)), some (vI to), some (vI w), some (vI gr), some (vI (to + i))] [] := by
    intro m
    induction m with
    | zero =>
      intro i v hi hv
      have hA := hv.1
      have hi2 : i = (s 0 0 - to).toNat := by omega
      rw [hi2, ← eAll] at hv
      refine r_iload d_M_write_79 rfl ?_
      refine r_aload_n d_M_write_81 rfl rfl ?_
      refine r_get d_M_write_82 fl_M_58_7 0 rfl rfl ?_
      rw [hA.2 0 (by omega)]
      refine r_icmp_ge 143 d_M_write_85 (by decide) (by unfold i32; omega) (by unfold i32; omega) (fun g1 => ?_) (fun g1 => ?_)
      · refine r_aload_n d_M_write_143 rfl rfl ?_
        refine r_aload_n d_M_write_144 rfl rfl ?_
        refine r_get d_M_write_145 fl_M_181_7 0 rfl rfl ?_
        rw [hv.2.2.1]
        refine r_put _ d_M_write_148 fl_M_58_7 0 rfl rfl rfl (Nat.le_of_ble_eq_true rfl) mwp_size ?_
        refine r_iconst d_M_write_151 ?_
        refine r_istore d_M_write_152 (Nat.le_of_ble_eq_true rfl) rfl ?_
        show WP _ _ _ _ _ [_, _, _, _, _] _
        refine l4 (wrAll s w gr to).length 0 _ (by omega) ?_ ?_ ?_ ?_
        · simp only [sset_at, updI_at, reduceIte]
        · intro j hj
          simp only [sset_at, reduceIte, Nat.reduceEqDiff]
          exact hv.2.2.2 j hj
        · intro j
          simp only [sset_at, reduceIte, Nat.reduceEqDiff]
          rw [if_neg (Nat.not_lt_zero j), hA.1 1 (by omega) (by omega)]
        · intro j _
          simp only [sset_at, reduceIte, Nat.reduceEqDiff]
          rw [hA.1 1 (by omega) (by omega)]
      · exact absurd g1 (by omega)
    | succ m ih =>
      intro i v hi hv
      have hA := hv.1
      have hmono := rsL_mono s to (a := i + 1) (b := (s 0 0 - to).toNat) (by omega)
      have hos := hv.2.2.1
      rw [List.length_append, List.length_append, filL_len] at hos
      have eS : rsL s to (i + 1) = rsL s to i ++ (if to + i < s 2 (s 0 2) ∨ s 2 (s 0 2) + s 3 (s 0 2) ≤ to + i then [s 1 (to + i)] else []) := rfl
      have j137 : ∀ v', wrI s w v' (filL s to.toNat ++ bxL s w gr (s 0 1).toNat ++ rsL s to (i + 1)) → WP (mth G l q_M_write 4 0 0 (mW G ad u) sz Q) 0 0 (mW G ad v') 137 [some (.ref (ad 0)), some (vI to), some (vI w), some (vI gr), some (vI (to + i))] [] := by
        intro v' hv'
        refine r_iinc d_M_write_137 rfl (Nat.le_of_ble_eq_true rfl) rfl ?_
        show WP _ _ _ _ _ [_, _, _, _, _] _
        refine r_goto 79 d_M_write_140 (by decide) ?_
        rw [show to + (i : Int) + 1 = to + ((i + 1 : Nat) : Int) by omega]
        exact ih (i + 1) v' (by omega) hv'
      have j126 : (to + i < s 2 (s 0 2) ∨ s 2 (s 0 2) + s 3 (s 0 2) ≤ to + i) → WP (mth G l q_M_write 4 0 0 (mW G ad u) sz Q) 0 0 (mW G ad v) 126 [some (.ref (ad 0)), some (vI to), some (vI w), some (vI gr), some (vI (to + i))] [] := by
        intro hc
        rw [eS, if_pos hc] at j137
        rw [eS, if_pos hc, List.length_append, List.length_singleton] at hmono
        refine r_aload_n d_M_write_126 rfl rfl ?_
        refine r_aload_n d_M_write_127 rfl rfl ?_
        refine r_get d_M_write_128 fl_M_7_7 0 rfl rfl ?_
        refine r_iload d_M_write_131 rfl ?_
        refine r_iald d_M_write_133 1 rfl (by omega) ?_
        rw [hA.1 1 (by omega) (by omega)]
        refine r_cV1 d_M_write_134 lk_M_184 (c_M_put G l ad v (s 1 (to + i)) (by omega)) 0 rfl rfl (Nat.le_of_ble_eq_true rfl) (rok rfl rfl) ⟨(Nat.le_of_ble_eq_true rfl), (Nat.le_of_ble_eq_true rfl)⟩ (fun r ws2 hq => ?_)
        obtain ⟨rfl, rfl⟩ := hq
        show WP _ _ _ _ _ _ _
        refine j137 _ ?_
        rw [← List.append_assoc]
        exact wrI_put hv _
      refine r_iload d_M_write_79 rfl ?_
      refine r_aload_n d_M_write_81 rfl rfl ?_
      refine r_get d_M_write_82 fl_M_58_7 0 rfl rfl ?_
      rw [hA.2 0 (by omega)]
      refine r_icmp_ge 143 d_M_write_85 (by decide) (by unfold i32; omega) (by unfold i32; omega) (fun g1 => ?_) (fun g1 => ?_)
      · exact absurd g1 (by omega)
      refine r_iload d_M_write_88 rfl ?_
      refine r_aload_n d_M_write_90 rfl rfl ?_
      refine r_get d_M_write_91 fl_M_13_7 0 rfl rfl ?_
      refine r_aload_n d_M_write_94 rfl rfl ?_
      refine r_get d_M_write_95 fl_M_96_7 0 rfl rfl ?_
      rw [hA.2 2 (by omega)]
      refine r_iald d_M_write_98 2 rfl (by omega) ?_
      rw [hA.1 2 (by omega) (by omega)]
      refine r_icmp_lt 126 d_M_write_99 (by decide) (by unfold i32; omega) (by unfold i32; omega) (fun g2 => ?_) (fun g2 => ?_)
      · exact j126 (by omega)
      refine r_iload d_M_write_102 rfl ?_
      refine r_aload_n d_M_write_104 rfl rfl ?_
      refine r_get d_M_write_105 fl_M_13_7 0 rfl rfl ?_
      refine r_aload_n d_M_write_108 rfl rfl ?_
      refine r_get d_M_write_109 fl_M_96_7 0 rfl rfl ?_
      rw [hA.2 2 (by omega)]
      refine r_iald d_M_write_112 2 rfl (by omega) ?_
      refine r_aload_n d_M_write_113 rfl rfl ?_
      refine r_get d_M_write_114 fl_M_16_7 0 rfl rfl ?_
      refine r_aload_n d_M_write_117 rfl rfl ?_
      refine r_get d_M_write_118 fl_M_96_7 0 rfl rfl ?_
      rw [hA.2 2 (by omega), hA.1 2 (by omega) (by omega)]
      refine r_iald d_M_write_121 3 rfl (by omega) ?_
      refine r_iadd d_M_write_122 ?_
      rw [hA.1 3 (by omega) (by omega)]
      refine r_icmp_lt 137 d_M_write_123 (by decide) (by unfold i32; omega) (by unfold i32; omega) (fun g3 => ?_) (fun g3 => ?_)
      · refine j137 v ?_
        rw [eS, if_neg (by omega), List.append_nil]
        exact hv
      · exact j126 (by omega)
  -- the movie
  have l2 : ∀ (m k : Nat) (v : mS), (k : Int) + m = s 0 1 → wrI s w v (filL s to.toNat ++ bxL s w gr k) → WP (mth G l q_M_write 4 0 0 (mW G ad u) sz Q) 0 0 (mW G ad v) 34 [some (.ref (ad 0)), some (vI to), some (vI w), some (vI gr), some (vI k)] [] := by
    intro m
    induction m with
    | zero =>
      intro k v hk hv
      have hA := hv.1
      have hk2 : k = (s 0 1).toNat := by omega
      rw [hk2] at hv
      refine r_iload d_M_write_34 rfl ?_
      refine r_aload_n d_M_write_36 rfl rfl ?_
      refine r_get d_M_write_37 fl_M_64_7 0 rfl rfl ?_
      rw [hA.2 1 (by omega)]
      refine r_icmp_ge 76 d_M_write_40 (by decide) (by unfold i32; omega) (by unfold i32; omega) (fun g1 => ?_) (fun g1 => ?_)
      · refine r_iload_n d_M_write_76 rfl ?_
        refine r_istore d_M_write_77 (Nat.le_of_ble_eq_true rfl) rfl ?_
        show WP _ _ _ _ _ [_, _, _, _, _] _
        have J := l3 (s 0 0 - to).toNat 0 v (by omega) (by rw [show rsL s to 0 = [] from rfl, List.append_nil]; exact hv)
        rw [show to + ((0 : Nat) : Int) = to by omega] at J
        exact J
      · exact absurd g1 (by omega)
    | succ m ih =>
      intro k v hk hv
      have hA := hv.1
      have hbx := hr.2 k (by omega) (by omega)
      have hmono := bxL_mono s w gr (a := k + 1) (b := (s 0 1).toNat) (by omega)
      have eS : bxL s w gr (k + 1) = bxL s w gr k ++ (if (k : Int) = s 0 2 ∨ 0 < s 6 k then wbL s w gr k else []) := rfl
      have j70 : ∀ v', wrI s w v' (filL s to.toNat ++ bxL s w gr (k + 1)) → WP (mth G l q_M_write 4 0 0 (mW G ad u) sz Q) 0 0 (mW G ad v') 70 [some (.ref (ad 0)), some (vI to), some (vI w), some (vI gr), some (vI k)] [] := by
        intro v' hv'
        refine r_iinc d_M_write_70 rfl (Nat.le_of_ble_eq_true rfl) rfl ?_
        show WP _ _ _ _ _ [_, _, _, _, _] _
        refine r_goto 34 d_M_write_73 (by decide) ?_
        exact ih (k + 1) v' (by omega) hv'
      have j62 : ((k : Int) = s 0 2 ∨ 0 < s 6 k) → WP (mth G l q_M_write 4 0 0 (mW G ad u) sz Q) 0 0 (mW G ad v) 62 [some (.ref (ad 0)), some (vI to), some (vI w), some (vI gr), some (vI k)] [] := by
        intro hc
        have hmk : s 0 2 ≤ k := by
          rcases hc with q | q
          · omega
          · have := m6 k (by omega) (by omega) q; omega
        rw [eS, if_pos hc] at j70
        rw [eS, if_pos hc, List.length_append] at hmono
        have hnl := (hy.2 k hmk (by omega) hc).2.2
        refine r_aload_n d_M_write_62 rfl rfl ?_
        refine r_iload d_M_write_63 rfl ?_
        refine r_iload_n d_M_write_65 rfl ?_
        refine r_iload_n d_M_write_66 rfl ?_
        refine r_cV3 d_M_write_67 lk_M_188 (c_M_writeBox G l ad s w gr k v (filL s to.toNat ++ bxL s w gr k) hv hb hr h3 hT hh ⟨hmk, by omega⟩ hc hw hgr hnl (by rw [List.length_append, filL_len]; omega)) 0 rfl rfl (Nat.le_of_ble_eq_true rfl) (rok rfl rfl) ⟨(Nat.le_of_ble_eq_true rfl), (Nat.le_of_ble_eq_true rfl)⟩ (fun r ws2 hq => ?_)
        obtain ⟨rfl, v', hv', rfl⟩ := hq
        show WP _ _ _ _ _ _ _
        refine j70 v' ?_
        rw [← List.append_assoc]
        exact hv'
      refine r_iload d_M_write_34 rfl ?_
      refine r_aload_n d_M_write_36 rfl rfl ?_
      refine r_get d_M_write_37 fl_M_64_7 0 rfl rfl ?_
      rw [hA.2 1 (by omega)]
      refine r_icmp_ge 76 d_M_write_40 (by decide) (by unfold i32; omega) (by unfold i32; omega) (fun g1 => ?_) (fun g1 => ?_)
      · exact absurd g1 (by omega)
      refine r_iload d_M_write_43 rfl ?_
      refine r_aload_n d_M_write_45 rfl rfl ?_
      refine r_get d_M_write_46 fl_M_96_7 0 rfl rfl ?_
      rw [hA.2 2 (by omega)]
      refine r_icmp_eq 62 d_M_write_49 (by decide) (by unfold i32; omega) (by unfold i32; omega) (fun g2 => ?_) (fun g2 => ?_)
      · exact j62 (Or.inl g2)
      refine r_aload_n d_M_write_52 rfl rfl ?_
      refine r_get d_M_write_53 fl_M_25_7 0 rfl rfl ?_
      refine r_iload d_M_write_56 rfl ?_
      refine r_iald d_M_write_58 6 rfl (by omega) ?_
      rw [hA.1 6 (by omega) (by omega)]
      refine r_if_le 70 d_M_write_59 (by decide) (by unfold i32; omega) (fun g3 => ?_) (fun g3 => ?_)
      · refine j70 v ?_
        rw [eS, if_neg (by omega), List.append_nil]
        exact hv
      · exact j62 (by omega)
  -- what lies ahead
  have l1 : ∀ (m p : Nat) (v : mS), (p : Int) + m = to → wrI s w v (filL s p) → WP (mth G l q_M_write 4 0 0 (mW G ad u) sz Q) 0 0 (mW G ad v) 8 [some (.ref (ad 0)), some (vI to), some (vI w), some (vI gr), some (vI p)] [] := by
    intro m
    induction m with
    | zero =>
      intro p v hp hv
      have hp2 : p = to.toNat := by omega
      rw [hp2] at hv
      refine r_iload d_M_write_8 rfl ?_
      refine r_iload_n d_M_write_10 rfl ?_
      refine r_icmp_ge 31 d_M_write_11 (by decide) (by unfold i32; omega) (by unfold i32; omega) (fun g1 => ?_) (fun g1 => ?_)
      · refine r_iconst d_M_write_31 ?_
        refine r_istore d_M_write_32 (Nat.le_of_ble_eq_true rfl) rfl ?_
        show WP _ _ _ _ _ [_, _, _, _, _] _
        exact l2 (s 0 1).toNat 0 v (by omega) (by rw [show bxL s w gr 0 = [] from rfl, List.append_nil]; exact hv)
      · exact absurd g1 (by omega)
    | succ m ih =>
      intro p v hp hv
      have hA := hv.1
      have hos := hv.2.2.1
      rw [filL_len] at hos
      refine r_iload d_M_write_8 rfl ?_
      refine r_iload_n d_M_write_10 rfl ?_
      refine r_icmp_ge 31 d_M_write_11 (by decide) (by unfold i32; omega) (by unfold i32; omega) (fun g1 => ?_) (fun g1 => ?_)
      · exact absurd g1 (by omega)
      refine r_aload_n d_M_write_14 rfl rfl ?_
      refine r_aload_n d_M_write_15 rfl rfl ?_
      refine r_get d_M_write_16 fl_M_7_7 0 rfl rfl ?_
      refine r_iload d_M_write_19 rfl ?_
      refine r_iald d_M_write_21 1 rfl (by omega) ?_
      rw [hA.1 1 (by omega) (by omega)]
      refine r_cV1 d_M_write_22 lk_M_184 (c_M_put G l ad v (s 1 p) (by omega)) 0 rfl rfl (Nat.le_of_ble_eq_true rfl) (rok rfl rfl) ⟨(Nat.le_of_ble_eq_true rfl), (Nat.le_of_ble_eq_true rfl)⟩ (fun r ws2 hq => ?_)
      obtain ⟨rfl, rfl⟩ := hq
      show WP _ _ _ _ _ _ _
      refine r_iinc d_M_write_25 rfl (Nat.le_of_ble_eq_true rfl) rfl ?_
      show WP _ _ _ _ _ [_, _, _, _, _] _
      refine r_goto 8 d_M_write_28 (by decide) ?_
      exact ih (p + 1) _ (by omega) (wrI_put hv _)
  refine r_aload_n d_M_write_0 rfl rfl ?_
  refine r_iconst d_M_write_1 ?_
  refine r_put _ d_M_write_2 fl_M_181_7 0 rfl rfl rfl (Nat.le_of_ble_eq_true rfl) mwp_outSize ?_
  refine r_iconst d_M_write_5 ?_
  refine r_istore d_M_write_6 (Nat.le_of_ble_eq_true rfl) rfl ?_
  show WP _ _ _ _ _ [_, _, _, _, _] _
  refine l1 to.toNat 0 _ (by omega) ⟨⟨fun c q0 q1 => ?_, fun j hj => ?_⟩, fun k q0 q1 q2 => ?_, ?_, fun i hi => absurd hi (Nat.not_lt_zero i)⟩
  · rw [← hy.1 c (by omega) (by omega) (by omega)]
    funext j
    rw [sset_at, if_neg (by omega)]
  · rw [← hy.1 0 (by omega) (by omega) (by omega)]
    simp only [sset_at, updI_at, reduceIte]
    rw [if_neg hj]
  · simp only [sset_at, reduceIte, Nat.reduceEqDiff]
    exact ⟨(hy.2 k q0 q1 q2).1, (hy.2 k q0 q1 q2).2.1⟩
  · simp only [sset_at, updI_at, reduceIte]; rfl
end MODEL22
