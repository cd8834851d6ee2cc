abbrev q_M_read : Mi := (⟨"MovieBoxesModel", "read", "()I"⟩, prog_12_method_7_code, 5, (some .int))
theorem d_M_read_34 : decode prog_12_method_7_code 34 = .ok (.iload_n 2, 1) := by decide +kernel
theorem d_M_read_35 : decode prog_12_method_7_code 35 = .ok (.ifCond .le 19, 3) := by decide +kernel
theorem d_M_read_38 : decode prog_12_method_7_code 38 = .ok (.iload_n 1, 1) := by decide +kernel
theorem d_M_read_39 : decode prog_12_method_7_code 39 = .ok (.aload_n 0, 1) := by decide +kernel
theorem d_M_read_40 : decode prog_12_method_7_code 40 = .ok (.getfield 31, 3) := by decide +kernel
set_option maxRecDepth 20000 in
theorem w_721 : Cond.fieldLink "MovieBoxesModel" 31 "MovieBoxesModel" "end" "[I" ∈ gt := gt_of (in_t4 (List.mem_of_getElem? (i := 1) rfl)) rfl
theorem fl_M_31_7 : FL "MovieBoxesModel" 31 7 9 true := ⟨_, _, _, "MovieBoxesModel", rfl, by decide, rfl, Or.inl w_721, Or.inl rfl⟩
theorem d_M_read_43 : decode prog_12_method_7_code 43 = .ok (.iload_n 2, 1) := by decide +kernel
theorem d_M_read_44 : decode prog_12_method_7_code 44 = .ok (.iaload, 1) := by decide +kernel
theorem d_M_read_45 : decode prog_12_method_7_code 45 = .ok (.if_icmp .ne 9, 3) := by decide +kernel
theorem d_M_read_48 : decode prog_12_method_7_code 48 = .ok (.iinc 2 (-1), 3) := by decide +kernel
theorem d_M_read_51 : decode prog_12_method_7_code 51 = .ok (.goto (-17), 3) := by decide +kernel
theorem d_M_read_28 : decode prog_12_method_7_code 28 = .ok (.iload_n 3, 1) := by decide +kernel
theorem d_M_read_29 : decode prog_12_method_7_code 29 = .ok (.bipush 100, 2) := by decide +kernel
theorem d_M_read_31 : decode prog_12_method_7_code 31 = .ok (.if_icmp .ge 137, 3) := by decide +kernel
theorem d_M_read_168 : decode prog_12_method_7_code 168 = .ok (.iconst 0, 1) := by decide +kernel
theorem d_M_read_169 : decode prog_12_method_7_code 169 = .ok (.ireturn, 1) := by decide +kernel
theorem d_M_read_54 : decode prog_12_method_7_code 54 = .ok (.iload_n 1, 1) := by decide +kernel
theorem d_M_read_55 : decode prog_12_method_7_code 55 = .ok (.aload_n 0, 1) := by decide +kernel
theorem d_M_read_56 : decode prog_12_method_7_code 56 = .ok (.getfield 31, 3) := by decide +kernel
theorem d_M_read_59 : decode prog_12_method_7_code 59 = .ok (.iload_n 2, 1) := by decide +kernel
theorem d_M_read_60 : decode prog_12_method_7_code 60 = .ok (.iaload, 1) := by decide +kernel
theorem d_M_read_61 : decode prog_12_method_7_code 61 = .ok (.if_icmp .ne 5, 3) := by decide +kernel
theorem d_M_read_66 : decode prog_12_method_7_code 66 = .ok (.aload_n 0, 1) := by decide +kernel
theorem d_M_read_67 : decode prog_12_method_7_code 67 = .ok (.getfield 64, 3) := by decide +kernel
theorem d_M_read_70 : decode prog_12_method_7_code 70 = .ok (.bipush 20, 2) := by decide +kernel
theorem d_M_read_72 : decode prog_12_method_7_code 72 = .ok (.if_icmp .ne 5, 3) := by decide +kernel
theorem d_M_read_77 : decode prog_12_method_7_code 77 = .ok (.aload_n 0, 1) := by decide +kernel
theorem d_M_read_78 : decode prog_12_method_7_code 78 = .ok (.iload_n 1, 1) := by decide +kernel
theorem d_M_read_79 : decode prog_12_method_7_code 79 = .ok (.aload_n 0, 1) := by decide +kernel
theorem d_M_read_80 : decode prog_12_method_7_code 80 = .ok (.getfield 31, 3) := by decide +kernel
theorem d_M_read_83 : decode prog_12_method_7_code 83 = .ok (.iload_n 2, 1) := by decide +kernel
theorem d_M_read_84 : decode prog_12_method_7_code 84 = .ok (.iaload, 1) := by decide +kernel
theorem d_M_read_85 : decode prog_12_method_7_code 85 = .ok (.iload_n 1, 1) := by decide +kernel
theorem d_M_read_86 : decode prog_12_method_7_code 86 = .ok (.isub, 1) := by decide +kernel
theorem d_M_read_87 : decode prog_12_method_7_code 87 = .ok (.iload_n 2, 1) := by decide +kernel
theorem d_M_read_88 : decode prog_12_method_7_code 88 = .ok (.invokevirtual 67, 3) := by decide +kernel
set_option maxRecDepth 20000 in
theorem w_805 : Cond.methodLink "MovieBoxesModel" 67 ⟨"MovieBoxesModel", "readOne", "(III)Z"⟩ ∈ gt := gt_of (in_t4 (List.mem_of_getElem? (i := 85) rfl)) rfl
set_option maxRecDepth 20000 in
theorem w_807 : Cond.instanceMethod ⟨"MovieBoxesModel", "readOne", "(III)Z"⟩ ∈ gt := gt_of (in_t4 (List.mem_of_getElem? (i := 87) rfl)) rfl
set_option maxRecDepth 20000 in
theorem ws_M_readOne : Cond.selects "MovieBoxesModel" ⟨"MovieBoxesModel", "readOne", "(III)Z"⟩ ⟨"MovieBoxesModel", "readOne", "(III)Z"⟩ ∈ gt := gt_of (in_p1 (List.mem_of_getElem? (i := 14) rfl)) rfl
set_option maxRecDepth 20000 in
theorem w_8 : Cond.initialized "MovieBoxesModel" ∈ gt := gt_of (in_t1 (List.mem_of_getElem? (i := 8) rfl)) rfl
set_option maxRecDepth 20000 in
theorem w_808 : Cond.code ⟨"MovieBoxesModel", "readOne", "(III)Z"⟩ prog_12_method_8_code 7 (some .boolean) ∈ gt := gt_of (in_t4 (List.mem_of_getElem? (i := 88) rfl)) rfl
theorem lk_M_67 : LkV "MovieBoxesModel" 67 q_M_readOne 3 := ⟨(List.forall_mem_cons.mpr ⟨w_805, (List.forall_mem_cons.mpr ⟨w_807, (List.forall_mem_cons.mpr ⟨ws_M_readOne, (List.forall_mem_cons.mpr ⟨w_8, (fun _ h => absurd h List.not_mem_nil)⟩)⟩)⟩)⟩), w_808, by decide +kernel⟩
theorem d_M_read_91 : decode prog_12_method_7_code 91 = .ok (.ifCond .ne 5, 3) := by decide +kernel
theorem d_M_read_96 : decode prog_12_method_7_code 96 = .ok (.aload_n 0, 1) := by decide +kernel
theorem d_M_read_97 : decode prog_12_method_7_code 97 = .ok (.getfield 64, 3) := by decide +kernel
theorem d_M_read_100 : decode prog_12_method_7_code 100 = .ok (.iconst 1, 1) := by decide +kernel
theorem d_M_read_101 : decode prog_12_method_7_code 101 = .ok (.isub, 1) := by decide +kernel
theorem d_M_read_102 : decode prog_12_method_7_code 102 = .ok (.istore 4, 2) := by decide +kernel
theorem d_M_read_104 : decode prog_12_method_7_code 104 = .ok (.aload_n 0, 1) := by decide +kernel
theorem d_M_read_105 : decode prog_12_method_7_code 105 = .ok (.iload 4, 2) := by decide +kernel
theorem d_M_read_107 : decode prog_12_method_7_code 107 = .ok (.invokevirtual 71, 3) := by decide +kernel
set_option maxRecDepth 20000 in
theorem w_809 : Cond.methodLink "MovieBoxesModel" 71 ⟨"MovieBoxesModel", "isHolder", "(I)Z"⟩ ∈ gt := gt_of (in_t4 (List.mem_of_getElem? (i := 89) rfl)) rfl
set_option maxRecDepth 20000 in
theorem w_811 : Cond.instanceMethod ⟨"MovieBoxesModel", "isHolder", "(I)Z"⟩ ∈ gt := gt_of (in_t4 (List.mem_of_getElem? (i := 91) rfl)) rfl
set_option maxRecDepth 20000 in
theorem ws_M_isHolder : Cond.selects "MovieBoxesModel" ⟨"MovieBoxesModel", "isHolder", "(I)Z"⟩ ⟨"MovieBoxesModel", "isHolder", "(I)Z"⟩ ∈ gt := gt_of (in_p1 (List.mem_of_getElem? (i := 15) rfl)) rfl
set_option maxRecDepth 20000 in
theorem w_812 : Cond.code ⟨"MovieBoxesModel", "isHolder", "(I)Z"⟩ prog_12_method_9_code 2 (some .boolean) ∈ gt := gt_of (in_t4 (List.mem_of_getElem? (i := 92) rfl)) rfl
theorem lk_M_71 : LkV "MovieBoxesModel" 71 q_M_isHolder 1 := ⟨(List.forall_mem_cons.mpr ⟨w_809, (List.forall_mem_cons.mpr ⟨w_811, (List.forall_mem_cons.mpr ⟨ws_M_isHolder, (List.forall_mem_cons.mpr ⟨w_8, (fun _ h => absurd h List.not_mem_nil)⟩)⟩)⟩)⟩), w_812, by decide +kernel⟩
theorem d_M_read_110 : decode prog_12_method_7_code 110 = .ok (.ifCond .eq 42, 3) := by decide +kernel
theorem d_M_read_113 : decode prog_12_method_7_code 113 = .ok (.iinc 2 1, 3) := by decide +kernel
theorem d_M_read_116 : decode prog_12_method_7_code 116 = .ok (.aload_n 0, 1) := by decide +kernel
theorem d_M_read_117 : decode prog_12_method_7_code 117 = .ok (.getfield 31, 3) := by decide +kernel
theorem d_M_read_120 : decode prog_12_method_7_code 120 = .ok (.iload_n 2, 1) := by decide +kernel
theorem d_M_read_121 : decode prog_12_method_7_code 121 = .ok (.iload_n 1, 1) := by decide +kernel
theorem d_M_read_122 : decode prog_12_method_7_code 122 = .ok (.aload_n 0, 1) := by decide +kernel
theorem d_M_read_123 : decode prog_12_method_7_code 123 = .ok (.getfield 16, 3) := by decide +kernel
theorem d_M_read_126 : decode prog_12_method_7_code 126 = .ok (.iload 4, 2) := by decide +kernel
theorem d_M_read_128 : decode prog_12_method_7_code 128 = .ok (.iaload, 1) := by decide +kernel
theorem d_M_read_129 : decode prog_12_method_7_code 129 = .ok (.iadd, 1) := by decide +kernel
theorem d_M_read_130 : decode prog_12_method_7_code 130 = .ok (.iastore, 1) := by decide +kernel
theorem d_M_read_131 : decode prog_12_method_7_code 131 = .ok (.aload_n 0, 1) := by decide +kernel
theorem d_M_read_132 : decode prog_12_method_7_code 132 = .ok (.getfield 34, 3) := by decide +kernel
theorem d_M_read_135 : decode prog_12_method_7_code 135 = .ok (.iload_n 2, 1) := by decide +kernel
theorem d_M_read_136 : decode prog_12_method_7_code 136 = .ok (.iload 4, 2) := by decide +kernel
theorem d_M_read_138 : decode prog_12_method_7_code 138 = .ok (.iastore, 1) := by decide +kernel
theorem d_M_read_139 : decode prog_12_method_7_code 139 = .ok (.iload_n 1, 1) := by decide +kernel
theorem d_M_read_140 : decode prog_12_method_7_code 140 = .ok (.aload_n 0, 1) := by decide +kernel
theorem d_M_read_141 : decode prog_12_method_7_code 141 = .ok (.getfield 22, 3) := by decide +kernel
theorem d_M_read_144 : decode prog_12_method_7_code 144 = .ok (.iload 4, 2) := by decide +kernel
theorem d_M_read_146 : decode prog_12_method_7_code 146 = .ok (.iaload, 1) := by decide +kernel
theorem d_M_read_147 : decode prog_12_method_7_code 147 = .ok (.iadd, 1) := by decide +kernel
theorem d_M_read_148 : decode prog_12_method_7_code 148 = .ok (.istore_n 1, 1) := by decide +kernel
theorem d_M_read_149 : decode prog_12_method_7_code 149 = .ok (.goto 13, 3) := by decide +kernel
theorem d_M_read_162 : decode prog_12_method_7_code 162 = .ok (.iinc 3 1, 3) := by decide +kernel
theorem d_M_read_165 : decode prog_12_method_7_code 165 = .ok (.goto (-137), 3) := by decide +kernel
theorem d_M_read_152 : decode prog_12_method_7_code 152 = .ok (.iload_n 1, 1) := by decide +kernel
theorem d_M_read_153 : decode prog_12_method_7_code 153 = .ok (.aload_n 0, 1) := by decide +kernel
theorem d_M_read_154 : decode prog_12_method_7_code 154 = .ok (.getfield 16, 3) := by decide +kernel
theorem d_M_read_157 : decode prog_12_method_7_code 157 = .ok (.iload 4, 2) := by decide +kernel
theorem d_M_read_159 : decode prog_12_method_7_code 159 = .ok (.iaload, 1) := by decide +kernel
theorem d_M_read_160 : decode prog_12_method_7_code 160 = .ok (.iadd, 1) := by decide +kernel
theorem d_M_read_161 : decode prog_12_method_7_code 161 = .ok (.istore_n 1, 1) := by decide +kernel
theorem d_M_read_94 : decode prog_12_method_7_code 94 = .ok (.iconst 1, 1) := by decide +kernel
theorem d_M_read_95 : decode prog_12_method_7_code 95 = .ok (.ireturn, 1) := by decide +kernel
theorem d_M_read_75 : decode prog_12_method_7_code 75 = .ok (.iconst 2, 1) := by decide +kernel
theorem d_M_read_76 : decode prog_12_method_7_code 76 = .ok (.ireturn, 1) := by decide +kernel
theorem d_M_read_64 : decode prog_12_method_7_code 64 = .ok (.iconst 0, 1) := by decide +kernel
theorem d_M_read_65 : decode prog_12_method_7_code 65 = .ok (.ireturn, 1) := by decide +kernel
theorem d_M_read_0 : decode prog_12_method_7_code 0 = .ok (.aload_n 0, 1) := by decide +kernel
theorem d_M_read_1 : decode prog_12_method_7_code 1 = .ok (.iconst 0, 1) := by decide +kernel
theorem d_M_read_2 : decode prog_12_method_7_code 2 = .ok (.putfield 64, 3) := by decide +kernel
theorem d_M_read_5 : decode prog_12_method_7_code 5 = .ok (.iconst 0, 1) := by decide +kernel
theorem d_M_read_6 : decode prog_12_method_7_code 6 = .ok (.istore_n 1, 1) := by decide +kernel
theorem d_M_read_7 : decode prog_12_method_7_code 7 = .ok (.iconst 0, 1) := by decide +kernel
theorem d_M_read_8 : decode prog_12_method_7_code 8 = .ok (.istore_n 2, 1) := by decide +kernel
theorem d_M_read_9 : decode prog_12_method_7_code 9 = .ok (.aload_n 0, 1) := by decide +kernel
theorem d_M_read_10 : decode prog_12_method_7_code 10 = .ok (.getfield 31, 3) := by decide +kernel
theorem d_M_read_13 : decode prog_12_method_7_code 13 = .ok (.iconst 0, 1) := by decide +kernel
theorem d_M_read_14 : decode prog_12_method_7_code 14 = .ok (.aload_n 0, 1) := by decide +kernel
theorem d_M_read_15 : decode prog_12_method_7_code 15 = .ok (.getfield 58, 3) := by decide +kernel
theorem d_M_read_18 : decode prog_12_method_7_code 18 = .ok (.iastore, 1) := by decide +kernel
theorem d_M_read_19 : decode prog_12_method_7_code 19 = .ok (.aload_n 0, 1) := by decide +kernel
theorem d_M_read_20 : decode prog_12_method_7_code 20 = .ok (.getfield 34, 3) := by decide +kernel
theorem d_M_read_23 : decode prog_12_method_7_code 23 = .ok (.iconst 0, 1) := by decide +kernel
theorem d_M_read_24 : decode prog_12_method_7_code 24 = .ok (.iconst (-1), 1) := by decide +kernel
theorem d_M_read_25 : decode prog_12_method_7_code 25 = .ok (.iastore, 1) := by decide +kernel
theorem d_M_read_26 : decode prog_12_method_7_code 26 = .ok (.iconst 0, 1) := by decide +kernel
theorem d_M_read_27 : decode prog_12_method_7_code 27 = .ok (.istore_n 3, 1) := by decide +kernel
/-! ===== the model: read ===== -/
def popL (e : Int → Int) (p : Int) : Nat → Nat
  | 0 => 0
  | j + 1 => if p = e ((j + 1 : Nat) : Int) then popL e p j else j + 1
theorem popL_le (e : Int → Int) (p : Int) : ∀ j : Nat, popL e p j ≤ j
  | 0 => Nat.le_refl 0
  | j + 1 => by
    unfold popL
    split
    · have := popL_le e p j; omega
    · omega
/-- the loop of read: the answer, and what was read -/
def rdL : Nat → mS → Int → Nat → Int × mS
  | 0, s, _, _ => (0, s)
  | f + 1, s, p, lev0 =>
    let lev := popL (s 8) p lev0
    if p = s 8 lev then (0, s)
    else if s 0 1 = 20 then (2, s)
    else if hdOk (s 1) p (s 8 lev - p) lev then
      let w := hdS (s 1) p (s 8 lev - p)
      let h := hdH (s 1) p
      let s1 := addB s p w (s 1 (p + 1)) h lev (s 9 lev)
      if isHold lev (s 1 (p + 1)) then rdL f (sset (sset s1 8 ((lev + 1 : Nat) : Int) (p + w)) 9 ((lev + 1 : Nat) : Int) (s 0 1)) (p + h) (lev + 1)
      else rdL f s1 (p + w) lev
    else (1, s)
def rd0 (s : mS) : mS := sset (sset (sset s 0 1 0) 8 0 (s 0 0)) 9 0 (-1)
def rI (s : mS) (p : Int) (lev : Nat) : Prop := 0 ≤ s 0 1 ∧ s 0 1 ≤ 20 ∧ lev ≤ 2 ∧ 0 ≤ p ∧ p ≤ s 8 lev ∧ (1 ≤ lev → s 8 1 ≤ s 8 0) ∧ (2 ≤ lev → s 8 2 ≤ s 8 1) ∧ s 8 0 ≤ 1000
theorem rI_pop {s : mS} {p : Int} {lev : Nat} (h : rI s p lev) : rI s p (popL (s 8) p lev) := by
  obtain ⟨h1, h2, h3, h4, h5, h6, h7, h8⟩ := h
  have hl := popL_le (s 8) p lev
  refine ⟨h1, h2, by omega, h4, ?_, by omega, by omega, h8⟩
  rcases (show lev = 0 ∨ lev = 1 ∨ lev = 2 by omega) with rfl | rfl | rfl
  · exact h5
  · simp only [popL]
    split
    · have := h6 (by omega); simp at *; omega
    · exact h5
  · simp only [popL]
    split
    · split
      · have := h6 (by omega); have := h7 (by omega); simp at *; omega
      · have := h7 (by omega); simp at *; omega
    · exact h5
theorem addB_0 (s : mS) (p w ty h lev hd j : Int) : addB s p w ty h lev hd 0 j = if j = 1 then s 0 1 + 1 else s 0 j := by
  unfold addB; simp only [sset_at, updI_at, reduceIte, Nat.reduceEqDiff]
theorem addB_o (s : mS) (p w ty h lev hd j : Int) (c : Nat) (hc : c = 1 ∨ 8 ≤ c) : addB s p w ty h lev hd c j = s c j := by
  unfold addB
  simp only [sset_at]
  rw [if_neg (by omega), if_neg (by omega), if_neg (by omega), if_neg (by omega), if_neg (by omega), if_neg (by omega), if_neg (by omega)]
theorem addB_2 (s : mS) (p w ty h lev hd j : Int) : addB s p w ty h lev hd 2 j = if j = s 0 1 then p else s 2 j := by unfold addB; simp only [sset_at, updI_at, reduceIte, Nat.reduceEqDiff]
theorem addB_3 (s : mS) (p w ty h lev hd j : Int) : addB s p w ty h lev hd 3 j = if j = s 0 1 then w else s 3 j := by unfold addB; simp only [sset_at, updI_at, reduceIte, Nat.reduceEqDiff]
theorem addB_4 (s : mS) (p w ty h lev hd j : Int) : addB s p w ty h lev hd 4 j = if j = s 0 1 then ty else s 4 j := by unfold addB; simp only [sset_at, updI_at, reduceIte, Nat.reduceEqDiff]
theorem addB_5 (s : mS) (p w ty h lev hd j : Int) : addB s p w ty h lev hd 5 j = if j = s 0 1 then h else s 5 j := by unfold addB; simp only [sset_at, updI_at, reduceIte, Nat.reduceEqDiff]
theorem addB_6 (s : mS) (p w ty h lev hd j : Int) : addB s p w ty h lev hd 6 j = if j = s 0 1 then lev else s 6 j := by unfold addB; simp only [sset_at, updI_at, reduceIte, Nat.reduceEqDiff]
theorem addB_7 (s : mS) (p w ty h lev hd j : Int) : addB s p w ty h lev hd 7 j = if j = s 0 1 then hd else s 7 j := by unfold addB; simp only [sset_at, updI_at, reduceIte, Nat.reduceEqDiff]
section MODEL4
variable (G : gG) (l : Launch) (ad : Nat → Nat)
theorem c_M_read (s0 : mS) (hm : mI s0) : Ct G l q_M_read 1 0 0 [.ref (ad 0)] (mW G ad s0) (fun r w => r = some (vI (rdL 100 (rd0 s0) 0 0).1) ∧ w = mW G ad (rdL 100 (rd0 s0) 0 0).2) := by
  refine Ct.intro [some (.ref (ad 0)), none, none, none, none] (by decide) (Nat.le_of_ble_eq_true rfl) rfl (fun sz => ?_)
  generalize hQ : (fun r w => r = some (vI (rdL 100 (rd0 s0) 0 0).1) ∧ w = mW G ad (rdL 100 (rd0 s0) 0 0).2) = Q
  have pop : ∀ (s : mS) (p : Int) (x3 x4 : Option Value) (lev : Nat), rI s p lev → WP (mth G l q_M_read 1 0 0 (mW G ad s0) sz Q) 0 0 (mW G ad s) 54 [some (.ref (ad 0)), some (vI p), some (vI ((popL (s 8) p lev : Nat) : Int)), x3, x4] [] → WP (mth G l q_M_read 1 0 0 (mW G ad s0) sz Q) 0 0 (mW G ad s) 34 [some (.ref (ad 0)), some (vI p), some (vI (lev : Int)), x3, x4] [] := by
    intro s p x3 x4 lev
    induction lev with
    | zero =>
      intro h K
      refine r_iload_n d_M_read_34 rfl ?_
      refine r_if_le 54 d_M_read_35 (by decide) (by unfold i32; omega) (fun h1 => ?_) (fun h1 => ?_)
      · exact K
      · exact absurd h1 (by omega)
    | succ j ih =>
      intro h K
      have h' := h
      obtain ⟨h1, h2, h3, h4, h5, h6, h7, h8⟩ := h'
      have b8 : i32 (s 8 ((j + 1 : Nat) : Int)) := by
        rcases (show j = 0 ∨ j = 1 by omega) with rfl | rfl
        · have := h6 (by omega); simp at *; unfold i32; omega
        · have := h6 (by omega); have := h7 (by omega); simp at *; unfold i32; omega
      refine r_iload_n d_M_read_34 rfl ?_
      refine r_if_le 54 d_M_read_35 (by decide) (by unfold i32; omega) (fun g1 => ?_) (fun g1 => ?_)
      · exact absurd g1 (by omega)
      · refine r_iload_n d_M_read_38 rfl ?_
        refine r_aload_n d_M_read_39 rfl rfl ?_
        refine r_get d_M_read_40 fl_M_31_7 0 rfl rfl ?_
        refine r_iload_n d_M_read_43 rfl ?_
        refine r_iald d_M_read_44 8 rfl (by omega) ?_
        unfold popL at K
        refine r_icmp_ne 54 d_M_read_45 (by decide) (by unfold i32 at *; omega) b8 (fun g2 => ?_) (fun g2 => ?_)
        · rw [if_neg g2] at K
          exact K
        · have g3 : p = s 8 ((j + 1 : Nat) : Int) := by omega
          rw [if_pos g3] at K
          refine r_iinc d_M_read_48 rfl (Nat.le_of_ble_eq_true rfl) rfl ?_
          show WP _ _ _ _ _ [_, _, _, _, _] _
          refine r_goto 34 d_M_read_51 (by decide) ?_
          rw [show ((j + 1 : Nat) : Int) + -1 = (j : Int) by omega]
          refine ih ?_ K
          refine ⟨h1, h2, by omega, h4, ?_, by omega, by omega, h8⟩
          rcases (show j = 0 ∨ j = 1 by omega) with rfl | rfl
          · have := h6 (by omega); simp at *; omega
          · have := h7 (by omega); simp at *; omega
  have loop : ∀ (f : Nat) (s : mS) (p : Int) (lev0 : Nat) (x4 : Option Value), f ≤ 100 → (∀ j, 0 ≤ s 1 j ∧ s 1 j < 256) → rI s p lev0 → rdL f s p lev0 = rdL 100 (rd0 s0) 0 0 → WP (mth G l q_M_read 1 0 0 (mW G ad s0) sz Q) 0 0 (mW G ad s) 28 [some (.ref (ad 0)), some (vI p), some (vI (lev0 : Int)), some (vI (100 - (f : Int))), x4] [] := by
    intro f
    induction f with
    | zero =>
      intro s p lev0 x4 hf hb hI hE
      refine r_iload_n d_M_read_28 rfl ?_
      refine r_bipush d_M_read_29 (by decide) ?_
      refine r_icmp_ge 168 d_M_read_31 (by decide) (by unfold i32; omega) (by unfold i32; omega) (fun h1 => ?_) (fun h1 => ?_)
      · refine r_iconst d_M_read_168 ?_
        refine r_iret d_M_read_169 rfl (Nat.le_of_ble_eq_true rfl) (Nat.le_of_ble_eq_true rfl) ?_
        rw [← hQ, ← hE]; exact ⟨rfl, rfl⟩
      · exact absurd h1 (by omega)
    | succ f ih =>
      intro s p lev0 x4 hf hb hI hE
      refine r_iload_n d_M_read_28 rfl ?_
      refine r_bipush d_M_read_29 (by decide) ?_
      refine r_icmp_ge 168 d_M_read_31 (by decide) (by unfold i32; omega) (by unfold i32; omega) (fun h1 => ?_) (fun h1 => ?_)
      · exact absurd h1 (by omega)
      refine pop s p _ _ lev0 hI ?_
      have hI := rI_pop hI
      rw [rdL] at hE
      generalize popL (s 8) p lev0 = lev at hI hE ⊢
      obtain ⟨h1, h2, h3, h4, h5, h6, h7, h8⟩ := id hI
      have b8 : s 8 lev ≤ 1000 := by
        rcases (show lev = 0 ∨ lev = 1 ∨ lev = 2 by omega) with rfl | rfl | rfl
        · exact h8
        · have := h6 (by omega); simp at *; omega
        · have := h6 (by omega); have := h7 (by omega); simp at *; omega
      dsimp only at hE
      refine r_iload_n d_M_read_54 rfl ?_
      refine r_aload_n d_M_read_55 rfl rfl ?_
      refine r_get d_M_read_56 fl_M_31_7 0 rfl rfl ?_
      refine r_iload_n d_M_read_59 rfl ?_
      refine r_iald d_M_read_60 8 rfl (by omega) ?_
      refine r_icmp_ne 66 d_M_read_61 (by decide) (by unfold i32; omega) (by unfold i32; omega) (fun g1 => ?_) (fun g1 => ?_)
      · rw [if_neg g1] at hE
        refine r_aload_n d_M_read_66 rfl rfl ?_
        refine r_get d_M_read_67 fl_M_64_7 0 rfl rfl ?_
        refine r_bipush d_M_read_70 (by decide) ?_
        refine r_icmp_ne 77 d_M_read_72 (by decide) (by unfold i32; omega) (by unfold i32; omega) (fun g2 => ?_) (fun g2 => ?_)
        · rw [if_neg g2] at hE
          refine r_aload_n d_M_read_77 rfl rfl ?_
          refine r_iload_n d_M_read_78 rfl ?_
          refine r_aload_n d_M_read_79 rfl rfl ?_
          refine r_get d_M_read_80 fl_M_31_7 0 rfl rfl ?_
          refine r_iload_n d_M_read_83 rfl ?_
          refine r_iald d_M_read_84 8 rfl (by omega) ?_
          refine r_iload_n d_M_read_85 rfl ?_
          refine r_isub d_M_read_86 ?_
          refine r_iload_n d_M_read_87 rfl ?_
          refine r_cV3 d_M_read_88 lk_M_67 (c_M_readOne G l ad s p (s 8 lev - p) lev hb h4 (by omega) (by omega) (by omega) (by omega)) 0 rfl rfl (Nat.le_of_ble_eq_true rfl) (rok rfl rfl) ⟨(Nat.le_of_ble_eq_true rfl), (Nat.le_of_ble_eq_true rfl)⟩ (fun r ws2 hq => ?_)
          obtain ⟨rfl, rfl⟩ := hq
          show WP _ _ _ _ _ _ (_ :: _)
          by_cases hok : hdOk (s 1) p (s 8 lev - p) lev
          · rw [if_pos hok] at hE
            rw [if_pos hok, if_pos hok]
            have hw := hok.2.2.2
            have hH : hdH (s 1) p = 2 ∨ hdH (s 1) p = 4 := by unfold hdH; split <;> omega
            generalize hdS (s 1) p (s 8 lev - p) = w at hE hw ⊢
            generalize hdH (s 1) p = h0 at hE hw hH ⊢
            have e1 := addB_0 s p w (s 1 (p + 1)) h0 lev (s 9 lev)
            have eo := addB_o s p w (s 1 (p + 1)) h0 lev (s 9 lev)
            have e3 := addB_3 s p w (s 1 (p + 1)) h0 lev (s 9 lev)
            have e4 := addB_4 s p w (s 1 (p + 1)) h0 lev (s 9 lev)
            have e5 := addB_5 s p w (s 1 (p + 1)) h0 lev (s 9 lev)
            have e6 := addB_6 s p w (s 1 (p + 1)) h0 lev (s 9 lev)
            generalize addB s p w (s 1 (p + 1)) h0 lev (s 9 lev) = s1 at hE e1 eo e3 e4 e5 e6 ⊢
            have ec : s1 0 1 = s 0 1 + 1 := by rw [e1, if_pos rfl]
            have ek : s1 0 1 - 1 = s 0 1 := by omega
            refine r_if_ne 96 d_M_read_91 (by decide) (by unfold i32; omega) (fun g3 => ?_) (fun g3 => ?_)
            · refine r_aload_n d_M_read_96 rfl rfl ?_
              refine r_get d_M_read_97 fl_M_64_7 0 rfl rfl ?_
              refine r_iconst d_M_read_100 ?_
              refine r_isub d_M_read_101 ?_
              rw [ek]
              have hby := hb (p + 1)
              have f6 : s1 6 (s 0 1) = lev := by rw [e6, if_pos rfl]
              have f4 : s1 4 (s 0 1) = s 1 (p + 1) := by rw [e4, if_pos rfl]
              have f3 : s1 3 (s 0 1) = w := by rw [e3, if_pos rfl]
              have f5 : s1 5 (s 0 1) = h0 := by rw [e5, if_pos rfl]
              refine r_istore d_M_read_102 (Nat.le_of_ble_eq_true rfl) rfl ?_
              show WP _ _ _ _ _ [_, _, _, _, _] _
              refine r_aload_n d_M_read_104 rfl rfl ?_
              refine r_iload d_M_read_105 rfl ?_
              refine r_cV1 d_M_read_107 lk_M_71 (c_M_isHolder G l ad s1 (s 0 1) (by omega) (by rw [f6]; unfold i32; omega) (by rw [f4]; unfold i32; omega)) 0 rfl rfl (Nat.le_of_ble_eq_true rfl) (rok rfl rfl) ⟨(Nat.le_of_ble_eq_true rfl), (Nat.le_of_ble_eq_true rfl)⟩ (fun r ws2 hq => ?_)
              obtain ⟨rfl, rfl⟩ := hq
              show WP _ _ _ _ _ _ (_ :: _)
              rw [f6, f4]
              by_cases hh : isHold (lev : Int) (s 1 (p + 1))
              · rw [if_pos hh] at hE
                rw [if_pos hh]
                have hlev : lev ≤ 1 := by unfold isHold at hh; omega
                refine r_if_eq 152 d_M_read_110 (by decide) (by unfold i32; omega) (fun g4 => ?_) (fun g4 => ?_)
                · exact absurd g4 (by omega)
                refine r_iinc d_M_read_113 rfl (Nat.le_of_ble_eq_true rfl) rfl ?_
                show WP _ _ _ _ _ [_, _, _, _, _] _
                refine r_aload_n d_M_read_116 rfl rfl ?_
                refine r_get d_M_read_117 fl_M_31_7 0 rfl rfl ?_
                rw [show (lev : Int) + 1 = ((lev + 1 : Nat) : Int) by omega]
                refine r_iload_n d_M_read_120 rfl ?_
                refine r_iload_n d_M_read_121 rfl ?_
                refine r_aload_n d_M_read_122 rfl rfl ?_
                refine r_get d_M_read_123 fl_M_16_7 0 rfl rfl ?_
                refine r_iload d_M_read_126 rfl ?_
                refine r_iald d_M_read_128 3 rfl (by omega) ?_
                rw [f3]
                refine r_iadd d_M_read_129 ?_
                refine r_iast _ d_M_read_130 8 rfl (by omega) mw_8 ?_
                refine r_aload_n d_M_read_131 rfl rfl ?_
                refine r_get d_M_read_132 fl_M_34_7 0 rfl rfl ?_
                refine r_iload_n d_M_read_135 rfl ?_
                refine r_iload d_M_read_136 rfl ?_
                refine r_iast _ d_M_read_138 9 rfl (by omega) mw_9 ?_
                refine r_iload_n d_M_read_139 rfl ?_
                refine r_aload_n d_M_read_140 rfl rfl ?_
                refine r_get d_M_read_141 fl_M_22_7 0 rfl rfl ?_
                refine r_iload d_M_read_144 rfl ?_
                refine r_iald d_M_read_146 5 rfl (by omega) ?_
                simp only [sset_at, reduceIte, Nat.reduceEqDiff]
                rw [f5]
                refine r_iadd d_M_read_147 ?_
                refine r_istore_n d_M_read_148 (Nat.le_of_ble_eq_true rfl) rfl ?_
                show WP _ _ _ _ _ [_, _, _, _, _] _
                refine r_goto 162 d_M_read_149 (by decide) ?_
                refine r_iinc d_M_read_162 rfl (Nat.le_of_ble_eq_true rfl) rfl ?_
                show WP _ _ _ _ _ [_, _, _, _, _] _
                refine r_goto 28 d_M_read_165 (by decide) ?_
                rw [show (100 : Int) - ((f + 1 : Nat) : Int) + 1 = 100 - (f : Int) by omega]
                refine ih _ _ _ _ (by omega) ?_ ?_ hE
                · intro j
                  simp only [sset_at, reduceIte, Nat.reduceEqDiff]
                  rw [eo j 1 (Or.inl rfl)]
                  exact hb j
                · have q0 : s1 8 0 = s 8 0 := eo 0 8 (by omega)
                  have q1 : s1 8 1 = s 8 1 := eo 1 8 (by omega)
                  rcases (show lev = 0 ∨ lev = 1 by omega) with rfl | rfl
                  · refine ⟨?_, ?_, by omega, by omega, ?_, ?_, ?_, ?_⟩ <;> simp [sset_at, updI_at, q0, q1, ec] at * <;> omega
                  · refine ⟨?_, ?_, by omega, by omega, ?_, ?_, ?_, ?_⟩ <;> simp [sset_at, updI_at, q0, q1, ec] at * <;> omega
              · rw [if_neg hh] at hE
                rw [if_neg hh]
                refine r_if_eq 152 d_M_read_110 (by decide) (by unfold i32; omega) (fun g4 => ?_) (fun g4 => ?_)
                · refine r_iload_n d_M_read_152 rfl ?_
                  refine r_aload_n d_M_read_153 rfl rfl ?_
                  refine r_get d_M_read_154 fl_M_16_7 0 rfl rfl ?_
                  refine r_iload d_M_read_157 rfl ?_
                  refine r_iald d_M_read_159 3 rfl (by omega) ?_
                  rw [f3]
                  refine r_iadd d_M_read_160 ?_
                  refine r_istore_n d_M_read_161 (Nat.le_of_ble_eq_true rfl) rfl ?_
                  show WP _ _ _ _ _ [_, _, _, _, _] _
                  refine r_iinc d_M_read_162 rfl (Nat.le_of_ble_eq_true rfl) rfl ?_
                  show WP _ _ _ _ _ [_, _, _, _, _] _
                  refine r_goto 28 d_M_read_165 (by decide) ?_
                  rw [show (100 : Int) - ((f + 1 : Nat) : Int) + 1 = 100 - (f : Int) by omega]
                  refine ih _ _ _ _ (by omega) ?_ ?_ hE
                  · intro j
                    rw [eo j 1 (Or.inl rfl)]
                    exact hb j
                  · have q0 : s1 8 0 = s 8 0 := eo 0 8 (by omega)
                    have q1 : s1 8 1 = s 8 1 := eo 1 8 (by omega)
                    have q2 : s1 8 2 = s 8 2 := eo 2 8 (by omega)
                    have ql : s1 8 lev = s 8 lev := eo lev 8 (by omega)
                    refine ⟨by omega, by omega, by omega, by omega, by omega, by omega, by omega, by omega⟩
                · exact absurd g4 (by omega)
            · exact absurd g3 (by omega)
          · rw [if_neg hok] at hE
            rw [if_neg hok, if_neg hok]
            refine r_if_ne 96 d_M_read_91 (by decide) (by unfold i32; omega) (fun g3 => ?_) (fun g3 => ?_)
            · exact absurd g3 (by omega)
            · refine r_iconst d_M_read_94 ?_
              refine r_iret d_M_read_95 rfl (Nat.le_of_ble_eq_true rfl) (Nat.le_of_ble_eq_true rfl) ?_
              rw [← hQ, ← hE]; exact ⟨rfl, rfl⟩
        · rw [if_pos (by omega)] at hE
          refine r_iconst d_M_read_75 ?_
          refine r_iret d_M_read_76 rfl (Nat.le_of_ble_eq_true rfl) (Nat.le_of_ble_eq_true rfl) ?_
          rw [← hQ, ← hE]; exact ⟨rfl, rfl⟩
      · rw [if_pos (by omega)] at hE
        refine r_iconst d_M_read_64 ?_
        refine r_iret d_M_read_65 rfl (Nat.le_of_ble_eq_true rfl) (Nat.le_of_ble_eq_true rfl) ?_
        rw [← hQ, ← hE]; exact ⟨rfl, rfl⟩
  refine r_aload_n d_M_read_0 rfl rfl ?_
  refine r_iconst d_M_read_1 ?_
  refine r_put _ d_M_read_2 fl_M_64_7 0 rfl rfl rfl (Nat.le_of_ble_eq_true rfl) mwp_count ?_
  refine r_iconst d_M_read_5 ?_
  refine r_istore_n d_M_read_6 (Nat.le_of_ble_eq_true rfl) rfl ?_
  show WP _ _ _ _ _ [_, _, _, _, _] _
  refine r_iconst d_M_read_7 ?_
  refine r_istore_n d_M_read_8 (Nat.le_of_ble_eq_true rfl) rfl ?_
  show WP _ _ _ _ _ [_, _, _, _, _] _
  refine r_aload_n d_M_read_9 rfl rfl ?_
  refine r_get d_M_read_10 fl_M_31_7 0 rfl rfl ?_
  refine r_iconst d_M_read_13 ?_
  refine r_aload_n d_M_read_14 rfl rfl ?_
  refine r_get d_M_read_15 fl_M_58_7 0 rfl rfl ?_
  simp only [sset_at, updI_at, reduceIte, Nat.reduceEqDiff, Int.reduceEq]
  refine r_iast _ d_M_read_18 8 rfl (by omega) mw_8 ?_
  refine r_aload_n d_M_read_19 rfl rfl ?_
  refine r_get d_M_read_20 fl_M_34_7 0 rfl rfl ?_
  refine r_iconst d_M_read_23 ?_
  refine r_iconst d_M_read_24 ?_
  refine r_iast _ d_M_read_25 9 rfl (by omega) mw_9 ?_
  refine r_iconst d_M_read_26 ?_
  refine r_istore_n d_M_read_27 (Nat.le_of_ble_eq_true rfl) rfl ?_
  show WP _ _ _ _ _ [_, _, _, _, _] _
  refine loop 100 (rd0 s0) 0 0 none (by omega) ?_ ?_ rfl
  · intro j
    unfold rd0
    simp only [sset_at, reduceIte, Nat.reduceEqDiff]
    exact hm.2 j
  · have := hm.1
    refine ⟨?_, ?_, by omega, by omega, ?_, ?_, ?_, ?_⟩ <;> simp [rd0, sset_at, updI_at] <;> omega
end MODEL4
