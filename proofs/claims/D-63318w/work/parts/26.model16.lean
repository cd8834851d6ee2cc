abbrev q_M_put : Mi := (⟨"MovieBoxesModel", "put", "(I)V"⟩, prog_12_method_46_code, 2, none)
theorem d_M_put_0 : decode prog_12_method_46_code 0 = .ok (.aload_n 0, 1) := by decide +kernel
theorem d_M_put_1 : decode prog_12_method_46_code 1 = .ok (.getfield 55, 3) := by decide +kernel
set_option maxRecDepth 20000 in
theorem w_731 : Cond.fieldLink "MovieBoxesModel" 55 "MovieBoxesModel" "out" "[I" ∈ gt := gt_of (in_t4 (List.mem_of_getElem? (i := 11) rfl)) rfl
theorem fl_M_55_7 : FL "MovieBoxesModel" 55 7 19 true := ⟨_, _, _, "MovieBoxesModel", rfl, by decide, rfl, Or.inl w_731, Or.inl rfl⟩
theorem d_M_put_4 : decode prog_12_method_46_code 4 = .ok (.aload_n 0, 1) := by decide +kernel
theorem d_M_put_5 : decode prog_12_method_46_code 5 = .ok (.getfield 181, 3) := by decide +kernel
set_option maxRecDepth 20000 in
theorem w_732 : Cond.fieldLink "MovieBoxesModel" 181 "MovieBoxesModel" "outSize" "I" ∈ gt := gt_of (in_t4 (List.mem_of_getElem? (i := 12) rfl)) rfl
theorem fl_M_181_7 : FL "MovieBoxesModel" 181 7 20 false := ⟨_, _, _, "MovieBoxesModel", rfl, by decide, rfl, Or.inl w_732, Or.inl rfl⟩
theorem d_M_put_8 : decode prog_12_method_46_code 8 = .ok (.iload_n 1, 1) := by decide +kernel
theorem d_M_put_9 : decode prog_12_method_46_code 9 = .ok (.iastore, 1) := by decide +kernel
theorem d_M_put_10 : decode prog_12_method_46_code 10 = .ok (.aload_n 0, 1) := by decide +kernel
theorem d_M_put_11 : decode prog_12_method_46_code 11 = .ok (.dup, 1) := by decide +kernel
theorem d_M_put_12 : decode prog_12_method_46_code 12 = .ok (.getfield 181, 3) := by decide +kernel
theorem d_M_put_15 : decode prog_12_method_46_code 15 = .ok (.iconst 1, 1) := by decide +kernel
theorem d_M_put_16 : decode prog_12_method_46_code 16 = .ok (.iadd, 1) := by decide +kernel
theorem d_M_put_17 : decode prog_12_method_46_code 17 = .ok (.putfield 181, 3) := by decide +kernel
theorem d_M_put_20 : decode prog_12_method_46_code 20 = .ok (.return_, 1) := by decide +kernel
abbrev q_M_firstData : Mi := (⟨"MovieBoxesModel", "firstData", "()I"⟩, prog_12_method_44_code, 2, (some .int))
theorem d_M_firstData_2 : decode prog_12_method_44_code 2 = .ok (.iload_n 1, 1) := by decide +kernel
theorem d_M_firstData_3 : decode prog_12_method_44_code 3 = .ok (.aload_n 0, 1) := by decide +kernel
theorem d_M_firstData_4 : decode prog_12_method_44_code 4 = .ok (.getfield 64, 3) := by decide +kernel
theorem d_M_firstData_7 : decode prog_12_method_44_code 7 = .ok (.if_icmp .ge 31, 3) := by decide +kernel
theorem d_M_firstData_38 : decode prog_12_method_44_code 38 = .ok (.iconst (-1), 1) := by decide +kernel
theorem d_M_firstData_39 : decode prog_12_method_44_code 39 = .ok (.ireturn, 1) := by decide +kernel
theorem d_M_firstData_32 : decode prog_12_method_44_code 32 = .ok (.iinc 1 1, 3) := by decide +kernel
theorem d_M_firstData_35 : decode prog_12_method_44_code 35 = .ok (.goto (-33), 3) := by decide +kernel
theorem d_M_firstData_10 : decode prog_12_method_44_code 10 = .ok (.aload_n 0, 1) := by decide +kernel
theorem d_M_firstData_11 : decode prog_12_method_44_code 11 = .ok (.getfield 25, 3) := by decide +kernel
theorem d_M_firstData_14 : decode prog_12_method_44_code 14 = .ok (.iload_n 1, 1) := by decide +kernel
theorem d_M_firstData_15 : decode prog_12_method_44_code 15 = .ok (.iaload, 1) := by decide +kernel
theorem d_M_firstData_16 : decode prog_12_method_44_code 16 = .ok (.ifCond .ne 16, 3) := by decide +kernel
theorem d_M_firstData_19 : decode prog_12_method_44_code 19 = .ok (.aload_n 0, 1) := by decide +kernel
theorem d_M_firstData_20 : decode prog_12_method_44_code 20 = .ok (.getfield 19, 3) := by decide +kernel
theorem d_M_firstData_23 : decode prog_12_method_44_code 23 = .ok (.iload_n 1, 1) := by decide +kernel
theorem d_M_firstData_24 : decode prog_12_method_44_code 24 = .ok (.iaload, 1) := by decide +kernel
theorem d_M_firstData_25 : decode prog_12_method_44_code 25 = .ok (.bipush 68, 2) := by decide +kernel
theorem d_M_firstData_27 : decode prog_12_method_44_code 27 = .ok (.if_icmp .ne 5, 3) := by decide +kernel
theorem d_M_firstData_30 : decode prog_12_method_44_code 30 = .ok (.iload_n 1, 1) := by decide +kernel
theorem d_M_firstData_31 : decode prog_12_method_44_code 31 = .ok (.ireturn, 1) := by decide +kernel
theorem d_M_firstData_0 : decode prog_12_method_44_code 0 = .ok (.iconst 0, 1) := by decide +kernel
theorem d_M_firstData_1 : decode prog_12_method_44_code 1 = .ok (.istore_n 1, 1) := by decide +kernel
abbrev q_M_newPlace : Mi := (⟨"MovieBoxesModel", "newPlace", "(III)I"⟩, prog_12_method_42_code, 6, (some .int))
theorem d_M_newPlace_0 : decode prog_12_method_42_code 0 = .ok (.aload_n 0, 1) := by decide +kernel
theorem d_M_newPlace_1 : decode prog_12_method_42_code 1 = .ok (.getfield 43, 3) := by decide +kernel
theorem d_M_newPlace_4 : decode prog_12_method_42_code 4 = .ok (.sipush 256, 3) := by decide +kernel
theorem d_M_newPlace_7 : decode prog_12_method_42_code 7 = .ok (.iload_n 1, 1) := by decide +kernel
theorem d_M_newPlace_8 : decode prog_12_method_42_code 8 = .ok (.imul, 1) := by decide +kernel
theorem d_M_newPlace_9 : decode prog_12_method_42_code 9 = .ok (.iload_n 2, 1) := by decide +kernel
theorem d_M_newPlace_10 : decode prog_12_method_42_code 10 = .ok (.iadd, 1) := by decide +kernel
theorem d_M_newPlace_11 : decode prog_12_method_42_code 11 = .ok (.iaload, 1) := by decide +kernel
theorem d_M_newPlace_12 : decode prog_12_method_42_code 12 = .ok (.istore 4, 2) := by decide +kernel
theorem d_M_newPlace_14 : decode prog_12_method_42_code 14 = .ok (.aload_n 0, 1) := by decide +kernel
theorem d_M_newPlace_15 : decode prog_12_method_42_code 15 = .ok (.iload_n 1, 1) := by decide +kernel
theorem d_M_newPlace_16 : decode prog_12_method_42_code 16 = .ok (.iload_n 2, 1) := by decide +kernel
theorem d_M_newPlace_17 : decode prog_12_method_42_code 17 = .ok (.invokevirtual 131, 3) := by decide +kernel
theorem d_M_newPlace_20 : decode prog_12_method_42_code 20 = .ok (.istore 5, 2) := by decide +kernel
theorem d_M_newPlace_22 : decode prog_12_method_42_code 22 = .ok (.aload_n 0, 1) := by decide +kernel
theorem d_M_newPlace_23 : decode prog_12_method_42_code 23 = .ok (.getfield 13, 3) := by decide +kernel
theorem d_M_newPlace_26 : decode prog_12_method_42_code 26 = .ok (.iload 4, 2) := by decide +kernel
theorem d_M_newPlace_28 : decode prog_12_method_42_code 28 = .ok (.iaload, 1) := by decide +kernel
theorem d_M_newPlace_29 : decode prog_12_method_42_code 29 = .ok (.aload_n 0, 1) := by decide +kernel
theorem d_M_newPlace_30 : decode prog_12_method_42_code 30 = .ok (.getfield 13, 3) := by decide +kernel
theorem d_M_newPlace_33 : decode prog_12_method_42_code 33 = .ok (.aload_n 0, 1) := by decide +kernel
theorem d_M_newPlace_34 : decode prog_12_method_42_code 34 = .ok (.getfield 96, 3) := by decide +kernel
theorem d_M_newPlace_37 : decode prog_12_method_42_code 37 = .ok (.iaload, 1) := by decide +kernel
theorem d_M_newPlace_38 : decode prog_12_method_42_code 38 = .ok (.if_icmp .ge 10, 3) := by decide +kernel
theorem d_M_newPlace_48 : decode prog_12_method_42_code 48 = .ok (.iload 5, 2) := by decide +kernel
theorem d_M_newPlace_50 : decode prog_12_method_42_code 50 = .ok (.iload_n 3, 1) := by decide +kernel
theorem d_M_newPlace_51 : decode prog_12_method_42_code 51 = .ok (.iadd, 1) := by decide +kernel
theorem d_M_newPlace_52 : decode prog_12_method_42_code 52 = .ok (.aload_n 0, 1) := by decide +kernel
theorem d_M_newPlace_53 : decode prog_12_method_42_code 53 = .ok (.getfield 16, 3) := by decide +kernel
theorem d_M_newPlace_56 : decode prog_12_method_42_code 56 = .ok (.aload_n 0, 1) := by decide +kernel
theorem d_M_newPlace_57 : decode prog_12_method_42_code 57 = .ok (.getfield 96, 3) := by decide +kernel
theorem d_M_newPlace_60 : decode prog_12_method_42_code 60 = .ok (.iaload, 1) := by decide +kernel
theorem d_M_newPlace_61 : decode prog_12_method_42_code 61 = .ok (.isub, 1) := by decide +kernel
theorem d_M_newPlace_62 : decode prog_12_method_42_code 62 = .ok (.ireturn, 1) := by decide +kernel
theorem d_M_newPlace_41 : decode prog_12_method_42_code 41 = .ok (.iload 5, 2) := by decide +kernel
theorem d_M_newPlace_43 : decode prog_12_method_42_code 43 = .ok (.iload_n 3, 1) := by decide +kernel
theorem d_M_newPlace_44 : decode prog_12_method_42_code 44 = .ok (.iadd, 1) := by decide +kernel
theorem d_M_newPlace_45 : decode prog_12_method_42_code 45 = .ok (.goto 17, 3) := by decide +kernel
abbrev q_M_tooNarrow : Mi := (⟨"MovieBoxesModel", "tooNarrow", "(I)I"⟩, prog_12_method_43_code, 6, (some .int))
theorem d_M_tooNarrow_40 : decode prog_12_method_43_code 40 = .ok (.iload 5, 2) := by decide +kernel
theorem d_M_tooNarrow_42 : decode prog_12_method_43_code 42 = .ok (.iload 4, 2) := by decide +kernel
theorem d_M_tooNarrow_44 : decode prog_12_method_43_code 44 = .ok (.if_icmp .gt 33, 3) := by decide +kernel
theorem d_M_tooNarrow_47 : decode prog_12_method_43_code 47 = .ok (.aload_n 0, 1) := by decide +kernel
theorem d_M_tooNarrow_48 : decode prog_12_method_43_code 48 = .ok (.iload_n 3, 1) := by decide +kernel
theorem d_M_tooNarrow_49 : decode prog_12_method_43_code 49 = .ok (.iload 5, 2) := by decide +kernel
theorem d_M_tooNarrow_51 : decode prog_12_method_43_code 51 = .ok (.iload_n 1, 1) := by decide +kernel
theorem d_M_tooNarrow_52 : decode prog_12_method_43_code 52 = .ok (.invokevirtual 165, 3) := by decide +kernel
set_option maxRecDepth 20000 in
theorem w_949 : Cond.methodLink "MovieBoxesModel" 165 ⟨"MovieBoxesModel", "newPlace", "(III)I"⟩ ∈ gt := gt_of (in_t4 (List.mem_of_getElem? (i := 229) rfl)) rfl
set_option maxRecDepth 20000 in
theorem w_951 : Cond.instanceMethod ⟨"MovieBoxesModel", "newPlace", "(III)I"⟩ ∈ gt := gt_of (in_t4 (List.mem_of_getElem? (i := 231) rfl)) rfl
set_option maxRecDepth 20000 in
theorem ws_M_newPlace : Cond.selects "MovieBoxesModel" ⟨"MovieBoxesModel", "newPlace", "(III)I"⟩ ⟨"MovieBoxesModel", "newPlace", "(III)I"⟩ ∈ gt := gt_of (in_p3 (List.mem_of_getElem? (i := 10) rfl)) rfl
set_option maxRecDepth 20000 in
theorem w_952 : Cond.code ⟨"MovieBoxesModel", "newPlace", "(III)I"⟩ prog_12_method_42_code 6 (some .int) ∈ gt := gt_of (in_t4 (List.mem_of_getElem? (i := 232) rfl)) rfl
theorem lk_M_165 : LkV "MovieBoxesModel" 165 q_M_newPlace 3 := ⟨(List.forall_mem_cons.mpr ⟨w_949, (List.forall_mem_cons.mpr ⟨w_951, (List.forall_mem_cons.mpr ⟨ws_M_newPlace, (List.forall_mem_cons.mpr ⟨w_8, (fun _ h => absurd h List.not_mem_nil)⟩)⟩)⟩)⟩), w_952, by decide +kernel⟩
theorem d_M_tooNarrow_55 : decode prog_12_method_43_code 55 = .ok (.sipush 255, 3) := by decide +kernel
theorem d_M_tooNarrow_58 : decode prog_12_method_43_code 58 = .ok (.if_icmp .le 11, 3) := by decide +kernel
theorem d_M_tooNarrow_69 : decode prog_12_method_43_code 69 = .ok (.iload_n 2, 1) := by decide +kernel
theorem d_M_tooNarrow_70 : decode prog_12_method_43_code 70 = .ok (.istore_n 2, 1) := by decide +kernel
theorem d_M_tooNarrow_71 : decode prog_12_method_43_code 71 = .ok (.iinc 5 1, 3) := by decide +kernel
theorem d_M_tooNarrow_74 : decode prog_12_method_43_code 74 = .ok (.goto (-34), 3) := by decide +kernel
theorem d_M_tooNarrow_61 : decode prog_12_method_43_code 61 = .ok (.iload_n 2, 1) := by decide +kernel
theorem d_M_tooNarrow_62 : decode prog_12_method_43_code 62 = .ok (.iconst 1, 1) := by decide +kernel
theorem d_M_tooNarrow_63 : decode prog_12_method_43_code 63 = .ok (.iload_n 3, 1) := by decide +kernel
theorem d_M_tooNarrow_64 : decode prog_12_method_43_code 64 = .ok (.ishl, 1) := by decide +kernel
theorem d_M_tooNarrow_66 : decode prog_12_method_43_code 66 = .ok (.goto 4, 3) := by decide +kernel
theorem d_M_tooNarrow_65 : decode prog_12_method_43_code 65 = .ok (.ior, 1) := by decide +kernel
theorem d_M_tooNarrow_35 : decode prog_12_method_43_code 35 = .ok (.istore 4, 2) := by decide +kernel
theorem d_M_tooNarrow_37 : decode prog_12_method_43_code 37 = .ok (.iconst 1, 1) := by decide +kernel
theorem d_M_tooNarrow_38 : decode prog_12_method_43_code 38 = .ok (.istore 5, 2) := by decide +kernel
theorem d_M_tooNarrow_4 : decode prog_12_method_43_code 4 = .ok (.iload_n 3, 1) := by decide +kernel
theorem d_M_tooNarrow_5 : decode prog_12_method_43_code 5 = .ok (.aload_n 0, 1) := by decide +kernel
theorem d_M_tooNarrow_6 : decode prog_12_method_43_code 6 = .ok (.getfield 83, 3) := by decide +kernel
theorem d_M_tooNarrow_9 : decode prog_12_method_43_code 9 = .ok (.if_icmp .ge 74, 3) := by decide +kernel
theorem d_M_tooNarrow_12 : decode prog_12_method_43_code 12 = .ok (.aload_n 0, 1) := by decide +kernel
theorem d_M_tooNarrow_13 : decode prog_12_method_43_code 13 = .ok (.getfield 40, 3) := by decide +kernel
theorem d_M_tooNarrow_16 : decode prog_12_method_43_code 16 = .ok (.bipush 8, 2) := by decide +kernel
theorem d_M_tooNarrow_18 : decode prog_12_method_43_code 18 = .ok (.iload_n 3, 1) := by decide +kernel
theorem d_M_tooNarrow_19 : decode prog_12_method_43_code 19 = .ok (.imul, 1) := by decide +kernel
theorem d_M_tooNarrow_20 : decode prog_12_method_43_code 20 = .ok (.iconst 4, 1) := by decide +kernel
theorem d_M_tooNarrow_21 : decode prog_12_method_43_code 21 = .ok (.iadd, 1) := by decide +kernel
theorem d_M_tooNarrow_22 : decode prog_12_method_43_code 22 = .ok (.iaload, 1) := by decide +kernel
theorem d_M_tooNarrow_23 : decode prog_12_method_43_code 23 = .ok (.ifCond .lt 11, 3) := by decide +kernel
theorem d_M_tooNarrow_34 : decode prog_12_method_43_code 34 = .ok (.iconst 0, 1) := by decide +kernel
theorem d_M_tooNarrow_26 : decode prog_12_method_43_code 26 = .ok (.aload_n 0, 1) := by decide +kernel
theorem d_M_tooNarrow_27 : decode prog_12_method_43_code 27 = .ok (.iload_n 3, 1) := by decide +kernel
theorem d_M_tooNarrow_28 : decode prog_12_method_43_code 28 = .ok (.invokevirtual 116, 3) := by decide +kernel
theorem d_M_tooNarrow_31 : decode prog_12_method_43_code 31 = .ok (.goto 4, 3) := by decide +kernel
theorem d_M_tooNarrow_83 : decode prog_12_method_43_code 83 = .ok (.iload_n 2, 1) := by decide +kernel
theorem d_M_tooNarrow_84 : decode prog_12_method_43_code 84 = .ok (.ireturn, 1) := by decide +kernel
theorem d_M_tooNarrow_0 : decode prog_12_method_43_code 0 = .ok (.iconst 0, 1) := by decide +kernel
theorem d_M_tooNarrow_1 : decode prog_12_method_43_code 1 = .ok (.istore_n 2, 1) := by decide +kernel
theorem d_M_tooNarrow_2 : decode prog_12_method_43_code 2 = .ok (.iconst 0, 1) := by decide +kernel
theorem d_M_tooNarrow_3 : decode prog_12_method_43_code 3 = .ok (.istore_n 3, 1) := by decide +kernel
theorem d_M_tooNarrow_77 : decode prog_12_method_43_code 77 = .ok (.iinc 3 1, 3) := by decide +kernel
theorem d_M_tooNarrow_80 : decode prog_12_method_43_code 80 = .ok (.goto (-76), 3) := by decide +kernel
/-! ===== the model: firstData, newPlace, tooNarrow, put ===== -/
abbrev fdC (s : mS) (k : Int) : Prop := s 6 k = 0 ∧ s 4 k = 68
def fdx (s : mS) : Nat → Int → Int
  | 0, _ => -1
  | n + 1, k => if fdC s k then k else fdx s n (k + 1)
theorem fdx_b (s : mS) : ∀ (n : Nat) (k : Int), 0 ≤ k → fdx s n k = -1 ∨ (k ≤ fdx s n k ∧ fdx s n k < k + n ∧ fdC s (fdx s n k) ∧ ∀ j, k ≤ j → j < fdx s n k → ¬ fdC s j)
  | 0, k, h => Or.inl rfl
  | n + 1, k, h => by
    unfold fdx
    split
    · exact Or.inr ⟨Int.le_refl k, by omega, by assumption, fun j h1 h2 => absurd h2 (by omega)⟩
    · rename_i hn
      rcases fdx_b s n (k + 1) (by omega) with q | ⟨q1, q2, q3, q4⟩
      · exact Or.inl q
      · refine Or.inr ⟨by omega, by omega, q3, fun j h1 h2 => ?_⟩
        by_cases hj : j = k
        · subst hj; exact hn
        · exact q4 j (by omega) h2
/-- where chunk c (from 1) of a track lies when the movie, ML long then, has been moved -/
def npO (s : mS) (t c ML : Int) : Int := if s 2 (s 12 (256 * t + c)) < s 2 (s 0 2) then cpl s t c + ML else cpl s t c + ML - s 3 (s 0 2)
def tnB (s : mS) (t ML : Int) : Prop := 0 ≤ tb s t 4 ∧ exB (fun c => 255 < npO s t (1 + c) ML) (pv s (pbx s t) 0).toNat
noncomputable def tnO (s : mS) (ML : Int) : Int := b2 (tnB s 0 ML) + (if s 0 3 = 2 then 2 * b2 (tnB s 1 ML) else 0)
/-- what newPlace needs: the boxes of the chunks, the movie -/
def hmOk (s : mS) : Prop := (0 ≤ s 0 2 ∧ s 0 2 < s 0 1 ∧ s 6 (s 0 2) = 0 ∧ s 4 (s 0 2) = 77) ∧ ∀ t, 0 ≤ t → t < s 0 3 → ∀ c, 0 ≤ c → c < pv s (pbx s t) 0 → 0 ≤ s 12 (256 * t + (1 + c)) ∧ s 12 (256 * t + (1 + c)) < s 0 1 ∧ dbC s (cpl s t (1 + c)) 0 (s 12 (256 * t + (1 + c)))
theorem or_1 {x : Int} (h : x = 0 ∨ x = 1) : zI x ||| (zI 1 <<< (zI 0 &&& 31)) = zI 1 := by rcases h with rfl | rfl <;> decide
theorem or_2 {x y : Int} (h : x = 0 ∨ x = 1) (hy : y = 0 ∨ y = 1) : zI (x + 2 * y) ||| (zI 1 <<< (zI 1 &&& 31)) = zI (x + 2) := by rcases h with rfl | rfl <;> rcases hy with rfl | rfl <;> decide
/-- the bytes written: L -/
def outIs (u : mS) (L : List Int) : Prop := u 0 4 = L.length ∧ ∀ i : Nat, i < L.length → u 16 i = L.getD i 0
def putS (u : mS) (b : Int) : mS := sset (sset u 16 (u 0 4) b) 0 4 (u 0 4 + 1)
theorem putS_out {u : mS} {L : List Int} (h : outIs u L) (b : Int) : outIs (putS u b) (L ++ [b]) := by
  refine ⟨?_, fun i hi => ?_⟩
  · unfold putS
    simp only [sset_at, updI_at, reduceIte]
    rw [h.1, List.length_append]
    rfl
  · unfold putS
    simp only [sset_at, updI_at, reduceIte, Nat.reduceEqDiff]
    rw [h.1]
    rw [List.length_append, List.length_singleton] at hi
    by_cases hl : i = L.length
    · subst hl
      rw [if_pos rfl]
      simp
    · rw [if_neg (by omega), h.2 i (by omega)]
      rw [List.getD_eq_getElem?_getD, List.getD_eq_getElem?_getD, List.getElem?_append_left (by omega)]
theorem putS_c (u : mS) (b : Int) (c : Nat) (h0 : c ≠ 0) (h : c ≠ 16) : putS u b c = u c := by
  funext j
  unfold putS
  simp only [sset_at]
  rw [if_neg h0, if_neg h]
theorem putS_0 (u : mS) (b j : Int) (h : j ≠ 4) : putS u b 0 j = u 0 j := by
  unfold putS
  simp only [sset_at, updI_at, reduceIte, Nat.reduceEqDiff]
  rw [if_neg h]
section MODEL16
variable (G : gG) (l : Launch) (ad : Nat → Nat)
theorem c_M_put (u : mS) (b : Int) (h : 0 ≤ u 0 4 ∧ u 0 4 < 1000) : Ct G l q_M_put 0 0 0 [.ref (ad 0), vI b] (mW G ad u) (fun r w => r = none ∧ w = mW G ad (putS u b)) := by
  refine Ct.intro [some (.ref (ad 0)), some (vI b)] (by decide) (Nat.le_of_ble_eq_true rfl) rfl (fun sz => ?_)
  generalize hQ : (fun r w => r = none ∧ w = mW G ad (putS u b)) = Q
  refine r_aload_n d_M_put_0 rfl rfl ?_
  refine r_get d_M_put_1 fl_M_55_7 0 rfl rfl ?_
  refine r_aload_n d_M_put_4 rfl rfl ?_
  refine r_get d_M_put_5 fl_M_181_7 0 rfl rfl ?_
  refine r_iload_n d_M_put_8 rfl ?_
  refine r_iast _ d_M_put_9 16 rfl (by omega) mw_16 ?_
  refine r_aload_n d_M_put_10 rfl rfl ?_
  refine r_dup d_M_put_11 rfl ?_
  refine r_get d_M_put_12 fl_M_181_7 0 rfl rfl ?_
  simp only [sset_at, updI_at, reduceIte, Nat.reduceEqDiff, Int.reduceEq]
  refine r_iconst d_M_put_15 ?_
  refine r_iadd d_M_put_16 ?_
  refine r_put _ d_M_put_17 fl_M_181_7 0 rfl rfl rfl (Nat.le_of_ble_eq_true rfl) mwp_outSize ?_
  refine r_vret d_M_put_20 rfl (Nat.le_of_ble_eq_true rfl) (Nat.le_of_ble_eq_true rfl) ?_
  rw [← hQ]; exact ⟨rfl, rfl⟩
theorem c_M_firstData (s : mS) (hr : rdOk s) : Ct G l q_M_firstData 0 0 0 [.ref (ad 0)] (mW G ad s) (fun r w => r = some (vI (fdx s (s 0 1).toNat 0)) ∧ w = mW G ad s) := by
  refine Ct.intro [some (.ref (ad 0)), none] (by decide) (Nat.le_of_ble_eq_true rfl) rfl (fun sz => ?_)
  generalize hQ : (fun r w => r = some (vI (fdx s (s 0 1).toNat 0)) ∧ w = mW G ad s) = Q
  obtain ⟨hc, hk⟩ := hr
  have loop : ∀ (m : Nat) (k : Int), 0 ≤ k → k + m = s 0 1 → fdx s m k = fdx s (s 0 1).toNat 0 → WP (mth G l q_M_firstData 0 0 0 (mW G ad s) sz Q) 0 0 (mW G ad s) 2 [some (.ref (ad 0)), some (vI k)] [] := by
    intro m
    induction m with
    | zero =>
      intro k h0 hm hE
      refine r_iload_n d_M_firstData_2 rfl ?_
      refine r_aload_n d_M_firstData_3 rfl rfl ?_
      refine r_get d_M_firstData_4 fl_M_64_7 0 rfl rfl ?_
      refine r_icmp_ge 38 d_M_firstData_7 (by decide) (by unfold i32; omega) (by unfold i32; omega) (fun h1 => ?_) (fun h1 => ?_)
      · refine r_iconst d_M_firstData_38 ?_
        refine r_iret d_M_firstData_39 rfl (Nat.le_of_ble_eq_true rfl) (Nat.le_of_ble_eq_true rfl) ?_
        rw [← hQ]; exact ⟨by rw [← hE]; rfl, rfl⟩
      · exact absurd h1 (by omega)
    | succ m ih =>
      intro k h0 hm hE
      have hb := hk k h0 (by omega)
      rw [fdx] at hE
      have no : ¬ fdC s k → WP (mth G l q_M_firstData 0 0 0 (mW G ad s) sz Q) 0 0 (mW G ad s) 32 [some (.ref (ad 0)), some (vI k)] [] := by
        intro h
        rw [if_neg h] at hE
        refine r_iinc d_M_firstData_32 rfl (Nat.le_of_ble_eq_true rfl) rfl ?_
        show WP _ _ _ _ _ [_, _] _
        refine r_goto 2 d_M_firstData_35 (by decide) ?_
        exact ih (k + 1) (by omega) (by omega) hE
      refine r_iload_n d_M_firstData_2 rfl ?_
      refine r_aload_n d_M_firstData_3 rfl rfl ?_
      refine r_get d_M_firstData_4 fl_M_64_7 0 rfl rfl ?_
      refine r_icmp_ge 38 d_M_firstData_7 (by decide) (by unfold i32; omega) (by unfold i32; omega) (fun h1 => ?_) (fun h1 => ?_)
      · exact absurd h1 (by omega)
      refine r_aload_n d_M_firstData_10 rfl rfl ?_
      refine r_get d_M_firstData_11 fl_M_25_7 0 rfl rfl ?_
      refine r_iload_n d_M_firstData_14 rfl ?_
      refine r_iald d_M_firstData_15 6 rfl (by omega) ?_
      refine r_if_ne 32 d_M_firstData_16 (by decide) (by unfold i32; omega) (fun h2 => ?_) (fun h2 => ?_)
      · exact no (by unfold fdC; omega)
      refine r_aload_n d_M_firstData_19 rfl rfl ?_
      refine r_get d_M_firstData_20 fl_M_19_7 0 rfl rfl ?_
      refine r_iload_n d_M_firstData_23 rfl ?_
      refine r_iald d_M_firstData_24 4 rfl (by omega) ?_
      refine r_bipush d_M_firstData_25 (by decide) ?_
      refine r_icmp_ne 32 d_M_firstData_27 (by decide) (by unfold i32; omega) (by unfold i32; omega) (fun h3 => ?_) (fun h3 => ?_)
      · exact no (by unfold fdC; omega)
      rw [if_pos (by unfold fdC; omega)] at hE
      refine r_iload_n d_M_firstData_30 rfl ?_
      refine r_iret d_M_firstData_31 rfl (Nat.le_of_ble_eq_true rfl) (Nat.le_of_ble_eq_true rfl) ?_
      rw [← hQ]; exact ⟨by rw [← hE], rfl⟩
  refine r_iconst d_M_firstData_0 ?_
  refine r_istore_n d_M_firstData_1 (Nat.le_of_ble_eq_true rfl) rfl ?_
  show WP _ _ _ _ _ [_, _] _
  exact loop (s 0 1).toNat 0 (by omega) (by omega) rfl
theorem c_M_newPlace (s : mS) (t : Int) (c : Nat) (ML : Int) (hb : byOk s) (hr : rdOk s) (ht : 0 ≤ t ∧ t ≤ 1) (htc : t < s 0 3) (hT : trOk s t) (hh : hmOk s) (hc : (c : Int) < pv s (pbx s t) 0) : Ct G l q_M_newPlace 2 0 0 [.ref (ad 0), vI t, vI (1 + c), vI ML] (mW G ad s) (fun r w => r = some (vI (npO s t (1 + c) ML)) ∧ w = mW G ad s) := by
  refine Ct.intro [some (.ref (ad 0)), some (vI t), some (vI (1 + c)), some (vI ML), none, none] (by decide) (Nat.le_of_ble_eq_true rfl) rfl (fun sz => ?_)
  generalize hQ : (fun r w => r = some (vI (npO s t (1 + c) ML)) ∧ w = mW G ad s) = Q
  have i4 := hT.i ht (kd := 4) (by omega)
  have k4 := hT.2.2.2.2.1
  have hch := pv_b hb (pbx s t) 0
  obtain ⟨hm1, hm2⟩ := hh
  have hd := hm2 t ht.1 htc c (by omega) hc
  have hcn := hr.1
  have b1 := hr.2 (s 12 (256 * t + (1 + c))) hd.1 hd.2.1
  have b2 := hr.2 (s 0 2) hm1.1 hm1.2.1
  refine r_aload_n d_M_newPlace_0 rfl rfl ?_
  refine r_get d_M_newPlace_1 fl_M_43_7 0 rfl rfl ?_
  refine r_sipush d_M_newPlace_4 (by decide) ?_
  refine r_iload_n d_M_newPlace_7 rfl ?_
  refine r_imul d_M_newPlace_8 ?_
  refine r_iload_n d_M_newPlace_9 rfl ?_
  refine r_iadd d_M_newPlace_10 ?_
  refine r_iald d_M_newPlace_11 12 rfl (by omega) ?_
  refine r_istore d_M_newPlace_12 (Nat.le_of_ble_eq_true rfl) rfl ?_
  show WP _ _ _ _ _ [_, _, _, _, _, _] _
  refine r_aload_n d_M_newPlace_14 rfl rfl ?_
  refine r_iload_n d_M_newPlace_15 rfl ?_
  refine r_iload_n d_M_newPlace_16 rfl ?_
  refine r_cV2 d_M_newPlace_17 lk_M_131 (c_M_chunkPlace G l ad s t (1 + c) ht (by unfold i32; omega) k4.1 (by unfold i32; omega) (by refine ⟨fun h => ?_, fun h => ?_⟩; have := k4.2.2.1 h; omega; have := k4.2.2.2.1 h; omega)) 0 rfl rfl (Nat.le_of_ble_eq_true rfl) (rok rfl rfl) ⟨(Nat.le_of_ble_eq_true rfl), (Nat.le_of_ble_eq_true rfl)⟩ (fun r ws2 hq => ?_)
  obtain ⟨rfl, rfl⟩ := hq
  show WP _ _ _ _ _ _ (_ :: _)
  refine r_istore d_M_newPlace_20 (Nat.le_of_ble_eq_true rfl) rfl ?_
  show WP _ _ _ _ _ [_, _, _, _, _, _] _
  refine r_aload_n d_M_newPlace_22 rfl rfl ?_
  refine r_get d_M_newPlace_23 fl_M_13_7 0 rfl rfl ?_
  refine r_iload d_M_newPlace_26 rfl ?_
  refine r_iald d_M_newPlace_28 2 rfl (by omega) ?_
  refine r_aload_n d_M_newPlace_29 rfl rfl ?_
  refine r_get d_M_newPlace_30 fl_M_13_7 0 rfl rfl ?_
  refine r_aload_n d_M_newPlace_33 rfl rfl ?_
  refine r_get d_M_newPlace_34 fl_M_96_7 0 rfl rfl ?_
  refine r_iald d_M_newPlace_37 2 rfl (by omega) ?_
  refine r_icmp_ge 48 d_M_newPlace_38 (by decide) (by unfold i32; omega) (by unfold i32; omega) (fun g1 => ?_) (fun g1 => ?_)
  · refine r_iload d_M_newPlace_48 rfl ?_
    refine r_iload_n d_M_newPlace_50 rfl ?_
    refine r_iadd d_M_newPlace_51 ?_
    refine r_aload_n d_M_newPlace_52 rfl rfl ?_
    refine r_get d_M_newPlace_53 fl_M_16_7 0 rfl rfl ?_
    refine r_aload_n d_M_newPlace_56 rfl rfl ?_
    refine r_get d_M_newPlace_57 fl_M_96_7 0 rfl rfl ?_
    refine r_iald d_M_newPlace_60 3 rfl (by omega) ?_
    refine r_isub d_M_newPlace_61 ?_
    refine r_iret d_M_newPlace_62 rfl (Nat.le_of_ble_eq_true rfl) (Nat.le_of_ble_eq_true rfl) ?_
    rw [← hQ]; exact ⟨by unfold npO; rw [if_neg (by omega)], rfl⟩
  · refine r_iload d_M_newPlace_41 rfl ?_
    refine r_iload_n d_M_newPlace_43 rfl ?_
    refine r_iadd d_M_newPlace_44 ?_
    refine r_goto 62 d_M_newPlace_45 (by decide) ?_
    refine r_iret d_M_newPlace_62 rfl (Nat.le_of_ble_eq_true rfl) (Nat.le_of_ble_eq_true rfl) ?_
    rw [← hQ]; exact ⟨by unfold npO; rw [if_pos (by omega)], rfl⟩
theorem c_M_tooNarrow (s : mS) (ML : Int) (hb : byOk s) (hr : rdOk s) (h3 : 1 ≤ s 0 3 ∧ s 0 3 ≤ 2) (hT : ∀ t, 0 ≤ t → t < s 0 3 → trOk s t) (hh : hmOk s) (hML : 0 ≤ ML ∧ ML ≤ 2000000000) : Ct G l q_M_tooNarrow 3 0 0 [.ref (ad 0), vI ML] (mW G ad s) (fun r w => r = some (vI (tnO s ML)) ∧ w = mW G ad s) := by
  refine Ct.intro [some (.ref (ad 0)), some (vI ML), none, none, none, none] (by decide) (Nat.le_of_ble_eq_true rfl) rfl (fun sz => ?_)
  generalize hQ : (fun r w => r = some (vI (tnO s ML)) ∧ w = mW G ad s) = Q
  -- the flags so far: x of track 0, y of track 1
  have npb : ∀ t c, 0 ≤ t → t < s 0 3 → 0 ≤ c → c < pv s (pbx s t) 0 → i32 (npO s t (1 + c) ML) := by
    intro t c h0 h1 h2 h4
    have hd := hh.2 t h0 h1 c h2 h4
    have b2 := hr.2 (s 0 2) hh.1.1 hh.1.2.1
    have hcp := cpl_b hb t (1 + c)
    unfold npO i32
    split <;> omega
  have j : ∀ (t : Nat) (st : Int → Int) (stt : Int), (t : Int) < s 0 3 → (∀ x, (x = 0 ∨ x = 1) → zI (st x) ||| (zI 1 <<< (zI t &&& 31)) = zI (st 1)) → (∀ (x4 x5 : Option Value), WP (mth G l q_M_tooNarrow 3 0 0 (mW G ad s) sz Q) 0 0 (mW G ad s) 77 [some (.ref (ad 0)), some (vI ML), some (vI (st (b2 (tnB s t ML)))), some (vI t), x4, x5] []) → ∀ (x4 x5 : Option Value), WP (mth G l q_M_tooNarrow 3 0 0 (mW G ad s) sz Q) 0 0 (mW G ad s) 4 [some (.ref (ad 0)), some (vI ML), some (vI (st 0)), some (vI t), x4, x5] [] := by
    intro t st _ ht hor K x4 x5
    have hTt := hT t (by omega) ht
    have ht01 : 0 ≤ (t : Int) ∧ (t : Int) ≤ 1 := by omega
    have i4 := hTt.i ht01 (kd := 4) (by omega)
    have k4 := hTt.2.2.2.2.1
    have hch := pv_b hb (pbx s t) 0
    have loop : ∀ (m c : Nat) (ch : Int), ch = (if tb s t 4 < 0 then 0 else pv s (pbx s t) 0) → (c : Int) + m = ch → WP (mth G l q_M_tooNarrow 3 0 0 (mW G ad s) sz Q) 0 0 (mW G ad s) 40 [some (.ref (ad 0)), some (vI ML), some (vI (st (b2 (exB (fun c => 255 < npO s t (1 + c) ML) c)))), some (vI t), some (vI ch), some (vI (1 + c))] [] := by
      intro m
      induction m with
      | zero =>
        intro c ch hch2 hc
        have hchb : 0 ≤ ch ∧ ch < 256 := by rw [hch2]; split <;> omega
        refine r_iload d_M_tooNarrow_40 rfl ?_
        refine r_iload d_M_tooNarrow_42 rfl ?_
        refine r_icmp_gt 77 d_M_tooNarrow_44 (by decide) (by unfold i32; omega) (by unfold i32; omega) (fun g1 => ?_) (fun g1 => ?_)
        · have e : b2 (tnB s t ML) = b2 (exB (fun c => 255 < npO s t (1 + c) ML) c) := by
            refine b2_c ⟨fun h => ?_, fun h => ?_⟩
            · have := h.2
              rw [if_neg (by have := h.1; omega)] at hch2
              rw [show c = (pv s (pbx s t) 0).toNat by omega]
              exact this
            · rcases Int.lt_or_le (tb s t 4) 0 with q | q
              · rw [if_pos q] at hch2
                rw [show c = 0 by omega] at h
                exact absurd h (exB_0 _)
              · rw [if_neg (by omega)] at hch2
                rw [show c = (pv s (pbx s t) 0).toNat by omega] at h
                exact ⟨q, h⟩
          rw [← e]
          exact K _ _
        · exact absurd g1 (by omega)
      | succ m ih =>
        intro c ch hch2 hc
        have hchb : 0 ≤ ch ∧ ch < 256 := by rw [hch2]; split <;> omega
        have hpos : ¬ tb s t 4 < 0 := fun h => by rw [if_pos h] at hch2; omega
        have hch3 : ch = pv s (pbx s t) 0 := by rw [hch2, if_neg hpos]
        have ih2 := ih (c + 1) ch hch2 (by omega)
        rw [b2_c (exB_s (fun c => 255 < npO s t (1 + c) ML) c), show (1 : Int) + ((c + 1 : Nat) : Int) = 1 + c + 1 by omega] at ih2
        have hwb := b2_b (exB (fun c => 255 < npO s t (1 + c) ML) c)
        have hnb := npb t c (by omega) ht (by omega) (by omega)
        refine r_iload d_M_tooNarrow_40 rfl ?_
        refine r_iload d_M_tooNarrow_42 rfl ?_
        refine r_icmp_gt 77 d_M_tooNarrow_44 (by decide) (by unfold i32; omega) (by unfold i32; omega) (fun g1 => ?_) (fun g1 => ?_)
        · exact absurd g1 (by omega)
        refine r_aload_n d_M_tooNarrow_47 rfl rfl ?_
        refine r_iload_n d_M_tooNarrow_48 rfl ?_
        refine r_iload d_M_tooNarrow_49 rfl ?_
        refine r_iload_n d_M_tooNarrow_51 rfl ?_
        refine r_cV3 d_M_tooNarrow_52 lk_M_165 (c_M_newPlace G l ad s t c ML hb hr ht01 ht hTt hh (by omega)) 0 rfl rfl (Nat.le_of_ble_eq_true rfl) (rok rfl rfl) ⟨(Nat.le_of_ble_eq_true rfl), (Nat.le_of_ble_eq_true rfl)⟩ (fun r ws2 hq => ?_)
        obtain ⟨rfl, rfl⟩ := hq
        show WP _ _ _ _ _ _ (_ :: _)
        refine r_sipush d_M_tooNarrow_55 (by decide) ?_
        refine r_icmp_le 69 d_M_tooNarrow_58 (by decide) hnb (by unfold i32; omega) (fun g2 => ?_) (fun g2 => ?_)
        · rw [b2_c (show (exB (fun c => 255 < npO s t (1 + c) ML) c ∨ 255 < npO s t (1 + c) ML) ↔ exB (fun c => 255 < npO s t (1 + c) ML) c from ⟨fun h => h.elim id (fun q => absurd q (by omega)), Or.inl⟩)] at ih2
          refine r_iload_n d_M_tooNarrow_69 rfl ?_
          refine r_istore_n d_M_tooNarrow_70 (Nat.le_of_ble_eq_true rfl) rfl ?_
          show WP _ _ _ _ _ [_, _, _, _, _, _] _
          refine r_iinc d_M_tooNarrow_71 rfl (Nat.le_of_ble_eq_true rfl) rfl ?_
          show WP _ _ _ _ _ [_, _, _, _, _, _] _
          refine r_goto 40 d_M_tooNarrow_74 (by decide) ?_
          exact ih2
        · rw [b2_t (Or.inr (by omega))] at ih2
          refine r_iload_n d_M_tooNarrow_61 rfl ?_
          refine r_iconst d_M_tooNarrow_62 ?_
          refine r_iload_n d_M_tooNarrow_63 rfl ?_
          refine r_ishlR d_M_tooNarrow_64 ?_
          refine r_iorR d_M_tooNarrow_65 ?_
          rw [hor _ hwb]
          refine r_goto 70 d_M_tooNarrow_66 (by decide) ?_
          refine r_istore_n d_M_tooNarrow_70 (Nat.le_of_ble_eq_true rfl) rfl ?_
          show WP _ _ _ _ _ [_, _, _, _, _, _] _
          refine r_iinc d_M_tooNarrow_71 rfl (Nat.le_of_ble_eq_true rfl) rfl ?_
          show WP _ _ _ _ _ [_, _, _, _, _, _] _
          refine r_goto 40 d_M_tooNarrow_74 (by decide) ?_
          exact ih2
    have j35 : ∀ ch, ch = (if tb s t 4 < 0 then 0 else pv s (pbx s t) 0) → WP (mth G l q_M_tooNarrow 3 0 0 (mW G ad s) sz Q) 0 0 (mW G ad s) 35 [some (.ref (ad 0)), some (vI ML), some (vI (st 0)), some (vI t), x4, x5] [vI ch] := by
      intro ch hch2
      have hchb : 0 ≤ ch ∧ ch < 256 := by rw [hch2]; split <;> omega
      have J := loop ch.toNat 0 ch hch2 (by omega)
      rw [b2_f (exB_0 _)] at J
      refine r_istore d_M_tooNarrow_35 (Nat.le_of_ble_eq_true rfl) rfl ?_
      show WP _ _ _ _ _ [_, _, _, _, _, _] _
      refine r_iconst d_M_tooNarrow_37 ?_
      refine r_istore d_M_tooNarrow_38 (Nat.le_of_ble_eq_true rfl) rfl ?_
      show WP _ _ _ _ _ [_, _, _, _, _, _] _
      exact J
    refine r_iload_n d_M_tooNarrow_4 rfl ?_
    refine r_aload_n d_M_tooNarrow_5 rfl rfl ?_
    refine r_get d_M_tooNarrow_6 fl_M_83_7 0 rfl rfl ?_
    refine r_icmp_ge 83 d_M_tooNarrow_9 (by decide) (by unfold i32; omega) (by unfold i32; omega) (fun g1 => ?_) (fun g1 => ?_)
    · exact absurd g1 (by omega)
    refine r_aload_n d_M_tooNarrow_12 rfl rfl ?_
    refine r_get d_M_tooNarrow_13 fl_M_40_7 0 rfl rfl ?_
    refine r_bipush d_M_tooNarrow_16 (by decide) ?_
    refine r_iload_n d_M_tooNarrow_18 rfl ?_
    refine r_imul d_M_tooNarrow_19 ?_
    refine r_iconst d_M_tooNarrow_20 ?_
    refine r_iadd d_M_tooNarrow_21 ?_
    refine r_iald d_M_tooNarrow_22 11 rfl (by omega) ?_
    show WP _ 0 0 _ _ _ (vI (tb s t 4) :: _)
    refine r_if_lt 34 d_M_tooNarrow_23 (by decide) (by unfold i32; omega) (fun g2 => ?_) (fun g2 => ?_)
    · refine r_iconst d_M_tooNarrow_34 ?_
      exact j35 0 (by rw [if_pos g2])
    · refine r_aload_n d_M_tooNarrow_26 rfl rfl ?_
      refine r_iload_n d_M_tooNarrow_27 rfl ?_
      refine r_cV1 d_M_tooNarrow_28 lk_M_116 (c_M_chunkCount G l ad s t ht01 (by unfold i32; omega) k4.1 k4.2.1) 0 rfl rfl (Nat.le_of_ble_eq_true rfl) (rok rfl rfl) ⟨(Nat.le_of_ble_eq_true rfl), (Nat.le_of_ble_eq_true rfl)⟩ (fun r ws2 hq => ?_)
      obtain ⟨rfl, rfl⟩ := hq
      show WP _ _ _ _ _ _ (_ :: _)
      refine r_goto 35 d_M_tooNarrow_31 (by decide) ?_
      exact j35 _ (by rw [if_neg g2])
  have fin : ∀ (n : Nat) (v : Int) (x4 x5 : Option Value), (n : Int) = s 0 3 → v = tnO s ML → WP (mth G l q_M_tooNarrow 3 0 0 (mW G ad s) sz Q) 0 0 (mW G ad s) 4 [some (.ref (ad 0)), some (vI ML), some (vI v), some (vI n), x4, x5] [] := by
    intro n v x4 x5 hn hv
    refine r_iload_n d_M_tooNarrow_4 rfl ?_
    refine r_aload_n d_M_tooNarrow_5 rfl rfl ?_
    refine r_get d_M_tooNarrow_6 fl_M_83_7 0 rfl rfl ?_
    refine r_icmp_ge 83 d_M_tooNarrow_9 (by decide) (by unfold i32; omega) (by unfold i32; omega) (fun g1 => ?_) (fun g1 => ?_)
    · refine r_iload_n d_M_tooNarrow_83 rfl ?_
      refine r_iret d_M_tooNarrow_84 rfl (Nat.le_of_ble_eq_true rfl) (Nat.le_of_ble_eq_true rfl) ?_
      rw [← hQ]; exact ⟨by rw [hv], rfl⟩
    · exact absurd g1 (by omega)
  have hB0 := b2_b (tnB s 0 ML)
  refine r_iconst d_M_tooNarrow_0 ?_
  refine r_istore_n d_M_tooNarrow_1 (Nat.le_of_ble_eq_true rfl) rfl ?_
  show WP _ _ _ _ _ [_, _, _, _, _, _] _
  refine r_iconst d_M_tooNarrow_2 ?_
  refine r_istore_n d_M_tooNarrow_3 (Nat.le_of_ble_eq_true rfl) rfl ?_
  show WP _ _ _ _ _ [_, _, _, _, _, _] _
  refine j 0 (fun x => x) 0 (by omega) (fun x hx => or_1 hx) (fun x4 x5 => ?_) _ _
  by_cases h2 : s 0 3 = 2
  · refine r_iinc d_M_tooNarrow_77 rfl (Nat.le_of_ble_eq_true rfl) rfl ?_
    show WP _ _ _ _ _ [_, _, _, _, _, _] _
    refine r_goto 4 d_M_tooNarrow_80 (by decide) ?_
    have J := j 1 (fun y => b2 (tnB s 0 ML) + 2 * y) 0 (by omega) (fun y hy => or_2 hB0 hy) (fun x4 x5 => by
      refine r_iinc d_M_tooNarrow_77 rfl (Nat.le_of_ble_eq_true rfl) rfl ?_
      show WP _ _ _ _ _ [_, _, _, _, _, _] _
      refine r_goto 4 d_M_tooNarrow_80 (by decide) ?_
      exact fin 2 _ _ _ (by omega) (by unfold tnO; rw [if_pos h2]; rfl)) x4 x5
    rw [show b2 (tnB s 0 ML) + 2 * 0 = b2 (tnB s 0 ML) by omega] at J
    exact J
  · refine r_iinc d_M_tooNarrow_77 rfl (Nat.le_of_ble_eq_true rfl) rfl ?_
    show WP _ _ _ _ _ [_, _, _, _, _, _] _
    refine r_goto 4 d_M_tooNarrow_80 (by decide) ?_
    exact fin 1 _ _ _ (by omega) (by show b2 (tnB s 0 ML) = _; unfold tnO; rw [if_neg h2]; omega)
end MODEL16
