abbrev q_X_placesOf : Mi := (⟨"MovieBoxes", "placesOf", "(I)LMovieBoxes$PlaceTable;"⟩, prog_1_method_28_code, 3, (some (.object "MovieBoxes$PlaceTable")))
theorem d_X_placesOf_0 : decode prog_1_method_28_code 0 = .ok (.aload_n 0, 1) := by decide +kernel
theorem d_X_placesOf_1 : decode prog_1_method_28_code 1 = .ok (.getfield 43, 3) := by decide +kernel
theorem d_X_placesOf_4 : decode prog_1_method_28_code 4 = .ok (.iload_n 1, 1) := by decide +kernel
theorem d_X_placesOf_5 : decode prog_1_method_28_code 5 = .ok (.aaload, 1) := by decide +kernel
theorem d_X_placesOf_6 : decode prog_1_method_28_code 6 = .ok (.getfield 234, 3) := by decide +kernel
theorem d_X_placesOf_9 : decode prog_1_method_28_code 9 = .ok (.iconst 4, 1) := by decide +kernel
theorem d_X_placesOf_10 : decode prog_1_method_28_code 10 = .ok (.aaload, 1) := by decide +kernel
theorem d_X_placesOf_11 : decode prog_1_method_28_code 11 = .ok (.astore_n 2, 1) := by decide +kernel
theorem d_X_placesOf_12 : decode prog_1_method_28_code 12 = .ok (.aload_n 2, 1) := by decide +kernel
theorem d_X_placesOf_13 : decode prog_1_method_28_code 13 = .ok (.instanceof 104, 3) := by decide +kernel
set_option maxRecDepth 20000 in
theorem nw_994 : Cond.castable "MovieBoxes$PlaceTable" "MovieBoxes$PlaceTable" ∈ nwl := nw_of (in_t5 (List.mem_of_getElem? (i := 34) rfl)) rfl
theorem d_X_placesOf_16 : decode prog_1_method_28_code 16 = .ok (.ifCond .eq 10, 3) := by decide +kernel
theorem d_X_placesOf_19 : decode prog_1_method_28_code 19 = .ok (.aload_n 2, 1) := by decide +kernel
theorem d_X_placesOf_20 : decode prog_1_method_28_code 20 = .ok (.checkcast 104, 3) := by decide +kernel
theorem d_X_placesOf_23 : decode prog_1_method_28_code 23 = .ok (.goto 4, 3) := by decide +kernel
theorem d_X_placesOf_27 : decode prog_1_method_28_code 27 = .ok (.areturn, 1) := by decide +kernel
abbrev q_X_move : Mi := (⟨"MovieBoxes", "move", "(I)Z"⟩, prog_1_method_29_code, 7, (some .boolean))
theorem d_X_move_0 : decode prog_1_method_29_code 0 = .ok (.aload_n 0, 1) := by decide +kernel
theorem d_X_move_1 : decode prog_1_method_29_code 1 = .ok (.iload_n 1, 1) := by decide +kernel
theorem d_X_move_2 : decode prog_1_method_29_code 2 = .ok (.invokevirtual 311, 3) := by decide +kernel
set_option maxRecDepth 20000 in
theorem w_659 : Cond.methodLink "MovieBoxes" 311 ⟨"MovieBoxes", "placesOf", "(I)LMovieBoxes$PlaceTable;"⟩ ∈ gt := gt_of (in_t3 (List.mem_of_getElem? (i := 179) rfl)) rfl
set_option maxRecDepth 20000 in
theorem w_661 : Cond.instanceMethod ⟨"MovieBoxes", "placesOf", "(I)LMovieBoxes$PlaceTable;"⟩ ∈ gt := gt_of (in_t3 (List.mem_of_getElem? (i := 181) rfl)) rfl
set_option maxRecDepth 20000 in
theorem ws_X_placesOf : Cond.selects "MovieBoxes" ⟨"MovieBoxes", "placesOf", "(I)LMovieBoxes$PlaceTable;"⟩ ⟨"MovieBoxes", "placesOf", "(I)LMovieBoxes$PlaceTable;"⟩ ∈ gt := gt_of (in_p1 (List.mem_of_getElem? (i := 12) rfl)) rfl
set_option maxRecDepth 20000 in
theorem w_662 : Cond.code ⟨"MovieBoxes", "placesOf", "(I)LMovieBoxes$PlaceTable;"⟩ prog_1_method_28_code 3 (some (.object "MovieBoxes$PlaceTable")) ∈ gt := gt_of (in_t3 (List.mem_of_getElem? (i := 182) rfl)) rfl
theorem lk_X_311 : LkV "MovieBoxes" 311 q_X_placesOf 1 := ⟨(List.forall_mem_cons.mpr ⟨w_659, (List.forall_mem_cons.mpr ⟨w_661, (List.forall_mem_cons.mpr ⟨ws_X_placesOf, (List.forall_mem_cons.mpr ⟨w_1, (fun _ h => absurd h List.not_mem_nil)⟩)⟩)⟩)⟩), w_662, by decide +kernel⟩
theorem d_X_move_5 : decode prog_1_method_29_code 5 = .ok (.astore_n 2, 1) := by decide +kernel
theorem d_X_move_6 : decode prog_1_method_29_code 6 = .ok (.aload_n 2, 1) := by decide +kernel
theorem d_X_move_7 : decode prog_1_method_29_code 7 = .ok (.ifnonnull 5, 3) := by decide +kernel
theorem d_X_move_12 : decode prog_1_method_29_code 12 = .ok (.iconst 0, 1) := by decide +kernel
theorem d_X_move_13 : decode prog_1_method_29_code 13 = .ok (.istore_n 3, 1) := by decide +kernel
theorem d_X_move_14 : decode prog_1_method_29_code 14 = .ok (.aload_n 2, 1) := by decide +kernel
theorem d_X_move_15 : decode prog_1_method_29_code 15 = .ok (.iload_n 1, 1) := by decide +kernel
theorem d_X_move_16 : decode prog_1_method_29_code 16 = .ok (.bipush 8, 2) := by decide +kernel
theorem d_X_move_18 : decode prog_1_method_29_code 18 = .ok (.ishl, 1) := by decide +kernel
theorem d_X_move_19 : decode prog_1_method_29_code 19 = .ok (.putfield 315, 3) := by decide +kernel
set_option maxRecDepth 20000 in
theorem nw_322 : Cond.fieldLinkNest "MovieBoxes" 315 "MovieBoxes$PlaceTable" "base" "I" "MovieBoxes" ∈ nwl := nw_of (in_t2 (List.mem_of_getElem? (i := 82) rfl)) rfl
theorem fl_X_315_4 : FL "MovieBoxes" 315 4 13 false := ⟨_, _, _, "MovieBoxes$PlaceTable", rfl, by decide, rfl, Or.inr ⟨_, nw_322⟩, Or.inl rfl⟩
theorem d_X_move_155 : decode prog_1_method_29_code 155 = .ok (.iand, 1) := by decide +kernel
theorem d_X_move_156 : decode prog_1_method_29_code 156 = .ok (.istore_n 3, 1) := by decide +kernel
theorem d_X_move_157 : decode prog_1_method_29_code 157 = .ok (.aload_n 2, 1) := by decide +kernel
theorem d_X_move_158 : decode prog_1_method_29_code 158 = .ok (.dup, 1) := by decide +kernel
theorem d_X_move_159 : decode prog_1_method_29_code 159 = .ok (.getfield 325, 3) := by decide +kernel
set_option maxRecDepth 20000 in
theorem nw_320 : Cond.fieldLinkNest "MovieBoxes" 325 "MovieBoxes$PlaceTable" "grown" "Z" "MovieBoxes" ∈ nwl := nw_of (in_t2 (List.mem_of_getElem? (i := 80) rfl)) rfl
theorem fl_X_325_4 : FL "MovieBoxes" 325 4 12 false := ⟨_, _, _, "MovieBoxes$PlaceTable", rfl, by decide, rfl, Or.inr ⟨_, nw_320⟩, Or.inl rfl⟩
theorem d_X_move_162 : decode prog_1_method_29_code 162 = .ok (.iload_n 3, 1) := by decide +kernel
theorem d_X_move_163 : decode prog_1_method_29_code 163 = .ok (.ior, 1) := by decide +kernel
theorem d_X_move_164 : decode prog_1_method_29_code 164 = .ok (.putfield 325, 3) := by decide +kernel
theorem d_X_move_167 : decode prog_1_method_29_code 167 = .ok (.iload_n 3, 1) := by decide +kernel
theorem d_X_move_168 : decode prog_1_method_29_code 168 = .ok (.ireturn, 1) := by decide +kernel
theorem d_X_move_142 : decode prog_1_method_29_code 142 = .ok (.iload_n 3, 1) := by decide +kernel
theorem d_X_move_143 : decode prog_1_method_29_code 143 = .ok (.aload_n 2, 1) := by decide +kernel
theorem d_X_move_144 : decode prog_1_method_29_code 144 = .ok (.invokevirtual 322, 3) := by decide +kernel
set_option maxRecDepth 20000 in
theorem w_664 : Cond.methodLink "MovieBoxes" 322 ⟨"MovieBoxes$PlaceTable", "wide", "()Z"⟩ ∈ gt := gt_of (in_t3 (List.mem_of_getElem? (i := 184) rfl)) rfl
theorem lk_X_322 : LkV "MovieBoxes" 322 q_P_wide 0 := ⟨(List.forall_mem_cons.mpr ⟨w_664, (List.forall_mem_cons.mpr ⟨w_646, (List.forall_mem_cons.mpr ⟨w_647, (List.forall_mem_cons.mpr ⟨w_13, (fun _ h => absurd h List.not_mem_nil)⟩)⟩)⟩)⟩), w_648, by decide +kernel⟩
theorem d_X_move_147 : decode prog_1_method_29_code 147 = .ok (.ifCond .ne 7, 3) := by decide +kernel
theorem d_X_move_154 : decode prog_1_method_29_code 154 = .ok (.iconst 0, 1) := by decide +kernel
theorem d_X_move_150 : decode prog_1_method_29_code 150 = .ok (.iconst 1, 1) := by decide +kernel
theorem d_X_move_151 : decode prog_1_method_29_code 151 = .ok (.goto 4, 3) := by decide +kernel
theorem d_X_move_25 : decode prog_1_method_29_code 25 = .ok (.iload 4, 2) := by decide +kernel
theorem d_X_move_27 : decode prog_1_method_29_code 27 = .ok (.aload_n 2, 1) := by decide +kernel
theorem d_X_move_28 : decode prog_1_method_29_code 28 = .ok (.getfield 318, 3) := by decide +kernel
set_option maxRecDepth 20000 in
theorem w_330 : Cond.fieldLink "MovieBoxes" 318 "MovieBoxes$PlaceTable" "rows" "I" ∈ gt := gt_of (in_t2 (List.mem_of_getElem? (i := 90) rfl)) rfl
theorem fl_X_318_3 : FL "MovieBoxes" 318 3 11 false := ⟨_, _, _, "MovieBoxes$PlaceTable", rfl, by decide, rfl, Or.inl w_330, Or.inr w_328⟩
theorem fl_X_318_4 : FL "MovieBoxes" 318 4 11 false := ⟨_, _, _, "MovieBoxes$PlaceTable", rfl, by decide, rfl, Or.inl w_330, Or.inr w_328⟩
theorem fl_X_318_5 : FL "MovieBoxes" 318 5 11 false := ⟨_, _, _, "MovieBoxes$PlaceTable", rfl, by decide, rfl, Or.inl w_330, Or.inr w_328⟩
theorem ft_X_318 : FT "MovieBoxes" 318 := ft3 fl_X_318_3 fl_X_318_4 fl_X_318_5
theorem d_X_move_31 : decode prog_1_method_29_code 31 = .ok (.if_icmp .ge 111, 3) := by decide +kernel
theorem d_X_move_103 : decode prog_1_method_29_code 103 = .ok (.iadd, 1) := by decide +kernel
theorem d_X_move_104 : decode prog_1_method_29_code 104 = .ok (.istore 5, 2) := by decide +kernel
theorem d_X_move_106 : decode prog_1_method_29_code 106 = .ok (.aload_n 0, 1) := by decide +kernel
theorem d_X_move_107 : decode prog_1_method_29_code 107 = .ok (.getfield 47, 3) := by decide +kernel
set_option maxRecDepth 20000 in
theorem w_174 : Cond.fieldLink "MovieBoxes" 47 "MovieBoxes" "moved" "[I" ∈ gt := gt_of (in_t1 (List.mem_of_getElem? (i := 174) rfl)) rfl
theorem fl_X_47_0 : FL "MovieBoxes" 47 0 12 true := ⟨_, _, _, "MovieBoxes", rfl, by decide, rfl, Or.inl w_174, Or.inl rfl⟩
theorem d_X_move_110 : decode prog_1_method_29_code 110 = .ok (.aload_n 2, 1) := by decide +kernel
theorem d_X_move_111 : decode prog_1_method_29_code 111 = .ok (.getfield 315, 3) := by decide +kernel
theorem d_X_move_114 : decode prog_1_method_29_code 114 = .ok (.iload 4, 2) := by decide +kernel
theorem d_X_move_116 : decode prog_1_method_29_code 116 = .ok (.iadd, 1) := by decide +kernel
theorem d_X_move_117 : decode prog_1_method_29_code 117 = .ok (.iload 5, 2) := by decide +kernel
theorem d_X_move_119 : decode prog_1_method_29_code 119 = .ok (.iastore, 1) := by decide +kernel
theorem d_X_move_135 : decode prog_1_method_29_code 135 = .ok (.istore_n 3, 1) := by decide +kernel
theorem d_X_move_136 : decode prog_1_method_29_code 136 = .ok (.iinc 4 1, 3) := by decide +kernel
theorem d_X_move_139 : decode prog_1_method_29_code 139 = .ok (.goto (-114), 3) := by decide +kernel
theorem d_X_move_120 : decode prog_1_method_29_code 120 = .ok (.iload_n 3, 1) := by decide +kernel
theorem d_X_move_121 : decode prog_1_method_29_code 121 = .ok (.iload 5, 2) := by decide +kernel
theorem d_X_move_123 : decode prog_1_method_29_code 123 = .ok (.sipush 255, 3) := by decide +kernel
theorem d_X_move_126 : decode prog_1_method_29_code 126 = .ok (.if_icmp .le 7, 3) := by decide +kernel
theorem d_X_move_133 : decode prog_1_method_29_code 133 = .ok (.iconst 0, 1) := by decide +kernel
theorem d_X_move_134 : decode prog_1_method_29_code 134 = .ok (.ior, 1) := by decide +kernel
theorem d_X_move_129 : decode prog_1_method_29_code 129 = .ok (.iconst 1, 1) := by decide +kernel
theorem d_X_move_130 : decode prog_1_method_29_code 130 = .ok (.goto 4, 3) := by decide +kernel
theorem d_X_move_34 : decode prog_1_method_29_code 34 = .ok (.aload_n 2, 1) := by decide +kernel
theorem d_X_move_35 : decode prog_1_method_29_code 35 = .ok (.aload_n 0, 1) := by decide +kernel
theorem d_X_move_36 : decode prog_1_method_29_code 36 = .ok (.getfield 7, 3) := by decide +kernel
theorem d_X_move_39 : decode prog_1_method_29_code 39 = .ok (.iload 4, 2) := by decide +kernel
theorem d_X_move_41 : decode prog_1_method_29_code 41 = .ok (.iconst 0, 1) := by decide +kernel
theorem d_X_move_42 : decode prog_1_method_29_code 42 = .ok (.invokevirtual 319, 3) := by decide +kernel
set_option maxRecDepth 20000 in
theorem w_663 : Cond.methodLink "MovieBoxes" 319 ⟨"MovieBoxes$PlaceTable", "cell", "([BII)I"⟩ ∈ gt := gt_of (in_t3 (List.mem_of_getElem? (i := 183) rfl)) rfl
set_option maxRecDepth 20000 in
theorem w_984 : Cond.selects "MovieBoxes$PlaceTable" ⟨"MovieBoxes$PlaceTable", "cell", "([BII)I"⟩ ⟨"MovieBoxes$PlaceTable", "cell", "([BII)I"⟩ ∈ gt := gt_of (in_t5 (List.mem_of_getElem? (i := 24) rfl)) rfl
theorem lk_X_319 : LkV "MovieBoxes" 319 q_P_cell 3 := ⟨(List.forall_mem_cons.mpr ⟨w_663, (List.forall_mem_cons.mpr ⟨w_517, (List.forall_mem_cons.mpr ⟨w_984, (List.forall_mem_cons.mpr ⟨w_13, (fun _ h => absurd h List.not_mem_nil)⟩)⟩)⟩)⟩), w_518, by decide +kernel⟩
theorem d_X_move_45 : decode prog_1_method_29_code 45 = .ok (.istore 5, 2) := by decide +kernel
theorem d_X_move_47 : decode prog_1_method_29_code 47 = .ok (.aload_n 0, 1) := by decide +kernel
theorem d_X_move_48 : decode prog_1_method_29_code 48 = .ok (.iload 5, 2) := by decide +kernel
theorem d_X_move_50 : decode prog_1_method_29_code 50 = .ok (.iconst 0, 1) := by decide +kernel
theorem d_X_move_51 : decode prog_1_method_29_code 51 = .ok (.invokevirtual 249, 3) := by decide +kernel
theorem d_X_move_54 : decode prog_1_method_29_code 54 = .ok (.astore 6, 2) := by decide +kernel
theorem d_X_move_56 : decode prog_1_method_29_code 56 = .ok (.iload 5, 2) := by decide +kernel
theorem d_X_move_58 : decode prog_1_method_29_code 58 = .ok (.aload 6, 2) := by decide +kernel
theorem d_X_move_60 : decode prog_1_method_29_code 60 = .ok (.ifnull 36, 3) := by decide +kernel
theorem d_X_move_63 : decode prog_1_method_29_code 63 = .ok (.aload 6, 2) := by decide +kernel
theorem d_X_move_65 : decode prog_1_method_29_code 65 = .ok (.getfield 139, 3) := by decide +kernel
theorem d_X_move_68 : decode prog_1_method_29_code 68 = .ok (.aload_n 0, 1) := by decide +kernel
theorem d_X_move_69 : decode prog_1_method_29_code 69 = .ok (.getfield 192, 3) := by decide +kernel
theorem d_X_move_72 : decode prog_1_method_29_code 72 = .ok (.getfield 320, 3) := by decide +kernel
set_option maxRecDepth 20000 in
theorem w_58 : Cond.fieldLink "MovieBoxes" 320 "MovieBoxes$Holder" "from" "I" ∈ gt := gt_of (in_t1 (List.mem_of_getElem? (i := 58) rfl)) rfl
set_option maxRecDepth 20000 in
theorem w_59 : Cond.sameField "MovieBoxes$Holder" "MovieBoxes$Box" "from" "I" ∈ gt := gt_of (in_t1 (List.mem_of_getElem? (i := 59) rfl)) rfl
theorem fl_X_320_1 : FL "MovieBoxes" 320 1 2 false := ⟨_, _, _, "MovieBoxes$Holder", rfl, by decide, rfl, Or.inl w_58, Or.inr w_59⟩
theorem fl_X_320_2 : FL "MovieBoxes" 320 2 2 false := ⟨_, _, _, "MovieBoxes$Holder", rfl, by decide, rfl, Or.inl w_58, Or.inr w_59⟩
theorem fl_X_320_3 : FL "MovieBoxes" 320 3 2 false := ⟨_, _, _, "MovieBoxes$Holder", rfl, by decide, rfl, Or.inl w_58, Or.inr w_59⟩
theorem fl_X_320_4 : FL "MovieBoxes" 320 4 2 false := ⟨_, _, _, "MovieBoxes$Holder", rfl, by decide, rfl, Or.inl w_58, Or.inr w_59⟩
theorem fl_X_320_5 : FL "MovieBoxes" 320 5 2 false := ⟨_, _, _, "MovieBoxes$Holder", rfl, by decide, rfl, Or.inl w_58, Or.inr w_59⟩
theorem fb_X_320 : FB "MovieBoxes" 320 2 .int := fb5 fl_X_320_1 fl_X_320_2 fl_X_320_3 fl_X_320_4 fl_X_320_5 rfl rfl rfl rfl rfl
theorem d_X_move_75 : decode prog_1_method_29_code 75 = .ok (.if_icmp .le 21, 3) := by decide +kernel
theorem d_X_move_96 : decode prog_1_method_29_code 96 = .ok (.aload_n 0, 1) := by decide +kernel
theorem d_X_move_97 : decode prog_1_method_29_code 97 = .ok (.getfield 192, 3) := by decide +kernel
theorem d_X_move_100 : decode prog_1_method_29_code 100 = .ok (.getfield 321, 3) := by decide +kernel
set_option maxRecDepth 20000 in
theorem w_89 : Cond.fieldLink "MovieBoxes" 321 "MovieBoxes$Holder" "newSize" "I" ∈ gt := gt_of (in_t1 (List.mem_of_getElem? (i := 89) rfl)) rfl
set_option maxRecDepth 20000 in
theorem w_90 : Cond.sameField "MovieBoxes$Holder" "MovieBoxes$Box" "newSize" "I" ∈ gt := gt_of (in_t1 (List.mem_of_getElem? (i := 90) rfl)) rfl
theorem fl_X_321_1 : FL "MovieBoxes" 321 1 10 false := ⟨_, _, _, "MovieBoxes$Holder", rfl, by decide, rfl, Or.inl w_89, Or.inr w_90⟩
theorem fl_X_321_2 : FL "MovieBoxes" 321 2 10 false := ⟨_, _, _, "MovieBoxes$Holder", rfl, by decide, rfl, Or.inl w_89, Or.inr w_90⟩
theorem fl_X_321_3 : FL "MovieBoxes" 321 3 10 false := ⟨_, _, _, "MovieBoxes$Holder", rfl, by decide, rfl, Or.inl w_89, Or.inr w_90⟩
theorem fl_X_321_4 : FL "MovieBoxes" 321 4 10 false := ⟨_, _, _, "MovieBoxes$Holder", rfl, by decide, rfl, Or.inl w_89, Or.inr w_90⟩
theorem fl_X_321_5 : FL "MovieBoxes" 321 5 10 false := ⟨_, _, _, "MovieBoxes$Holder", rfl, by decide, rfl, Or.inl w_89, Or.inr w_90⟩
theorem fb_X_321 : FB "MovieBoxes" 321 10 .int := fb5 fl_X_321_1 fl_X_321_2 fl_X_321_3 fl_X_321_4 fl_X_321_5 rfl rfl rfl rfl rfl
theorem d_X_move_78 : decode prog_1_method_29_code 78 = .ok (.aload_n 0, 1) := by decide +kernel
theorem d_X_move_79 : decode prog_1_method_29_code 79 = .ok (.getfield 192, 3) := by decide +kernel
theorem d_X_move_82 : decode prog_1_method_29_code 82 = .ok (.getfield 321, 3) := by decide +kernel
theorem d_X_move_85 : decode prog_1_method_29_code 85 = .ok (.aload_n 0, 1) := by decide +kernel
theorem d_X_move_86 : decode prog_1_method_29_code 86 = .ok (.getfield 192, 3) := by decide +kernel
theorem d_X_move_89 : decode prog_1_method_29_code 89 = .ok (.getfield 196, 3) := by decide +kernel
theorem d_X_move_92 : decode prog_1_method_29_code 92 = .ok (.isub, 1) := by decide +kernel
theorem d_X_move_93 : decode prog_1_method_29_code 93 = .ok (.goto 10, 3) := by decide +kernel
theorem d_X_move_22 : decode prog_1_method_29_code 22 = .ok (.iconst 0, 1) := by decide +kernel
theorem d_X_move_23 : decode prog_1_method_29_code 23 = .ok (.istore 4, 2) := by decide +kernel
/-! ===== the component: move ===== -/
theorem or_b {a b : Int} (ha : a = 0 ∨ a = 1) (hb : b = 0 ∨ b = 1) : zI a ||| zI b = zI (if a = 1 ∨ b = 1 then 1 else 0) := by
  rcases ha with rfl | rfl <;> rcases hb with rfl | rfl <;> decide
theorem and_b {a b : Int} (ha : a = 0 ∨ a = 1) (hb : b = 0 ∨ b = 1) : zI a &&& zI b = zI (if a = 1 ∧ b = 1 then 1 else 0) := by
  rcases ha with rfl | rfl <;> rcases hb with rfl | rfl <;> decide
theorem kdO_4 {ty : Int} : (kdO ty = 4 → ty = 111) ∧ (kdO ty = 5 → ty = 79) := by
  unfold kdO
  constructor <;> (intro h; repeat' split at h; all_goals omega)
/-- the DATA box of a place is one -/
theorem db_one {v : mS} (hr : rdOk v) (ho : orOk v (v 0 0)) {p b b' j k : Int} (hb : 0 ≤ b) (hb' : 0 ≤ b') (hj0 : 0 ≤ j) (hj1 : j < v 0 1) (hk0 : 0 ≤ k) (hk1 : k < v 0 1) (hj : dbC v p b j) (hk : dbC v p b' k) : j = k := by
  rcases (by omega : j < k ∨ j = k ∨ k < j) with q | q | q
  · have := ho.2 j k hj0 q hk1 hj.1 hk.1
    have := (hr.2 k hk0 hk1).2.1
    have := hj.2.2.2
    have := hk.2.2.1
    omega
  · exact q
  · have := ho.2 k j hk0 q hj1 hk.1 hj.1
    have := (hr.2 j hj0 hj1).2.1
    have := hk.2.2.2
    have := hj.2.2.1
    omega
theorem dbx_bd (v : mS) (p b : Int) : ∀ (n : Nat) (k : Int), dbx v p b n k = -1 ∨ (k ≤ dbx v p b n k ∧ dbx v p b n k < k + n ∧ dbC v p b (dbx v p b n k))
  | 0, k => Or.inl rfl
  | n + 1, k => by
    unfold dbx
    split
    · exact Or.inr ⟨Int.le_refl _, by omega, by assumption⟩
    · rcases dbx_bd v p b n (k + 1) with e | e
      · exact Or.inl e
      · exact Or.inr ⟨by omega, by omega, e.2.2⟩
theorem home_eq {v : mS} (hf : fsOk v) (ho : orOk v (v 0 0)) {t : Int} (h0 : 0 ≤ t) (h1 : t < v 0 3) {c : Int} (c0 : 0 ≤ c) (c1 : c < pv v (pbx v t) 0) : dbx v (cpl v t (1 + c)) 0 (v 0 1).toNat 0 = v 12 (256 * t + (1 + c)) := by
  obtain ⟨a1, a2, a3⟩ := hf.2.2.1.2 t h0 h1 c c0 c1
  have hr : rdOk v := hf.1.2.1
  rcases dbx_bd v (cpl v t (1 + c)) 0 (v 0 1).toNat 0 with e | ⟨e1, e2, e3⟩
  · exfalso
    have key : ∀ (n : Nat) (k : Int), k ≤ v 12 (256 * t + (1 + c)) → v 12 (256 * t + (1 + c)) < k + n → dbx v (cpl v t (1 + c)) 0 n k ≠ -1 ∨ k < 0 := by
      intro n
      induction n with
      | zero => intro k h2 h3; omega
      | succ n ih =>
        intro k h2 h3
        by_cases q : dbC v (cpl v t (1 + c)) 0 k
        · by_cases k0 : k < 0
          · exact Or.inr k0
          · left
            unfold dbx
            rw [if_pos q]
            omega
        · have hne : k ≠ v 12 (256 * t + (1 + c)) := fun e => q (by rw [e]; exact a3)
          unfold dbx
          rw [if_neg q]
          rcases ih (k + 1) (by omega) (by omega) with w | w
          · exact Or.inl w
          · exact Or.inr (by omega)
    rcases key (v 0 1).toNat 0 a1 (by omega) with w | w
    · exact w e
    · omega
  · exact db_one hr ho (Int.le_refl 0) (Int.le_refl 0) e1 (by omega) a1 a2 e3 a3
theorem narrow_26 {G : gG} {y : xP} {z v : mS} {w : Int} (h : fW G y z v w) {t : Nat} (ht : (t : Int) < v 0 3) : z 26 (pbx v t) = 8 ↔ ¬ 0 ≤ tb v t 4 := by
  obtain ⟨hq, ⟨hf, -⟩, -, hK, -⟩ := h
  have hX := (hK t ht).2.2.1 4 (by omega) (by omega) (hK t ht).2.2.2.2.2.2
  change tX y z v 4 (pbx v t) at hX
  obtain ⟨j, j1, j2, j3, j4, j5, j6⟩ := pbx_in hf (t := t) (by omega) ht
  rw [hX.2.2.2.2.2.2.2]
  constructor
  · rintro ⟨-, q⟩ q2
    have := j6.mpr q2
    rw [this, show (8 * (t : Int) + 4) % 8 = 4 by omega] at j5
    exact q (kdO_4.1 j5)
  · intro q
    have : ¬ j = 8 * (t : Int) + 4 := fun e => q (j6.mp e)
    have e : j = 8 * (t : Int) + 5 := by omega
    rw [e, show (8 * (t : Int) + 5) % 8 = 5 by omega] at j5
    refine ⟨rfl, fun q2 => ?_⟩
    have := kdO_4.2 j5
    omega
section XMOVE
variable (G : gG) (l : Launch) (y : xP) (v : mS) (w : Int)
set_option maxRecDepth 8000 in
theorem c_X_placesOf (z : mS) (t : Nat) (hK : tK y z v t) : Ct G l q_X_placesOf 0 0 0 [.ref (yc y 0), vI t] (xW G y z) (fun r x => r = some (Value.ref (yo y (pbx v t))) ∧ x = xW G y z) := by
  have ht := hK.1.1
  have hk := tK_k hK hK.2.2.2.2.2.2 ⟨by omega, by omega⟩
  have h4 := tK_c4 hK
  change -1 ≤ pbx v t ∧ pbx v t < yn y at hk
  change z 27 (pbx v t) = 4 at h4
  refine Ct.intro [some (.ref (yc y 0)), some (vI t), none] (by decide) (Nat.le_of_ble_eq_true rfl) rfl (fun sz => ?_)
  generalize hQ : (fun r x => r = some (Value.ref (yo y (pbx v t))) ∧ x = xW G y z) = Q
  refine r_aload_n d_X_placesOf_0 rfl rfl ?_
  refine r_get d_X_placesOf_1 fl_X_43_0 0 rfl rfl ?_
  refine r_iload_n d_X_placesOf_4 rfl ?_
  refine r_aald d_X_placesOf_5 6 rfl rfl ⟨by omega, by omega, by omega⟩ ?_
  show WP _ _ _ _ _ _ (.ref (yc y (7 + t)) :: _)
  refine r_get d_X_placesOf_6 fl_X_234_6 (7+t) (xw_k hK.1.1) rfl ?_
  refine r_iconst d_X_placesOf_9 ?_
  refine r_tab (sl := 4) d_X_placesOf_10 hK hK.2.2.2.2.2.2 ⟨by omega, by omega⟩ ?_
  show WP _ _ _ _ _ _ (.ref (yo y (pbx v t)) :: _)
  refine r_astore_n d_X_placesOf_11 (Nat.le_of_ble_eq_true rfl) rfl rfl ?_
  show WP _ _ _ _ _ [_, _, _] _
  refine r_aload_n d_X_placesOf_12 rfl rfl ?_
  refine r_instY (ci := 4) d_X_placesOf_13 (13 + pbx v t).toNat rfl (xw_bc hk h4) w_307 nw_994 ?_
  refine r_if_eq 26 d_X_placesOf_16 (by decide) (by unfold i32; omega) (fun h1 => ?_) (fun h1 => ?_)
  · omega
  · refine r_aload_n d_X_placesOf_19 rfl rfl ?_
    refine r_cast (ci := 4) d_X_placesOf_20 (13 + pbx v t).toNat rfl (xw_bc hk h4) w_307 nw_994 ?_
    refine r_goto 27 d_X_placesOf_23 (by decide) ?_
    refine r_aret d_X_placesOf_27 rfl (by first | exact Or.inl ⟨_, rfl⟩ | exact Or.inr ⟨_, rfl⟩) rfl (Nat.le_of_ble_eq_true rfl) (Nat.le_of_ble_eq_true rfl) ?_
    rw [← hQ]; exact ⟨rfl, rfl⟩
set_option maxRecDepth 8000 in
set_option maxHeartbeats 4000000 in
theorem c_X_move (z : mS) (t : Nat) (ML : Int) (hW : fW G y z v w) (ht : (t : Int) < v 0 3) (h14 : z 14 (v 0 2) = ML) (hML : 0 ≤ ML ∧ ML ≤ 1000000) : Ct G l q_X_move 3 0 0 [.ref (yc y 0), vI t] (xW G y z) (fun r x => r = some (vI (b2 (tnB v t ML ∧ ¬ wbit w t))) ∧ ∃ z' : mS, x = xW G y z' ∧ (∀ c, c ≠ 18 → c ≠ 19 → c ≠ 22 → z' c = z c) ∧ (∀ k, k ≠ pbx v t → z' 18 k = z 18 k ∧ z' 19 k = z 19 k) ∧ z' 19 (pbx v t) = 256 * t ∧ (z' 18 (pbx v t) = 1 ↔ wbit w t ∨ tnB v t ML) ∧ (z' 18 (pbx v t) = 0 ∨ z' 18 (pbx v t) = 1) ∧ (∀ c : Nat, (c : Int) < pv v (pbx v t) 0 → z' 22 (256 * t + c) = npO v t (1 + c) ML) ∧ ∀ j, j < 256 * (t : Int) ∨ 256 * (t : Int) + 256 ≤ j → z' 22 j = z 22 j) := by
  obtain ⟨hq', ⟨hf, hor⟩, ⟨z02, z03⟩, hKK, hw, h4, hg, hn⟩ := id hW
  have hK := hKK t ht
  have ht1 := hK.1.1
  have hr : rdOk v := hf.1.2.1
  have ho : hoOk v := hf.1.2.2.1
  have hby : byOk v := hf.1.1
  have h01 : v 0 1 = yn y := hq'.1.2.2.1
  obtain ⟨m0, m1, m2, m3⟩ := hf.2.1.1
  have bC := pv_b hby (pbx v t) 0
  have hkP := tK_k hK hK.2.2.2.2.2.2 ⟨by omega, by omega⟩
  change -1 ≤ pbx v t ∧ pbx v t < yn y at hkP
  have h4P := tK_c4 hK
  change z 27 (pbx v t) = 4 at h4P
  have hX := hK.2.2.1 4 (by omega) (by omega) hK.2.2.2.2.2.2
  change tX y z v 4 (pbx v t) at hX
  have hP0 : 0 ≤ pbx v t := hX.1.1
  have h17 := hX.2.2.2.2.1
  rw [if_neg (by omega)] at h17
  have ho26 : 0 ≤ z 26 (pbx v t) ∧ z 26 (pbx v t) < 12 := ⟨hX.2.2.2.1.1, hX.2.2.2.1.2.1⟩
  have h18 := (h4 (pbx v t) hP0 hkP.2 h4P).1
  have h26 := narrow_26 hW ht
  have hgt := hg t ht
  have hmk : -1 ≤ v 0 2 ∧ v 0 2 < yn y := by omega
  refine Ct.intro [some (.ref (yc y 0)), some (vI t), none, none, none, none, none] (by decide) (Nat.le_of_ble_eq_true rfl) rfl (fun sz => ?_)
  generalize hQ : (fun r x => r = some (vI (b2 (tnB v t ML ∧ ¬ wbit w t))) ∧ ∃ z' : mS, x = xW G y z' ∧ (∀ c, c ≠ 18 → c ≠ 19 → c ≠ 22 → z' c = z c) ∧ (∀ k, k ≠ pbx v t → z' 18 k = z 18 k ∧ z' 19 k = z 19 k) ∧ z' 19 (pbx v t) = 256 * t ∧ (z' 18 (pbx v t) = 1 ↔ wbit w t ∨ tnB v t ML) ∧ (z' 18 (pbx v t) = 0 ∨ z' 18 (pbx v t) = 1) ∧ (∀ c : Nat, (c : Int) < pv v (pbx v t) 0 → z' 22 (256 * t + c) = npO v t (1 + c) ML) ∧ ∀ j, j < 256 * (t : Int) ∨ 256 * (t : Int) + 256 ≤ j → z' 22 j = z 22 j) = Q
  generalize hP : pbx v t = P at *
  refine r_aload_n d_X_move_0 rfl rfl ?_
  refine r_iload_n d_X_move_1 rfl ?_
  refine r_cV1 d_X_move_2 lk_X_311 (c_X_placesOf G l y v z t hK) 0 rfl rfl (Nat.le_of_ble_eq_true rfl) (rok rfl rfl) ⟨(Nat.le_of_ble_eq_true rfl), (Nat.le_of_ble_eq_true rfl)⟩ (fun r ws2 hq => ?_)
  obtain ⟨rfl, rfl⟩ := hq
  show WP _ _ _ _ _ _ (_ :: _)
  rw [hP]
  refine r_astore_n d_X_move_5 (Nat.le_of_ble_eq_true rfl) rfl rfl ?_
  show WP _ _ _ _ _ [_, _, _, _, _, _, _] _
  refine r_aload_n d_X_move_6 rfl rfl ?_
  refine r_ifnonnull (r := some (yo y P)) 12 d_X_move_7 (by decide) (fun q => by cases q) (fun _ _ => ?_)
  refine r_iconst d_X_move_12 ?_
  refine r_istore_n d_X_move_13 (Nat.le_of_ble_eq_true rfl) rfl ?_
  show WP _ _ _ _ _ [_, _, _, _, _, _, _] _
  refine r_aload_n d_X_move_14 rfl rfl ?_
  refine r_iload_n d_X_move_15 rfl ?_
  refine r_bipush d_X_move_16 (by decide) ?_
  refine r_ishlR d_X_move_18 ?_
  rw [zI_shl8 (by omega)]
  refine r_putX (ci := 4) (i := 2) (c := 19) (x := 256 * (t : Int)) d_X_move_19 fl_X_315_4 P hkP h4P rfl (by decide) rfl rfl (Nat.le_of_ble_eq_true rfl) (by simp only [bX, sset_eq, List.set_cons_zero, List.set_cons_succ]; rfl) ?_
  have f19 : ∀ k, sset z 19 P (256 * (t : Int)) 19 k = if k = P then 256 * (t : Int) else z 19 k := fun k => by rw [sset_at, if_pos rfl, updI_at]
  have fo : ∀ c, c ≠ 19 → sset z 19 P (256 * (t : Int)) c = z c := fun c hc => sset_ne hc
  generalize sset z 19 P (256 * (t : Int)) = z1 at f19 fo ⊢
  have c142 : ∀ (z2 : mS) (gr : Int) (x4 x5 x6 : Option Value), (∀ c, c ≠ 22 → z2 c = z1 c) → (gr = 0 ∨ gr = 1) → (gr = 1 ↔ exB (fun c => 255 < npO v t (1 + c) ML) (pv v P 0).toNat) → (∀ c : Nat, (c : Int) < pv v P 0 → z2 22 (256 * t + c) = npO v t (1 + c) ML) → (∀ j, j < 256 * (t : Int) ∨ 256 * (t : Int) + 256 ≤ j → z2 22 j = z 22 j) → WP (mth G l q_X_move 3 0 0 (xW G y z) sz Q) 0 0 (xW G y z2) 142 [some (.ref (yc y 0)), some (vI t), some (.ref (yo y P)), some (vI gr), x4, x5, x6] [] := by
    intro z2 gr x4 x5 x6 hz hg01 hgr hmv hout
    have e27 : z2 27 P = 4 := by rw [hz 27 (by omega), fo 27 (by omega)]; exact h4P
    have e26 : z2 26 P = z 26 P := by rw [hz 26 (by omega), fo 26 (by omega)]
    have e18 : z2 18 P = z 18 P := by rw [hz 18 (by omega), fo 18 (by omega)]
    have htn : ∀ x : Int, (x = 1 ↔ ¬ (z 18 P = 1 ∨ z 26 P = 8)) → ((gr = 1 ∧ x = 1) ↔ tnB v t ML ∧ ¬ wbit w t) := by
      intro x hx
      rw [hx, hgr]
      unfold tnB
      rw [hP]
      constructor
      · rintro ⟨a, b⟩
        exact ⟨⟨Classical.byContradiction fun q => b (Or.inr (h26.mpr q)), a⟩, fun q => b (Or.inl (hgt.mpr q))⟩
      · rintro ⟨⟨a, b⟩, c⟩
        refine ⟨b, ?_⟩
        rintro (q | q)
        · exact c (hgt.mp q)
        · exact h26.mp q a
    have c155 : ∀ x : Int, (x = 0 ∨ x = 1) → (x = 1 ↔ ¬ (z 18 P = 1 ∨ z 26 P = 8)) → WP (mth G l q_X_move 3 0 0 (xW G y z) sz Q) 0 0 (xW G y z2) 155 [some (.ref (yc y 0)), some (vI t), some (.ref (yo y P)), some (vI gr), x4, x5, x6] [vI x, vI gr] := by
      intro x hx01 hx
      have hy := htn x hx
      refine r_iandR d_X_move_155 ?_
      rw [and_b hg01 hx01]
      generalize hres : (if gr = 1 ∧ x = 1 then (1 : Int) else 0) = res
      have hr01 : res = 0 ∨ res = 1 := by rw [← hres]; split <;> omega
      have hr1 : res = 1 ↔ tnB v t ML ∧ ¬ wbit w t := by
        rw [← hy, ← hres]
        split
        · exact ⟨fun _ => by assumption, fun _ => rfl⟩
        · exact ⟨fun q => by omega, fun q => absurd q (by assumption)⟩
      refine r_istore_n d_X_move_156 (Nat.le_of_ble_eq_true rfl) rfl ?_
      show WP _ _ _ _ _ [_, _, _, _, _, _, _] _
      refine r_aload_n d_X_move_157 rfl rfl ?_
      refine r_dup d_X_move_158 rfl ?_
      refine r_getX d_X_move_159 fl_X_325_4 (P) hkP e27 rfl ?_
      refine r_iload_n d_X_move_162 rfl ?_
      show WP _ _ _ _ _ _ (_ :: vI (z2 18 P) :: _)
      rw [e18]
      refine r_iorR d_X_move_163 ?_
      rw [or_b h18 hr01]
      generalize hnw : (if z 18 P = 1 ∨ res = 1 then (1 : Int) else 0) = nw
      have hn01 : nw = 0 ∨ nw = 1 := by rw [← hnw]; split <;> omega
      have hn1 : nw = 1 ↔ wbit w t ∨ tnB v t ML := by
        rw [← hgt, ← hnw]
        by_cases q : z 18 P = 1
        · rw [if_pos (Or.inl q)]; exact ⟨fun _ => Or.inl q, fun _ => rfl⟩
        · by_cases q2 : res = 1
          · rw [if_pos (Or.inr q2)]; exact ⟨fun _ => Or.inr (hr1.mp q2).1, fun _ => rfl⟩
          · rw [if_neg (by omega)]
            refine ⟨fun q3 => by omega, fun q3 => ?_⟩
            rcases q3 with q3 | q3
            · exact absurd q3 q
            · exact absurd (hr1.mpr ⟨q3, fun q4 => q (hgt.mpr q4)⟩) q2
      refine r_putX (ci := 4) (i := 1) (c := 18) (x := nw) d_X_move_164 fl_X_325_4 P hkP e27 rfl (by decide) (by rcases hn01 with rfl | rfl <;> rfl) (by rcases hn01 with rfl | rfl <;> rfl) (Nat.le_of_ble_eq_true rfl) (by simp only [bX, sset_eq, List.set_cons_zero, List.set_cons_succ]; rfl) ?_
      refine r_iload_n d_X_move_167 rfl ?_
      refine r_zret d_X_move_168 rfl hr01 (Nat.le_of_ble_eq_true rfl) (Nat.le_of_ble_eq_true rfl) ?_
      rw [← hQ]
      refine ⟨?_, sset z2 18 P nw, rfl, fun c a b d => ?_, fun k hk => ?_, ?_, ?_, ?_, fun c hc => ?_, fun j hj => ?_⟩
      · rcases hr01 with rfl | rfl
        · rw [b2_f (fun q => by have := hr1.mpr q; omega)]
        · rw [b2_t (hr1.mp rfl)]
      · rw [sset_ne a, hz c d, fo c b]
      · rw [sset_nj hk, hz 18 (by omega), fo 18 (by omega), sset_ne (by omega), hz 19 (by omega), f19, if_neg hk]
        exact ⟨rfl, rfl⟩
      · rw [sset_ne (by omega), hz 19 (by omega), f19, if_pos rfl]
      · rw [sset_eq]; exact hn1
      · rw [sset_eq]; exact hn01
      · rw [sset_ne (by omega)]; exact hmv c hc
      · rw [sset_ne (by omega)]; exact hout j hj
    refine r_iload_n d_X_move_142 rfl ?_
    refine r_aload_n d_X_move_143 rfl rfl ?_
    refine r_cV0 d_X_move_144 lk_X_322 (c_P_wide G l y z2 P hkP e27 (by rw [e26]; exact ho26) (by rw [e18]; exact h18)) (13 + P).toNat rfl (xw_bc hkP e27) (Nat.le_of_ble_eq_true rfl) (rok rfl rfl) ⟨(Nat.le_of_ble_eq_true rfl), (Nat.le_of_ble_eq_true rfl)⟩ (fun r ws2 hq => ?_)
    obtain ⟨rfl, rfl⟩ := hq
    show WP _ _ _ _ _ _ (_ :: _)
    rw [e18, e26]
    refine r_if_ne 154 d_X_move_147 (by decide) (by unfold i32; split <;> omega) (fun h1 => ?_) (fun h1 => ?_)
    · refine r_iconst d_X_move_154 ?_
      exact c155 0 (Or.inl rfl) ⟨fun q => by omega, fun q => absurd (by rw [if_neg q] : (if z 18 P = 1 ∨ z 26 P = 8 then (1 : Int) else 0) = 0) h1⟩
    · have h1 := Classical.not_not.mp h1
      refine r_iconst d_X_move_150 ?_
      refine r_goto 155 d_X_move_151 (by decide) ?_
      exact c155 1 (Or.inr rfl) ⟨fun _ q => by rw [if_pos q] at h1; omega, fun _ => rfl⟩
  have lp : ∀ (f c : Nat) (gr : Int) (z2 : mS) (x5 x6 : Option Value), (c : Int) + f = pv v P 0 → (∀ c, c ≠ 22 → z2 c = z1 c) → (gr = 0 ∨ gr = 1) → (gr = 1 ↔ exB (fun c => 255 < npO v t (1 + c) ML) c) → (∀ j : Nat, j < c → z2 22 (256 * t + j) = npO v t (1 + j) ML) → (∀ j, j < 256 * (t : Int) ∨ 256 * (t : Int) + 256 ≤ j → z2 22 j = z 22 j) → WP (mth G l q_X_move 3 0 0 (xW G y z) sz Q) 0 0 (xW G y z2) 25 [some (.ref (yc y 0)), some (vI t), some (.ref (yo y P)), some (vI gr), some (vI c), x5, x6] [] := by
    intro f
    induction f with
    | zero =>
      intro c gr z2 x5 x6 hc hz hg01 hgr hmv hout
      have e27 : z2 27 P = 4 := by rw [hz 27 (by omega), fo 27 (by omega)]; exact h4P
      have e17 : z2 17 P = pv v P 0 := by rw [hz 17 (by omega), fo 17 (by omega)]; exact h17
      refine r_iload d_X_move_25 rfl ?_
      refine r_aload_n d_X_move_27 rfl rfl ?_
      refine r_getT d_X_move_28 ft_X_318 (P) hkP (by omega) ?_
      rw [e17]
      refine r_icmp_ge 142 d_X_move_31 (by decide) (by unfold i32; omega) (by unfold i32; omega) (fun h1 => ?_) (fun h1 => ?_)
      · exact c142 z2 gr _ _ _ hz hg01 (by rw [show (pv v P 0).toNat = c by omega]; exact hgr) (fun j hj => hmv j (by omega)) hout
      · omega
    | succ f ih =>
      intro c gr z2 x5 x6 hc hz hg01 hgr hmv hout
      have zc : ∀ a, a ≠ 19 → a ≠ 22 → z2 a = z a := fun a h1 h2 => by rw [hz a h2, fo a h1]
      have hW2 : fW G y z2 v w := fW_cz (fun j _ => by rw [zc 0 (by omega) (by omega)]) (fun a ha => zc a (by rintro rfl; revert ha; decide) (by rintro rfl; revert ha; decide)) hW
      have hK2 := hW2.2.2.2.1 t ht
      have e27 : z2 27 P = 4 := by rw [zc 27 (by omega) (by omega)]; exact h4P
      have e17 : z2 17 P = pv v P 0 := by rw [zc 17 (by omega) (by omega)]; exact h17
      have e19 : z2 19 P = 256 * (t : Int) := by rw [hz 19 (by omega), f19, if_pos rfl]
      have e02 : z2 0 2 = v 0 2 := by rw [zc 0 (by omega) (by omega)]; exact z02
      have e14 : z2 14 (v 0 2) = ML := by rw [zc 14 (by omega) (by omega)]; exact h14
      have bcp := cpl_b hby t (1 + c)
      obtain ⟨hh0, hh1, hh2⟩ := hf.2.2.1.2 t (by omega) ht c (by omega) (by rw [hP]; omega)
      have hhe := home_eq hf hor (t := t) (by omega) ht (c := c) (by omega) (by rw [hP]; omega)
      rw [show (v 0 1).toNat = yn y by omega] at hhe
      generalize hHd : v 12 (256 * (t : Int) + (1 + (c : Int))) = H at *
      have hHk : -1 ≤ H ∧ H < yn y := by omega
      have hB2 := qI_bI hW2.1
      have hHc := bI_cl hB2 hHk.1 hHk.2
      have hMc := bI_cl hB2 hmk.1 hmk.2
      have zH2 : z2 2 H = v 2 H := (hW2.1.2.2.2.2.2 H hh0 hHk.2).1.1
      have zM2 : z2 2 (v 0 2) = v 2 (v 0 2) := (hW2.1.2.2.2.2.2 (v 0 2) m0 hmk.2).1.1
      have zM3 : z2 3 (v 0 2) = v 3 (v 0 2) := (hW2.1.2.2.2.2.2 (v 0 2) m0 hmk.2).1.2.1
      have hrH := hr.2 H hh0 hh1
      have hrM := hr.2 (v 0 2) m0 m1
      have hneq : v 2 H ≠ v 2 (v 0 2) := by
        intro e
        have hne : H ≠ v 0 2 := fun q => by have a := hh2.2.1; rw [q] at a; omega
        rcases (by omega : H < v 0 2 ∨ v 0 2 < H) with q | q
        · have := hor.2 H (v 0 2) hh0 q m1 hh2.1 m2; omega
        · have := hor.2 (v 0 2) H m0 q hh1 m2 hh2.1; omega
      have enp : npO v t (1 + c) ML = if v 2 H < v 2 (v 0 2) then cpl v t (1 + c) + ML else cpl v t (1 + c) + ML - v 3 (v 0 2) := by unfold npO; rw [hHd]
      have bnp : -1000 ≤ npO v t (1 + c) ML ∧ npO v t (1 + c) ML ≤ 1100000 := by rw [enp]; split <;> omega
      have c103 : ∀ d : Int, cpl v t (1 + c) + d = npO v t (1 + c) ML → ∀ x6 : Option Value, WP (mth G l q_X_move 3 0 0 (xW G y z) sz Q) 0 0 (xW G y z2) 103 [some (.ref (yc y 0)), some (vI t), some (.ref (yo y P)), some (vI gr), some (vI c), some (vI (cpl v t (1 + c))), x6] [vI d, vI (cpl v t (1 + c))] := by
        intro d hd x6
        refine r_iadd d_X_move_103 ?_
        rw [hd]
        refine r_istore d_X_move_104 (Nat.le_of_ble_eq_true rfl) rfl ?_
        show WP _ _ _ _ _ [_, _, _, _, _, _, _] _
        refine r_aload_n d_X_move_106 rfl rfl ?_
        refine r_get d_X_move_107 fl_X_47_0 0 rfl rfl ?_
        refine r_aload_n d_X_move_110 rfl rfl ?_
        refine r_getX d_X_move_111 fl_X_315_4 (P) hkP e27 rfl ?_
        show WP _ _ _ _ _ _ (vI (z2 19 P) :: _)
        rw [e19]
        refine r_iload d_X_move_114 rfl ?_
        refine r_iadd d_X_move_116 ?_
        refine r_iload d_X_move_117 rfl ?_
        refine r_iast _ d_X_move_119 11 rfl ⟨by omega, by omega, by omega⟩ xw_11 ?_
        show WP _ _ _ (xW G y (sset z2 22 (256 * (t : Int) + c) (npO v t (1 + c) ML))) _ _ _
        have nxt2 : ∀ gr' : Int, (gr' = 0 ∨ gr' = 1) → (gr' = 1 ↔ exB (fun c => 255 < npO v t (1 + c) ML) (c + 1)) → WP (mth G l q_X_move 3 0 0 (xW G y z) sz Q) 0 0 (xW G y (sset z2 22 (256 * (t : Int) + c) (npO v t (1 + c) ML))) 135 [some (.ref (yc y 0)), some (vI t), some (.ref (yo y P)), some (vI gr), some (vI c), some (vI (npO v t (1 + c) ML)), x6] [vI gr'] := by
          intro gr' h1 h2
          refine r_istore_n d_X_move_135 (Nat.le_of_ble_eq_true rfl) rfl ?_
          show WP _ _ _ _ _ [_, _, _, _, _, _, _] _
          refine r_iinc d_X_move_136 rfl (Nat.le_of_ble_eq_true rfl) rfl ?_
          show WP _ _ _ _ _ [_, _, _, _, _, _, _] _
          refine r_goto 25 d_X_move_139 (by decide) ?_
          refine ih (c + 1) gr' _ _ _ (by omega) (fun a ha => by rw [sset_ne ha]; exact hz a ha) h1 h2 (fun j hj => ?_) (fun j hj => ?_)
          · by_cases e : j = c
            · subst e; exact sset_eq
            · rw [sset_nj (by omega)]; exact hmv j (by omega)
          · rw [sset_nj (by omega)]; exact hout j hj
        refine r_iload_n d_X_move_120 rfl ?_
        refine r_iload d_X_move_121 rfl ?_
        refine r_sipush d_X_move_123 (by decide) ?_
        refine r_icmp_le 133 d_X_move_126 (by decide) (by unfold i32; omega) (by unfold i32; omega) (fun h1 => ?_) (fun h1 => ?_)
        · refine r_iconst d_X_move_133 ?_
          refine r_iorR d_X_move_134 ?_
          rw [or_b hg01 (Or.inl rfl)]
          refine nxt2 _ (by split <;> omega) ?_
          rw [exB_s, ← hgr]
          constructor
          · intro q
            split at q
            · left; omega
            · omega
          · rintro (q | q)
            · rw [if_pos (Or.inl q)]
            · omega
        · refine r_iconst d_X_move_129 ?_
          refine r_goto 134 d_X_move_130 (by decide) ?_
          refine r_iorR d_X_move_134 ?_
          rw [or_b hg01 (Or.inr rfl)]
          refine nxt2 _ (by split <;> omega) ?_
          rw [exB_s]
          exact ⟨fun _ => Or.inr (by omega), fun _ => by rw [if_pos (Or.inr rfl)]⟩
      refine r_iload d_X_move_25 rfl ?_
      refine r_aload_n d_X_move_27 rfl rfl ?_
      refine r_getT d_X_move_28 ft_X_318 (P) hkP (by omega) ?_
      rw [e17]
      refine r_icmp_ge 142 d_X_move_31 (by decide) (by unfold i32; omega) (by unfold i32; omega) (fun h1 => ?_) (fun h1 => ?_)
      · omega
      · refine r_aload_n d_X_move_34 rfl rfl ?_
        refine r_aload_n d_X_move_35 rfl rfl ?_
        refine r_get d_X_move_36 fl_X_7_0 0 rfl rfl ?_
        refine r_iload d_X_move_39 rfl ?_
        refine r_iconst d_X_move_41 ?_
        have cc4 := c_c4 G l y z2 v t hK2 c 0 (by rw [hP]; omega)
        rw [hP] at cc4
        refine r_cV3 d_X_move_42 lk_X_319 (cc4) (13 + P).toNat rfl (xw_bc hkP e27) (Nat.le_of_ble_eq_true rfl) (rok rfl rfl) ⟨(Nat.le_of_ble_eq_true rfl), (Nat.le_of_ble_eq_true rfl)⟩ (fun r ws2 hq => ?_)
        obtain ⟨rfl, rfl⟩ := hq
        show WP _ _ _ _ _ _ (_ :: _)
        refine r_istore d_X_move_45 (Nat.le_of_ble_eq_true rfl) rfl ?_
        show WP _ _ _ _ _ [_, _, _, _, _, _, _] _
        refine r_aload_n d_X_move_47 rfl rfl ?_
        refine r_iload d_X_move_48 rfl ?_
        refine r_iconst d_X_move_50 ?_
        refine r_cV2 d_X_move_51 lk_X_249 (c_X_dataAt G l y z2 v hW2.1 ho hr (cpl v t (1 + c)) 0 (by omega) (by omega)) 0 rfl rfl (Nat.le_of_ble_eq_true rfl) (rok rfl rfl) ⟨(Nat.le_of_ble_eq_true rfl), (Nat.le_of_ble_eq_true rfl)⟩ (fun r ws2 hq => ?_)
        obtain ⟨rfl, rfl⟩ := hq
        show WP _ _ _ _ _ _ (_ :: _)
        rw [hhe, rN_nn hh0]
        refine r_astore d_X_move_54 (Nat.le_of_ble_eq_true rfl) rfl rfl ?_
        show WP _ _ _ _ _ [_, _, _, _, _, _, _] _
        refine r_iload d_X_move_56 rfl ?_
        refine r_aload d_X_move_58 rfl rfl ?_
        refine r_ifnull (r := some (yo y H)) 96 d_X_move_60 (by decide) (fun q => by cases q) (fun _ _ => ?_)
        refine r_aload d_X_move_63 rfl rfl ?_
        refine r_getB d_X_move_65 fb_X_139 (H) hHk hHc rfl ?_
        refine r_aload_n d_X_move_68 rfl rfl ?_
        refine r_get d_X_move_69 fl_X_192_0 0 rfl rfl ?_
        rw [e02, rN_nn m0]
        refine r_getB d_X_move_72 fb_X_320 (v 0 2) hmk hMc rfl ?_
        rw [zH2, zM2]
        refine r_icmp_le 96 d_X_move_75 (by decide) (by unfold i32; omega) (by unfold i32; omega) (fun h2 => ?_) (fun h2 => ?_)
        · rw [if_pos (by omega)] at enp
          refine r_aload_n d_X_move_96 rfl rfl ?_
          refine r_get d_X_move_97 fl_X_192_0 0 rfl rfl ?_
          rw [e02, rN_nn m0]
          refine r_getB d_X_move_100 fb_X_321 (v 0 2) hmk hMc rfl ?_
          rw [e14]
          exact c103 ML enp.symm _
        · rw [if_neg (by omega)] at enp
          refine r_aload_n d_X_move_78 rfl rfl ?_
          refine r_get d_X_move_79 fl_X_192_0 0 rfl rfl ?_
          rw [e02, rN_nn m0]
          refine r_getB d_X_move_82 fb_X_321 (v 0 2) hmk hMc rfl ?_
          refine r_aload_n d_X_move_85 rfl rfl ?_
          refine r_get d_X_move_86 fl_X_192_0 0 rfl rfl ?_
          rw [e02, rN_nn m0, e14]
          refine r_getB d_X_move_89 fb_X_196 (v 0 2) hmk hMc rfl ?_
          refine r_isub d_X_move_92 ?_
          rw [zM3]
          refine r_goto 103 d_X_move_93 (by decide) ?_
          exact c103 (ML - v 3 (v 0 2)) (by omega) _
  refine r_iconst d_X_move_22 ?_
  refine r_istore d_X_move_23 (Nat.le_of_ble_eq_true rfl) rfl ?_
  show WP _ _ _ _ _ [_, _, _, _, _, _, _] _
  exact lp (pv v P 0).toNat 0 0 z1 none none (by omega) (fun _ _ => rfl) (Or.inl rfl) ⟨fun q => by omega, fun q => absurd q (exB_0 _)⟩ (fun j hj => by omega) (fun j hj => by rw [fo 22 (by omega)])
end XMOVE
