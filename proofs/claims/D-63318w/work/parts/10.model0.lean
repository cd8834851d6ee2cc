/-! ===== the words' places ===== -/
theorem in_tab {w : Cond} (h : w ∈ tables_1) : w ∈ lw_tbl := List.mem_append_right _ h
theorem in_t1 {w : Cond} (h : w ∈ tables_1_1) : w ∈ lw_tbl := in_tab (List.mem_append_left _ h)
theorem in_t2 {w : Cond} (h : w ∈ tables_1_2) : w ∈ lw_tbl := in_tab (List.mem_append_right _ (List.mem_append_left _ h))
theorem in_t3 {w : Cond} (h : w ∈ tables_1_3) : w ∈ lw_tbl := in_tab (List.mem_append_right _ (List.mem_append_right _ (List.mem_append_left _ h)))
theorem in_t4 {w : Cond} (h : w ∈ tables_1_4) : w ∈ lw_tbl := in_tab (List.mem_append_right _ (List.mem_append_right _ (List.mem_append_right _ (List.mem_append_left _ h))))
theorem in_t5 {w : Cond} (h : w ∈ tables_1_5) : w ∈ lw_tbl := in_tab (List.mem_append_right _ (List.mem_append_right _ (List.mem_append_right _ (List.mem_append_right _ h))))
theorem in_priv {q : MethodName × Nat} (h : q ∈ lw_privs) : Cond.selects q.1.cls q.1 q.1 ∈ lw_tbl := List.mem_append_left _ (List.mem_map.mpr ⟨q, h, rfl⟩)
theorem in_p1 {q : MethodName × Nat} (h : q ∈ lw_privs_1) : Cond.selects q.1.cls q.1 q.1 ∈ lw_tbl := in_priv (List.mem_append_left _ h)
theorem in_p2 {q : MethodName × Nat} (h : q ∈ lw_privs_2) : Cond.selects q.1.cls q.1 q.1 ∈ lw_tbl := in_priv (List.mem_append_right _ (List.mem_append_left _ h))
theorem in_p3 {q : MethodName × Nat} (h : q ∈ lw_privs_3) : Cond.selects q.1.cls q.1 q.1 ∈ lw_tbl := in_priv (List.mem_append_right _ (List.mem_append_right _ h))
theorem nw_of {w : Cond} (h : w ∈ lw_tbl) (hg : isNw w = true) : w ∈ nwl := List.mem_filter.mpr ⟨h, hg⟩
/-! ===== THE MODEL's world: one object, sixteen arrays; its state is s : cell → place → number (cell 0: size, count, movie, trackCount, outSize) ===== -/
abbrev mS : Type := Nat → Int → Int
def sset (s : mS) (c : Nat) (i x : Int) : mS := fun c' => if c' = c then updI (s c) i x else s c'
theorem sset_at (s : mS) (c : Nat) (i x : Int) (c' : Nat) (j : Int) : sset s c i x c' j = if c' = c then updI (s c) i x j else s c' j := by unfold sset; split <;> rfl
theorem updI_at {α : Type} (g : Int → α) (i : Int) (x : α) (j : Int) : updI g i x j = if j = i then x else g j := rfl
def mF (ad : Nat → Nat) (s : mS) : List Value := [.ref (ad 1), vI (s 0 0), vI (s 0 1), .ref (ad 2), .ref (ad 3), .ref (ad 4), .ref (ad 5), .ref (ad 6), .ref (ad 7), .ref (ad 8), .ref (ad 9), vI (s 0 2), vI (s 0 3), .ref (ad 10), .ref (ad 11), .ref (ad 12), .ref (ad 13), .ref (ad 14), .ref (ad 15), .ref (ad 16), vI (s 0 4)]
def mW (G : gG) (ad : Nat → Nat) (s : mS) : va_W := [(ad 0, .inr (7, mF ad s)),
  (ad 1, aI G 1000 (s 1)), (ad 2, aI G 20 (s 2)), (ad 3, aI G 20 (s 3)), (ad 4, aI G 20 (s 4)), (ad 5, aI G 20 (s 5)), (ad 6, aI G 20 (s 6)), (ad 7, aI G 20 (s 7)), (ad 8, aI G 3 (s 8)), (ad 9, aI G 3 (s 9)), (ad 10, aI G 2 (s 10)), (ad 11, aI G 16 (s 11)), (ad 12, aI G 512 (s 12)), (ad 13, aI G 20 (s 13)), (ad 14, aI G 20 (s 14)), (ad 15, aI G 20 (s 15)), (ad 16, aI G 1000 (s 16))]
section MW
variable {G : gG} {ad : Nat → Nat} {s : mS} {i x : Int}
theorem mw_1 : (mW G ad s).set 1 (ad 1, aI G 1000 (updI (s 1) i x)) = mW G ad (sset s 1 i x) := rfl
theorem mw_2 : (mW G ad s).set 2 (ad 2, aI G 20 (updI (s 2) i x)) = mW G ad (sset s 2 i x) := rfl
theorem mw_3 : (mW G ad s).set 3 (ad 3, aI G 20 (updI (s 3) i x)) = mW G ad (sset s 3 i x) := rfl
theorem mw_4 : (mW G ad s).set 4 (ad 4, aI G 20 (updI (s 4) i x)) = mW G ad (sset s 4 i x) := rfl
theorem mw_5 : (mW G ad s).set 5 (ad 5, aI G 20 (updI (s 5) i x)) = mW G ad (sset s 5 i x) := rfl
theorem mw_6 : (mW G ad s).set 6 (ad 6, aI G 20 (updI (s 6) i x)) = mW G ad (sset s 6 i x) := rfl
theorem mw_7 : (mW G ad s).set 7 (ad 7, aI G 20 (updI (s 7) i x)) = mW G ad (sset s 7 i x) := rfl
theorem mw_8 : (mW G ad s).set 8 (ad 8, aI G 3 (updI (s 8) i x)) = mW G ad (sset s 8 i x) := rfl
theorem mw_9 : (mW G ad s).set 9 (ad 9, aI G 3 (updI (s 9) i x)) = mW G ad (sset s 9 i x) := rfl
theorem mw_10 : (mW G ad s).set 10 (ad 10, aI G 2 (updI (s 10) i x)) = mW G ad (sset s 10 i x) := rfl
theorem mw_11 : (mW G ad s).set 11 (ad 11, aI G 16 (updI (s 11) i x)) = mW G ad (sset s 11 i x) := rfl
theorem mw_12 : (mW G ad s).set 12 (ad 12, aI G 512 (updI (s 12) i x)) = mW G ad (sset s 12 i x) := rfl
theorem mw_13 : (mW G ad s).set 13 (ad 13, aI G 20 (updI (s 13) i x)) = mW G ad (sset s 13 i x) := rfl
theorem mw_14 : (mW G ad s).set 14 (ad 14, aI G 20 (updI (s 14) i x)) = mW G ad (sset s 14 i x) := rfl
theorem mw_15 : (mW G ad s).set 15 (ad 15, aI G 20 (updI (s 15) i x)) = mW G ad (sset s 15 i x) := rfl
theorem mw_16 : (mW G ad s).set 16 (ad 16, aI G 1000 (updI (s 16) i x)) = mW G ad (sset s 16 i x) := rfl
theorem mwp_size : (mW G ad s).set 0 (ad 0, .inr (7, (mF ad s).set 1 (vI x))) = mW G ad (sset s 0 0 x) := rfl
theorem mwp_count : (mW G ad s).set 0 (ad 0, .inr (7, (mF ad s).set 2 (vI x))) = mW G ad (sset s 0 1 x) := rfl
theorem mwp_movie : (mW G ad s).set 0 (ad 0, .inr (7, (mF ad s).set 11 (vI x))) = mW G ad (sset s 0 2 x) := rfl
theorem mwp_trackCount : (mW G ad s).set 0 (ad 0, .inr (7, (mF ad s).set 12 (vI x))) = mW G ad (sset s 0 3 x) := rfl
theorem mwp_outSize : (mW G ad s).set 0 (ad 0, .inr (7, (mF ad s).set 20 (vI x))) = mW G ad (sset s 0 4 x) := rfl
end MW
