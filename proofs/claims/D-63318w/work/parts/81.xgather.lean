abbrev q_K_gather : Mi := (⟨"MovieBoxes$Track", "gather", "(LMovieBoxes$Holder;)Z"⟩, prog_9_method_2_code, 4, (some .boolean))
theorem d_K_gather_60 : decode prog_9_method_2_code 60 = .ok (.iconst 0, 1) := by decide +kernel
theorem d_K_gather_61 : decode prog_9_method_2_code 61 = .ok (.ireturn, 1) := by decide +kernel
theorem d_K_gather_123 : decode prog_9_method_2_code 123 = .ok (.iconst 0, 1) := by decide +kernel
theorem d_K_gather_124 : decode prog_9_method_2_code 124 = .ok (.ireturn, 1) := by decide +kernel
theorem d_K_gather_83 : decode prog_9_method_2_code 83 = .ok (.aload_n 0, 1) := by decide +kernel
theorem d_K_gather_84 : decode prog_9_method_2_code 84 = .ok (.getfield 11, 3) := by decide +kernel
theorem fl_K_11_6 : FL "MovieBoxes$Track" 11 6 0 true := ⟨_, _, _, "MovieBoxes$Track", rfl, by decide, rfl, Or.inl w_156, Or.inl rfl⟩
theorem d_K_gather_87 : decode prog_9_method_2_code 87 = .ok (.iconst 0, 1) := by decide +kernel
theorem d_K_gather_88 : decode prog_9_method_2_code 88 = .ok (.aaload, 1) := by decide +kernel
theorem d_K_gather_89 : decode prog_9_method_2_code 89 = .ok (.ifnull 34, 3) := by decide +kernel
theorem d_K_gather_92 : decode prog_9_method_2_code 92 = .ok (.aload_n 0, 1) := by decide +kernel
theorem d_K_gather_93 : decode prog_9_method_2_code 93 = .ok (.getfield 11, 3) := by decide +kernel
theorem d_K_gather_96 : decode prog_9_method_2_code 96 = .ok (.iconst 2, 1) := by decide +kernel
theorem d_K_gather_97 : decode prog_9_method_2_code 97 = .ok (.aaload, 1) := by decide +kernel
theorem d_K_gather_98 : decode prog_9_method_2_code 98 = .ok (.ifnull 25, 3) := by decide +kernel
theorem d_K_gather_101 : decode prog_9_method_2_code 101 = .ok (.aload_n 0, 1) := by decide +kernel
theorem d_K_gather_102 : decode prog_9_method_2_code 102 = .ok (.getfield 11, 3) := by decide +kernel
theorem d_K_gather_105 : decode prog_9_method_2_code 105 = .ok (.iconst 3, 1) := by decide +kernel
theorem d_K_gather_106 : decode prog_9_method_2_code 106 = .ok (.aaload, 1) := by decide +kernel
theorem d_K_gather_107 : decode prog_9_method_2_code 107 = .ok (.ifnull 16, 3) := by decide +kernel
theorem d_K_gather_110 : decode prog_9_method_2_code 110 = .ok (.aload_n 0, 1) := by decide +kernel
theorem d_K_gather_111 : decode prog_9_method_2_code 111 = .ok (.getfield 11, 3) := by decide +kernel
theorem d_K_gather_114 : decode prog_9_method_2_code 114 = .ok (.iconst 4, 1) := by decide +kernel
theorem d_K_gather_115 : decode prog_9_method_2_code 115 = .ok (.aaload, 1) := by decide +kernel
theorem d_K_gather_116 : decode prog_9_method_2_code 116 = .ok (.ifnull 7, 3) := by decide +kernel
theorem d_K_gather_119 : decode prog_9_method_2_code 119 = .ok (.iconst 1, 1) := by decide +kernel
theorem d_K_gather_120 : decode prog_9_method_2_code 120 = .ok (.goto 4, 3) := by decide +kernel
theorem d_K_gather_26 : decode prog_9_method_2_code 26 = .ok (.aload_n 2, 1) := by decide +kernel
theorem d_K_gather_27 : decode prog_9_method_2_code 27 = .ok (.ifnull 56, 3) := by decide +kernel
theorem d_K_gather_75 : decode prog_9_method_2_code 75 = .ok (.aload_n 2, 1) := by decide +kernel
theorem d_K_gather_76 : decode prog_9_method_2_code 76 = .ok (.getfield 33, 3) := by decide +kernel
set_option maxRecDepth 20000 in
theorem w_84 : Cond.fieldLink "MovieBoxes$Track" 33 "MovieBoxes$Box" "next" "LMovieBoxes$Box;" ∈ gt := gt_of (in_t1 (List.mem_of_getElem? (i := 84) rfl)) rfl
theorem fl_K_33_1 : FL "MovieBoxes$Track" 33 1 8 false := ⟨_, _, _, "MovieBoxes$Box", rfl, by decide, rfl, Or.inl w_84, Or.inl rfl⟩
theorem fl_K_33_2 : FL "MovieBoxes$Track" 33 2 8 false := ⟨_, _, _, "MovieBoxes$Box", rfl, by decide, rfl, Or.inl w_84, Or.inl rfl⟩
theorem fl_K_33_3 : FL "MovieBoxes$Track" 33 3 8 false := ⟨_, _, _, "MovieBoxes$Box", rfl, by decide, rfl, Or.inl w_84, Or.inl rfl⟩
theorem fl_K_33_4 : FL "MovieBoxes$Track" 33 4 8 false := ⟨_, _, _, "MovieBoxes$Box", rfl, by decide, rfl, Or.inl w_84, Or.inl rfl⟩
theorem fl_K_33_5 : FL "MovieBoxes$Track" 33 5 8 false := ⟨_, _, _, "MovieBoxes$Box", rfl, by decide, rfl, Or.inl w_84, Or.inl rfl⟩
theorem fb_K_33 : FB "MovieBoxes$Track" 33 8 (.object "MovieBoxes$Box") := fb5 fl_K_33_1 fl_K_33_2 fl_K_33_3 fl_K_33_4 fl_K_33_5 rfl rfl rfl rfl rfl
theorem d_K_gather_79 : decode prog_9_method_2_code 79 = .ok (.astore_n 2, 1) := by decide +kernel
theorem d_K_gather_80 : decode prog_9_method_2_code 80 = .ok (.goto (-54), 3) := by decide +kernel
theorem d_K_gather_30 : decode prog_9_method_2_code 30 = .ok (.aload_n 2, 1) := by decide +kernel
theorem d_K_gather_31 : decode prog_9_method_2_code 31 = .ok (.instanceof 9, 3) := by decide +kernel
theorem d_K_gather_34 : decode prog_9_method_2_code 34 = .ok (.ifCond .ne 6, 3) := by decide +kernel
theorem d_K_gather_40 : decode prog_9_method_2_code 40 = .ok (.aload_n 2, 1) := by decide +kernel
theorem d_K_gather_41 : decode prog_9_method_2_code 41 = .ok (.checkcast 9, 3) := by decide +kernel
theorem d_K_gather_44 : decode prog_9_method_2_code 44 = .ok (.astore_n 3, 1) := by decide +kernel
theorem d_K_gather_45 : decode prog_9_method_2_code 45 = .ok (.aload_n 0, 1) := by decide +kernel
theorem d_K_gather_46 : decode prog_9_method_2_code 46 = .ok (.getfield 11, 3) := by decide +kernel
theorem d_K_gather_49 : decode prog_9_method_2_code 49 = .ok (.aload_n 3, 1) := by decide +kernel
theorem d_K_gather_50 : decode prog_9_method_2_code 50 = .ok (.getfield 23, 3) := by decide +kernel
set_option maxRecDepth 20000 in
theorem w_45 : Cond.fieldLink "MovieBoxes$Track" 23 "MovieBoxes$Table" "kind" "LMovieBoxes$Kind;" ∈ gt := gt_of (in_t1 (List.mem_of_getElem? (i := 45) rfl)) rfl
theorem fl_K_23_1 : FL "MovieBoxes$Track" 23 1 0 false := ⟨_, _, _, "MovieBoxes$Table", rfl, by decide, rfl, Or.inl w_45, Or.inr w_44⟩
theorem fl_K_23_2 : FL "MovieBoxes$Track" 23 2 0 false := ⟨_, _, _, "MovieBoxes$Table", rfl, by decide, rfl, Or.inl w_45, Or.inr w_44⟩
theorem fl_K_23_3 : FL "MovieBoxes$Track" 23 3 0 false := ⟨_, _, _, "MovieBoxes$Table", rfl, by decide, rfl, Or.inl w_45, Or.inr w_44⟩
theorem fl_K_23_4 : FL "MovieBoxes$Track" 23 4 0 false := ⟨_, _, _, "MovieBoxes$Table", rfl, by decide, rfl, Or.inl w_45, Or.inr w_44⟩
theorem fl_K_23_5 : FL "MovieBoxes$Track" 23 5 0 false := ⟨_, _, _, "MovieBoxes$Table", rfl, by decide, rfl, Or.inl w_45, Or.inr w_44⟩
theorem fb_K_23 : FB "MovieBoxes$Track" 23 0 (.object "MovieBoxes$Kind") := fb5 fl_K_23_1 fl_K_23_2 fl_K_23_3 fl_K_23_4 fl_K_23_5 rfl rfl rfl rfl rfl
theorem d_K_gather_53 : decode prog_9_method_2_code 53 = .ok (.getfield 27, 3) := by decide +kernel
set_option maxRecDepth 20000 in
theorem nw_1009 : Cond.fieldLinkNest "MovieBoxes$Track" 27 "MovieBoxes$Kind" "slot" "I" "MovieBoxes" ∈ nwl := nw_of (in_t5 (List.mem_of_getElem? (i := 49) rfl)) rfl
theorem d_K_gather_56 : decode prog_9_method_2_code 56 = .ok (.aaload, 1) := by decide +kernel
theorem d_K_gather_57 : decode prog_9_method_2_code 57 = .ok (.ifnull 5, 3) := by decide +kernel
theorem d_K_gather_62 : decode prog_9_method_2_code 62 = .ok (.aload_n 0, 1) := by decide +kernel
theorem d_K_gather_63 : decode prog_9_method_2_code 63 = .ok (.getfield 11, 3) := by decide +kernel
theorem d_K_gather_66 : decode prog_9_method_2_code 66 = .ok (.aload_n 3, 1) := by decide +kernel
theorem d_K_gather_67 : decode prog_9_method_2_code 67 = .ok (.getfield 23, 3) := by decide +kernel
theorem d_K_gather_70 : decode prog_9_method_2_code 70 = .ok (.getfield 27, 3) := by decide +kernel
theorem d_K_gather_73 : decode prog_9_method_2_code 73 = .ok (.aload_n 3, 1) := by decide +kernel
theorem d_K_gather_74 : decode prog_9_method_2_code 74 = .ok (.aastore, 1) := by decide +kernel
theorem d_K_gather_37 : decode prog_9_method_2_code 37 = .ok (.goto 38, 3) := by decide +kernel
theorem d_K_gather_2 : decode prog_9_method_2_code 2 = .ok (.iload_n 2, 1) := by decide +kernel
theorem d_K_gather_3 : decode prog_9_method_2_code 3 = .ok (.bipush 7, 2) := by decide +kernel
theorem d_K_gather_5 : decode prog_9_method_2_code 5 = .ok (.if_icmp .ge 16, 3) := by decide +kernel
theorem d_K_gather_21 : decode prog_9_method_2_code 21 = .ok (.aload_n 1, 1) := by decide +kernel
theorem d_K_gather_22 : decode prog_9_method_2_code 22 = .ok (.getfield 17, 3) := by decide +kernel
set_option maxRecDepth 20000 in
theorem w_39 : Cond.fieldLink "MovieBoxes$Track" 17 "MovieBoxes$Holder" "first" "LMovieBoxes$Box;" ∈ gt := gt_of (in_t1 (List.mem_of_getElem? (i := 39) rfl)) rfl
theorem fl_K_17_1 : FL "MovieBoxes$Track" 17 1 11 false := ⟨_, _, _, "MovieBoxes$Holder", rfl, by decide, rfl, Or.inl w_39, Or.inl rfl⟩
theorem d_K_gather_25 : decode prog_9_method_2_code 25 = .ok (.astore_n 2, 1) := by decide +kernel
theorem d_K_gather_8 : decode prog_9_method_2_code 8 = .ok (.aload_n 0, 1) := by decide +kernel
theorem d_K_gather_9 : decode prog_9_method_2_code 9 = .ok (.getfield 11, 3) := by decide +kernel
theorem d_K_gather_12 : decode prog_9_method_2_code 12 = .ok (.iload_n 2, 1) := by decide +kernel
theorem d_K_gather_13 : decode prog_9_method_2_code 13 = .ok (.aconst_null, 1) := by decide +kernel
theorem d_K_gather_14 : decode prog_9_method_2_code 14 = .ok (.aastore, 1) := by decide +kernel
theorem d_K_gather_15 : decode prog_9_method_2_code 15 = .ok (.iinc 2 1, 3) := by decide +kernel
theorem d_K_gather_18 : decode prog_9_method_2_code 18 = .ok (.goto (-16), 3) := by decide +kernel
theorem d_K_gather_0 : decode prog_9_method_2_code 0 = .ok (.iconst 0, 1) := by decide +kernel
theorem d_K_gather_1 : decode prog_9_method_2_code 1 = .ok (.istore_n 2, 1) := by decide +kernel
/-! ===== the component: Track.gather ===== -/
/-- the last below n with p; how many below n with p -/
def lsb (p : Int → Bool) : Nat → Int
  | 0 => -1
  | n + 1 => if p n then n else lsb p n
def cnb (p : Int → Bool) : Nat → Int
  | 0 => 0
  | n + 1 => if p n then cnb p n + 1 else cnb p n
theorem lsb_b (p : Int → Bool) : ∀ n : Nat, lsb p n = -1 ∨ (0 ≤ lsb p n ∧ lsb p n < n ∧ p (lsb p n) = true)
  | 0 => Or.inl rfl
  | n + 1 => by
    unfold lsb
    split
    · exact Or.inr ⟨by omega, by omega, by assumption⟩
    · rcases lsb_b p n with e | e
      · exact Or.inl e
      · exact Or.inr ⟨by omega, by omega, e.2.2⟩
theorem lsb_max (p : Int → Bool) : ∀ (n : Nat) (j : Int), 0 ≤ j → j < n → p j = true → j ≤ lsb p n
  | 0, j, h0, h1, _ => by omega
  | n + 1, j, h0, h1, h2 => by
    unfold lsb
    split
    · omega
    · by_cases hj : j = n
      · subst hj; contradiction
      · exact lsb_max p n j h0 (by omega) h2
theorem lsb_cut {p : Int → Bool} {m : Nat} : ∀ {n : Nat}, m ≤ n → (∀ j : Int, m ≤ j → j < n → p j = false) → lsb p n = lsb p m
  | 0, h, _ => by rw [show m = 0 by omega]
  | n + 1, h, hj => by
    by_cases e : m = n + 1
    · rw [e]
    · have e1 : lsb p (n + 1) = lsb p n := by
        conv => lhs; unfold lsb
        rw [if_neg (by rw [hj n (by omega) (by omega)]; decide)]
      rw [e1]
      exact lsb_cut (by omega) (fun j a b => hj j a (by omega))
theorem lsb_none {p : Int → Bool} {n : Nat} (h : lsb p n = -1) (j : Int) (h0 : 0 ≤ j) (h1 : j < n) : p j = false := by
  cases hp : p j with
  | false => rfl
  | true => have := lsb_max p n j h0 h1 hp; omega
theorem lsb_eq {p : Int → Bool} {n : Nat} {k : Int} (h0 : 0 ≤ k) (h1 : k < n) (hp : p k = true) (hu : ∀ j : Int, 0 ≤ j → j < n → p j = true → j = k) : lsb p n = k := by
  rcases lsb_b p n with e | e
  · have := lsb_none e k h0 h1; rw [hp] at this; cases this
  · exact hu _ e.1 e.2.1 e.2.2
theorem lsb_cg {p q : Int → Bool} : ∀ {n : Nat}, (∀ j : Int, 0 ≤ j → j < n → p j = q j) → lsb p n = lsb q n
  | 0, _ => rfl
  | n + 1, h => by
    unfold lsb
    rw [h n (by omega) (by omega), lsb_cg (fun j a b => h j a (by omega))]
theorem cnb_cg {p q : Int → Bool} : ∀ {n : Nat}, (∀ j : Int, 0 ≤ j → j < n → p j = q j) → cnb p n = cnb q n
  | 0, _ => rfl
  | n + 1, h => by
    unfold cnb
    rw [h n (by omega) (by omega), cnb_cg (fun j a b => h j a (by omega))]
theorem cnb_cut {p : Int → Bool} {m : Nat} : ∀ {n : Nat}, m ≤ n → (∀ j : Int, m ≤ j → j < n → p j = false) → cnb p n = cnb p m
  | 0, h, _ => by rw [show m = 0 by omega]
  | n + 1, h, hj => by
    by_cases e : m = n + 1
    · rw [e]
    · have e1 : cnb p (n + 1) = cnb p n := by
        conv => lhs; unfold cnb
        rw [if_neg (by rw [hj n (by omega) (by omega)]; decide)]
      rw [e1]
      exact cnb_cut (by omega) (fun j a b => hj j a (by omega))
theorem cnb_mono (p : Int → Bool) {m : Nat} : ∀ {n : Nat}, m ≤ n → cnb p m ≤ cnb p n
  | 0, h => by rw [show m = 0 by omega]; exact Int.le_refl _
  | n + 1, h => by
    by_cases e : m = n + 1
    · rw [e]; exact Int.le_refl _
    · have := cnb_mono p (m := m) (n := n) (by omega)
      have e1 : cnb p (n + 1) = if p n then cnb p n + 1 else cnb p n := rfl
      rw [e1]
      split <;> omega
theorem cnb_nn (p : Int → Bool) (n : Nat) : 0 ≤ cnb p n := cnb_mono p (m := 0) (Nat.zero_le n)
theorem cnb_s {p : Int → Bool} {n : Nat} (h : p n = true) : cnb p (n + 1) = cnb p n + 1 := by
  conv => lhs; unfold cnb
  rw [if_pos h]
theorem lsb_s {p : Int → Bool} {n : Nat} (h : p n = true) : lsb p (n + 1) = n := by
  conv => lhs; unfold lsb
  rw [if_pos h]
theorem cnb_lt {p : Int → Bool} {a : Int} {n : Nat} (h0 : 0 ≤ a) (h1 : a < n) (hp : p a = true) : cnb p a.toNat + 1 ≤ cnb p n := by
  have h2 := cnb_s (p := p) (n := a.toNat) (by rw [show ((a.toNat : Nat) : Int) = a by omega]; exact hp)
  have := cnb_mono p (m := a.toNat + 1) (n := n) (by omega)
  omega
theorem cnb_0 {p : Int → Bool} {n : Nat} : cnb p n = 0 ↔ lsb p n = -1 := by
  constructor
  · intro h
    rcases lsb_b p n with e | e
    · exact e
    · have := cnb_lt e.1 e.2.1 e.2.2
      have := cnb_nn p (lsb p n).toNat
      omega
  · intro h
    have := cnb_cut (p := p) (m := 0) (n := n) (by omega) (fun j a b => lsb_none h j (by omega) b)
    rw [this]
    rfl
/-- the table of a slot in a track's box; two tables of one slot -/
def gk (z : mS) (h sl : Int) (n : Nat) : Int := lsb (fun j => decide (z 7 j = h ∧ slO (z 26 j) = sl)) n
def gd (z : mS) (h : Int) (n : Nat) : Prop := ∃ i j : Int, 0 ≤ i ∧ i < j ∧ j < n ∧ z 7 i = h ∧ z 7 j = h ∧ 0 ≤ slO (z 26 i) ∧ slO (z 26 i) = slO (z 26 j)
def gOk (z : mS) (h : Int) (n : Nat) : Prop := ¬ gd z h n ∧ 0 ≤ gk z h 0 n ∧ 0 ≤ gk z h 2 n ∧ 0 ≤ gk z h 3 n ∧ 0 ≤ gk z h 4 n
theorem gk_b {z : mS} {h sl : Int} {n : Nat} : gk z h sl n = -1 ∨ (0 ≤ gk z h sl n ∧ gk z h sl n < n ∧ z 7 (gk z h sl n) = h ∧ slO (z 26 (gk z h sl n)) = sl) := by
  unfold gk
  rcases lsb_b (fun j => decide (z 7 j = h ∧ slO (z 26 j) = sl)) n with e | ⟨e1, e2, e3⟩
  · exact Or.inl e
  · have := of_decide_eq_true e3
    exact Or.inr ⟨e1, e2, this.1, this.2⟩
theorem slO_b (o : Int) : -1 ≤ slO o ∧ slO o < 7 := by unfold slO; repeat' split; all_goals omega
theorem sl_cl {o : Int} (h : 0 ≤ o ∧ o < 12) : 3 ≤ clN (clO o) ↔ 0 ≤ slO o := by
  rcases (by omega : o = 0 ∨ o = 1 ∨ o = 2 ∨ o = 3 ∨ o = 4 ∨ o = 5 ∨ o = 6 ∨ o = 7 ∨ o = 8 ∨ o = 9 ∨ o = 10 ∨ o = 11) with rfl | rfl | rfl | rfl | rfl | rfl | rfl | rfl | rfl | rfl | rfl | rfl <;> decide
theorem rN_none {oa : Int → Nat} {i : Int} : rN oa i = none ↔ i < 0 := by
  unfold rN
  split
  · exact ⟨fun _ => by assumption, fun _ => rfl⟩
  · exact ⟨fun h => (by cases h), fun h => (by omega)⟩
abbrev yT (y : xP) (tb : Int → Option Nat) : xP := (yc y, yo y, yk y, yn y, yR y, ye y, yE y, tb)
/-- where the tracks' tables lie in yt -/
def tix (t : Nat) (j : Int) : Int := if t = 0 then j else -1 - j
theorem aQ_ext {G : gG} {t n : Nat} {f g : Int → Option Nat} (h : ∀ j : Nat, f j = g j) : aQ G t n f = aQ G t n g := by
  unfold aQ
  rw [show (fun j : Nat => f (j : Int)) = fun j : Nat => g (j : Int) from funext h]
def xT (G : gG) (y : xP) (z : mS) (e9 e10 : va_E) : va_W := (yc y 0, .inr (0, xF y z)) :: (yc y 1, aB G 1000 (z 1)) :: (yc y 2, aB G 1000 (z 20)) :: (yc y 3, .inr (8, [vI (z 0 7), .ref (ye y), vI (z 0 1)])) :: (yc y 4, aQ G 2 100 (yk y)) :: (yc y 5, aI G 5 (z 21)) :: (yc y 6, aQ G 3 2 (fun i => some (yc y (7 + i.toNat)))) :: (yc y 7, .inr (6, [.ref (yc y 9)])) :: (yc y 8, .inr (6, [.ref (yc y 10)])) :: (yc y 9, e9) :: (yc y 10, e10) :: (yc y 11, aI G 512 (z 22)) :: (xB G (yo y) z (yn y) ++ (yR y ++ yE y))
theorem xT_eq (G : gG) (y : xP) (z : mS) : xW G y z = xT G y z (aQ G 4 7 (yt y)) (aQ G 4 7 (fun j => yt y (-1 - j))) := rfl
section XTB
variable {G : gG} {y : xP} {z : mS} {t : Nat}
theorem xw_k (h : t ≤ 1) : (xW G y z)[7 + t]? = some (yc y (7 + t), .inr (6, [.ref (yc y (9 + t))])) := by
  rcases (by omega : t = 0 ∨ t = 1) with rfl | rfl <;> rfl
theorem xw_tb (h : t ≤ 1) : (xW G y z)[9 + t]? = some (yc y (9 + t), aQ G 4 7 (fun j => yt y (tix t j))) := by
  rcases (by omega : t = 0 ∨ t = 1) with rfl | rfl <;> rfl
theorem xw_tbs (h : t ≤ 1) {i : Int} (hi : 0 ≤ i) (v : Option Nat) : (xW G y z).set (9 + t) (yc y (9 + t), aQ G 4 7 (updI (fun j => yt y (tix t j)) i v)) = xW G (yT y (updI (yt y) (tix t i) v)) z := by
  rcases (by omega : t = 0 ∨ t = 1) with rfl | rfl
  · have e2 : aQ G 4 7 (fun j => yt y (-1 - j)) = aQ G 4 7 (fun j => updI (yt y) i v (-1 - j)) := aQ_ext (fun j => by rw [updI_at, if_neg (by omega)])
    show xT G y z (aQ G 4 7 (updI (yt y) i v)) (aQ G 4 7 (fun j => yt y (-1 - j))) = xT G y z (aQ G 4 7 (updI (yt y) i v)) (aQ G 4 7 (fun j => updI (yt y) i v (-1 - j)))
    rw [e2]
  · have e1 : aQ G 4 7 (updI (fun j => yt y (-1 - j)) i v) = aQ G 4 7 (fun j => updI (yt y) (-1 - i) v (-1 - j)) := aQ_ext (fun j => by
      rw [updI_at, updI_at]
      by_cases hj : (j : Int) = i
      · rw [if_pos hj, if_pos (by omega)]
      · rw [if_neg hj, if_neg (by omega)])
    have e2 : aQ G 4 7 (yt y) = aQ G 4 7 (updI (yt y) (-1 - i) v) := aQ_ext (fun j => by rw [updI_at, if_neg (by omega)])
    show xT G y z (aQ G 4 7 (yt y)) (aQ G 4 7 (updI (fun j => yt y (-1 - j)) i v)) = xT G y z (aQ G 4 7 (updI (yt y) (-1 - i) v)) (aQ G 4 7 (fun j => updI (yt y) (-1 - i) v (-1 - j)))
    rw [e1, e2]
end XTB
section XROWS3
variable {μ : Mx} {k n : Nat} {y : xP} {z : mS} {pc : Nat} {lv : List (Option Value)} {st : List Value}
/-- a table is put among a track's -/
theorem r_aastT {i : Int} {t : Nat} (ht : t ≤ 1) (hd : decode (mB μ) pc = .ok (.aastore, 1)) (kb : Int) (hk : -1 ≤ kb ∧ kb < yn y) (hc : 3 ≤ z 27 kb ∧ z 27 kb ≤ 5) (hi : 0 ≤ i ∧ i < 7) (kk : WP μ k n (xW (mG μ) (yT y (updI (yt y) (tix t i) (some (yo y kb)))) z) (pc + 1) lv st) : WP μ k n (xW (mG μ) y z) pc lv (.ref (yo y kb) :: vI i :: .ref (yc y (9 + t)) :: st) := by
  rcases (by omega : z 27 kb = (3 : Nat) ∨ z 27 kb = (4 : Nat) ∨ z 27 kb = (5 : Nat)) with h | h | h
  · exact r_aast (ci := 3) _ hd (9 + t) (xw_tb ht) rfl rfl (xw_bc hk h) nw_988 ⟨hi.1, hi.2, by omega⟩ (xw_tbs ht hi.1 _) kk
  · exact r_aast (ci := 4) _ hd (9 + t) (xw_tb ht) rfl rfl (xw_bc hk h) nw_986 ⟨hi.1, hi.2, by omega⟩ (xw_tbs ht hi.1 _) kk
  · exact r_aast (ci := 5) _ hd (9 + t) (xw_tb ht) rfl rfl (xw_bc hk h) nw_987 ⟨hi.1, hi.2, by omega⟩ (xw_tbs ht hi.1 _) kk
end XROWS3
/-- what gather leaves: the tables of the boxes below m -/
def tbF (y : xP) (z : mS) (t : Nat) (h : Int) (m : Nat) : Int → Option Nat := fun j => if (t = 0 ∧ 0 ≤ j ∧ j < 7) ∨ (t = 1 ∧ j < 0 ∧ -8 < j) then rN (yo y) (gk z h (tix t j) m) else yt y j
theorem tix_tix {t : Nat} {j : Int} : tix t (tix t j) = j := by unfold tix; split <;> omega
theorem tbF_at {y : xP} {z : mS} {t : Nat} {h sl : Int} {m : Nat} (ht : t ≤ 1) (hs : 0 ≤ sl ∧ sl < 7) : tbF y z t h m (tix t sl) = rN (yo y) (gk z h sl m) := by
  unfold tbF
  rw [if_pos (by unfold tix; split <;> omega), tix_tix]
theorem tbF_no {y : xP} {z : mS} {t t' : Nat} {h sl : Int} {m : Nat} (ht : t ≤ 1) (ht' : t' ≤ 1) (hne : t' ≠ t) (hs : 0 ≤ sl) : tbF y z t h m (tix t' sl) = yt y (tix t' sl) := by
  unfold tbF
  rw [if_neg (by unfold tix; split <;> omega)]
theorem gk_s {z : mS} {h sl : Int} {b : Nat} : gk z h sl (b + 1) = if z 7 b = h ∧ slO (z 26 b) = sl then (b : Int) else gk z h sl b := by
  unfold gk
  conv => lhs; unfold lsb
  by_cases hp : z 7 b = h ∧ slO (z 26 b) = sl
  · rw [if_pos hp, if_pos (decide_eq_true hp)]
  · rw [if_neg hp, if_neg (by rw [decide_eq_false hp]; decide)]
theorem gk_cut {z : mS} {h sl : Int} {m n : Nat} (hm : m ≤ n) (hn : ∀ j : Int, m ≤ j → j < n → z 7 j ≠ h) : gk z h sl n = gk z h sl m :=
  lsb_cut hm (fun j a b => decide_eq_false (fun q => hn j a b q.1))
theorem gd_cut {z : mS} {h : Int} {m n : Nat} (hm : m ≤ n) (hn : ∀ j : Int, m ≤ j → j < n → z 7 j ≠ h) : gd z h n ↔ gd z h m := by
  constructor
  · rintro ⟨i, j, a1, a2, a3, a4, a5, a6⟩
    have : j < m := by
      by_cases q : j < m
      · exact q
      · exact absurd a5 (hn j (by omega) a3)
    exact ⟨i, j, a1, a2, this, a4, a5, a6⟩
  · rintro ⟨i, j, a1, a2, a3, a4, a5, a6⟩
    exact ⟨i, j, a1, a2, by omega, a4, a5, a6⟩
theorem gd_s {z : mS} {h : Int} {b : Nat} (hb : z 7 b = h) : gd z h (b + 1) ↔ gd z h b ∨ (0 ≤ slO (z 26 b) ∧ 0 ≤ gk z h (slO (z 26 b)) b) := by
  constructor
  · rintro ⟨i, j, a1, a2, a3, a4, a5, a6, a7⟩
    by_cases hj : j < b
    · exact Or.inl ⟨i, j, a1, a2, hj, a4, a5, a6, a7⟩
    · have e : j = b := by omega
      subst e
      right
      rw [← a7]
      refine ⟨a6, ?_⟩
      have := lsb_max (fun j => decide (z 7 j = h ∧ slO (z 26 j) = slO (z 26 i))) b i a1 (by omega) (decide_eq_true ⟨a4, rfl⟩)
      unfold gk; omega
  · rintro (⟨i, j, a1, a2, a3, a4⟩ | ⟨a1, a2⟩)
    · exact ⟨i, j, a1, a2, by omega, a4⟩
    · rcases gk_b (z := z) (h := h) (sl := slO (z 26 b)) (n := b) with e | ⟨e1, e2, e3, e4⟩
      · omega
      · exact ⟨_, b, e1, e2, by omega, e3, hb, by rw [e4]; exact a1, e4⟩
/-- the next child of h from m on: none, or b -/
theorem nxt_step {z : mS} {n m : Nat} {h : Int} (hm : m ≤ n) : (nxt (z 7) h (n - m) m = -1 ∧ ∀ j : Int, m ≤ j → j < n → z 7 j ≠ h) ∨ ∃ b : Nat, nxt (z 7) h (n - m) m = b ∧ m ≤ b ∧ b < n ∧ z 7 b = h ∧ ∀ j : Int, m ≤ j → j < b → z 7 j ≠ h := by
  generalize hf : n - m = f
  induction f generalizing m with
  | zero => exact Or.inl ⟨rfl, fun j a b => by omega⟩
  | succ f ih =>
    by_cases hb : z 7 m = h
    · refine Or.inr ⟨m, ?_, by omega, by omega, hb, fun j a b => by omega⟩
      unfold nxt; rw [if_pos hb]
    · have e : nxt (z 7) h (f + 1) m = nxt (z 7) h f ((m + 1 : Nat) : Int) := by
        conv => lhs; unfold nxt
        rw [if_neg hb]; rfl
      rw [e]
      rcases ih (m := m + 1) (by omega) (by omega) with ⟨q1, q2⟩ | ⟨b, q1, q2, q3, q4, q5⟩
      · refine Or.inl ⟨q1, fun j a c => ?_⟩
        by_cases hj : j = m
        · subst hj; exact hb
        · exact q2 j (by omega) c
      · refine Or.inr ⟨b, q1, by omega, q3, q4, fun j a c => ?_⟩
        by_cases hj : j = m
        · subst hj; exact hb
        · exact q5 j (by omega) c
/-- what is known of the boxes, of the component alone -/
def bI (z : mS) (n : Nat) : Prop := tI z n ∧ z 27 (-1) = 1 ∧ ∀ k : Int, 0 ≤ k → k < n → 0 ≤ z 26 k ∧ z 26 k < 12 ∧ z 27 k = clN (clO (z 26 k))
theorem bI_cl {z : mS} {n : Nat} (h : bI z n) {k : Int} (h0 : -1 ≤ k) (h1 : k < n) : 1 ≤ z 27 k ∧ z 27 k ≤ 5 := by
  by_cases hk : k = -1
  · subst hk; rw [h.2.1]; omega
  · rw [(h.2.2 k (by omega) h1).2.2]; exact clN_b _
theorem bI_next {z : mS} {n : Nat} (h : bI z n) {b : Nat} (hb : b < n) : z 23 b = nxt (z 7) (z 7 b) (n - (b + 1)) ((b + 1 : Nat) : Int) := by
  rw [h.1.2.1 b (by omega) (by omega), show ((n : Int) - 1 - (b : Int)).toNat = n - (b + 1) by omega]
  rfl
section XGATHER
variable (G : gG) (l : Launch) (y : xP)
set_option maxRecDepth 8000 in
set_option maxHeartbeats 8000000 in
theorem c_K_gather (z : mS) (t : Nat) (h : Int) (ht : t ≤ 1) (hh : -1 ≤ h ∧ h < yn y) (h1 : z 27 h = 1) (hB : bI z (yn y)) : Ct G l q_K_gather 0 0 0 [.ref (yc y (7 + t)), .ref (yo y h)] (xW G y z) (fun r w => ∃ tb', r = some (vI (b2 (gOk z h (yn y)))) ∧ w = xW G (yT y tb') z ∧ (∀ t' : Nat, t' ≤ 1 → t' ≠ t → ∀ sl, 0 ≤ sl → tb' (tix t' sl) = yt y (tix t' sl)) ∧ (gOk z h (yn y) → ∀ sl, 0 ≤ sl → sl < 7 → tb' (tix t sl) = rN (yo y) (gk z h sl (yn y)))) := by
  refine Ct.intro [some (.ref (yc y (7 + t))), some (.ref (yo y h)), none, none] (by decide) (Nat.le_of_ble_eq_true rfl) rfl (fun sz => ?_)
  generalize hQ : (fun r w => ∃ tb', r = some (vI (b2 (gOk z h (yn y)))) ∧ w = xW G (yT y tb') z ∧ (∀ t' : Nat, t' ≤ 1 → t' ≠ t → ∀ sl, 0 ≤ sl → tb' (tix t' sl) = yt y (tix t' sl)) ∧ (gOk z h (yn y) → ∀ sl, 0 ≤ sl → sl < 7 → tb' (tix t sl) = rN (yo y) (gk z h sl (yn y)))) = Q
  have fin0 : ∀ (m : Nat) lv, ¬ gOk z h (yn y) → ∀ pc, pc = 60 ∨ pc = 123 → WP (mth G l q_K_gather 0 0 0 (xW G y z) sz Q) 0 0 (xW G (yT y (tbF y z t h m)) z) pc lv [] := by
    intro m lv hno pc hpc
    have hq : Q (some (vI 0)) (xW G (yT y (tbF y z t h m)) z) := by
      rw [← hQ]
      exact ⟨_, by rw [b2_f hno], rfl, fun t' a1 a2 sl a3 => tbF_no ht a1 a2 a3, fun q => absurd q hno⟩
    rcases hpc with rfl | rfl
    · refine r_iconst d_K_gather_60 ?_
      refine r_zret d_K_gather_61 rfl (by first | exact Or.inl rfl | exact Or.inr rfl) (Nat.le_of_ble_eq_true rfl) (Nat.le_of_ble_eq_true rfl) ?_
      exact hq
    · refine r_iconst d_K_gather_123 ?_
      refine r_zret d_K_gather_124 rfl (by first | exact Or.inl rfl | exact Or.inr rfl) (Nat.le_of_ble_eq_true rfl) (Nat.le_of_ble_eq_true rfl) ?_
      exact hq
  have fin : ∀ (m : Nat) (x2 x3 : Option Value), m ≤ yn y → (∀ j : Int, m ≤ j → j < yn y → z 7 j ≠ h) → ¬ gd z h m → WP (mth G l q_K_gather 0 0 0 (xW G y z) sz Q) 0 0 (xW G (yT y (tbF y z t h m)) z) 83 [some (.ref (yc y (7 + t))), some (.ref (yo y h)), x2, x3] [] := by
    intro m x2 x3 hm hn hd
    have ta : ∀ sl, 0 ≤ sl → sl < 7 → yt (yT y (tbF y z t h m)) (tix t sl) = rN (yo y) (gk z h sl (yn y)) := by
      intro sl a b
      show tbF y z t h m (tix t sl) = _
      rw [tbF_at ht ⟨a, b⟩, gk_cut hm hn]
    have hd' : ¬ gd z h (yn y) := fun q => hd ((gd_cut hm hn).mp q)
    refine r_aload_n d_K_gather_83 rfl rfl ?_
    refine r_get d_K_gather_84 fl_K_11_6 (7+t) (xw_k ht) rfl ?_
    refine r_iconst d_K_gather_87 ?_
    refine r_aald d_K_gather_88 (9+t) (xw_tb ht) rfl (by omega) ?_
    rw [ta 0 (by omega) (by omega)]
    refine r_ifnull 123 d_K_gather_89 (by decide) (fun h0 => ?_) (fun h0a h0 => ?_)
    · exact fin0 m _ (fun q => by have := rN_none.mp h0; have := q.2.1; omega) 123 (Or.inr rfl)
    have g0 : 0 ≤ gk z h 0 (yn y) := Classical.byContradiction fun q => by rw [rN_none.mpr (by omega)] at h0; cases h0
    refine r_aload_n d_K_gather_92 rfl rfl ?_
    refine r_get d_K_gather_93 fl_K_11_6 (7+t) (xw_k ht) rfl ?_
    refine r_iconst d_K_gather_96 ?_
    refine r_aald d_K_gather_97 (9+t) (xw_tb ht) rfl (by omega) ?_
    rw [ta 2 (by omega) (by omega)]
    refine r_ifnull 123 d_K_gather_98 (by decide) (fun h2 => ?_) (fun h2a h2 => ?_)
    · exact fin0 m _ (fun q => by have := rN_none.mp h2; have := q.2.2.1; omega) 123 (Or.inr rfl)
    have g2 : 0 ≤ gk z h 2 (yn y) := Classical.byContradiction fun q => by rw [rN_none.mpr (by omega)] at h2; cases h2
    refine r_aload_n d_K_gather_101 rfl rfl ?_
    refine r_get d_K_gather_102 fl_K_11_6 (7+t) (xw_k ht) rfl ?_
    refine r_iconst d_K_gather_105 ?_
    refine r_aald d_K_gather_106 (9+t) (xw_tb ht) rfl (by omega) ?_
    rw [ta 3 (by omega) (by omega)]
    refine r_ifnull 123 d_K_gather_107 (by decide) (fun h3 => ?_) (fun h3a h3 => ?_)
    · exact fin0 m _ (fun q => by have := rN_none.mp h3; have := q.2.2.2.1; omega) 123 (Or.inr rfl)
    have g3 : 0 ≤ gk z h 3 (yn y) := Classical.byContradiction fun q => by rw [rN_none.mpr (by omega)] at h3; cases h3
    refine r_aload_n d_K_gather_110 rfl rfl ?_
    refine r_get d_K_gather_111 fl_K_11_6 (7+t) (xw_k ht) rfl ?_
    refine r_iconst d_K_gather_114 ?_
    refine r_aald d_K_gather_115 (9+t) (xw_tb ht) rfl (by omega) ?_
    rw [ta 4 (by omega) (by omega)]
    refine r_ifnull 123 d_K_gather_116 (by decide) (fun h4 => ?_) (fun h4a h4 => ?_)
    · exact fin0 m _ (fun q => by have := rN_none.mp h4; have := q.2.2.2.2; omega) 123 (Or.inr rfl)
    have g4 : 0 ≤ gk z h 4 (yn y) := Classical.byContradiction fun q => by rw [rN_none.mpr (by omega)] at h4; cases h4
    refine r_iconst d_K_gather_119 ?_
    refine r_goto 124 d_K_gather_120 (by decide) ?_
    refine r_zret d_K_gather_124 rfl (by first | exact Or.inl rfl | exact Or.inr rfl) (Nat.le_of_ble_eq_true rfl) (Nat.le_of_ble_eq_true rfl) ?_
    rw [← hQ]
    exact ⟨_, by rw [b2_t ⟨hd', g0, g2, g3, g4⟩], rfl, fun t' a1 a2 sl a3 => tbF_no ht a1 a2 a3, fun _ sl a b => by rw [tbF_at ht ⟨a, b⟩, gk_cut hm hn]⟩
  have lp : ∀ (F m : Nat) (x3 : Option Value), yn y - m ≤ F → m ≤ yn y → ¬ gd z h m → WP (mth G l q_K_gather 0 0 0 (xW G y z) sz Q) 0 0 (xW G (yT y (tbF y z t h m)) z) 26 [some (.ref (yc y (7 + t))), some (.ref (yo y h)), some (va_rf (rN (yo y) (nxt (z 7) h (yn y - m) m))), x3] [] := by
    intro F
    induction F with
    | zero =>
      intro m x3 hF hm hd
      rw [show yn y - m = 0 by omega]
      refine r_aload_n d_K_gather_26 rfl (isRf_rf _) ?_
      refine r_ifnull 83 d_K_gather_27 (by decide) (fun hn => ?_) (fun hna hn => ?_)
      · exact fin m _ _ hm (fun j a b => by omega) hd
      · cases hn
    | succ F ih =>
      intro m x3 hF hm hd
      rcases nxt_step (z := z) (h := h) hm with ⟨e, hno⟩ | ⟨b, e, b1, b2, b3, b4⟩
      · rw [e]
        refine r_aload_n d_K_gather_26 rfl (isRf_rf _) ?_
        refine r_ifnull 83 d_K_gather_27 (by decide) (fun hn => ?_) (fun hna hn => ?_)
        · exact fin m _ _ hm hno hd
        · cases hn
      · rw [e, rN_nn (by omega)]
        have etb : tbF y z t h m = tbF y z t h b := by
          funext j
          unfold tbF
          split
          · rw [gk_cut b1 b4]
          · rfl
        have hd2 : ¬ gd z h b := fun q => hd ((gd_cut b1 b4).mp q)
        rw [etb]
        have hkb : -1 ≤ (b : Int) ∧ (b : Int) < yn y := by omega
        have hcb := bI_cl hB hkb.1 hkb.2
        obtain ⟨o0, o1, o2⟩ := hB.2.2 b (by omega) (by omega)
        have hsl := sl_cl ⟨o0, o1⟩
        rw [← o2] at hsl
        have hsb := slO_b (z 26 b)
        have nx : ∀ (tb' : Int → Option Nat) (x3 : Option Value), tb' = tbF y z t h (b + 1) → ¬ gd z h (b + 1) → WP (mth G l q_K_gather 0 0 0 (xW G y z) sz Q) 0 0 (xW G (yT y tb') z) 75 [some (.ref (yc y (7 + t))), some (.ref (yo y h)), some (.ref (yo y b)), x3] [] := by
          intro tb' x3 etb' hd3
          subst etb'
          refine r_aload_n d_K_gather_75 rfl rfl ?_
          refine r_getB d_K_gather_76 fb_K_33 ((b : Int)) hkb hcb rfl ?_
          rw [bI_next hB b2, b3]
          refine r_astore_n d_K_gather_79 (Nat.le_of_ble_eq_true rfl) rfl (isRf_rf _) ?_
          show WP _ _ _ _ _ [_, _, _, _] _
          refine r_goto 26 d_K_gather_80 (by decide) ?_
          exact ih (b + 1) _ (by omega) (by omega) hd3
        refine r_aload_n d_K_gather_26 rfl rfl ?_
        refine r_ifnull (r := some (yo y b)) 83 d_K_gather_27 (by decide) (fun q => by cases q) (fun _ _ => ?_)
        refine r_aload_n d_K_gather_30 rfl rfl ?_
        refine r_instT d_K_gather_31 w_154 b hkb hcb (fun h3 => ?_) (fun h3 => ?_)
        · refine r_if_ne 40 d_K_gather_34 (by decide) (by unfold i32; omega) (fun hx => ?_) (fun hx => ?_)
          · have hs0 := hsl.mp h3
            have h35 : 3 ≤ z 27 b ∧ z 27 b ≤ 5 := by omega
            refine r_aload_n d_K_gather_40 rfl rfl ?_
            refine r_castT d_K_gather_41 w_154 b hkb h35 ?_
            refine r_astore_n d_K_gather_44 (Nat.le_of_ble_eq_true rfl) rfl rfl ?_
            show WP _ _ _ _ _ [_, _, _, _] _
            refine r_aload_n d_K_gather_45 rfl rfl ?_
            refine r_get d_K_gather_46 fl_K_11_6 (7+t) (xw_k ht) rfl ?_
            refine r_aload_n d_K_gather_49 rfl rfl ?_
            refine r_getB d_K_gather_50 fb_K_23 ((b : Int)) hkb hcb rfl ?_
            refine r_getSl d_K_gather_53 (Or.inr ⟨_, nw_1009⟩) ⟨o0, o1⟩ ?_
            refine r_aald d_K_gather_56 (9 + t) (xw_tb ht) rfl ⟨hs0, hsb.2, by omega⟩ ?_
            have ta : yt (yT y (tbF y z t h b)) (tix t (slO (z 26 b))) = rN (yo y) (gk z h (slO (z 26 b)) b) := tbF_at ht ⟨hs0, hsb.2⟩
            rw [ta]
            refine r_ifnull 62 d_K_gather_57 (by decide) (fun hn => ?_) (fun hna hn => ?_)
            · have hg := rN_none.mp hn
              refine r_aload_n d_K_gather_62 rfl rfl ?_
              refine r_get d_K_gather_63 fl_K_11_6 (7+t) (xw_k ht) rfl ?_
              refine r_aload_n d_K_gather_66 rfl rfl ?_
              refine r_getB d_K_gather_67 fb_K_23 ((b : Int)) hkb hcb rfl ?_
              refine r_getSl d_K_gather_70 (Or.inr ⟨_, nw_1009⟩) ⟨o0, o1⟩ ?_
              refine r_aload_n d_K_gather_73 rfl rfl ?_
              refine r_aastT ht d_K_gather_74 b hkb h35 ⟨hs0, hsb.2⟩ ?_
              refine nx _ _ ?_ (fun q => ?_)
              · funext j
                rw [updI_at]
                show (if j = tix t (slO (z 26 b)) then some (yo y b) else tbF y z t h b j) = _
                unfold tbF
                by_cases hj : j = tix t (slO (z 26 b))
                · rw [if_pos hj, hj, if_pos (by unfold tix; split <;> omega), tix_tix, gk_s, if_pos ⟨b3, rfl⟩, rN_nn (by omega)]
                · rw [if_neg hj]
                  split
                  · rw [gk_s, if_neg]
                    rintro ⟨-, q⟩
                    exact hj (by rw [q, tix_tix])
                  · rfl
              · rcases (gd_s b3).mp q with q | q
                · exact hd2 q
                · omega
            · have hg : 0 ≤ gk z h (slO (z 26 b)) b := Classical.byContradiction fun q => by rw [rN_none.mpr (by omega)] at hn; cases hn
              refine fin0 b _ (fun q => q.1 ?_) 60 (Or.inl rfl)
              obtain ⟨i, j, a1, a2, a3, a4⟩ := (gd_s b3).mpr (Or.inr ⟨hs0, hg⟩)
              exact ⟨i, j, a1, a2, by omega, a4⟩
          · omega
        · refine r_if_ne 40 d_K_gather_34 (by decide) (by unfold i32; omega) (fun hx => ?_) (fun hx => ?_)
          · omega
          · refine r_goto 75 d_K_gather_37 (by decide) ?_
            refine nx _ _ ?_ (fun q => ?_)
            · funext j
              unfold tbF
              split
              · rw [gk_s, if_neg]
                rintro ⟨-, q⟩
                have : slO (z 26 b) = -1 := by omega
                rw [this] at q
                unfold tix at q
                split at q <;> omega
              · rfl
            · rcases (gd_s b3).mp q with q | q
              · exact hd2 q
              · omega
  have l1 : ∀ (f i : Nat), i + f = 7 → WP (mth G l q_K_gather 0 0 0 (xW G y z) sz Q) 0 0 (xW G (yT y (fun j => if (t = 0 ∧ 0 ≤ j ∧ j < i) ∨ (t = 1 ∧ j < 0 ∧ -1 - j < i) then none else yt y j)) z) 2 [some (.ref (yc y (7 + t))), some (.ref (yo y h)), some (vI i), none] [] := by
    intro f
    induction f with
    | zero =>
      intro i hi
      have e : (fun j : Int => if (t = 0 ∧ 0 ≤ j ∧ j < i) ∨ (t = 1 ∧ j < 0 ∧ -1 - j < i) then none else yt y j) = tbF y z t h 0 := by
        funext j
        unfold tbF
        by_cases q : (t = 0 ∧ 0 ≤ j ∧ j < i) ∨ (t = 1 ∧ j < 0 ∧ -1 - j < i)
        · rw [if_pos q, if_pos (by omega)]; rfl
        · rw [if_neg q, if_neg (by omega)]
      rw [e]
      refine r_iload_n d_K_gather_2 rfl ?_
      refine r_bipush d_K_gather_3 (by decide) ?_
      refine r_icmp_ge 21 d_K_gather_5 (by decide) (by unfold i32; omega) (by unfold i32; omega) (fun h5 => ?_) (fun h5 => ?_)
      · refine r_aload_n d_K_gather_21 rfl rfl ?_
        refine r_getX d_K_gather_22 fl_K_17_1 (h) hh h1 rfl ?_
        have e24 : z 24 h = nxt (z 7) h (yn y) 0 := (hB.1.1 h hh.1 hh.2).1
        rw [e24]
        refine r_astore_n d_K_gather_25 (Nat.le_of_ble_eq_true rfl) rfl (isRf_rf _) ?_
        show WP _ _ _ _ _ [_, _, _, _] _
        exact lp (yn y) 0 none (by omega) (by omega) (by rintro ⟨i, j, a1, a2, a3, -⟩; omega)
      · omega
    | succ f ih =>
      intro i hi
      refine r_iload_n d_K_gather_2 rfl ?_
      refine r_bipush d_K_gather_3 (by decide) ?_
      refine r_icmp_ge 21 d_K_gather_5 (by decide) (by unfold i32; omega) (by unfold i32; omega) (fun h5 => ?_) (fun h5 => ?_)
      · omega
      · refine r_aload_n d_K_gather_8 rfl rfl ?_
        refine r_get d_K_gather_9 fl_K_11_6 (7+t) (xw_k ht) rfl ?_
        refine r_iload_n d_K_gather_12 rfl ?_
        refine r_null d_K_gather_13 ?_
        refine r_aastN _ d_K_gather_14 (9 + t) (xw_tb ht) rfl ⟨by omega, by omega, by omega⟩ (xw_tbs ht (by omega) none) ?_
        refine r_iinc d_K_gather_15 rfl (Nat.le_of_ble_eq_true rfl) rfl ?_
        show WP _ _ _ _ _ [_, _, _, _] _
        refine r_goto 2 d_K_gather_18 (by decide) ?_
        have e : updI (fun j : Int => if (t = 0 ∧ 0 ≤ j ∧ j < i) ∨ (t = 1 ∧ j < 0 ∧ -1 - j < i) then none else yt y j) (tix t i) none = (fun j : Int => if (t = 0 ∧ 0 ≤ j ∧ j < ((i + 1 : Nat) : Int)) ∨ (t = 1 ∧ j < 0 ∧ -1 - j < ((i + 1 : Nat) : Int)) then none else yt y j) := by
          funext j
          rw [updI_at]
          by_cases hj : j = tix t i
          · rw [if_pos hj, if_pos (by unfold tix at hj; split at hj <;> omega)]
          · rw [if_neg hj]
            by_cases q : (t = 0 ∧ 0 ≤ j ∧ j < i) ∨ (t = 1 ∧ j < 0 ∧ -1 - j < i)
            · rw [if_pos q, if_pos (by omega)]
            · rw [if_neg q, if_neg (by unfold tix at hj; split at hj <;> omega)]
        have := ih (i + 1) (by omega)
        rw [← e] at this
        exact this
  refine r_iconst d_K_gather_0 ?_
  refine r_istore_n d_K_gather_1 (Nat.le_of_ble_eq_true rfl) rfl ?_
  show WP _ _ _ _ _ [_, _, _, _] _
  have e : (fun j : Int => if (t = 0 ∧ 0 ≤ j ∧ j < ((0 : Nat) : Int)) ∨ (t = 1 ∧ j < 0 ∧ -1 - j < ((0 : Nat) : Int)) then none else yt y j) = yt y := by
    funext j
    rw [if_neg (by omega)]
  have := l1 7 0 rfl
  rw [e] at this
  exact this
end XGATHER
