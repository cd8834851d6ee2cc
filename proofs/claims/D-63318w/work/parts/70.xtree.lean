/-! ===== the tree of boxes: children in the order of their numbers ===== -/
/-- the first of the boxes k .. k + f - 1 whose holder is h; -1 if there is none -/
def nxt (h7 : Int → Int) (h : Int) : Nat → Int → Int
  | 0, _ => -1
  | f + 1, k => if h7 k = h then k else nxt h7 h f (k + 1)
/-- the last of the boxes below n whose holder is h -/
def lst (h7 : Int → Int) (h : Int) : Nat → Int
  | 0 => -1
  | n + 1 => if h7 n = h then n else lst h7 h n
theorem nxt_b (h7 : Int → Int) (h : Int) : ∀ (f : Nat) (k : Int), nxt h7 h f k = -1 ∨ (k ≤ nxt h7 h f k ∧ nxt h7 h f k < k + f ∧ h7 (nxt h7 h f k) = h)
  | 0, k => Or.inl rfl
  | f + 1, k => by
    unfold nxt
    split
    · exact Or.inr ⟨by omega, by omega, by assumption⟩
    · rcases nxt_b h7 h f (k + 1) with e | e
      · exact Or.inl e
      · exact Or.inr ⟨by omega, by omega, e.2.2⟩
theorem nxt_none {h7 : Int → Int} {h : Int} : ∀ {f : Nat} {k : Int}, 0 ≤ k → (nxt h7 h f k = -1 ↔ ∀ j, k ≤ j → j < k + f → h7 j ≠ h)
  | 0, k, _ => ⟨fun _ j h1 h2 => by omega, fun _ => rfl⟩
  | f + 1, k, hk => by
    unfold nxt
    constructor
    · intro e j h1 h2
      split at e
      · omega
      · by_cases hj : j = k
        · subst hj; assumption
        · exact (nxt_none (by omega)).mp e j (by omega) (by omega)
    · intro hh
      rw [if_neg (hh k (by omega) (by omega))]
      exact (nxt_none (by omega)).mpr (fun j h1 h2 => hh j (by omega) (by omega))
theorem nxt_snoc {h7 : Int → Int} {h : Int} : ∀ {f : Nat} {k : Int}, 0 ≤ k → nxt h7 h (f + 1) k = if 0 ≤ nxt h7 h f k then nxt h7 h f k else if h7 (k + f) = h then k + f else -1
  | 0, k, _ => by
    show (if h7 k = h then k else -1) = if 0 ≤ (-1 : Int) then -1 else if h7 (k + (0 : Nat)) = h then k + (0 : Nat) else -1
    rw [if_neg (show ¬ (0 : Int) ≤ -1 by omega), show k + ((0 : Nat) : Int) = k by omega]
  | f + 1, k, hk => by
    unfold nxt
    by_cases h1 : h7 k = h
    · rw [if_pos h1, if_pos h1, if_pos hk]
    · rw [if_neg h1, if_neg h1, nxt_snoc (by omega), show k + 1 + (f : Int) = k + ((f + 1 : Nat) : Int) by omega]
theorem nxt_cg {h7 g7 : Int → Int} {h : Int} : ∀ {f : Nat} {k : Int}, (∀ j, k ≤ j → j < k + f → g7 j = h7 j) → nxt g7 h f k = nxt h7 h f k
  | 0, k, _ => rfl
  | f + 1, k, hh => by
    unfold nxt
    rw [hh k (by omega) (by omega), nxt_cg (fun j h1 h2 => hh j (by omega) (by omega))]
theorem lst_b (h7 : Int → Int) (h : Int) : ∀ n : Nat, lst h7 h n = -1 ∨ (0 ≤ lst h7 h n ∧ lst h7 h n < n ∧ h7 (lst h7 h n) = h)
  | 0 => Or.inl rfl
  | n + 1 => by
    unfold lst
    split
    · exact Or.inr ⟨by omega, by omega, by assumption⟩
    · rcases lst_b h7 h n with e | e
      · exact Or.inl e
      · exact Or.inr ⟨by omega, by omega, e.2.2⟩
theorem lst_cg {h7 g7 : Int → Int} {h : Int} : ∀ {n : Nat}, (∀ j, 0 ≤ j → j < n → g7 j = h7 j) → lst g7 h n = lst h7 h n
  | 0, _ => rfl
  | n + 1, hh => by
    unfold lst
    rw [hh n (by omega) (by omega), lst_cg (fun j h1 h2 => hh j h1 (by omega))]
/-- behind the last child there is none; it is a child -/
theorem lst_max (h7 : Int → Int) (h : Int) : ∀ (n : Nat) (j : Int), 0 ≤ j → j < n → h7 j = h → j ≤ lst h7 h n
  | 0, j, h0, h1, _ => by omega
  | n + 1, j, h0, h1, h2 => by
    unfold lst
    split
    · omega
    · by_cases hj : j = n
      · subst hj; contradiction
      · exact lst_max h7 h n j h0 (by omega) h2
/-- the tree as the boxes' fields say it -/
def tI (z : mS) (n : Nat) : Prop := (∀ h : Int, -1 ≤ h → h < n → z 24 h = nxt (z 7) h n 0 ∧ z 25 h = lst (z 7) h n) ∧ (∀ k : Int, 0 ≤ k → k < n → z 23 k = nxt (z 7) (z 7 k) (n - 1 - k).toNat (k + 1)) ∧ ∀ k : Int, 0 ≤ k → k < n → -1 ≤ z 7 k ∧ z 7 k < k
theorem tI_trB {z : mS} {n : Nat} (h : tI z n) (hm : z 0 2 < n) (hr : z 23 (-1) < n) : trB z n := by
  refine ⟨hm, fun k h0 h1 => ?_⟩
  obtain ⟨e1, e2⟩ := h.1 k h0 h1
  have b1 := nxt_b (z 7) k n 0
  have b2 := lst_b (z 7) k n
  refine ⟨?_, by omega, by omega⟩
  by_cases hk : k = -1
  · subst hk; exact hr
  · have e3 := h.2.1 k (by omega) h1
    have b3 := nxt_b (z 7) (z 7 k) (n - 1 - k).toNat (k + 1)
    omega
/-- Holder.take -/
def tkS (z : mS) (h k : Int) : mS := sset (if z 25 h < 0 then sset z 24 h k else sset z 23 (z 25 h) k) 25 h k
theorem tkS_o {z : mS} {h k : Int} {c : Nat} (hc : c ≠ 23 ∧ c ≠ 24 ∧ c ≠ 25) : tkS z h k c = z c := by
  unfold tkS
  rw [sset_ne hc.2.2]
  split
  · exact sset_ne hc.2.1
  · exact sset_ne hc.1
theorem tkS_24 {z : mS} {h k j : Int} : tkS z h k 24 j = if z 25 h < 0 ∧ j = h then k else z 24 j := by
  unfold tkS
  rw [sset_ne (by omega)]
  by_cases h1 : z 25 h < 0
  · rw [if_pos h1, sset_at, if_pos rfl, updI_at]
    by_cases h2 : j = h
    · rw [if_pos h2, if_pos ⟨h1, h2⟩]
    · rw [if_neg h2, if_neg (fun q => h2 q.2)]
  · rw [if_neg h1, if_neg (fun q => h1 q.1), sset_ne (by omega)]
theorem tkS_23 {z : mS} {h k j : Int} : tkS z h k 23 j = if ¬ z 25 h < 0 ∧ j = z 25 h then k else z 23 j := by
  unfold tkS
  rw [sset_ne (by omega)]
  by_cases h1 : z 25 h < 0
  · rw [if_pos h1, if_neg (fun q => q.1 h1), sset_ne (by omega)]
  · rw [if_neg h1, sset_at, if_pos rfl, updI_at]
    by_cases h2 : j = z 25 h
    · rw [if_pos h2, if_pos ⟨h1, h2⟩]
    · rw [if_neg h2, if_neg (fun q => h2 q.2)]
theorem tkS_25 {z : mS} {h k j : Int} : tkS z h k 25 j = if j = h then k else z 25 j := by
  unfold tkS
  rw [sset_at, if_pos rfl, updI_at]
  by_cases h2 : j = h
  · rw [if_pos h2, if_pos h2]
  · rw [if_neg h2, if_neg h2]
    split <;> rw [sset_ne (by omega)]
/-- taking box n into its holder keeps the tree -/
theorem tI_take {z z' : mS} {n : Nat} (ht : tI z n) (h7 : ∀ k : Int, k < n → z' 7 k = z 7 k) (h23 : ∀ k : Int, k < n → z' 23 k = z 23 k) (h24 : ∀ k : Int, k < n → z' 24 k = z 24 k) (h25 : ∀ k : Int, k < n → z' 25 k = z 25 k) (n23 : z' 23 n = -1) (n24 : z' 24 n = -1) (n25 : z' 25 n = -1) {h : Int} (hh : z' 7 n = h) (hb : -1 ≤ h ∧ h < n) : tI (tkS z' h n) (n + 1) := by
  have e7 : tkS z' h n 7 = z' 7 := tkS_o (by omega)
  obtain ⟨t1, t2, t3⟩ := ht
  have c0 : ∀ a : Int, nxt (z' 7) a n 0 = nxt (z 7) a n 0 := fun a => nxt_cg (fun j j0 j1 => h7 j (by omega))
  have cl : ∀ a : Int, lst (z' 7) a n = lst (z 7) a n := fun a => lst_cg (fun j j0 j1 => h7 j (by omega))
  have l0 := t1 h hb.1 hb.2
  have lb := lst_b (z 7) h n
  have e25 : z' 25 h = lst (z 7) h n := by rw [h25 h hb.2]; exact l0.2
  have nl : lst (z 7) h n = -1 ↔ nxt (z 7) h n 0 = -1 := by
    rw [nxt_none (by omega)]
    constructor
    · intro e j j0 j1 j2
      have := lst_max (z 7) h n j j0 (by omega) j2
      omega
    · intro hj
      rcases lb with e | e
      · exact e
      · exact absurd e.2.2 (hj _ e.1 (by omega))
  refine ⟨fun a a0 a1 => ?_, fun k k0 k1 => ?_, fun k k0 k1 => ?_⟩
  · rw [tkS_24, tkS_25, e7, nxt_snoc (by omega), c0 a]
    show _ ∧ _ = if z' 7 (n : Int) = a then (n : Int) else lst (z' 7) a n
    rw [cl a, show (0 : Int) + (n : Int) = n by omega, hh]
    by_cases ha : a = n
    · subst ha
      have w1 : ¬ ((n : Int) = h) := by omega
      have w2 : ¬ (h = (n : Int)) := by omega
      have w3 : ¬ (0 : Int) ≤ -1 := by omega
      have q1 : nxt (z 7) (n : Int) n 0 = -1 := (nxt_none (by omega)).mpr (fun j j0 j1 j2 => by have := t3 j j0 (by omega); omega)
      have q2 : lst (z 7) (n : Int) n = -1 := by
        rcases lst_b (z 7) (n : Int) n with e | e
        · exact e
        · have := t3 _ e.1 e.2.1; omega
      rw [q1, q2, n24, n25]
      simp only [w1, w2, w3, and_false, if_false, and_self]
    · obtain ⟨u1, u2⟩ := t1 a a0 (by omega)
      have b1 := nxt_b (z 7) a n 0
      rw [h24 a (by omega), h25 a (by omega), u1, u2, e25]
      by_cases hah : a = h
      · subst hah
        rw [if_pos rfl, if_pos rfl]
        refine ⟨?_, rfl⟩
        by_cases hl : lst (z 7) a n = -1
        · rw [if_pos ⟨by omega, rfl⟩, if_neg (by have := nl.mp hl; omega)]
        · rw [if_neg (fun q => by omega), if_pos (by have := mt nl.mpr hl; omega)]
      · have w2 : ¬ (h = a) := fun q => hah q.symm
        simp only [hah, w2, and_false, if_false, and_true]
        split <;> omega
  · rw [tkS_23, e7, e25]
    by_cases hk : k = n
    · subst hk
      rw [if_neg (fun q => by omega), n23, show (((n + 1 : Nat) : Int) - 1 - (n : Int)).toNat = 0 by omega]
      rfl
    · rw [h23 k (by omega), t2 k k0 (by omega), h7 k (by omega)]
      have e1 : (((n + 1 : Nat) : Int) - 1 - k).toNat = ((n : Int) - 1 - k).toNat + 1 := by omega
      rw [e1, nxt_snoc (by omega)]
      have e2 : nxt (z' 7) (z 7 k) ((n : Int) - 1 - k).toNat (k + 1) = nxt (z 7) (z 7 k) ((n : Int) - 1 - k).toNat (k + 1) := nxt_cg (fun j j0 j1 => h7 j (by omega))
      have b1 := nxt_b (z 7) (z 7 k) ((n : Int) - 1 - k).toNat (k + 1)
      rw [e2, show k + 1 + ((((n : Int) - 1 - k).toNat : Nat) : Int) = n by omega, hh]
      by_cases hl : ¬ lst (z 7) h n < 0 ∧ k = lst (z 7) h n
      · rw [if_pos hl]
        have hz : z 7 k = h := by rw [hl.2]; rcases lb with e | e; omega; exact e.2.2
        rw [hz]
        have : nxt (z 7) h ((n : Int) - 1 - k).toNat (k + 1) = -1 := (nxt_none (by omega)).mpr (fun j j0 j1 j2 => by
          have := lst_max (z 7) h n j (by omega) (by omega) j2
          omega)
        rw [this, if_neg (by omega), if_pos rfl]
      · rw [if_neg hl]
        by_cases hs : 0 ≤ nxt (z 7) (z 7 k) ((n : Int) - 1 - k).toNat (k + 1)
        · rw [if_pos hs]
        · rw [if_neg hs]
          by_cases hz : h = z 7 k
          · exfalso
            apply hl
            have hx := lst_max (z 7) h n k k0 (by omega) hz.symm
            refine ⟨by omega, ?_⟩
            rcases lb with e | e
            · omega
            · by_cases hq : k = lst (z 7) h n
              · exact hq
              · exfalso
                have hn := (nxt_none (by omega)).mp (show nxt (z 7) (z 7 k) ((n : Int) - 1 - k).toNat (k + 1) = -1 by omega) (lst (z 7) h n) (by omega) (by omega)
                exact hn (by rw [e.2.2, hz])
          · rw [if_neg hz]; omega
  · rw [e7]
    by_cases hk : k = n
    · subst hk; rw [hh]; exact hb
    · rw [h7 k (by omega)]; exact t3 k k0 (by omega)
