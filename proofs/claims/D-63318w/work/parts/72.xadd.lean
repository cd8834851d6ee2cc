/-! ===== the component: the list of boxes; what is known while boxes are read ===== -/
def gO (oa : Int → Nat) (n : Int) : Int → Option Nat := fun i => if 0 ≤ i ∧ i < n then some (oa i) else none
theorem gO_succ (oa : Int → Nat) {n : Int} (h : 0 ≤ n) : updI (gO oa n) n (some (oa n)) = gO oa (n + 1) := by
  funext i
  rw [updI_at]
  unfold gO
  by_cases h1 : i = n
  · subst h1; rw [if_pos rfl, if_pos (by omega)]
  · rw [if_neg h1]
    by_cases h2 : 0 ≤ i ∧ i < n
    · rw [if_pos h2, if_pos (by omega)]
    · rw [if_neg h2, if_neg (by omega)]
theorem gO_cg {oa oa' : Int → Nat} {n : Int} (h : ∀ i, 0 ≤ i → i < n → oa' i = oa i) : gO oa' n = gO oa n := by
  funext i
  unfold gO
  split
  · rename_i hi; rw [h i hi.1 hi.2]
  · rfl
/-- the list holds the boxes below n -/
def elO (G : gG) (y : xP) (n : Int) : Prop := (yE y = [] ∧ ye y = gS G 0 ∧ n = 0) ∨ ∃ N : Nat, yE y = [(ye y, aQ G 5 N (gO (yo y) n))] ∧ 10 ≤ N ∧ N ≤ 28 ∧ 0 ≤ n ∧ n ≤ N
abbrev yL (y : xP) (ea : Nat) (E : va_W) : xP := (yc y, yo y, yk y, yn y, yR y, ea, E, yt y)
section XADD
variable (G : gG) (l : Launch) (y : xP)
theorem c_X_add (z : mS) (n : Int) (h1 : z 0 1 = n) (h19 : 0 ≤ n ∧ n ≤ 19) (hn : n < yn y) (hcl : ∀ k : Int, 0 ≤ k → k < yn y → 1 ≤ z 27 k ∧ z 27 k ≤ 5) (hE : elO G y n) : Ct G l q_A_add1 6 1 28 [.ref (yc y 3), .ref (yo y n)] (xW G y z) (fun r w => r = some (vI 1) ∧ ∃ (ea N : Nat), w = xW G (yL y ea [(ea, aQ G 5 N (gO (yo y) (n + 1)))]) (sset (sset z 0 7 (z 0 7 + 1)) 0 1 (n + 1)) ∧ 10 ≤ N ∧ N ≤ 28 ∧ n + 1 ≤ N) := by
  have e0 : xW G y z = (xH G y z ++ (xB G (yo y) z (yn y) ++ yR y)) ++ yE y := by rw [xW_eq, List.append_assoc, List.append_assoc]
  have hat : ∀ k : Int, 0 ≤ k → k < yn y → (xH G y z ++ (xB G (yo y) z (yn y) ++ yR y))[(13 + k).toNat]? = some (yo y k, .inr ((z 27 k).toNat, bF G (yo y) z k (z 27 k).toNat)) := by
    intro k k0 k1
    rw [show (13 + k).toNat = (k + 1).toNat + 12 by omega]
    show (xB G (yo y) z (yn y) ++ yR y)[(k + 1).toNat]? = _
    exact app_l (xB_at ⟨by omega, k1⟩)
  rw [e0]
  have hel : elB (xH G y z ++ (xB G (yo y) z (yn y) ++ yR y)) (gO (yo y) n) := by
    intro i a ha
    unfold gO at ha
    split at ha
    · rename_i hi
      have := hcl i hi.1 (by omega)
      exact ⟨_, _, _, by rw [← Option.some.inj ha]; exact hat i hi.1 (by omega), by omega, by omega⟩
    · cases ha
  have hE2 : elE G (xH G y z ++ (xB G (yo y) z (yn y) ++ yR y)) (yE y) (ye y) (z 0 1) (gO (yo y) n) := by
    rw [h1]
    rcases hE with h | ⟨N, a1, a2, a3, a4, a5⟩
    · exact Or.inl h
    · exact Or.inr ⟨N, a1, a2, a3, a4, a5, hel⟩
  have hcn := hcl n h19.1 hn
  refine (c_A_add1 G l (xH G y z ++ (xB G (yo y) z (yn y) ++ yR y)) (yE y) 3 (yc y 3) (ye y) (yo y n) (13 + n).toNat (z 27 n).toNat (z 0 7) (z 0 1) (gO (yo y) n) _ rfl hE2 (fun i a ha => ?_) (hat n h19.1 hn) (by omega) (by omega) (by omega)).post ?_
  · unfold gO at ha
    split at ha
    · rw [h1]; assumption
    · cases ha
  · rintro r w ⟨e1, ea, N, e2, e3, e4, e5, e6⟩
    refine ⟨e1, ea, N, ?_, e3, e4, by omega⟩
    rw [e2, h1, gO_succ _ h19.1]
    generalize hz : sset (sset z 0 7 (z 0 7 + 1)) 0 1 (n + 1) = z1
    have ex : (xH G y z ++ (xB G (yo y) z (yn y) ++ yR y)).set 3 (yc y 3, .inr (8, [vI (z 0 7 + 1), .ref ea, vI (n + 1)])) = xH G (yL y ea [(ea, aQ G 5 N (gO (yo y) (n + 1)))]) z1 ++ (xB G (yo y) z1 (yn y) ++ yR y) := by rw [← hz]; rfl
    rw [ex, List.append_assoc, List.append_assoc]
    rfl
end XADD
