/-! ===== rows for boxes of the component ===== -/
def FB (own : String) (idx j : Nat) (ty : FieldType) : Prop := ∀ ci : Nat, 1 ≤ ci ∧ ci ≤ 5 → FL own idx ci j false ∧ tyC ci j = ty
def FT (own : String) (idx : Nat) : Prop := ∀ ci : Nat, 3 ≤ ci ∧ ci ≤ 5 → FL own idx ci 11 false
theorem fb5 {own : String} {idx j : Nat} {ty : FieldType} (h1 : FL own idx 1 j false) (h2 : FL own idx 2 j false) (h3 : FL own idx 3 j false) (h4 : FL own idx 4 j false) (h5 : FL own idx 5 j false) (e1 : tyC 1 j = ty) (e2 : tyC 2 j = ty) (e3 : tyC 3 j = ty) (e4 : tyC 4 j = ty) (e5 : tyC 5 j = ty) : FB own idx j ty := by
  intro ci h
  rcases (by omega : ci = 1 ∨ ci = 2 ∨ ci = 3 ∨ ci = 4 ∨ ci = 5) with rfl | rfl | rfl | rfl | rfl
  · exact ⟨h1, e1⟩
  · exact ⟨h2, e2⟩
  · exact ⟨h3, e3⟩
  · exact ⟨h4, e4⟩
  · exact ⟨h5, e5⟩
theorem ft3 {own : String} {idx : Nat} (h3 : FL own idx 3 11 false) (h4 : FL own idx 4 11 false) (h5 : FL own idx 5 11 false) : FT own idx := by
  intro ci h
  rcases (by omega : ci = 3 ∨ ci = 4 ∨ ci = 5) with rfl | rfl | rfl
  · exact h3
  · exact h4
  · exact h5
theorem bF_len (G : gG) (oa : Int → Nat) (z : mS) (k : Int) (c : Nat) : 11 ≤ (bF G oa z k c).length := by
  unfold bF; simp only [List.length_cons]; omega
theorem bF_11 {G : gG} {oa : Int → Nat} {z : mS} {k : Int} {c : Nat} (h : 3 ≤ c ∧ c ≤ 5) : (bF G oa z k c)[11]? = some (vI (z 17 k)) := by
  rcases (by omega : c = 3 ∨ c = 4 ∨ c = 5) with rfl | rfl | rfl <;> rfl
section XROWS
variable {μ : Mx} {k n : Nat} {y : xP} {z : mS} {pc : Nat} {lv : List (Option Value)} {st : List Value}
theorem r_getB {idx j : Nat} {ty : FieldType} {v : Value} (hd : decode (mB μ) pc = .ok (.getfield idx, 3)) (hf : FB (mO μ) idx j ty) (kb : Int) (hk : -1 ≤ kb ∧ kb < yn y) (hc : 1 ≤ z 27 kb ∧ z 27 kb ≤ 5) (hv : (bF (mG μ) (yo y) z kb (z 27 kb).toNat)[j]? = some v) (kk : WP μ k n (xW (mG μ) y z) (pc + 3) lv (v :: st)) : WP μ k n (xW (mG μ) y z) pc lv (.ref (yo y kb) :: st) :=
  r_get hd (hf _ (by omega)).1 _ (xw_b hk) hv kk
theorem r_getT {idx : Nat} (hd : decode (mB μ) pc = .ok (.getfield idx, 3)) (hf : FT (mO μ) idx) (kb : Int) (hk : -1 ≤ kb ∧ kb < yn y) (hc : 3 ≤ z 27 kb ∧ z 27 kb ≤ 5) (kk : WP μ k n (xW (mG μ) y z) (pc + 3) lv (vI (z 17 kb) :: st)) : WP μ k n (xW (mG μ) y z) pc lv (.ref (yo y kb) :: st) :=
  r_get hd (hf _ (by omega)) _ (xw_b hk) (bF_11 (by omega)) kk
theorem r_getX {idx ci j : Nat} {v : Value} (hd : decode (mB μ) pc = .ok (.getfield idx, 3)) (hf : FL (mO μ) idx ci j false) (kb : Int) (hk : -1 ≤ kb ∧ kb < yn y) (hc : z 27 kb = ci) (hv : (bF (mG μ) (yo y) z kb ci)[j]? = some v) (kk : WP μ k n (xW (mG μ) y z) (pc + 3) lv (v :: st)) : WP μ k n (xW (mG μ) y z) pc lv (.ref (yo y kb) :: st) := by
  have e : (z 27 kb).toNat = ci := by omega
  refine r_get (ci := ci) hd hf _ (by rw [← e]; exact xw_b hk) hv kk
theorem r_putB {idx j c : Nat} {ty : FieldType} {v : Value} {x : Int} (hd : decode (mB μ) pc = .ok (.putfield idx, 3)) (hf : FB (mO μ) idx j ty) (kb : Int) (hk : -1 ≤ kb ∧ kb < yn y) (hc : 1 ≤ z 27 kb ∧ z 27 kb ≤ 5) (hcl : (bcl c && Nat.blt j 11) = true) (hn : narrow ty v = v) (hfit : fits ty v = true) (hb : bC (mG μ) (yo y) (sset z c kb x) kb = (yo y kb, .inr ((z 27 kb).toNat, (bF (mG μ) (yo y) z kb (z 27 kb).toNat).set j v))) (kk : WP μ k n (xW (mG μ) y (sset z c kb x)) (pc + 3) lv st) : WP μ k n (xW (mG μ) y z) pc lv (v :: .ref (yo y kb) :: st) := by
  have h1 := hf (z 27 kb).toNat (by omega)
  obtain ⟨h2, h3⟩ := Bool.and_eq_true_iff.mp hcl
  refine r_put _ hd h1.1 _ (xw_b hk) (by rw [h1.2]; exact hn) (by rw [h1.2]; exact hfit) (Nat.lt_of_lt_of_le (Nat.blt_eq.mp h3) (bF_len _ _ _ _ _)) ?_ kk
  rw [← hb]
  exact xw_sb h2 hk
/-- a field of a class's own -/
theorem r_putX {idx ci i c : Nat} {v : Value} {x : Int} (hd : decode (mB μ) pc = .ok (.putfield idx, 3)) (hf : FL (mO μ) idx ci (11 + i) false) (kb : Int) (hk : -1 ≤ kb ∧ kb < yn y) (hc : z 27 kb = ci) (hcl : bcl c = true) (hcc : c ∈ [17, 18, 19, 24, 25]) (hn : narrow (tyC ci (11 + i)) v = v) (hfit : fits (tyC ci (11 + i)) v = true) (hlen : 11 + i < (bF (mG μ) (yo y) z kb ci).length) (hb : bX (yo y) (sset z c kb x) kb ci = (bX (yo y) z kb ci).set i v) (kk : WP μ k n (xW (mG μ) y (sset z c kb x)) (pc + 3) lv st) : WP μ k n (xW (mG μ) y z) pc lv (v :: .ref (yo y kb) :: st) := by
  have e : (z 27 kb).toNat = ci := by omega
  subst e
  refine r_put _ hd hf _ (xw_b hk) hn hfit hlen ?_ kk
  rw [← bs_x hcc hb]
  exact xw_sb hcl hk
theorem r_putT {idx : Nat} {x : Int} (hd : decode (mB μ) pc = .ok (.putfield idx, 3)) (hf : FT (mO μ) idx) (kb : Int) (hk : -1 ≤ kb ∧ kb < yn y) (hc : 3 ≤ z 27 kb ∧ z 27 kb ≤ 5) (kk : WP μ k n (xW (mG μ) y (sset z 17 kb x)) (pc + 3) lv st) : WP μ k n (xW (mG μ) y z) pc lv (vI x :: .ref (yo y kb) :: st) := by
  rcases (by omega : z 27 kb = (3 : Nat) ∨ z 27 kb = (4 : Nat) ∨ z 27 kb = (5 : Nat)) with h | h | h
  · exact r_putX (i := 0) (c := 17) hd (hf 3 (by omega)) kb hk h rfl (by decide) rfl rfl (Nat.le_of_ble_eq_true rfl) (by simp only [bX, sset_eq, List.set_cons_zero]) kk
  · exact r_putX (i := 0) (c := 17) hd (hf 4 (by omega)) kb hk h rfl (by decide) rfl rfl (Nat.le_of_ble_eq_true rfl) (by simp only [bX, sset_eq, List.set_cons_zero]; rfl) kk
  · exact r_putX (i := 0) (c := 17) hd (hf 5 (by omega)) kb hk h rfl (by decide) rfl rfl (Nat.le_of_ble_eq_true rfl) (by simp only [bX, sset_eq, List.set_cons_zero]) kk
end XROWS
theorem rN_nn {oa : Int → Nat} {i : Int} (h : 0 ≤ i) : rN oa i = some (oa i) := by unfold rN; rw [if_neg (by omega)]
theorem rN_neg {oa : Int → Nat} {i : Int} (h : i < 0) : rN oa i = none := by unfold rN; rw [if_pos h]
theorem rK_nn {G : gG} {i : Int} (h : 0 ≤ i) : rK G i = some (gE G i.toNat) := by unfold rK; rw [if_neg (by omega)]
