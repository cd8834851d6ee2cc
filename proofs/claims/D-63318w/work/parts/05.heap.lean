/-! ===== cells: fields, arrays ===== -/
def updI {α : Type} (g : Int → α) (i : Int) (x : α) : Int → α := fun j => if j = i then x else g j
def aI (G : gG) (n : Nat) (g : Int → Int) : va_E := .inl (gA G 0, n, .inl (fun j : Nat => zI (g (j : Int))))
def aB (G : gG) (n : Nat) (g : Int → Int) : va_E := .inl (gA G 1, n, .inl (fun j : Nat => zB (g (j : Int))))
def aQ (G : gG) (t n : Nat) (g : Int → Option Nat) : va_E := .inl (gA G t, n, .inr (.inr (.inr (.inr (fun j : Nat => g (j : Int))))))
/-- the field of place j of class ci, as entry idx of the class own names it -/
def FL (own : String) (idx ci j : Nat) (fin : Bool) : Prop := ∃ (C : String) (T : u_T) (N : Nat) (ref : String), cls[ci]? = some (C, T, N) ∧ j < N ∧ (T j).2.2.2 = fin ∧ (Cond.fieldLink own idx ref (T j).2.1 (T j).2.2.1 ∈ gt ∨ ∃ host, Cond.fieldLinkNest own idx ref (T j).2.1 (T j).2.2.1 host ∈ nwl) ∧ (ref = (T j).1 ∨ Cond.sameField ref (T j).1 (T j).2.1 (T j).2.2.1 ∈ gt)
theorem same_of {s : State} {args : Array Value} (hts : ∀ w ∈ gt, w.before args s = true) {ref o n d : String} (h : ref = o ∨ Cond.sameField ref o n d ∈ gt) : ∀ x, s.fieldFound? o n d = some x → s.fieldFound? ref n d = some x := by
  intro x hx
  rcases h with rfl | h
  · exact hx
  · exact u_same (hts _ h) x hx
theorem nw_at {G : gG} {A : Nat → Prop} {U : State} {H : Heap} (h : Sts G A U H) {w : Cond} (hw : w ∈ nwl) {args : Array Value} : w.before args U = true := by
  have h1 := h.2.2.2.2.1 w hw
  have h2 := (List.mem_filter.mp hw).2
  cases w <;> first | (simp [isNw] at h2; done) | exact va_Nw.use rfl h1
theorem upd_zI {g : Int → Int} {i x : Int} (h0 : 0 ≤ i) (h : i < 2147483648) : upd (fun j : Nat => zI (g (j : Int))) (zI i).toNatClampNeg (zI x) = fun j : Nat => zI (updI g i x (j : Int)) := by
  rw [zI_clamp h0 h]
  funext j
  unfold upd updI
  by_cases hj : (j : Int) = i
  · rw [if_pos hj, if_pos (by omega)]
  · rw [if_neg hj, if_neg (by omega)]
theorem zB_mod (x : Int) : zB (x % 256) = zB x := by
  unfold zB zI
  rw [Int32.toInt8_ofInt, Int32.toInt8_ofInt]
  congr 1
  apply Int8.toBitVec_inj.mp
  rw [Int8.toBitVec_ofInt, Int8.toBitVec_ofInt]
  apply BitVec.eq_of_toNat_eq
  rw [BitVec.toNat_ofInt, BitVec.toNat_ofInt]
  omega
theorem zB_nar (x : Int) : vp_nar .byte (zB x) = zB x := by
  rw [vp_nar_byte]
  unfold zB
  simp
theorem upd_zB {g : Int → Int} {i x : Int} (h0 : 0 ≤ i) (h : i < 2147483648) : upd (fun j : Nat => zB (g (j : Int))) (zI i).toNatClampNeg (vp_nar .byte (zB x)) = fun j : Nat => zB (updI g i (x % 256) (j : Int)) := by
  rw [zI_clamp h0 h, zB_nar]
  funext j
  unfold upd updI
  by_cases hj : (j : Int) = i
  · rw [if_pos hj, if_pos (by omega), zB_mod]
  · rw [if_neg hj, if_neg (by omega)]
theorem zB_and (x : Int) : zB x &&& zI 255 = zI (x % 256) := by
  rw [← zB_mod]
  obtain ⟨j, hj⟩ := Int.eq_ofNat_of_zero_le (show 0 ≤ x % 256 by omega)
  rw [hj]
  have h := (sb_byte j (by omega)).1
  unfold sb_b at h
  rw [← zI_nat] at h
  exact h
theorem zI_and255 {x : Int} (h : i32 x) : zI x &&& zI 255 = zI (x % 256) := by
  rw [show zI 255 = (255 : Int32) from rfl, pk_and (zI x) 8 (by decide), ← zI_nat]
  congr 1
  unfold zI
  rw [Int32.toBitVec_ofInt, BitVec.toNat_ofInt]
  omega
section CELLS
variable {μ : Mx} {k n : Nat} {ws : va_W} {pc : Nat} {lv : List (Option Value)} {st : List Value}
theorem r_get {idx ci j a : Nat} {b : Bool} {fs : List Value} {v : Value} (hd : decode (mB μ) pc = .ok (.getfield idx, 3)) (hf : FL (mO μ) idx ci j b) (q0 : Nat) (he : ws[q0]? = some (a, .inr (ci, fs))) (hv : fs[j]? = some v) (kk : WP μ k n ws (pc + 3) lv (v :: st)) : WP μ k n ws pc lv (.ref a :: st) := by
  intro p e s m args below meth c C H locs ls hP hD hS hl
  obtain ⟨Cn, T, N, ref, hc, hj, hfin, hlk, hsm⟩ := hf
  have hok := cls_ok hc
  obtain ⟨hx, hb, hml, hr, hown, hts, hK, hSt, hA, hlocks, hE⟩ := id C
  rcases hlk with hlk | ⟨host, hlk⟩
  · exact va_get hx hb hts hok.1 hown hK hP q0 he hc j hj (hts _ hlk) (same_of hts hsm) hv hd (kk p e s m args below meth c C H locs ls hP hD hS hl)
  · exact va_getN hx hb hts hok.1 hown hK hP q0 he hc j hj (nw_at hSt hlk) (same_of hts hsm) hv hd (kk p e s m args below meth c C H locs ls hP hD hS hl)
theorem r_put {idx ci j a : Nat} {fs : List Value} {v : Value} (ws' : va_W) (hd : decode (mB μ) pc = .ok (.putfield idx, 3)) (hf : FL (mO μ) idx ci j false) (q0 : Nat) (he : ws[q0]? = some (a, .inr (ci, fs))) (hn : narrow (tyC ci j) v = v) (hfit : fits (tyC ci j) v = true) (hlen : j < fs.length) (hw : ws.set q0 (a, .inr (ci, fs.set j v)) = ws') (kk : WP μ k n ws' (pc + 3) lv st) : WP μ k n ws pc lv (v :: .ref a :: st) := by
  intro p e s m args below meth c C H locs ls hP hD hS hl
  obtain ⟨Cn, T, N, ref, hc, hj, hfin, hlk, hsm⟩ := hf
  have hok := cls_ok hc
  obtain ⟨hx, hb, hml, hr, hown, hts, hK, hSt, hA, hlocks, hE⟩ := id C
  subst hw
  rcases hlk with hlk | ⟨host, hlk⟩
  · exact va_put hx hb hts hok.1 (tyC ci) hok.2.1 hok.2.2 hown hK hP hD hS q0 he hc j hj (hts _ hlk) (same_of hts hsm) hfin (hok.2.1 j hj) hn hfit hlen hd (fun H locs hP hD hS => kk p e s m args below meth c C H locs ls hP hD hS hl)
  · exact va_putN hx hb hts hok.1 (tyC ci) hok.2.1 hok.2.2 hown hK hP hD hS q0 he hc j hj (nw_at hSt hlk) (same_of hts hsm) hfin (hok.2.1 j hj) hn hfit hlen hd (fun H locs hP hD hS => kk p e s m args below meth c C H locs ls hP hD hS hl)
/-- a final field, in its own class's constructor -/
theorem r_putF {idx ci j a : Nat} {fs : List Value} {v : Value} {T : u_T} {C0 : String} {N : Nat} (ws' : va_W) (hd : decode (mB μ) pc = .ok (.putfield idx, 3)) (hc : cls[ci]? = some (C0, T, N)) (hj : j < N) (hfin : (T j).2.2.2 = true) (hlk : Cond.fieldLink (mO μ) idx (T j).1 (T j).2.1 (T j).2.2.1 ∈ gt) (hdecl : (T j).1 = mO μ) (hin : ∀ s meth args, mE μ s meth args → meth.name = "<init>") (q0 : Nat) (he : ws[q0]? = some (a, .inr (ci, fs))) (hn : narrow (tyC ci j) v = v) (hfit : fits (tyC ci j) v = true) (hlen : j < fs.length) (hw : ws.set q0 (a, .inr (ci, fs.set j v)) = ws') (kk : WP μ k n ws' (pc + 3) lv st) : WP μ k n ws pc lv (v :: .ref a :: st) := by
  intro p e s m args below meth c C H locs ls hP hD hS hl
  have hok := cls_ok hc
  obtain ⟨hx, hb, hml, hr, hown, hts, hK, hSt, hA, hlocks, hE⟩ := id C
  subst hw
  exact va_putF hx hb hts hok.1 (tyC ci) hok.2.1 hok.2.2 hown hK hP hD hS q0 he hc j hj (hts _ hlk) (fun _ h => h) hfin (hin _ _ _ hE) hdecl (hok.2.1 j hj) hn hfit hlen hd (fun H locs hP hD hS => kk p e s m args below meth c C H locs ls hP hD hS hl)
theorem r_iald {a N : Nat} {g : Int → Int} {i : Int} (hd : decode (mB μ) pc = .ok (.iaload, 1)) (q0 : Nat) (he : ws[q0]? = some (a, aI (mG μ) N g)) (hi : 0 ≤ i ∧ i < (N : Int) ∧ N < 2147483648) (kk : WP μ k n ws (pc + 1) lv (vI (g i) :: st)) : WP μ k n ws pc lv (vI i :: .ref a :: st) := by
  intro p e s m args below meth c C H locs ls hP hD hS hl
  refine va_iald C.1 C.2.1 C.2.2.2.2.2.2.1 hP q0 0 he rfl (zI_in hi.1 hi.2.1 hi.2.2) hd ?_
  have h := kk p e s m args below meth c C H locs ls hP hD hS hl
  rw [zI_clamp hi.1 (by omega), show ((i.toNat : Nat) : Int) = i by omega]
  exact h
theorem r_bald {a N : Nat} {g : Int → Int} {i : Int} (hd : decode (mB μ) pc = .ok (.baload, 1)) (q0 : Nat) (he : ws[q0]? = some (a, aB (mG μ) N g)) (hi : 0 ≤ i ∧ i < (N : Int) ∧ N < 2147483648) (kk : WP μ k n ws (pc + 1) lv (.int (zB (g i)) :: st)) : WP μ k n ws pc lv (vI i :: .ref a :: st) := by
  intro p e s m args below meth c C H locs ls hP hD hS hl
  refine va_bald C.1 C.2.1 C.2.2.2.2.2.2.1 hP q0 1 he rfl (zI_in hi.1 hi.2.1 hi.2.2) hd ?_
  have h := kk p e s m args below meth c C H locs ls hP hD hS hl
  rw [zI_clamp hi.1 (by omega), show ((i.toNat : Nat) : Int) = i by omega]
  exact h
theorem r_aald {a N t : Nat} {Cn : String} {g : Int → Option Nat} {i : Int} (hd : decode (mB μ) pc = .ok (.aaload, 1)) (q0 : Nat) (he : ws[q0]? = some (a, aQ (mG μ) t N g)) (ht : (tysG (mG μ))[t]? = some (gA (mG μ) t, .object Cn)) (hi : 0 ≤ i ∧ i < (N : Int) ∧ N < 2147483648) (kk : WP μ k n ws (pc + 1) lv (va_rf (g i) :: st)) : WP μ k n ws pc lv (vI i :: .ref a :: st) := by
  intro p e s m args below meth c C H locs ls hP hD hS hl
  refine va_aldq C.1 C.2.1 C.2.2.2.2.2.2.1 hP q0 t he ht (zI_in hi.1 hi.2.1 hi.2.2) hd ?_
  have h := kk p e s m args below meth c C H locs ls hP hD hS hl
  rw [zI_clamp hi.1 (by omega), show ((i.toNat : Nat) : Int) = i by omega]
  exact h
theorem r_iast {a N : Nat} {g : Int → Int} {i x : Int} (ws' : va_W) (hd : decode (mB μ) pc = .ok (.iastore, 1)) (q0 : Nat) (he : ws[q0]? = some (a, aI (mG μ) N g)) (hi : 0 ≤ i ∧ i < (N : Int) ∧ N < 2147483648) (hw : ws.set q0 (a, aI (mG μ) N (updI g i x)) = ws') (kk : WP μ k n ws' (pc + 1) lv st) : WP μ k n ws pc lv (vI x :: vI i :: .ref a :: st) := by
  intro p e s m args below meth c C H locs ls hP hD hS hl
  subst hw
  refine va_iast C.1 C.2.1 C.2.2.2.2.2.2.1 hP hD hS q0 0 he rfl (zI_in hi.1 hi.2.1 hi.2.2) hd ?_
  rw [upd_zI hi.1 (by omega)]
  exact fun H locs hP hD hS => kk p e s m args below meth c C H locs ls hP hD hS hl
theorem r_bast {a N : Nat} {g : Int → Int} {i x : Int} (ws' : va_W) (hd : decode (mB μ) pc = .ok (.bastore, 1)) (q0 : Nat) (he : ws[q0]? = some (a, aB (mG μ) N g)) (hi : 0 ≤ i ∧ i < (N : Int) ∧ N < 2147483648) (hw : ws.set q0 (a, aB (mG μ) N (updI g i (x % 256))) = ws') (kk : WP μ k n ws' (pc + 1) lv st) : WP μ k n ws pc lv (.int (zB x) :: vI i :: .ref a :: st) := by
  intro p e s m args below meth c C H locs ls hP hD hS hl
  subst hw
  refine va_bast C.1 C.2.1 C.2.2.2.2.2.2.1 hP hD hS q0 1 he rfl (zI_in hi.1 hi.2.1 hi.2.2) hd ?_
  rw [upd_zB hi.1 (by omega)]
  exact fun H locs hP hD hS => kk p e s m args below meth c C H locs ls hP hD hS hl
theorem r_iand255B {x : Int} (hd : decode (mB μ) pc = .ok (.iand, 1)) (hx : 0 ≤ x ∧ x < 256) (kk : WP μ k n ws (pc + 1) lv (vI x :: st)) : WP μ k n ws pc lv (vI 255 :: .int (zB x) :: st) := by
  refine r_iandR hd ?_
  rw [zB_and, show x % 256 = x by omega]
  exact kk
theorem r_alenI {a N : Nat} {g : Int → Int} (hd : decode (mB μ) pc = .ok (.arraylength, 1)) (q0 : Nat) (he : ws[q0]? = some (a, aI (mG μ) N g)) (kk : WP μ k n ws (pc + 1) lv (vI N :: st)) : WP μ k n ws pc lv (.ref a :: st) := by
  intro p e s m args below meth c C H locs ls hP hD hS hl
  exact va_alen C.1 C.2.1 C.2.2.2.2.2.2.1 hP q0 0 he rfl (zI_nat N).symm hd (kk p e s m args below meth c C H locs ls hP hD hS hl)
theorem r_alenQ {a N t : Nat} {Cn : String} {g : Int → Option Nat} (hd : decode (mB μ) pc = .ok (.arraylength, 1)) (q0 : Nat) (he : ws[q0]? = some (a, aQ (mG μ) t N g)) (ht : (tysG (mG μ))[t]? = some (gA (mG μ) t, .object Cn)) (kk : WP μ k n ws (pc + 1) lv (vI N :: st)) : WP μ k n ws pc lv (.ref a :: st) := by
  intro p e s m args below meth c C H locs ls hP hD hS hl
  exact va_alen C.1 C.2.1 C.2.2.2.2.2.2.1 hP q0 t he ht (zI_nat N).symm hd (kk p e s m args below meth c C H locs ls hP hD hS hl)
/-- a world may be given in other words; known locals may be forgotten; the room may be rounded up -/
theorem wp_ws {ws' : va_W} (h : ws = ws') (kk : WP μ k n ws' pc lv st) : WP μ k n ws pc lv st := h ▸ kk
theorem wp_lv {lv' : List (Option Value)} (h : ∀ (i : Nat) (v : Value), lv'[i]? = some (some v) → lv[i]? = some (some v)) (kk : WP μ k n ws pc lv' st) : WP μ k n ws pc lv st :=
  fun p e s m args below meth c C H locs ls hP hD hS hl => kk p e s m args below meth c C H locs ls hP hD hS ⟨hl.1, hl.2.1, fun i v hi => hl.2.2 i v (h i v hi)⟩
def lvm : List Bool → List (Option Value) → List (Option Value)
  | true :: bs, v :: vs => v :: lvm bs vs
  | false :: bs, _ :: vs => none :: lvm bs vs
  | _, _ => []
theorem lvm_sub : ∀ (bs : List Bool) (lv : List (Option Value)) (i : Nat) (v : Value), (lvm bs lv)[i]? = some (some v) → lv[i]? = some (some v)
  | true :: bs, w :: vs, 0, v, h => h
  | true :: bs, w :: vs, i + 1, v, h => lvm_sub bs vs i v h
  | false :: bs, w :: vs, 0, v, h => by cases h
  | false :: bs, w :: vs, i + 1, v, h => lvm_sub bs vs i v h
  | [], _, i, v, h => by cases h
  | true :: _, [], i, v, h => by cases h
  | false :: _, [], i, v, h => by cases h
theorem wp_mask (bs : List Bool) {lv' : List (Option Value)} (h : lvm bs lv = lv') (kk : WP μ k n ws pc lv' st) : WP μ k n ws pc lv st := wp_lv (by subst h; exact lvm_sub bs lv) kk
theorem wp_widen {k' n' : Nat} (h1 : k ≤ k') (h2 : n ≤ n') (kk : WP μ k' n' ws pc lv st) : WP μ k n ws pc lv st :=
  fun p e s m args below meth c C H locs ls hP hD hS hl => W.widen h1 h2 (kk p e s m args below meth c C H locs ls hP hD hS hl)
end CELLS
