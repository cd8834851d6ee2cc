/-! ===== the component: its constructor ===== -/
theorem asg_self (vm : Vm) (c : ClassId) : vm.assignable c c = true := by
  unfold Vm.assignable Vm.assignableAux
  simp
theorem any_same {s : State} {H : Heap} {G : gG} {ws : va_W} {ci q0 v : Nat} {Cn : String} {T : u_T} {N : Nat} {fs : List Value} (hK : va_K (gD G) cls (tysG G) s) (hP : va_P (gD G) cls ws H) (hc : cls[ci]? = some (Cn, T, N)) (he : ws[q0]? = some (v, .inr (ci, fs))) : va_Any Cn s H v := by
  refine va_rAny hK hP he hc (fun comp c0 h1 h2 => ?_)
  have e : comp = c0 := Option.some.inj (h1.symm.trans h2)
  subst e
  exact asg_self _ _
section XAS
variable {μ : Mx} {k n : Nat} {ws : va_W} {pc : Nat} {lv : List (Option Value)} {st : List Value}
/-- an element of the array's own class -/
theorem r_aastS {a N t v ci q1 : Nat} {Cn : String} {T : u_T} {N2 : Nat} {fs : List Value} {g : Int → Option Nat} {i : Int} (ws' : va_W) (hd : decode (mB μ) pc = .ok (.aastore, 1)) (q0 : Nat) (he : ws[q0]? = some (a, aQ (mG μ) t N g)) (ht : (tysG (mG μ))[t]? = some (gA (mG μ) t, .object Cn)) (hc : cls[ci]? = some (Cn, T, N2)) (hv : ws[q1]? = some (v, .inr (ci, fs))) (hi : 0 ≤ i ∧ i < (N : Int) ∧ N < 2147483648) (hw : ws.set q0 (a, aQ (mG μ) t N (updI g i (some v))) = ws') (kk : WP μ k n ws' (pc + 1) lv st) : WP μ k n ws pc lv (.ref v :: vI i :: .ref a :: st) := by
  intro p e s m args below meth c C H locs ls hP hD hS hl
  subst hw
  obtain ⟨hx, hb, hml, hr, hown, hts, hK, hSt, hA, hlocks, hE⟩ := id C
  refine va_astqM hx hb hK hP hD hS q0 t he ht (any_same hK hP hc hv) (zI_in hi.1 hi.2.1 hi.2.2) hd ?_
  rw [upd_q hi.1 (by omega)]
  exact fun H locs hP hD hS => kk p e s m args below meth c C H locs ls hP hD hS hl
end XAS
theorem aQ_cell {G : gG} {t N : Nat} {f g : Int → Option Nat} (h : ∀ j : Nat, j < N → f j = g j) : vp_cell (gA G t) (N, .inr (.inr (.inr (.inr (fun j : Nat => f (j : Int)))))) = vp_cell (gA G t) (N, .inr (.inr (.inr (.inr (fun j : Nat => g (j : Int)))))) := by
  show arrV (gA G t) N (fun j => va_rf (f (j : Int))) = arrV (gA G t) N (fun j => va_rf (g (j : Int)))
  unfold arrV
  have e : (fun j : Fin N => va_rf (f ((j.val : Nat) : Int))) = fun j : Fin N => va_rf (g ((j.val : Nat) : Int)) := funext fun j => by rw [h j.val j.isLt]
  show ({ cls := _, slots := Array.ofFn (n := N) fun j : Fin N => va_rf (f ((j.val : Nat) : Int)), vm := .none } : Cell) = { cls := _, slots := Array.ofFn (n := N) fun j : Fin N => va_rf (g ((j.val : Nat) : Int)), vm := .none }
  rw [e]
section XAQ
variable {μ : Mx} {k n : Nat} {ws : va_W} {pc : Nat} {lv : List (Option Value)} {st : List Value}
/-- an array's elements past its end don't count -/
theorem wp_aQ {q0 a t N : Nat} {f g : Int → Option Nat} (he : ws[q0]? = some (a, aQ (mG μ) t N f)) (h : ∀ j : Nat, j < N → f j = g j) (kk : WP μ k n (ws.set q0 (a, aQ (mG μ) t N g)) pc lv st) : WP μ k n ws pc lv st := by
  intro p e s m args below meth c C H locs ls hP hD hS hl
  have hlt := (List.getElem?_eq_some_iff.mp he).1
  have hmap : (ws.set q0 (a, aQ (mG μ) t N g)).map Prod.fst = ws.map Prod.fst := by
    rw [List.map_set]
    refine List.ext_getElem? (fun j => ?_)
    rw [List.getElem?_set]
    split
    · rename_i q; subst q
      rw [List.length_map, if_pos hlt, List.getElem?_map, he]
      rfl
    · rfl
  have hat : ∀ (i : Nat) (q : Nat × va_E), (ws.set q0 (a, aQ (mG μ) t N g))[i]? = some q → (∃ q', ws[i]? = some q' ∧ q'.1 = q.1) ∧ va_at (gD (mG μ)) cls q H := by
    intro i q hi
    by_cases e : q0 = i
    · subst e
      rw [List.getElem?_set_self hlt] at hi
      have hi := Option.some.inj hi
      subst hi
      refine ⟨⟨_, he, rfl⟩, ?_⟩
      have h0 := hP q0 _ he
      show H[a]? = some (vp_cell _ _)
      have h0 : H[a]? = some (vp_cell _ _) := h0
      rw [h0, aQ_cell h]
    · rw [List.getElem?_set_ne e] at hi
      exact ⟨⟨q, hi, rfl⟩, hP i q hi⟩
  refine kk p e s m args below meth c C H locs ls (fun i q hi => (hat i q hi).2) (va_D_of (by rw [hmap]; exact va_D_nd hD) (fun q hq => ?_)) hS hl
  obtain ⟨i, hi⟩ := List.getElem?_of_mem hq
  obtain ⟨q', h1, h2⟩ := (hat i q hi).1
  rw [← h2]
  exact hD.2 i q' h1
end XAQ
