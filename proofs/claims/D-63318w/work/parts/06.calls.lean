/-! ===== contracts: a method over one world; calls ===== -/
/-- a method: its name, bytes, locals, answer -/
abbrev Mi : Type := MethodName × ByteArray × Nat × Option FieldType
def rmD (d mc ms : Nat) : Room := { frames := d, cells := mc, slots := ms, locals := 40 * d }
def Qx (G : gG) (ws0 : va_W) (sz : Nat) (Q : Option Value → va_W → Prop) : Array Value → State → Outcome → State → Prop := fun _ st o t => (∃ (r : Option Value) (ws' : va_W), o = .returned r ∧ Q r ws' ∧ va_P (gD G) cls ws' t.heap ∧ va_D (va_A ws0 sz) ws') ∧ va_F (va_A ws0 sz) st t
def Pcx (G : gG) (av : List Value) (ws : va_W) (sz : Nat) : Array Value → State → Prop := va_Pc av (fun U => U.heap.size = sz ∧ va_P (gD G) cls ws U.heap ∧ va_K (gD G) cls (tysG G) U ∧ va_D (va_A ws sz) ws ∧ Sts G (va_A ws sz) U U.heap)
/-- THE CONTRACT of the method M: from any heap that holds the world ws, with the arguments av, it returns r with the world ws', and 'Q r ws'' holds; d frames, mc cells of ms slots at most -/
def Ct (G : gG) (l : Launch) (M : Mi) (d mc ms : Nat) (av : List Value) (ws : va_W) (Q : Option Value → va_W → Prop) : Prop := ∀ sz : Nat, Met l M.1 (.code M.1 M.2.1 M.2.2.1 M.2.2.2 :: gt) (rmD d mc ms) (Pcx G av ws sz) (Qx G ws sz Q) mc ms (va_A ws sz)
def mth (G : gG) (l : Launch) (M : Mi) (d mc ms : Nat) (ws0 : va_W) (sz : Nat) (Q : Option Value → va_W → Prop) : Mx := (G, l, M.1.cls, M.2.1, M.2.2.1, M.2.2.2, rmD d mc ms, va_A ws0 sz, fun _ meth _ => meth.name = M.1.name, fun below args s => MQ below (Qx G ws0 sz Q) args s mc ms (va_A ws0 sz))
def lvA (nL : Nat) (av : List Value) : List (Option Value) := let l := av.flatMap (fun v => if v.category = 2 then [some v, none] else [some v]); l ++ List.replicate (nL - l.length) none
def sl2 : Slot → Option Value
  | .val v => some v
  | _ => none
theorem sl2_map : ∀ vs : List Value, (lg_sl vs).map sl2 = vs.flatMap (fun v => if v.category = 2 then [some v, none] else [some v])
  | [] => rfl
  | v :: vs => by
    have ih := sl2_map vs
    simp only [lg_sl, List.flatMap_cons, List.map_append] at ih ⊢
    rw [ih]
    by_cases h : v.category = 2 <;> simp [h, sl2]
theorem lvA_lh (nL : Nat) (av : List Value) (h : (lg_sl av).length ≤ nL) : lh ((lg_sl av ++ List.replicate (nL - (lg_sl av).length) Slot.unset).toArray) nL (lvA nL av) := by
  have h1 := lv_entry av (n := nL) h
  refine ⟨h1.1, h1.2.1, fun i v hi => ?_⟩
  have hm := sl2_map av
  unfold lvA at hi
  rw [← hm] at hi
  simp only [List.length_map] at hi
  have hu : List.replicate (nL - (lg_sl av).length) (none : Option Value) = (List.replicate (nL - (lg_sl av).length) Slot.unset).map sl2 := by simp [sl2]
  rw [hu, ← List.map_append, List.getElem?_map] at hi
  rw [List.getElem?_toArray]
  cases hs : (lg_sl av ++ List.replicate (nL - (lg_sl av).length) Slot.unset)[i]? with
  | none => rw [hs] at hi; cases hi
  | some x =>
    rw [hs] at hi
    have hx : sl2 x = some v := Option.some.inj hi
    cases x <;> simp [sl2] at hx
    rw [hx]
theorem Ct.intro {G : gG} {l : Launch} {M : Mi} {d mc ms : Nat} {av : List Value} {ws : va_W} {Q : Option Value → va_W → Prop} (lv : List (Option Value)) (hp : plainName M.1.cls = true) (hav : (lg_sl av).length ≤ M.2.2.1) (hlv : lvA M.2.2.1 av = lv)
    (h : ∀ sz : Nat, WP (mth G l M d mc ms ws sz Q) 0 0 ws 0 lv []) : Ct G l M d mc ms av ws Q := by
  intro sz
  refine Met.ofW (cc := M.2.1) (maxL := M.2.2.1) (ret := M.2.2.2) hp rfl ?_
  intro p e s m args below meth c s₁ B hml hv
  obtain ⟨rfl, hsz, hP, hK, hD, hSt⟩ := hv
  have hts0 := atoms_spec (ws := .code M.1 M.2.1 M.2.2.1 M.2.2.2 :: gt) B.pre
  have hts : ∀ w ∈ gt, w.before av.toArray s = true := fun w hw => hts0 w (List.mem_cons_of_mem _ hw)
  rw [lg_entry_eq]
  subst hlv
  exact h sz p e s m av.toArray below meth c ⟨B.exec, B.bytes, hml, B.returns, findClass_of_methodNamed B.named, hts, hK, hSt, fun q hq => Or.inr (by omega), B.notSynchronized, (name_of_methodNamed B.named B.method).1⟩ s.heap [] _ hP hD va_S.rf (lvA_lh _ _ hav)
section RETS
variable {G : gG} {l : Launch} {M : Mi} {d mc ms : Nat} {ws0 : va_W} {sz : Nat} {Q : Option Value → va_W → Prop} {k n : Nat} {ws : va_W} {pc : Nat} {lv : List (Option Value)}
theorem r_iret {v : Int32} (hd : decode M.2.1 pc = .ok (.ireturn, 1)) (hr : M.2.2.2 = some .int) (hk : k ≤ mc) (hn : n ≤ ms) (hq : Q (some (.int v)) ws) : WP (mth G l M d mc ms ws0 sz Q) k n ws pc lv [.int v] := by
  intro p e s m args below meth c C H locs ls hP hD hS hl
  refine W.widen hk hn ?_
  have hlocks : meth.locks = false := C.2.2.2.2.2.2.2.2.2.1
  exact W.iret C.1 C.2.1 (C.2.2.2.1.trans hr) (fun t ht _ => ⟨⟨_, ws, rfl, hq, by rw [ht]; exact hP, hD⟩, hS.F ht⟩) hS.2.2 hd
theorem r_zret {v : Int} (hd : decode M.2.1 pc = .ok (.ireturn, 1)) (hr : M.2.2.2 = some .boolean) (hv : v = 0 ∨ v = 1) (hk : k ≤ mc) (hn : n ≤ ms) (hq : Q (some (vI v)) ws) : WP (mth G l M d mc ms ws0 sz Q) k n ws pc lv [vI v] := by
  intro p e s m args below meth c C H locs ls hP hD hS hl
  refine W.widen hk hn ?_
  have hlocks : meth.locks = false := C.2.2.2.2.2.2.2.2.2.1
  exact W.zret C.1 C.2.1 (C.2.2.2.1.trans hr) (by rcases hv with rfl | rfl <;> rfl) (fun t ht _ => ⟨⟨_, ws, rfl, hq, by rw [ht]; exact hP, hD⟩, hS.F ht⟩) hS.2.2 hd
theorem r_aret {v : Value} {rt : FieldType} (hd : decode M.2.1 pc = .ok (.areturn, 1)) (hr : M.2.2.2 = some rt) (hrt : (∃ n, rt = .object n) ∨ ∃ t, rt = .array t) (hv : isRf v = true) (hk : k ≤ mc) (hn : n ≤ ms) (hq : Q (some v) ws) : WP (mth G l M d mc ms ws0 sz Q) k n ws pc lv [v] := by
  intro p e s m args below meth c C H locs ls hP hD hS hl
  refine W.widen hk hn ?_
  have hlocks : meth.locks = false := C.2.2.2.2.2.2.2.2.2.1
  exact W.aret C.1 C.2.1 (C.2.2.2.1.trans hr) hrt (by cases v <;> first | (cases hv; done) | exact Or.inl rfl | exact Or.inr ⟨_, rfl⟩) (fun t ht _ => ⟨⟨_, ws, rfl, hq, by rw [ht]; exact hP, hD⟩, hS.F ht⟩) hS.2.2 hd
theorem r_vret (hd : decode M.2.1 pc = .ok (.return_, 1)) (hr : M.2.2.2 = none) (hk : k ≤ mc) (hn : n ≤ ms) (hq : Q none ws) : WP (mth G l M d mc ms ws0 sz Q) k n ws pc lv [] := by
  intro p e s m args below meth c C H locs ls hP hD hS hl
  refine W.widen hk hn ?_
  have hlocks : meth.locks = false := C.2.2.2.2.2.2.2.2.2.1
  exact W.vret C.1 C.2.1 (C.2.2.2.1.trans hr) (fun t ht _ => ⟨⟨_, ws, rfl, hq, by rw [ht]; exact hP, hD⟩, hS.F ht⟩) hS.2.2 hd
end RETS
theorem Pcx.blind {G : gG} {av : List Value} {ws : va_W} {sz : Nat} : FrameBlind (Pcx G av ws sz) := by
  intro a U g mk q
  obtain ⟨q0, q1, qP, qK, qD, qS⟩ := q
  exact ⟨q0, q1, qP, va_K.moved (u := U) (U := U.calling g mk a) (Vm.Alike.refl U.vm) qK, qD, qS.calling⟩
section GOES
variable {μ : Mx} {k n : Nat} {ws : va_W} {pc : Nat} {lv : List (Option Value)} {rest st0 : List Value}
variable {p : Program} {e : Env} {s : State} {m : MethodId} {args : Array Value} {below : List Frame} {meth : Method} {c : Code} {H : Heap} {locs : List Loc} {ls : Array Slot}
theorem call_pre {A : Nat → Prop} {G : gG} {av : List Value} (hK : va_K (gD G) cls (tysG G) s) (hSt : Sts G A s s.heap) (hA : ∀ q, s.heap.size ≤ q → A q) (hP : va_P (gD G) cls ws H) (hD : va_D A ws) (hS : va_S A s.heap H locs) : ∀ U : State, U.heap = H → s.WarmedH U.vm → Pcx G av ws H.size av.toArray U := by
  intro U hU hW
  have hAB : ∀ q, va_A ws H.size q → A q := by
    rintro q (⟨i, x, hi⟩ | h)
    · exact hD.2 i _ hi
    · exact hA q (Nat.le_trans hS.1 h)
  exact ⟨rfl, by rw [hU], by rw [hU]; exact hP, va_K.moved hW.alike hK, hD.self, hSt.go hS hU hW hAB⟩
/-- behind a call -/
theorem call_go {mc ms : Nat} {Q : Option Value → va_W → Prop} {a : Array Value} (C : Cx μ p s m args meth c) (hD : va_D (mA μ) ws) (hS : va_S (mA μ) s.heap H locs) (hl : lh ls (mN μ) lv)
    (hr : va_Run p (mL μ) e (mR μ) s m args below meth c H locs k n mc ms (F0 m pc ls st0) rest (Qx (mG μ) ws H.size Q a) (va_A ws H.size)) (kk : ∀ (r : Option Value) (ws' : va_W), Q r ws' → WP μ (k + mc) (n + ms) ws' (pc + 3) lv (r.toList ++ rest)) :
    W p (mL μ) e (mR μ) s m args below meth c H locs k n (mZ μ below args s) (F0 m pc ls st0) := by
  have hAB : ∀ q, va_A ws H.size q → mA μ q := by
    rintro q (⟨i, x, hi⟩ | h)
    · exact hD.2 i _ hi
    · exact C.2.2.2.2.2.2.2.2.1 q (Nat.le_trans hS.1 h)
  intro T hT X
  obtain ⟨v, st₀, t, T', L, h0, X', hL, e1, e2, ⟨⟨r, ws', hv, hq, hP', hD'⟩, hz, hk⟩, st⟩ := hr T hT X
  cases hv
  rw [h0] at hz hk
  have hS' : va_S (mA μ) s.heap t.heap (locs ++ L) := ⟨Nat.le_trans hS.1 hz, fun q h1 h2 => (hk q (Nat.lt_of_lt_of_le h1 hS.1) (fun h => h2 (hAB q h))).trans (hS.2.1 q h1 h2), fun q hq' => by
    rcases List.mem_append.mp hq' with h | h
    · exact hS.2.2 q h
    · exact hAB _ (hL q h)⟩
  obtain ⟨t2, a1, b1⟩ := kk _ ws' hq p e s m args below meth c C t.heap (locs ++ L) ls hP' (hD'.weaken (fun _ _ _ h => hAB _ h)) hS' hl T' e1 X'
  exact ⟨t2, st t2 a1, b1⟩
theorem call_go5 {mc ms : Nat} {Q : Option Value → va_W → Prop} {a : Array Value} (C : Cx μ p s m args meth c) (hD : va_D (mA μ) ws) (hS : va_S (mA μ) s.heap H locs) (hl : lh ls (mN μ) lv)
    (hr : va_Run5 p (mL μ) e (mR μ) s m args below meth c H locs k n mc ms (F0 m pc ls st0) rest (Qx (mG μ) ws H.size Q a) (va_A ws H.size)) (kk : ∀ (r : Option Value) (ws' : va_W), Q r ws' → WP μ (k + mc) (n + ms) ws' (pc + 5) lv (r.toList ++ rest)) :
    W p (mL μ) e (mR μ) s m args below meth c H locs k n (mZ μ below args s) (F0 m pc ls st0) := by
  have hAB : ∀ q, va_A ws H.size q → mA μ q := by
    rintro q (⟨i, x, hi⟩ | h)
    · exact hD.2 i _ hi
    · exact C.2.2.2.2.2.2.2.2.1 q (Nat.le_trans hS.1 h)
  intro T hT X
  obtain ⟨v, st₀, t, T', L, h0, X', hL, e1, e2, ⟨⟨r, ws', hv, hq, hP', hD'⟩, hz, hk⟩, st⟩ := hr T hT X
  cases hv
  rw [h0] at hz hk
  have hS' : va_S (mA μ) s.heap t.heap (locs ++ L) := ⟨Nat.le_trans hS.1 hz, fun q h1 h2 => (hk q (Nat.lt_of_lt_of_le h1 hS.1) (fun h => h2 (hAB q h))).trans (hS.2.1 q h1 h2), fun q hq' => by
    rcases List.mem_append.mp hq' with h | h
    · exact hS.2.2 q h
    · exact hAB _ (hL q h)⟩
  obtain ⟨t2, a1, b1⟩ := kk _ ws' hq p e s m args below meth c C t.heap (locs ++ L) ls hP' (hD'.weaken (fun _ _ _ h => hAB _ h)) hS' hl T' e1 X'
  exact ⟨t2, st t2 a1, b1⟩
end GOES
theorem good_gt : GoodIn gt gt := fun w hw => ⟨hw, gt_good hw⟩
theorem good_app {xs : List Cond} {w0 : Cond} (h0 : w0 ∈ gt) (h : ∀ w ∈ xs, w ∈ gt) : GoodIn gt (xs ++ w0 :: gt) := by
  intro w hw
  have : w ∈ gt := by
    rcases List.mem_append.mp hw with q | q
    · exact h w q
    · rcases List.mem_cons.mp q with rfl | q
      · exact h0
      · exact q
  exact ⟨this, gt_good this⟩
/-- an ordinary virtual call of a method of the receiver's own class -/
def LkV (own : String) (idx : Nat) (M : Mi) (na : Nat) : Prop := (∀ w ∈ ([.methodLink own idx M.1, .instanceMethod M.1, .selects M.1.cls M.1 M.1, .initialized M.1.cls] : List Cond), w ∈ gt) ∧ Cond.code M.1 M.2.1 M.2.2.1 M.2.2.2 ∈ gt ∧ (M.1.cls = M.1.cls ∧ M.1.cls ≠ "java/lang/invoke/MethodHandle" ∧ M.1.cls ≠ "java/lang/invoke/VarHandle" ∧ (parseMethodDescriptor M.1.desc).map (fun d => d.parameters.length) = some na)
def LkS (own : String) (idx : Nat) (M : Mi) (na : Nat) : Prop := (∀ w ∈ ([.methodLink own idx M.1, .static M.1, .initialized M.1.cls] : List Cond), w ∈ gt) ∧ Cond.code M.1 M.2.1 M.2.2.1 M.2.2.2 ∈ gt ∧ (M.1.cls ≠ "java/lang/invoke/MethodHandle" ∧ M.1.cls ≠ "java/lang/invoke/VarHandle" ∧ (parseMethodDescriptor M.1.desc).map (fun d => d.parameters.length) = some na)
def rOk (R : Room) (nL d : Nat) : Prop := d + 1 ≤ R.frames ∧ 8 + (nL + 11) + 40 * d ≤ R.locals
section CALLS
variable {μ : Mx} {k n : Nat} {ws : va_W} {pc : Nat} {lv : List (Option Value)} {rest : List Value} {idx d mc ms na : Nat} {M : Mi} {As : List Value} {b : Nat} {Q : Option Value → va_W → Prop}
theorem r_callV (hd : decode (mB μ) pc = .ok (.invokevirtual idx, 3)) (lk : LkV (mO μ) idx M na) (ct : Ct (mG μ) (mL μ) M d mc ms (.ref b :: As) ws Q) {ci q0 : Nat} {fs : List Value} {T : u_T} {N : Nat} (hc : cls[ci]? = some (M.1.cls, T, N)) (he : ws[q0]? = some (b, .inr (ci, fs))) (hn : As.length = na) (hrest : (rest.map fun v => v.category).sum ≤ 8) (hR : rOk (mR μ) M.2.2.1 d) (hf : k + mc ≤ (mR μ).cells ∧ n + ms ≤ (mR μ).slots)
    (kk : ∀ (r : Option Value) (ws' : va_W), Q r ws' → WP μ (k + mc) (n + ms) ws' (pc + 3) lv (r.toList ++ rest)) : WP μ k n ws pc lv (As.reverse ++ .ref b :: rest) := by
  intro p e s m args below meth c C H locs ls hP hD hS hl
  obtain ⟨hx, hb, hml, hr, hown, hts, hK, hSt, hA, hlocks, hE⟩ := id C
  exact call_go C hD hS hl (va_runV (C := M.1.cls) ⟨hx, hb, hml, hown, hts⟩ (ct H.size) (cwV na hts (good_app lk.2.1 lk.1) rfl rfl rfl lk.2.2 hR) ⟨Pcx.blind, va_recv hK hP hc he, call_pre hK hSt hA hP hD hS⟩ rfl hn hl.1 rfl (lv_room hrest) hd hf) kk
theorem r_callS (hd : decode (mB μ) pc = .ok (.invokestatic idx, 3)) (lk : LkS (mO μ) idx M na) (ct : Ct (mG μ) (mL μ) M d mc ms As ws Q) (hn : As.length = na) (hrest : (rest.map fun v => v.category).sum ≤ 8) (hR : rOk (mR μ) M.2.2.1 d) (hf : k + mc ≤ (mR μ).cells ∧ n + ms ≤ (mR μ).slots)
    (kk : ∀ (r : Option Value) (ws' : va_W), Q r ws' → WP μ (k + mc) (n + ms) ws' (pc + 3) lv (r.toList ++ rest)) : WP μ k n ws pc lv (As.reverse ++ rest) := by
  intro p e s m args below meth c C H locs ls hP hD hS hl
  obtain ⟨hx, hb, hml, hr, hown, hts, hK, hSt, hA, hlocks, hE⟩ := id C
  exact call_go C hD hS hl (va_runS ⟨hx, hb, hml, hown, hts⟩ (ct H.size) (va_cwS na hts (good_app lk.2.1 lk.1) rfl rfl rfl lk.2.2 hR) ⟨Pcx.blind, call_pre hK hSt hA hP hD hS⟩ rfl hn hl.1 rfl (lv_room hrest) hd hf) kk
end CALLS
/-! calls by the number of arguments, of methods that make no cell -/
theorem rok {R : Room} {nL d : Nat} (h1 : Nat.ble (d + 1) R.frames = true) (h2 : Nat.ble (8 + (nL + 11) + 40 * d) R.locals = true) : rOk R nL d := ⟨Nat.le_of_ble_eq_true h1, Nat.le_of_ble_eq_true h2⟩
section CALLZ
variable {μ : Mx} {k n : Nat} {ws : va_W} {pc : Nat} {lv : List (Option Value)} {rest : List Value} {idx d : Nat} {M : Mi} {b : Nat} {Q : Option Value → va_W → Prop} {x1 x2 x3 x4 : Value}
theorem r_cV0 (hd : decode (mB μ) pc = .ok (.invokevirtual idx, 3)) (lk : LkV (mO μ) idx M 0) (ct : Ct (mG μ) (mL μ) M d 0 0 (.ref b :: []) ws Q) {ci : Nat} (q0 : Nat) {fs : List Value} {T : u_T} {N : Nat} (hc : cls[ci]? = some (M.1.cls, T, N)) (he : ws[q0]? = some (b, .inr (ci, fs))) (hrest : (rest.map fun v => v.category).sum ≤ 8) (hR : rOk (mR μ) M.2.2.1 d) (hf : k ≤ (mR μ).cells ∧ n ≤ (mR μ).slots) (kk : ∀ (r : Option Value) (ws' : va_W), Q r ws' → WP μ k n ws' (pc + 3) lv (r.toList ++ rest)) : WP μ k n ws pc lv (.ref b :: rest) :=
  r_callV (As := []) hd lk ct hc he rfl hrest hR hf kk
theorem r_cS0 (hd : decode (mB μ) pc = .ok (.invokestatic idx, 3)) (lk : LkS (mO μ) idx M 0) (ct : Ct (mG μ) (mL μ) M d 0 0 [] ws Q) (hrest : (rest.map fun v => v.category).sum ≤ 8) (hR : rOk (mR μ) M.2.2.1 d) (hf : k ≤ (mR μ).cells ∧ n ≤ (mR μ).slots) (kk : ∀ (r : Option Value) (ws' : va_W), Q r ws' → WP μ k n ws' (pc + 3) lv (r.toList ++ rest)) : WP μ k n ws pc lv (rest) :=
  r_callS (As := []) hd lk ct rfl hrest hR hf kk
theorem r_cV1 (hd : decode (mB μ) pc = .ok (.invokevirtual idx, 3)) (lk : LkV (mO μ) idx M 1) (ct : Ct (mG μ) (mL μ) M d 0 0 (.ref b :: [x1]) ws Q) {ci : Nat} (q0 : Nat) {fs : List Value} {T : u_T} {N : Nat} (hc : cls[ci]? = some (M.1.cls, T, N)) (he : ws[q0]? = some (b, .inr (ci, fs))) (hrest : (rest.map fun v => v.category).sum ≤ 8) (hR : rOk (mR μ) M.2.2.1 d) (hf : k ≤ (mR μ).cells ∧ n ≤ (mR μ).slots) (kk : ∀ (r : Option Value) (ws' : va_W), Q r ws' → WP μ k n ws' (pc + 3) lv (r.toList ++ rest)) : WP μ k n ws pc lv (x1 :: .ref b :: rest) :=
  r_callV (As := [x1]) hd lk ct hc he rfl hrest hR hf kk
theorem r_cS1 (hd : decode (mB μ) pc = .ok (.invokestatic idx, 3)) (lk : LkS (mO μ) idx M 1) (ct : Ct (mG μ) (mL μ) M d 0 0 [x1] ws Q) (hrest : (rest.map fun v => v.category).sum ≤ 8) (hR : rOk (mR μ) M.2.2.1 d) (hf : k ≤ (mR μ).cells ∧ n ≤ (mR μ).slots) (kk : ∀ (r : Option Value) (ws' : va_W), Q r ws' → WP μ k n ws' (pc + 3) lv (r.toList ++ rest)) : WP μ k n ws pc lv (x1 :: rest) :=
  r_callS (As := [x1]) hd lk ct rfl hrest hR hf kk
theorem r_cV2 (hd : decode (mB μ) pc = .ok (.invokevirtual idx, 3)) (lk : LkV (mO μ) idx M 2) (ct : Ct (mG μ) (mL μ) M d 0 0 (.ref b :: [x1, x2]) ws Q) {ci : Nat} (q0 : Nat) {fs : List Value} {T : u_T} {N : Nat} (hc : cls[ci]? = some (M.1.cls, T, N)) (he : ws[q0]? = some (b, .inr (ci, fs))) (hrest : (rest.map fun v => v.category).sum ≤ 8) (hR : rOk (mR μ) M.2.2.1 d) (hf : k ≤ (mR μ).cells ∧ n ≤ (mR μ).slots) (kk : ∀ (r : Option Value) (ws' : va_W), Q r ws' → WP μ k n ws' (pc + 3) lv (r.toList ++ rest)) : WP μ k n ws pc lv (x2 :: x1 :: .ref b :: rest) :=
  r_callV (As := [x1, x2]) hd lk ct hc he rfl hrest hR hf kk
theorem r_cS2 (hd : decode (mB μ) pc = .ok (.invokestatic idx, 3)) (lk : LkS (mO μ) idx M 2) (ct : Ct (mG μ) (mL μ) M d 0 0 [x1, x2] ws Q) (hrest : (rest.map fun v => v.category).sum ≤ 8) (hR : rOk (mR μ) M.2.2.1 d) (hf : k ≤ (mR μ).cells ∧ n ≤ (mR μ).slots) (kk : ∀ (r : Option Value) (ws' : va_W), Q r ws' → WP μ k n ws' (pc + 3) lv (r.toList ++ rest)) : WP μ k n ws pc lv (x2 :: x1 :: rest) :=
  r_callS (As := [x1, x2]) hd lk ct rfl hrest hR hf kk
theorem r_cV3 (hd : decode (mB μ) pc = .ok (.invokevirtual idx, 3)) (lk : LkV (mO μ) idx M 3) (ct : Ct (mG μ) (mL μ) M d 0 0 (.ref b :: [x1, x2, x3]) ws Q) {ci : Nat} (q0 : Nat) {fs : List Value} {T : u_T} {N : Nat} (hc : cls[ci]? = some (M.1.cls, T, N)) (he : ws[q0]? = some (b, .inr (ci, fs))) (hrest : (rest.map fun v => v.category).sum ≤ 8) (hR : rOk (mR μ) M.2.2.1 d) (hf : k ≤ (mR μ).cells ∧ n ≤ (mR μ).slots) (kk : ∀ (r : Option Value) (ws' : va_W), Q r ws' → WP μ k n ws' (pc + 3) lv (r.toList ++ rest)) : WP μ k n ws pc lv (x3 :: x2 :: x1 :: .ref b :: rest) :=
  r_callV (As := [x1, x2, x3]) hd lk ct hc he rfl hrest hR hf kk
theorem r_cS3 (hd : decode (mB μ) pc = .ok (.invokestatic idx, 3)) (lk : LkS (mO μ) idx M 3) (ct : Ct (mG μ) (mL μ) M d 0 0 [x1, x2, x3] ws Q) (hrest : (rest.map fun v => v.category).sum ≤ 8) (hR : rOk (mR μ) M.2.2.1 d) (hf : k ≤ (mR μ).cells ∧ n ≤ (mR μ).slots) (kk : ∀ (r : Option Value) (ws' : va_W), Q r ws' → WP μ k n ws' (pc + 3) lv (r.toList ++ rest)) : WP μ k n ws pc lv (x3 :: x2 :: x1 :: rest) :=
  r_callS (As := [x1, x2, x3]) hd lk ct rfl hrest hR hf kk
theorem r_cV4 (hd : decode (mB μ) pc = .ok (.invokevirtual idx, 3)) (lk : LkV (mO μ) idx M 4) (ct : Ct (mG μ) (mL μ) M d 0 0 (.ref b :: [x1, x2, x3, x4]) ws Q) {ci : Nat} (q0 : Nat) {fs : List Value} {T : u_T} {N : Nat} (hc : cls[ci]? = some (M.1.cls, T, N)) (he : ws[q0]? = some (b, .inr (ci, fs))) (hrest : (rest.map fun v => v.category).sum ≤ 8) (hR : rOk (mR μ) M.2.2.1 d) (hf : k ≤ (mR μ).cells ∧ n ≤ (mR μ).slots) (kk : ∀ (r : Option Value) (ws' : va_W), Q r ws' → WP μ k n ws' (pc + 3) lv (r.toList ++ rest)) : WP μ k n ws pc lv (x4 :: x3 :: x2 :: x1 :: .ref b :: rest) :=
  r_callV (As := [x1, x2, x3, x4]) hd lk ct hc he rfl hrest hR hf kk
theorem r_cS4 (hd : decode (mB μ) pc = .ok (.invokestatic idx, 3)) (lk : LkS (mO μ) idx M 4) (ct : Ct (mG μ) (mL μ) M d 0 0 [x1, x2, x3, x4] ws Q) (hrest : (rest.map fun v => v.category).sum ≤ 8) (hR : rOk (mR μ) M.2.2.1 d) (hf : k ≤ (mR μ).cells ∧ n ≤ (mR μ).slots) (kk : ∀ (r : Option Value) (ws' : va_W), Q r ws' → WP μ k n ws' (pc + 3) lv (r.toList ++ rest)) : WP μ k n ws pc lv (x4 :: x3 :: x2 :: x1 :: rest) :=
  r_callS (As := [x1, x2, x3, x4]) hd lk ct rfl hrest hR hf kk
end CALLZ
