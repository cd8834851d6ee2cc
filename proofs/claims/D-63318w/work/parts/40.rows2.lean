set_option maxRecDepth 20000 in
theorem w_27 : Cond.instanceMethod ⟨"java/lang/Object", "<init>", "()V"⟩ ∈ gt := gt_of (in_t1 (List.mem_of_getElem? (i := 27) rfl)) rfl
set_option maxRecDepth 20000 in
theorem w_28 : Cond.code ⟨"java/lang/Object", "<init>", "()V"⟩ object_method_1_code 1 (none : Option Jvm.ClassFile.FieldType) ∈ gt := gt_of (in_t1 (List.mem_of_getElem? (i := 28) rfl)) rfl
set_option maxRecDepth 20000 in
theorem w_161 : Cond.arrayClass .int ∈ gt := gt_of (in_t1 (List.mem_of_getElem? (i := 161) rfl)) rfl
set_option maxRecDepth 20000 in
theorem w_118 : Cond.arrayClass .byte ∈ gt := gt_of (in_t1 (List.mem_of_getElem? (i := 118) rfl)) rfl
set_option maxRecDepth 20000 in
theorem w_459 : Cond.native ⟨"java/lang/System", "arraycopy", "(Ljava/lang/Object;ILjava/lang/Object;II)V"⟩ ∈ gt := gt_of (in_t2 (List.mem_of_getElem? (i := 219) rfl)) rfl
set_option maxRecDepth 20000 in
theorem w_458 : Cond.static ⟨"java/lang/System", "arraycopy", "(Ljava/lang/Object;ILjava/lang/Object;II)V"⟩ ∈ gt := gt_of (in_t2 (List.mem_of_getElem? (i := 218) rfl)) rfl
set_option maxRecDepth 20000 in
theorem w_18 : Cond.initialized "java/lang/System" ∈ gt := gt_of (in_t1 (List.mem_of_getElem? (i := 18) rfl)) rfl
/-! ===== rows: new cells, constructors, overriding methods, constants, references ===== -/
theorem tys_eq {G : gG} {s : State} {cA : ClassId} {ty : FieldType} {t : Nat} (hK : va_K (gD G) cls (tysG G ++ [(cA, ty)]) s) (ht : (tysG G)[t]? = some (gA G t, ty)) : cA = gA G t := by
  have h1 := (hK.2 6 (cA, ty) (by rfl)).2
  have h2 := (hK.2 t (gA G t, ty) (by
    have hl : t < (tysG G).length := (List.getElem?_eq_some_iff.mp ht).1
    rw [List.getElem?_append_left hl]; exact ht)).2
  cases ty with
  | object C =>
    obtain ⟨k1, c1, a1, a2, a3, a4⟩ := h1
    obtain ⟨k2, c2, b1, b2, b3, b4⟩ := h2
    exact Option.some.inj (a4.symm.trans b4)
  | _ => exact Option.some.inj (h1.symm.trans h2)
section NEWR
variable {μ : Mx} {k n : Nat} {ws : va_W} {pc : Nat} {lv : List (Option Value)} {st : List Value}
theorem r_objInit {idx a : Nat} (hd : decode (mB μ) pc = .ok (.invokespecial idx, 3)) (hlk : Cond.methodLink (mO μ) idx ⟨"java/lang/Object", "<init>", "()V"⟩ ∈ gt) (h1 : Nat.ble 1 (mR μ).frames = true) (h2 : Nat.ble ((st.map fun v => v.category).sum + 12) (mR μ).locals = true) (kk : WP μ k n ws (pc + 3) lv st) : WP μ k n ws pc lv (.ref a :: st) := by
  intro p e s m args below meth c C H locs ls hP hD hS hl
  obtain ⟨hx, hb, hml, hr, hown, hts, hK, hSt, hA, hlocks, hE⟩ := id C
  refine W.objInit hx hb hown (hts _ hlk) (hts _ w_27) (hts _ w_28) rfl (by rw [hml]; exact hl.1) rfl hd (Nat.le_of_ble_eq_true h1) ?_ (kk p e s m args below meth c C H locs ls hP hD hS hl)
  have := Nat.le_of_ble_eq_true h2
  show 2 * 0 + _ + 12 ≤ _
  omega
theorem r_newI {N : Nat} (hd : decode (mB μ) pc = .ok (.newarray .int, 2)) (hN : Nat.ble N 100000 = true) (hk : k + 1 ≤ (mR μ).cells) (hn : n + N ≤ (mR μ).slots) (kk : ∀ q : Nat, WP μ (k + 1) (n + N) (ws ++ [(q, aI (mG μ) N (fun _ => 0))]) (pc + 2) lv (.ref q :: st)) : WP μ k n ws pc lv (vI N :: st) := by
  intro p e s m args below meth c C H locs ls hP hD hS hl
  obtain ⟨hx, hb, hml, hr, hown, hts, hK, hSt, hA, hlocks, hE⟩ := id C
  have hN := Nat.le_of_ble_eq_true hN
  refine va_newa hx hb (atype := .int) (ty := .int) (a0 := (N, .inl (fun _ => zI 0))) (N' := N) (hts _ w_161) rfl hK hP hD hS hA (fun cA => rfl) (by rw [zI_nat]; exact nI_pos (by omega)) (by rw [zI_nat]; exact nI_clamp (by omega)) (by show N * 4 ≤ _; omega) hk hn hd ?_
  intro q cA H1 hK1 hP1 hD1 hS1
  have := tys_eq (t := 0) hK1 rfl
  subst this
  exact kk q p e s m args below meth c C H1 locs ls hP1 hD1 hS1 hl
theorem r_newB {N : Nat} (hd : decode (mB μ) pc = .ok (.newarray .byte, 2)) (hN : Nat.ble N 100000 = true) (hk : k + 1 ≤ (mR μ).cells) (hn : n + N ≤ (mR μ).slots) (kk : ∀ q : Nat, WP μ (k + 1) (n + N) (ws ++ [(q, aB (mG μ) N (fun _ => 0))]) (pc + 2) lv (.ref q :: st)) : WP μ k n ws pc lv (vI N :: st) := by
  intro p e s m args below meth c C H locs ls hP hD hS hl
  obtain ⟨hx, hb, hml, hr, hown, hts, hK, hSt, hA, hlocks, hE⟩ := id C
  have hN := Nat.le_of_ble_eq_true hN
  refine va_newa hx hb (atype := .byte) (ty := .byte) (a0 := (N, .inl (fun _ => zB 0))) (N' := N) (hts _ w_118) rfl hK hP hD hS hA (fun cA => rfl) (by rw [zI_nat]; exact nI_pos (by omega)) (by rw [zI_nat]; exact nI_clamp (by omega)) (by show N * 1 ≤ _; omega) hk hn hd ?_
  intro q cA H1 hK1 hP1 hD1 hS1
  have := tys_eq (t := 1) hK1 rfl
  subst this
  exact kk q p e s m args below meth c C H1 locs ls hP1 hD1 hS1 hl
theorem r_newQ {N idx t : Nat} {E : String} (hd : decode (mB μ) pc = .ok (.anewarray idx, 3)) (hlk : Cond.classLink (mO μ) idx E ∈ gt) (hE0 : E ∈ aol) (ht : (tysG (mG μ))[t]? = some (gA (mG μ) t, .object E)) (hN : N ≤ 100000) (hk : k + 1 ≤ (mR μ).cells) (hn : n + N ≤ (mR μ).slots) (kk : ∀ q : Nat, WP μ (k + 1) (n + N) (ws ++ [(q, aQ (mG μ) t N (fun _ => none))]) (pc + 3) lv (.ref q :: st)) : WP μ k n ws pc lv (vI N :: st) := by
  intro p e s m args below meth c C H locs ls hP hD hS hl
  obtain ⟨hx, hb, hml, hr, hown, hts, hK, hSt, hA, hlocks, hE⟩ := id C
  refine va_newq hx hb (N' := N) hown (hts _ hlk) (hSt.2.2.2.2.2.2.1 E hE0) hK hP hD hS hA (by rw [zI_nat]; exact nI_pos (by omega)) (by rw [zI_nat]; exact nI_clamp (by omega)) (by omega) hk hn hd ?_
  intro q cA H1 hK1 hP1 hD1 hS1
  have := tys_eq (t := t) hK1 ht
  subst this
  exact kk q p e s m args below meth c C H1 locs ls hP1 hD1 hS1 hl
theorem r_new {idx ci : Nat} {Cn : String} {T : u_T} {N : Nat} (fs : List Value) (hd : decode (mB μ) pc = .ok (.new idx, 3)) (hc : cls[ci]? = some (Cn, T, N)) (hlk : Cond.classLink (mO μ) idx Cn ∈ gt) (hin : Cond.instantiable Cn N ∈ gt) (hini : Cond.initialized Cn ∈ gt) (hfs : ∀ j, j < N → defaultValue (tyC ci j) = vp_V fs j) (hk : k + 1 ≤ (mR μ).cells) (hn : n + N ≤ (mR μ).slots) (kk : ∀ q : Nat, WP μ (k + 1) (n + N) (ws ++ [(q, .inr (ci, fs))]) (pc + 3) lv (.ref q :: st)) : WP μ k n ws pc lv st := by
  intro p e s m args below meth c C H locs ls hP hD hS hl
  obtain ⟨hx, hb, hml, hr, hown, hts, hK, hSt, hA, hlocks, hE⟩ := id C
  have hok := cls_ok hc
  exact va_new hx hb hts hok.1 (tyC ci) hok.2.1 hown (hts _ hlk) (hts _ hin) (hts _ hini) hK hP hD hS hA hc hfs hk hn hd (fun q H1 hP1 hD1 hS1 => kk q p e s m args below meth c C H1 locs ls hP1 hD1 hS1 hl)
end NEWR
/-- a constructor, by a plain link or a nest mate's -/
def LkI (own : String) (idx : Nat) (M : Mi) (na : Nat) : Prop := (Cond.methodLink own idx M.1 ∈ gt ∨ ∃ host, Cond.methodLinkNest own idx M.1 host ∈ nwl) ∧ Cond.instanceMethod M.1 ∈ gt ∧ Cond.initialized M.1.cls ∈ gt ∧ Cond.code M.1 M.2.1 M.2.2.1 M.2.2.2 ∈ gt ∧ M.1.name = "<init>" ∧ M.2.2.2 = none ∧ (M.1.cls ≠ "java/lang/invoke/MethodHandle" ∧ M.1.cls ≠ "java/lang/invoke/VarHandle" ∧ (parseMethodDescriptor M.1.desc).map (fun d => d.parameters.length) = some na)
/-- x as the reference names it, M what is run for a receiver of class C -/
def LkU (own : String) (idx : Nat) (C owner : String) (x : MethodName) (M : Mi) (na : Nat) : Prop := (∀ w ∈ ([.methodLink own idx x, .sameMethod x.cls owner x.name x.desc, .selects C x M.1, .instanceMethod M.1, .initialized M.1.cls] : List Cond), w ∈ gt) ∧ Cond.code M.1 M.2.1 M.2.2.1 M.2.2.2 ∈ gt ∧ (Cond.declares ⟨owner, x.name, x.desc⟩ ∈ nwl ∨ ∃ b0 m0 r0, Cond.code ⟨owner, x.name, x.desc⟩ b0 m0 r0 ∈ gt ∧ Cond.instanceMethod ⟨owner, x.name, x.desc⟩ ∈ gt) ∧ (owner ≠ "java/lang/invoke/MethodHandle" ∧ owner ≠ "java/lang/invoke/VarHandle" ∧ (parseMethodDescriptor x.desc).map (fun d => d.parameters.length) = some na)
/-- super.m() -/
def LkP (own : String) (idx : Nat) (M : Mi) (na : Nat) : Prop := (∀ w ∈ ([.methodLink own idx M.1, .sameMethod M.1.cls M.1.cls M.1.name M.1.desc, .superclass own M.1.cls, .instanceMethod M.1, .initialized M.1.cls] : List Cond), w ∈ gt) ∧ Cond.code M.1 M.2.1 M.2.2.1 M.2.2.2 ∈ gt ∧ (M.1.name ≠ "<init>" ∧ (parseMethodDescriptor M.1.desc).map (fun d => d.parameters.length) = some na)
/-- an interface's method -/
def LkF (own : String) (idx : Nat) (C : String) (x : MethodName) (M : Mi) (na : Nat) : Prop := (∀ w ∈ ([.methodLink own idx x, .selects C x M.1, .instanceMethod M.1, .initialized M.1.cls] : List Cond), w ∈ gt) ∧ Cond.code M.1 M.2.1 M.2.2.1 M.2.2.2 ∈ gt ∧ (C, x, M.1) ∈ fwl ∧ (x.cls ≠ "java/lang/invoke/MethodHandle" ∧ x.cls ≠ "java/lang/invoke/VarHandle" ∧ (parseMethodDescriptor x.desc).map (fun d => d.parameters.length) = some na)
theorem va_cwG {R : Room} {s : State} {args : Array Value} {own C owner : String} {index maxL mc ms : Nat} {x y : MethodName} {bytes : ByteArray} {ret : Option FieldType} {Ts ws ws' : List Cond} {rm : Room} (n : Nat) (ht : ∀ w ∈ Ts, w.before args s = true) (hT : GoodIn Ts (va_wsU own index C owner x y ws)) (hw : ws = Cond.code y bytes maxL ret :: ws') (hrc : rm.cells = mc) (hrs : rm.slots = ms)
    (hz : va_Decl s ⟨owner, x.name, x.desc⟩) (hd : owner ≠ "java/lang/invoke/MethodHandle" ∧ owner ≠ "java/lang/invoke/VarHandle" ∧ (parseMethodDescriptor x.desc).map (fun d => d.parameters.length) = some n) (hR : rm.frames + 1 ≤ R.frames ∧ 8 + (maxL + 11) + rm.locals ≤ R.locals) : va_CU R s args own C owner index x y bytes maxL ret ws rm mc ms n := by
  have ok : ∀ w ∈ va_wsU own index C owner x y ws, w.before args s = true := fun w h => ht w (hT w h).1
  have hG : GoodIn Ts ws := fun w h => hT w (by unfold va_wsU; exact List.mem_append_right _ h)
  have hc : Cond.code y bytes maxL ret ∈ ws := by rw [hw]; exact List.mem_cons_self
  refine ⟨⟨hrc, hrs, hR.1, hR.2, pay_in ht hG, hc⟩, ht _ (hG _ hc).1, ok _ (by simp [va_wsU]), ⟨hd.1, hd.2.1⟩, fun sig h => ?_, ok _ (by simp [va_wsU]), ok _ (by simp [va_wsU]), hz, ok _ (by simp [va_wsU]), ok _ (by simp [va_wsU])⟩
  have h2 := hd.2.2
  rw [h] at h2
  exact (Option.some.inj h2).symm
section CALL2
variable {μ : Mx} {k n : Nat} {ws : va_W} {pc : Nat} {lv : List (Option Value)} {rest : List Value} {idx d mc ms na : Nat} {M : Mi} {As : List Value} {b : Nat} {Q : Option Value → va_W → Prop}
theorem r_callI (hd : decode (mB μ) pc = .ok (.invokespecial idx, 3)) (lk : LkI (mO μ) idx M na) (ct : Ct (mG μ) (mL μ) M d mc ms (.ref b :: As) ws Q) (hn : As.length = na) (hrest : (rest.map fun v => v.category).sum ≤ 8) (hR : rOk (mR μ) M.2.2.1 d) (hf : k + mc ≤ (mR μ).cells ∧ n + ms ≤ (mR μ).slots)
    (kk : ∀ (r : Option Value) (ws' : va_W), Q r ws' → WP μ (k + mc) (n + ms) ws' (pc + 3) lv (r.toList ++ rest)) : WP μ k n ws pc lv (As.reverse ++ .ref b :: rest) := by
  intro p e s m args below meth c C H locs ls hP hD hS hl
  obtain ⟨hx, hb, hml, hr, hown, hts, hK, hSt, hA, hlocks, hE⟩ := id C
  obtain ⟨hlk, h2, h3, h4, h5, h6, h7⟩ := lk
  have hG : GoodIn gt (.code M.1 M.2.1 M.2.2.1 M.2.2.2 :: gt) := good_app (xs := []) h4 (fun _ h => absurd h List.not_mem_nil)
  have ct2 := ct H.size
  rw [h6] at ct2 hG
  rcases hlk with hlk | ⟨host, hlk⟩
  · exact call_go C hD hS hl (va_runI ⟨hx, hb, hml, hown, hts⟩ ct2 (cwI na hts hG rfl rfl rfl (hts _ h3) (hts _ hlk) (hts _ h2) h5 h7 hR) ⟨Pcx.blind, call_pre hK hSt hA hP hD hS⟩ rfl hn hl.1 rfl (lv_room hrest) hd hf) kk
  · exact call_go C hD hS hl (va_runIN (host := host) ⟨hx, hb, hml, hown, hts⟩ ct2 ⟨va_cnB na hts hG rfl rfl rfl (hSt.2.2.2.2.1 _ hlk) (hts _ h3) h7 hR, h5, hts _ h2⟩ ⟨Pcx.blind, call_pre hK hSt hA hP hD hS⟩ rfl hn hl.1 rfl (lv_room hrest) hd hf) kk
theorem decl_of {s : State} {args : Array Value} {G : gG} {A : Nat → Prop} {H : Heap} (hts : ∀ w ∈ gt, w.before args s = true) (hSt : Sts G A s H) {x : MethodName} (h : Cond.declares x ∈ nwl ∨ ∃ b0 m0 r0, Cond.code x b0 m0 r0 ∈ gt ∧ Cond.instanceMethod x ∈ gt) : va_Decl s x := by
  rcases h with h | ⟨b0, m0, r0, h1, h2⟩
  · exact va_Decl.abs (hSt.2.2.2.2.1 _ h)
  · exact va_Decl.of (hts _ h2) (hts _ h1)
/-- a receiver: a cell of the world, of class C -/
theorem rcv_of {s : State} {H : Heap} {G : gG} {ci q0 : Nat} {C : String} {T : u_T} {N : Nat} {fs : List Value} (hK : va_K (gD G) cls (tysG G) s) (hP : va_P (gD G) cls ws H) (hc : cls[ci]? = some (C, T, N)) (he : ws[q0]? = some (b, .inr (ci, fs))) : ∃ cell : Cell, H[b]? = some cell ∧ cell.vm.isStatics = false ∧ s.vm.findClass C = some cell.cls := va_recv hK hP hc he
theorem r_callU {C owner : String} {x : MethodName} (hd : decode (mB μ) pc = .ok (.invokevirtual idx, 3)) (lk : LkU (mO μ) idx C owner x M na) (ct : Ct (mG μ) (mL μ) M d mc ms (.ref b :: As) ws Q) {ci q0 : Nat} {fs : List Value} {T : u_T} {N : Nat} (hc : cls[ci]? = some (C, T, N)) (he : ws[q0]? = some (b, .inr (ci, fs))) (hn : As.length = na) (hrest : (rest.map fun v => v.category).sum ≤ 8) (hR : rOk (mR μ) M.2.2.1 d) (hf : k + mc ≤ (mR μ).cells ∧ n + ms ≤ (mR μ).slots)
    (kk : ∀ (r : Option Value) (ws' : va_W), Q r ws' → WP μ (k + mc) (n + ms) ws' (pc + 3) lv (r.toList ++ rest)) : WP μ k n ws pc lv (As.reverse ++ .ref b :: rest) := by
  intro p e s m args below meth c C0 H locs ls hP hD hS hl
  obtain ⟨hx, hb, hml, hr, hown, hts, hK, hSt, hA, hlocks, hE⟩ := id C0
  exact call_go C0 hD hS hl (va_runU (C := C) ⟨hx, hb, hml, hown, hts⟩ (ct H.size) (va_cwG na hts (good_app lk.2.1 lk.1) rfl rfl rfl (decl_of hts hSt lk.2.2.1) lk.2.2.2 hR) ⟨Pcx.blind, rcv_of hK hP hc he, call_pre hK hSt hA hP hD hS⟩ rfl hn hl.1 rfl (lv_room hrest) hd hf) kk
/-- the receiver is a constant of the enum -/
theorem r_callE {i : Nat} {owner : String} {x : MethodName} (hd : decode (mB μ) pc = .ok (.invokevirtual idx, 3)) (lk : LkU (mO μ) idx "MovieBoxes$Kind" owner x M na) (ct : Ct (mG μ) (mL μ) M d mc ms (.ref (gE (mG μ) i) :: As) ws Q) (hi : i < 12) (hn : As.length = na) (hrest : (rest.map fun v => v.category).sum ≤ 8) (hR : rOk (mR μ) M.2.2.1 d) (hf : k + mc ≤ (mR μ).cells ∧ n + ms ≤ (mR μ).slots)
    (kk : ∀ (r : Option Value) (ws' : va_W), Q r ws' → WP μ (k + mc) (n + ms) ws' (pc + 3) lv (r.toList ++ rest)) : WP μ k n ws pc lv (As.reverse ++ .ref (gE (mG μ) i) :: rest) := by
  intro p e s m args below meth c C0 H locs ls hP hD hS hl
  obtain ⟨hx, hb, hml, hr, hown, hts, hK, hSt, hA, hlocks, hE⟩ := id C0
  exact call_go C0 hD hS hl (va_runU (C := "MovieBoxes$Kind") ⟨hx, hb, hml, hown, hts⟩ (ct H.size) (va_cwG na hts (good_app lk.2.1 lk.1) rfl rfl rfl (decl_of hts hSt lk.2.2.1) lk.2.2.2 hR) ⟨Pcx.blind, va_recvE hSt.1 hi hS, call_pre hK hSt hA hP hD hS⟩ rfl hn hl.1 rfl (lv_room hrest) hd hf) kk
theorem r_callP (hd : decode (mB μ) pc = .ok (.invokespecial idx, 3)) (lk : LkP (mO μ) idx M na) (ct : Ct (mG μ) (mL μ) M d mc ms (.ref b :: As) ws Q) {ci q0 : Nat} {C : String} {fs : List Value} {T : u_T} {N : Nat} (hc : cls[ci]? = some (C, T, N)) (he : ws[q0]? = some (b, .inr (ci, fs))) (hn : As.length = na) (hrest : (rest.map fun v => v.category).sum ≤ 8) (hR : rOk (mR μ) M.2.2.1 d) (hf : k + mc ≤ (mR μ).cells ∧ n + ms ≤ (mR μ).slots)
    (kk : ∀ (r : Option Value) (ws' : va_W), Q r ws' → WP μ (k + mc) (n + ms) ws' (pc + 3) lv (r.toList ++ rest)) : WP μ k n ws pc lv (As.reverse ++ .ref b :: rest) := by
  intro p e s m args below meth c C0 H locs ls hP hD hS hl
  obtain ⟨hx, hb, hml, hr, hown, hts, hK, hSt, hA, hlocks, hE⟩ := id C0
  exact call_go C0 hD hS hl (va_runSU (hK.1 ci _ hc).2 ⟨hx, hb, hml, hown, hts⟩ (ct H.size) (va_cwSU na hts (good_app lk.2.1 lk.1) rfl rfl rfl lk.2.2 hR) ⟨Pcx.blind, rcv_of hK hP hc he, call_pre hK hSt hA hP hD hS⟩ rfl hn hl.1 rfl (lv_room hrest) hd hf) kk
theorem r_callF {count : Nat} {C : String} {x : MethodName} (hd : decode (mB μ) pc = .ok (.invokeinterface idx count, 5)) (lk : LkF (mO μ) idx C x M na) (ct : Ct (mG μ) (mL μ) M d mc ms (.ref b :: As) ws Q) {ci q0 : Nat} {fs : List Value} {T : u_T} {N : Nat} (hc : cls[ci]? = some (C, T, N)) (he : ws[q0]? = some (b, .inr (ci, fs))) (hn : As.length = na) (hrest : (rest.map fun v => v.category).sum ≤ 8) (hR : rOk (mR μ) M.2.2.1 d) (hf : k + mc ≤ (mR μ).cells ∧ n + ms ≤ (mR μ).slots)
    (kk : ∀ (r : Option Value) (ws' : va_W), Q r ws' → WP μ (k + mc) (n + ms) ws' (pc + 5) lv (r.toList ++ rest)) : WP μ k n ws pc lv (As.reverse ++ .ref b :: rest) := by
  intro p e s m args below meth c C0 H locs ls hP hD hS hl
  obtain ⟨hx, hb, hml, hr, hown, hts, hK, hSt, hA, hlocks, hE⟩ := id C0
  exact call_go5 C0 hD hS hl (va_runF (hK.1 ci _ hc).2 ⟨hx, hb, hml, hown, hts⟩ (ct H.size) (va_cwF na hts (good_app lk.2.1 lk.1) rfl rfl rfl (hSt.2.2.2.2.2.2.2 _ lk.2.2.1) lk.2.2.2 hR) ⟨Pcx.blind, rcv_of hK hP hc he, call_pre hK hSt hA hP hD hS⟩ rfl hn hl.1 rfl (lv_room hrest) hd hf) kk
end CALL2
section REFS
variable {μ : Mx} {k n : Nat} {ws : va_W} {pc : Nat} {lv : List (Option Value)} {st : List Value}
/-- a constant of the enum -/
theorem r_getsK {idx i : Nat} (hd : decode (mB μ) pc = .ok (.getstatic idx, 3)) (hi : i < 12) (hlk : Cond.fieldLink (mO μ) idx "MovieBoxes$Kind" (kNm.getD i "") "LMovieBoxes$Kind;" ∈ gt) (kk : WP μ k n ws (pc + 3) lv (.ref (gE (mG μ) i) :: st)) : WP μ k n ws pc lv st := by
  intro p e s m args below meth c C H locs ls hP hD hS hl
  obtain ⟨hx, hb, hml, hr, hown, hts, hK, hSt, hA, hlocks, hE⟩ := id C
  exact va_gets hx hb (hSt.1.1 i hi).1 hS hown (hts _ hlk) (fun _ h => h) hd (kk p e s m args below meth c C H locs ls hP hD hS hl)
theorem r_getsL {idx : Nat} (hd : decode (mB μ) pc = .ok (.getstatic idx, 3)) (hlk : Cond.fieldLink (mO μ) idx "java/util/ArrayList" "DEFAULTCAPACITY_EMPTY_ELEMENTDATA" "[Ljava/lang/Object;" ∈ gt) (kk : WP μ k n ws (pc + 3) lv (.ref (gS (mG μ) 0) :: st)) : WP μ k n ws pc lv st := by
  intro p e s m args below meth c C H locs ls hP hD hS hl
  obtain ⟨hx, hb, hml, hr, hown, hts, hK, hSt, hA, hlocks, hE⟩ := id C
  exact va_gets hx hb hSt.2.1 hS hown (hts _ hlk) (fun _ h => h) hd (kk p e s m args below meth c C H locs ls hP hD hS hl)
/-- a field of a constant -/
theorem r_getK {idx i : Nat} {f : String × String × String × List Int32} (hd : decode (mB μ) pc = .ok (.getfield idx, 3)) (hi : i < 12) (hf : f ∈ kFl) (hlk : Cond.fieldLink (mO μ) idx f.1 f.2.1 f.2.2.1 ∈ gt ∨ ∃ host, Cond.fieldLinkNest (mO μ) idx f.1 f.2.1 f.2.2.1 host ∈ nwl) (kk : WP μ k n ws (pc + 3) lv (.int (f.2.2.2.getD i 0) :: st)) : WP μ k n ws pc lv (.ref (gE (mG μ) i) :: st) := by
  intro p e s m args below meth c C H locs ls hP hD hS hl
  obtain ⟨hx, hb, hml, hr, hown, hts, hK, hSt, hA, hlocks, hE⟩ := id C
  rcases hlk with hlk | ⟨host, hlk⟩
  · exact va_getE hx hb hSt.1 hi hS hown hf (hts _ hlk) (fun _ h => h) hd (kk p e s m args below meth c C H locs ls hP hD hS hl)
  · obtain ⟨cf, kf, i2, fd, cell, h1, h2, h3, h4, h5, h6⟩ := ((hSt.1.1 i hi).2.2 f hf).kept hS.2.1
    exact va_Wgetf hx hb hown (nw_at hSt hlk) h1 h2 h3 h4 h5 rfl rfl hd (kk p e s m args below meth c C H locs ls hP hD hS hl)
theorem any_of {s : State} {H : Heap} {G : gG} {A : Nat → Prop} {ci q0 v : Nat} {Cn E : String} {T : u_T} {N : Nat} {fs : List Value} (hSt : Sts G A s s.heap) (hK : va_K (gD G) cls (tysG G) s) (hP : va_P (gD G) cls ws H) (hc : cls[ci]? = some (Cn, T, N)) (he : ws[q0]? = some (v, .inr (ci, fs))) (hcast : Cond.castable Cn E ∈ nwl) : va_Any E s H v := by
  refine va_rAny hK hP he hc (fun comp c0 h1 h2 => ?_)
  obtain ⟨c, t, a1, a2, a3⟩ := Cond.castable_spec (hSt.2.2.2.2.1 _ hcast)
  have e1 : c = c0 := Option.some.inj (a1.symm.trans h2)
  have e2 : t = comp := Option.some.inj (a2.symm.trans h1)
  subst e1; subst e2; exact a3
theorem upd_q {g : Int → Option Nat} {i : Int} {x : Option Nat} (h0 : 0 ≤ i) (h : i < 2147483648) : va_up (fun j : Nat => g (j : Int)) (zI i).toNatClampNeg x = fun j : Nat => updI g i x (j : Int) := by
  rw [zI_clamp h0 h]
  funext j
  unfold va_up updI
  by_cases hj : (j : Int) = i
  · rw [if_pos hj, if_pos (by omega)]
  · rw [if_neg hj, if_neg (by omega)]
theorem r_aast {a N t v ci q1 : Nat} {Cn E : String} {T : u_T} {N2 : Nat} {fs : List Value} {g : Int → Option Nat} {i : Int} (ws' : va_W) (hd : decode (mB μ) pc = .ok (.aastore, 1)) (q0 : Nat) (he : ws[q0]? = some (a, aQ (mG μ) t N g)) (ht : (tysG (mG μ))[t]? = some (gA (mG μ) t, .object E)) (hc : cls[ci]? = some (Cn, T, N2)) (hv : ws[q1]? = some (v, .inr (ci, fs))) (hcast : Cond.castable Cn E ∈ nwl) (hi : 0 ≤ i ∧ i < (N : Int) ∧ N < 2147483648) (hw : ws.set q0 (a, aQ (mG μ) t N (updI g i (some v))) = ws') (kk : WP μ k n ws' (pc + 1) lv st) : WP μ k n ws pc lv (.ref v :: vI i :: .ref a :: st) := by
  intro p e s m args below meth c C H locs ls hP hD hS hl
  subst hw
  obtain ⟨hx, hb, hml, hr, hown, hts, hK, hSt, hA, hlocks, hE⟩ := id C
  refine va_astqM hx hb hK hP hD hS q0 t he ht (any_of hSt hK hP hc hv hcast) (zI_in hi.1 hi.2.1 hi.2.2) hd ?_
  rw [upd_q hi.1 (by omega)]
  exact fun H locs hP hD hS => kk p e s m args below meth c C H locs ls hP hD hS hl
theorem r_aastN {a N t : Nat} {E : String} {g : Int → Option Nat} {i : Int} (ws' : va_W) (hd : decode (mB μ) pc = .ok (.aastore, 1)) (q0 : Nat) (he : ws[q0]? = some (a, aQ (mG μ) t N g)) (ht : (tysG (mG μ))[t]? = some (gA (mG μ) t, .object E)) (hi : 0 ≤ i ∧ i < (N : Int) ∧ N < 2147483648) (hw : ws.set q0 (a, aQ (mG μ) t N (updI g i none)) = ws') (kk : WP μ k n ws' (pc + 1) lv st) : WP μ k n ws pc lv (.null :: vI i :: .ref a :: st) := by
  intro p e s m args below meth c C H locs ls hP hD hS hl
  subst hw
  obtain ⟨hx, hb, hml, hr, hown, hts, hK, hSt, hA, hlocks, hE⟩ := id C
  refine va_astqN hx hb hK hP hD hS q0 t he ht (zI_in hi.1 hi.2.1 hi.2.2) hd ?_
  rw [upd_q hi.1 (by omega)]
  exact fun H locs hP hD hS => kk p e s m args below meth c C H locs ls hP hD hS hl
theorem r_castN {idx : Nat} (hd : decode (mB μ) pc = .ok (.checkcast idx, 3)) (kk : WP μ k n ws (pc + 3) lv (.null :: st)) : WP μ k n ws pc lv (.null :: st) := by
  intro p e s m args below meth c C H locs ls hP hD hS hl
  exact lv_castN C.1 C.2.1 hd (kk p e s m args below meth c C H locs ls hP hD hS hl)
theorem r_cast {idx a ci : Nat} {Cn E : String} {T : u_T} {N : Nat} {fs : List Value} (hd : decode (mB μ) pc = .ok (.checkcast idx, 3)) (q0 : Nat) (hc : cls[ci]? = some (Cn, T, N)) (he : ws[q0]? = some (a, .inr (ci, fs))) (hlk : Cond.classLink (mO μ) idx E ∈ gt) (hcast : Cond.castable Cn E ∈ nwl) (kk : WP μ k n ws (pc + 3) lv (.ref a :: st)) : WP μ k n ws pc lv (.ref a :: st) := by
  intro p e s m args below meth c C H locs ls hP hD hS hl
  obtain ⟨hx, hb, hml, hr, hown, hts, hK, hSt, hA, hlocks, hE⟩ := id C
  exact va_castY hx hb hown (hts _ hlk) (hSt.2.2.2.2.1 _ hcast) (va_recv hK hP hc he) hd (kk p e s m args below meth c C H locs ls hP hD hS hl)
theorem r_instY {idx a ci : Nat} {Cn E : String} {T : u_T} {N : Nat} {fs : List Value} (hd : decode (mB μ) pc = .ok (.instanceof idx, 3)) (q0 : Nat) (hc : cls[ci]? = some (Cn, T, N)) (he : ws[q0]? = some (a, .inr (ci, fs))) (hlk : Cond.classLink (mO μ) idx E ∈ gt) (hcast : Cond.castable Cn E ∈ nwl) (kk : WP μ k n ws (pc + 3) lv (vI 1 :: st)) : WP μ k n ws pc lv (.ref a :: st) := by
  intro p e s m args below meth c C H locs ls hP hD hS hl
  obtain ⟨hx, hb, hml, hr, hown, hts, hK, hSt, hA, hlocks, hE⟩ := id C
  exact va_instY hx hb hown (hts _ hlk) (hSt.2.2.2.2.1 _ hcast) (va_recv hK hP hc he) hd (kk p e s m args below meth c C H locs ls hP hD hS hl)
theorem r_instN {idx a ci : Nat} {Cn E : String} {T : u_T} {N : Nat} {fs : List Value} (hd : decode (mB μ) pc = .ok (.instanceof idx, 3)) (q0 : Nat) (hc : cls[ci]? = some (Cn, T, N)) (he : ws[q0]? = some (a, .inr (ci, fs))) (hlk : Cond.classLink (mO μ) idx E ∈ gt) (hno : (Cn, E) ∈ ncl) (kk : WP μ k n ws (pc + 3) lv (vI 0 :: st)) : WP μ k n ws pc lv (.ref a :: st) := by
  intro p e s m args below meth c C H locs ls hP hD hS hl
  obtain ⟨hx, hb, hml, hr, hown, hts, hK, hSt, hA, hlocks, hE⟩ := id C
  exact va_instNo hx hb hown (hts _ hlk) (hSt.2.2.2.2.2.1 _ hno) (va_recv hK hP hc he) hd (kk p e s m args below meth c C H locs ls hP hD hS hl)
theorem r_inst0 {idx : Nat} (hd : decode (mB μ) pc = .ok (.instanceof idx, 3)) (kk : WP μ k n ws (pc + 3) lv (vI 0 :: st)) : WP μ k n ws pc lv (.null :: st) := by
  intro p e s m args below meth c C H locs ls hP hD hS hl
  exact lv_instN C.1 C.2.1 hd (kk p e s m args below meth c C H locs ls hP hD hS hl)
/-- copies n bytes of f from sp on to g, from dp on -/
def cpyI {α : Type} (f g : Int → α) (sp dp n : Int) : Int → α := fun j => if dp ≤ j ∧ j < dp + n then f (sp + (j - dp)) else g j
theorem cpy_zB {f g : Int → Int} {sp dp n : Int} (h1 : 0 ≤ sp ∧ sp < 2147483648) (h2 : 0 ≤ dp ∧ dp < 2147483648) (h3 : 0 ≤ n ∧ n < 2147483648) : va_cpy (fun j : Nat => zB (f (j : Int))) (fun j : Nat => zB (g (j : Int))) (zI sp).toNatClampNeg (zI dp).toNatClampNeg (zI n).toNatClampNeg = fun j : Nat => zB (cpyI f g sp dp n (j : Int)) := by
  rw [zI_clamp h1.1 h1.2, zI_clamp h2.1 h2.2, zI_clamp h3.1 h3.2]
  funext j
  unfold va_cpy cpyI
  by_cases hj : dp.toNat ≤ j ∧ j < dp.toNat + n.toNat
  · rw [if_pos hj, if_pos (by omega)]
    show zB (f ((sp.toNat + (j - dp.toNat) : Nat) : Int)) = _
    rw [show ((sp.toNat + (j - dp.toNat) : Nat) : Int) = sp + ((j : Int) - dp) by omega]
  · rw [if_neg hj, if_neg (by omega)]
theorem fits_zB (x : Int) : fits .byte (.int (zB x)) = true := pk_fb (zI x)
theorem zI_n0 {x : Int} (h : 0 ≤ x ∧ x < 2147483648) : ¬ zI x < 0 := fun q => by
  have := (zI_lt (x := x) (y := 0) (by unfold i32; omega) i32_0).mp q
  omega
/-- System.arraycopy of bytes -/
theorem r_copyB {idx a0 a1 n0 n1 : Nat} {f g : Int → Int} {sp dp len : Int} (ws' : va_W) (hd : decode (mB μ) pc = .ok (.invokestatic idx, 3)) (hlk : Cond.methodLink (mO μ) idx ⟨"java/lang/System", "arraycopy", "(Ljava/lang/Object;ILjava/lang/Object;II)V"⟩ ∈ gt) (q0 q1 : Nat) (he0 : ws[q0]? = some (a0, aB (mG μ) n0 f)) (he1 : ws[q1]? = some (a1, aB (mG μ) n1 g)) (h1 : 0 ≤ sp ∧ 0 ≤ dp ∧ 0 ≤ len ∧ sp + len ≤ (n0 : Int) ∧ dp + len ≤ (n1 : Int)) (hn : n0 < 2147483648 ∧ n1 < 2147483648) (hw : ws.set q1 (a1, aB (mG μ) n1 (cpyI f g sp dp len)) = ws') (hf1 : Nat.ble 1 (mR μ).frames = true) (hf2 : Nat.ble ((st.map fun v => v.category).sum + 18) (mR μ).locals = true) (kk : WP μ k n ws' (pc + 3) lv st) : WP μ k n ws pc lv (vI len :: vI dp :: .ref a1 :: vI sp :: .ref a0 :: st) := by
  intro p e s m args below meth c C H locs ls hP hD hS hl
  subst hw
  obtain ⟨hx, hb, hml, hr, hown, hts, hK, hSt, hA, hlocks, hE⟩ := id C
  refine va_copyi hx hb (by rw [hml]; exact hl.1.symm) hown (hts _ hlk) (hts _ w_459) (hts _ w_458) (hts _ w_18) hK hP hD hS q0 q1 1 1 (ty := .byte) he0 he1 rfl rfl rfl (zI_n0 (by omega)) (zI_n0 (by omega)) (zI_n0 (by omega)) (by rw [zI_clamp (by omega) (by omega), zI_clamp (by omega) (by omega)]; omega) (by rw [zI_clamp (by omega) (by omega), zI_clamp (by omega) (by omega)]; omega) (fun i _ => fits_zB _) (Nat.le_of_ble_eq_true hf1) (Nat.le_of_ble_eq_true hf2) hd ?_
  rw [cpy_zB (by omega) (by omega) (by omega)]
  exact fun H locs hP hD hS => kk p e s m args below meth c C H locs ls hP hD hS hl
end REFS
