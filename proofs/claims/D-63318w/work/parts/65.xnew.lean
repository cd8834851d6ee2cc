/-! ===== super.m(), where m is inherited from further up ===== -/
/-- x as the reference names it (in the class above own), M what is run, declared by the class two above -/
def LkX (own : String) (idx : Nat) (mid : String) (x : MethodName) (M : Mi) (na : Nat) : Prop := (∀ w ∈ ([.methodLink own idx x, .sameMethod x.cls M.1.cls x.name x.desc, .superclass own x.cls, .superclass x.cls mid, .superclass mid M.1.cls, .instanceMethod M.1, .initialized M.1.cls] : List Cond), w ∈ gt) ∧ Cond.code M.1 M.2.1 M.2.2.1 M.2.2.2 ∈ gt ∧ (x.name = M.1.name ∧ x.desc = M.1.desc ∧ M.1.name ≠ "<init>" ∧ (parseMethodDescriptor M.1.desc).map (fun d => d.parameters.length) = some na)
theorem sub2 {vm : Vm} {a b c : ClassId} {ka kb kc : Class} (ha : vm.classes[a]? = some ka) (hb : vm.classes[b]? = some kb) (hc : vm.classes[c]? = some kc) (h1 : ka.super = some b) (h2 : kb.super = some c) : vm.isSubclass a c = true := by
  have hs : 1 ≤ vm.classes.size := by
    have := (Array.getElem?_eq_some_iff.mp ha).1
    omega
  unfold Vm.isSubclass
  obtain ⟨f, hf⟩ : ∃ f, vm.classes.size = f + 1 := ⟨vm.classes.size - 1, by omega⟩
  rw [hf]
  simp only [Vm.isSubclassAux, ha, hb, h1, h2, Option.bind_some]
  cases f with
  | zero =>
    have h3 := (Array.getElem?_eq_some_iff.mp ha).1
    have h4 := (Array.getElem?_eq_some_iff.mp hc).1
    rw [hf] at h3 h4
    have : a = c := (Nat.lt_one_iff.mp h3).trans (Nat.lt_one_iff.mp h4).symm
    simp [this]
  | succ f => simp [Vm.isSubclassAux]
section VSX
variable {p : Program} {l : Launch} {e : Env} {R : Room} {s : State} {m : MethodId} {args : Array Value} {below : List Frame} {meth : Method} {c : Code}
theorem va_callSX {T : State} {locs : List Loc} {cells slots : Nat} (X : Stand p l e R s m args below meth c T locs cells slots) (hexec : p.tables.exec = Jvm.exec) {own mid : String} {index : Nat} {x y : MethodName} {bytes : ByteArray} {maxL : Nat} {ret : Option FieldType}
    (hown : s.vm.findClass own = some m.cls) (hlink : (Cond.methodLink own index x).before args s = true) (hsame : (Cond.sameMethod x.cls y.cls x.name x.desc).before args s = true) (hsup : (Cond.superclass own x.cls).before args s = true) (hsup2 : (Cond.superclass x.cls mid).before args s = true) (hsup3 : (Cond.superclass mid y.cls).before args s = true) (hxn : x.name = y.name) (hxd : x.desc = y.desc)
    (hinst : (Cond.instanceMethod y).before args s = true) (hcode : (Cond.code y bytes maxL ret).before args s = true) (hno : y.name ≠ "<init>")
    {W : Nat} {Pre : Pt → Array Value → Prop} {Post : Pt → Array Value → Option Value → Pt → Prop} (hK : Back l R p e below s args y 3 W Pre Post)
    {b : Addr} {cellB : Cell} {kB : Class} (hcell : T.heap[b]? = some cellB) (hobj : cellB.vm.isStatics = false) (hkB : s.vm.classes[cellB.cls]? = some kB)
    {g : JFrame} (hg : g.method = m) (hsize : g.locals.size = c.maxLocals) {argsL rest : List Value} (hlen : ∀ sig, parseMethodDescriptor y.desc = some sig → argsL.length = sig.parameters.length)
    (hstack : g.stack = argsL.reverse ++ .ref b :: rest) (hW : 2 * g.monitorRoom + (rest.map fun v => v.category).sum ≤ W) (hdg : decode c.code g.pc = .ok (.invokespecial index, 3))
    (hpre : ∀ vm₁, s.WarmedH vm₁ → Pre ⟨T.setVm vm₁, locs, cells, slots⟩ (Value.ref b :: argsL).toArray) :
    ∃ (v : Option Value) (vm₁ : Vm) (B : Pt), s.WarmedH vm₁ ∧ Stand p l e R s m args below meth c B.U B.locs B.cells B.slots ∧ Post ⟨T.setVm vm₁, locs, cells, slots⟩ (Value.ref b :: argsL).toArray v B ∧
      ∀ target, Steps p.tables e below (B.U.setTop { g with pc := g.pc + 3, stack := v.toList ++ rest }) target → Steps p.tables e below (T.setTop g) target := by
  obtain ⟨mk, methM, hnamed, hmethM, hstM, habM⟩ := Cond.instanceMethod_spec hinst
  obtain ⟨methM', cM, hmethM', -, -, -, -, -, -, hsigM⟩ := Cond.code_spec hnamed hcode
  cases hmethM.symm.trans hmethM'
  obtain ⟨ps, dk, kp, hps, hdk, hkp, hsuper, -, -, hnid⟩ := Cond.superclass_spec hown hsup
  obtain ⟨pm, dk2, kp2, hpm, hdk2, hkp2, hsuper2, -, -, -⟩ := Cond.superclass_spec hps hsup2
  obtain ⟨po, dk3, kp3, hpo, hdk3, hkp3, hsuper3, -, -, -⟩ := Cond.superclass_spec hpm hsup3
  have hn : s.methodNamed? ⟨y.cls, x.name, x.desc⟩ = some mk := by rw [hxn, hxd]; exact hnamed
  have hpm2 : po = mk.cls := Option.some.inj (hpo.symm.trans (findClass_of_methodNamed hnamed))
  have hsub : s.vm.isSubclass ps mk.cls = true := by rw [← hpm2]; exact sub2 hdk2 hdk3 hkp3 hsuper2 hsuper3
  obtain ⟨vm₁, X₁, hstep₁⟩ := X.invokespecialUp hexec hown hlink hsame hn hmethM hstM habM (by rw [hxn]; exact hno) hdk hnid hps hsuper hsub (a := b) (cell := cellB) hcell
    (fun z h => by rw [h] at hobj; cases hobj) hkB (g := g) hg (argsL := argsL) (rest := rest) (hlen _ hsigM) hstack hdg
  obtain ⟨v, B, X', hpost, hsteps⟩ := hK m meth c ⟨T.setVm vm₁, locs, cells, slots⟩ { g with stack := rest } (.invokespecial index) mk (Value.ref b :: argsL).toArray X₁ hg hsize hdg hW (X₁.named hnamed) (hpre vm₁ X₁.warmed)
  exact ⟨v, vm₁, B, X₁.warmed, X', hpost, fun target h => hstep₁ _ (by rw [doInvoke_state]; exact hsteps.trans h)⟩
variable {H : Heap} {locs : List Loc} {cells slots : Nat}
theorem va_runSX {x y : MethodName} {bytes cc : ByteArray} {maxL nL mc ms n index : Nat} {ret : Option FieldType} {ws : List Cond} {rm : Room} {Pc : Array Value → State → Prop} {Qc : Array Value → State → Outcome → State → Prop} {free : Addr → Prop} {Ts : List Cond} {own mid C : String} {cC : ClassId} {b : Addr} {As rest : List Value} {g : JFrame}
    (hat : ClassAt s C cC) (S : CallFix p m c cc nL s args Ts own) (hM : Met l y ws rm Pc Qc mc ms free) (ht : ∀ w ∈ Ts, w.before args s = true) (hG : GoodIn Ts ws) (hw : Cond.code y bytes maxL ret ∈ ws) (hrc : rm.cells = mc) (hrs : rm.slots = ms) (hR : rm.frames + 1 ≤ R.frames ∧ 8 + (maxL + 11) + rm.locals ≤ R.locals)
    (hl1 : (Cond.methodLink own index x).before args s = true) (hl2 : (Cond.sameMethod x.cls y.cls x.name x.desc).before args s = true) (hl3 : (Cond.superclass own x.cls).before args s = true) (hl3b : (Cond.superclass x.cls mid).before args s = true) (hl3c : (Cond.superclass mid y.cls).before args s = true) (hxn : x.name = y.name) (hxd : x.desc = y.desc) (hl4 : (Cond.instanceMethod y).before args s = true) (hini : (Cond.initialized y.cls).before args s = true) (hno : y.name ≠ "<init>") (hd : (parseMethodDescriptor y.desc).map (fun d => d.parameters.length) = some n) (hp : PreV s H C b Pc As)
    (hg : g.method = m) (hn : As.length = n) (hsize : g.locals.size = nL) (hstack : g.stack = As.reverse ++ .ref b :: rest) (hW : 2 * g.monitorRoom + (rest.map fun v => v.category).sum ≤ 8) (hdg : decode cc g.pc = .ok (.invokespecial index, 3)) (hf : cells + mc ≤ R.cells ∧ slots + ms ≤ R.slots) :
    va_Run p l e R s m args below meth c H locs cells slots mc ms g rest (Qc (Value.ref b :: As).toArray) (free) := by
  have hlen : ∀ sig, parseMethodDescriptor y.desc = some sig → n = sig.parameters.length := fun sig h => by
    rw [h] at hd; exact (Option.some.inj hd).symm
  have hws := pay_in ht hG
  have hcode := ht _ (hG _ hw).1
  have hK : Back l R p e below s args y 3 8 (PreOf R mc ms Pc) (PostOf Qc mc ms free) := back_of (bytes := bytes) (maxL := maxL) (ret := ret) hM hp.1 hrc hrs hR.1 hR.2 hws hw (fun a' U hW => word_at hW (Or.inl (by first | rfl | simp [Cond.onTables, Cond.keeps, Cond.steady])) hini)
  obtain ⟨hx, hb, hml, ho, -⟩ := S
  obtain ⟨-, ⟨cellB, hcB, hoB, hclB⟩, hPc⟩ := hp
  obtain ⟨hfc, kB, hkB, -⟩ := hat
  cases hfc.symm.trans hclB
  intro T hT X
  obtain ⟨v, vm₁, ⟨U', l2, c2, s2⟩, hW₁, X', ⟨g', mk, t, L, e1, e2, hq, h1, hL, h2, h3⟩, st⟩ := va_callSX X hx (bytes := bytes) (maxL := maxL) (ret := ret) ho hl1 hl2 hl3 hl3b hl3c hxn hxd hl4 hcode hno hK (by rw [hT]; exact hcB) hoB hkB hg (hsize.trans hml.symm) (argsL := As) (rest := rest) (fun sig h => hn.trans (hlen sig h)) hstack hW (by rw [hb]; exact hdg)
    (fun vm₁ hW₁ => ⟨hf.1, hf.2, hPc (T.setVm vm₁) hT hW₁⟩)
  dsimp only [Pt.U, Pt.locs, Pt.cells, Pt.slots] at X' e1 e2 h1 h2 h3 st
  subst h1; subst h2; subst h3
  exact ⟨v, (T.setVm vm₁).calling g' mk (Value.ref b :: As).toArray, t, U', L, hT, X', hL, e1, e2, hq, st⟩
end VSX
section CALLX
variable {μ : Mx} {k n : Nat} {ws : va_W} {pc : Nat} {lv : List (Option Value)} {rest : List Value} {idx d mc ms na : Nat} {M : Mi} {As : List Value} {b : Nat} {Q : Option Value → va_W → Prop}
theorem r_callX {mid : String} {x : MethodName} (hd : decode (mB μ) pc = .ok (.invokespecial idx, 3)) (lk : LkX (mO μ) idx mid x M na) (ct : Ct (mG μ) (mL μ) M d mc ms (.ref b :: As) ws Q) {ci q0 : Nat} {C : String} {fs : List Value} {T : u_T} {N : Nat} (hc : cls[ci]? = some (C, T, N)) (he : ws[q0]? = some (b, .inr (ci, fs))) (hn : As.length = na) (hrest : (rest.map fun v => v.category).sum ≤ 8) (hR : rOk (mR μ) M.2.2.1 d) (hf : k + mc ≤ (mR μ).cells ∧ n + ms ≤ (mR μ).slots)
    (kk : ∀ (r : Option Value) (ws' : va_W), Q r ws' → WP μ (k + mc) (n + ms) ws' (pc + 3) lv (r.toList ++ rest)) : WP μ k n ws pc lv (As.reverse ++ .ref b :: rest) := by
  intro p e s m args below meth c C0 H locs ls hP hD hS hl
  obtain ⟨hx, hb, hml, hr, hown, hts, hK, hSt, hA, hlocks, hE⟩ := id C0
  obtain ⟨h1, h2, h3, h4, h5, h6⟩ := lk
  have hG : GoodIn gt (.code M.1 M.2.1 M.2.2.1 M.2.2.2 :: gt) := good_app (xs := []) h2 (fun _ h => absurd h List.not_mem_nil)
  exact call_go C0 hD hS hl (va_runSX (mid := mid) (x := x) (hK.1 ci _ hc).2 ⟨hx, hb, hml, hown, hts⟩ (ct H.size) hts hG (List.mem_cons_self) rfl rfl hR (hts _ (h1 _ (by simp))) (hts _ (h1 _ (by simp))) (hts _ (h1 _ (by simp))) (hts _ (h1 _ (by simp))) (hts _ (h1 _ (by simp))) h3 h4 (hts _ (h1 _ (by simp))) (hts _ (h1 _ (by simp))) h5 h6 ⟨Pcx.blind, rcv_of hK hP hc he, call_pre hK hSt hA hP hD hS⟩ rfl hn hl.1 rfl (lv_room hrest) hd hf) kk
end CALLX
