/-! ===== THE LAYER: a method's activation over one world of cells (WP), its contract (Ct), a row an instruction ===== -/
/-- class ids, slots, array classes (0 int, 1 byte, 2 Box, 3 Track, 4 Table, 5 Object), the constants' addresses by ordinal, other statics (0 the empty list's array, 1 the mirror) -/
abbrev gG : Type := (Nat → ClassId) × (Nat → Nat → Nat) × (Nat → ClassId) × (Nat → Nat) × (Nat → Nat)
abbrev gD (G : gG) : va_G := (G.1, G.2.1)
abbrev gA (G : gG) (k : Nat) : ClassId := G.2.2.1 k
abbrev gE (G : gG) (k : Nat) : Nat := G.2.2.2.1 k
abbrev gS (G : gG) (k : Nat) : Nat := G.2.2.2.2 k
def tysG (G : gG) : List (ClassId × FieldType) := [(gA G 0, .int), (gA G 1, .byte), (gA G 2, .object "MovieBoxes$Box"), (gA G 3, .object "MovieBoxes$Track"), (gA G 4, .object "MovieBoxes$Table"), (gA G 5, .object "java/lang/Object")]
def kNm : List String := ["MOVIE", "DATA", "TRACK", "DURATIONS", "SHIFTS", "CHUNKS", "SIZES", "PLACES", "WIDE", "SYNCS", "EDITS", "OTHER"]
def kFl : List (String × String × String × List Int32) := [("java/lang/Enum", "ordinal", "I", [0, 1, 2, 3, 4, 5, 6, 7, 8, 9, 10, 11]), ("MovieBoxes$Kind", "width", "I", [0, 0, 0, 2, 2, 3, 1, 1, 2, 1, 2, 0]), ("MovieBoxes$Kind", "slot", "I", [-1, -1, -1, 0, 1, 2, 3, 4, 4, 5, 6, -1])]
def isNw : Cond → Bool
  | .fieldLinkNest .. => true
  | .methodLinkNest .. => true
  | .castable .. => true
  | .declares _ => true
  | _ => false
def nwl : List Cond := lw_tbl.filter isNw
theorem nw_go {w : Cond} (hw : isNw w = true) {s U : State} (hW : s.WarmedH U.vm) (h : va_Nw w s) : va_Nw w U := by
  cases w <;> first | (simp [isNw] at hw; done) | exact va_Nw.warmF hW h | exact va_Nw.warmM hW h | exact va_Nw.warmD hW h | exact va_Nw.warmC hW h
theorem nw_same {w : Cond} (hw : isNw w = true) {s U : State} (hv : s.vm = U.vm) (h : va_Nw w s) : va_Nw w U := by
  cases w <;> first | (simp [isNw] at hw; done) | exact va_Nw.same rfl hv h
def ncl : List (String × String) := [("MovieBoxes$Leaf", "MovieBoxes$Holder"), ("MovieBoxes$Table", "MovieBoxes$Holder"), ("MovieBoxes$PlaceTable", "MovieBoxes$Holder"), ("MovieBoxes$SizeTable", "MovieBoxes$Holder"), ("MovieBoxes$Holder", "MovieBoxes$Table"), ("MovieBoxes$Leaf", "MovieBoxes$Table"), ("MovieBoxes$Holder", "MovieBoxes$Written"), ("MovieBoxes$Holder", "MovieBoxes$PlaceTable"), ("MovieBoxes$Leaf", "MovieBoxes$PlaceTable"), ("MovieBoxes$Table", "MovieBoxes$PlaceTable"), ("MovieBoxes$SizeTable", "MovieBoxes$PlaceTable")]
def aol : List String := ["MovieBoxes$Box", "MovieBoxes$Track", "MovieBoxes$Table", "java/lang/Object"]
def fwl : List (String × MethodName × MethodName) := (["MovieBoxes$Leaf", "MovieBoxes$Table", "MovieBoxes$SizeTable"].flatMap fun C => [("typeToWrite", "()I"), ("payloadToWrite", "()I"), ("copyTo", "([B[BI[I)V")].map fun q => (C, ⟨"MovieBoxes$Written", q.1, q.2⟩, ⟨"MovieBoxes$Leaf", q.1, q.2⟩)) ++ [("typeToWrite", "()I"), ("payloadToWrite", "()I"), ("copyTo", "([B[BI[I)V")].map fun q => ("MovieBoxes$PlaceTable", ⟨"MovieBoxes$Written", q.1, q.2⟩, ⟨"MovieBoxes$PlaceTable", q.1, q.2⟩)
theorem fwl_x : ∀ q ∈ fwl, q.2.1.cls ≠ "java/lang/invoke/MethodHandle" ∧ q.2.1.cls ≠ "java/lang/invoke/VarHandle" := by decide +kernel
/-- what is known of statics, and the tables' words that aren't good ones -/
def Sts (G : gG) (A : Nat → Prop) (U : State) (H : Heap) : Prop :=
  va_En "MovieBoxes$Kind" "LMovieBoxes$Kind;" kNm kFl (gE G) A U H ∧
  va_Z "java/util/ArrayList" "DEFAULTCAPACITY_EMPTY_ELEMENTDATA" "[Ljava/lang/Object;" (.ref (gS G 0)) A U H ∧ va_T (.object "java/lang/Object") (gS G 0) 0 (fun _ => .null) A U H ∧
  va_Mi "[Ljava/lang/Object;" (gS G 1) U ∧ (∀ w ∈ nwl, va_Nw w U) ∧ (∀ q ∈ ncl, va_Nc q.1 q.2 U) ∧ (∀ C ∈ aol, va_AO C U) ∧ (∀ q ∈ fwl, va_Fw q.1 q.2.1 q.2.2 U)
theorem Sts.go {G : gG} {A B : Nat → Prop} {s U : State} {H : Heap} {locs : List Loc} (h : Sts G A s s.heap) (hS : va_S A s.heap H locs) (hU : U.heap = H) (hW : s.WarmedH U.vm) (hAB : ∀ q, B q → A q) : Sts G B U U.heap := by
  obtain ⟨h1, h2, h3, h4, h5, h6, h7, h8⟩ := h
  have kq : ∀ a : Nat, a < s.heap.size → ¬ A a → U.heap[a]? = s.heap[a]? := fun a h1 h2 => by rw [hU]; exact hS.2.1 a h1 h2
  have al := hW.alike
  exact ⟨((h1.kept kq).moved al).narrow hAB, ((h2.kept kq).moved al).narrow hAB, ((h3.kept kq).moved al).narrow hAB, h4.moved al, fun w hw => nw_go (List.mem_filter.mp hw).2 hW (h5 w hw), fun q hq => (h6 q hq).moved al, fun C hC => (h7 C hC).moved al, fun q hq => (h8 q hq).moved (fwl_x q hq) al⟩
theorem Sts.calling {G : gG} {A : Nat → Prop} {U : State} {g : JFrame} {mk : MethodId} {a : Array Value} (h : Sts G A U U.heap) : Sts G A (U.calling g mk a) (U.calling g mk a).heap := by
  obtain ⟨h1, h2, h3, h4, h5, h6, h7, h8⟩ := h
  have al : U.vm.Alike (U.calling g mk a).vm := Vm.Alike.refl U.vm
  exact ⟨h1.moved al, h2.moved al, h3.moved al, h4.moved al, fun w hw => nw_same (s := U) (List.mem_filter.mp hw).2 rfl (h5 w hw), fun q hq => (h6 q hq).moved al, fun C hC => (h7 C hC).moved al, fun q hq => (h8 q hq).moved (fwl_x q hq) al⟩
/-- a method's activation, what doesn't change: tables, launch, its class, bytes, locals, answer's type, room, the cells that it may change, what else is known, what is to be reached -/
abbrev Mx : Type := gG × Launch × String × ByteArray × Nat × Option FieldType × Room × (Nat → Prop) × (State → Method → Array Value → Prop) × (List Frame → Array Value → State → State → Prop)
abbrev mG (μ : Mx) : gG := μ.1
abbrev mL (μ : Mx) : Launch := μ.2.1
abbrev mO (μ : Mx) : String := μ.2.2.1
abbrev mB (μ : Mx) : ByteArray := μ.2.2.2.1
abbrev mN (μ : Mx) : Nat := μ.2.2.2.2.1
abbrev mT (μ : Mx) : Option FieldType := μ.2.2.2.2.2.1
abbrev mR (μ : Mx) : Room := μ.2.2.2.2.2.2.1
abbrev mA (μ : Mx) : Nat → Prop := μ.2.2.2.2.2.2.2.1
abbrev mE (μ : Mx) : State → Method → Array Value → Prop := μ.2.2.2.2.2.2.2.2.1
abbrev mZ (μ : Mx) : List Frame → Array Value → State → State → Prop := μ.2.2.2.2.2.2.2.2.2
def Cx (μ : Mx) (p : Program) (s : State) (m : MethodId) (args : Array Value) (meth : Method) (c : Code) : Prop :=
  p.tables.exec = Jvm.exec ∧ c.code = mB μ ∧ c.maxLocals = mN μ ∧ meth.sig.returnType = mT μ ∧ s.vm.findClass (mO μ) = some m.cls ∧ (∀ w ∈ gt, w.before args s = true) ∧ va_K (gD (mG μ)) cls (tysG (mG μ)) s ∧ Sts (mG μ) (mA μ) s s.heap ∧ (∀ q, s.heap.size ≤ q → mA μ q) ∧ meth.locks = false ∧ mE μ s meth args
/-- the locals: at place i the value, where it's known -/
def lh (ls : Array Slot) (nL : Nat) (lv : List (Option Value)) : Prop := ls.size = nL ∧ lv_wf ls ∧ ∀ (i : Nat) (v : Value), lv[i]? = some (some v) → ls[i]? = some (.val v)
def WP (μ : Mx) (k n : Nat) (ws : va_W) (pc : Nat) (lv : List (Option Value)) (st : List Value) : Prop :=
  ∀ (p : Program) (e : Env) (s : State) (m : MethodId) (args : Array Value) (below : List Frame) (meth : Method) (c : Code), Cx μ p s m args meth c → ∀ (H : Heap) (locs : List Loc) (ls : Array Slot), va_P (gD (mG μ)) cls ws H → va_D (mA μ) ws → va_S (mA μ) s.heap H locs → lh ls (mN μ) lv → W p (mL μ) e (mR μ) s m args below meth c H locs k n (mZ μ below args s) (F0 m pc ls st)
def lvz (lv : List (Option Value)) : List (Nat × Value) := (List.range lv.length).filterMap (fun i => (lv.getD i none).map (fun v => (i, v)))
theorem lvz_mem {lv : List (Option Value)} {i : Nat} {v : Value} : (i, v) ∈ lvz lv ↔ lv[i]? = some (some v) := by
  simp only [lvz, List.mem_filterMap, List.mem_range]
  constructor
  · rintro ⟨j, hj, h⟩
    cases hg : lv.getD j none with
    | none => rw [hg] at h; cases h
    | some w =>
      rw [hg] at h
      simp only [Option.map_some, Option.some.injEq, Prod.mk.injEq] at h
      obtain ⟨rfl, rfl⟩ := h
      rw [List.getD_eq_getElem?_getD] at hg
      rw [List.getElem?_eq_getElem hj] at hg ⊢
      exact congrArg some hg
  · intro h
    obtain ⟨hj, hv⟩ := List.getElem?_eq_some_iff.mp h
    refine ⟨i, hj, ?_⟩
    rw [List.getD_eq_getElem?_getD, h]
    rfl
theorem lh.to {ls : Array Slot} {nL : Nat} {lv : List (Option Value)} (h : lh ls nL lv) : lv_has ls nL (lvz lv) := ⟨h.1, h.2.1, fun q hq => h.2.2 q.1 q.2 (lvz_mem.mp (by cases q; exact hq))⟩
theorem lh.of {ls : Array Slot} {nL : Nat} {lv : List (Option Value)} (h : lv_has ls nL (lvz lv)) : lh ls nL lv := ⟨h.1, h.2.1, fun i v hi => h.2.2 (i, v) (lvz_mem.mpr hi)⟩
/-- a place may be stored to if no long stands just ahead of it -/
def okst (lv : List (Option Value)) (i : Nat) : Bool := match i with
  | 0 => true
  | j + 1 => match lv[j]? with
    | some (some w) => w.category == 1
    | _ => true
theorem lh.store {ls : Array Slot} {nL i : Nat} {v : Value} {lv : List (Option Value)} (ho : okst lv i = true) (h : lv_has ls nL ((i, v) :: (lvz lv).filter (fun q => !(q.1 == i) && !(q.1 + 1 == i && q.2.category == 2)))) : lh ls nL (lv.set i (some v)) := by
  refine ⟨h.1, h.2.1, fun j w hj => ?_⟩
  by_cases hji : j = i
  · subst hji
    have hl : j < lv.length := by
      have := (List.getElem?_eq_some_iff.mp hj).1
      simpa using this
    rw [List.getElem?_set_self hl] at hj
    cases hj
    exact h.2.2 (j, v) List.mem_cons_self
  · rw [List.getElem?_set_ne (by omega)] at hj
    refine h.2.2 (j, w) (List.mem_cons_of_mem _ (List.mem_filter.mpr ⟨lvz_mem.mpr hj, ?_⟩))
    have h1 : (j == i) = false := by simpa using hji
    have h2 : (j + 1 == i && w.category == 2) = false := by
      cases hc : (j + 1 == i) with
      | false => rfl
      | true =>
        have hi : i = j + 1 := by have := beq_iff_eq.mp hc; omega
        subst hi
        simp only [okst, hj] at ho
        have := beq_iff_eq.mp ho
        rw [this]; rfl
    simp [h1, h2]
theorem lh.store2 {ls : Array Slot} {nL i : Nat} {v : Value} {lv : List (Option Value)} (ho : okst lv i = true) (h : lv_has ls nL ((i, v) :: (lvz lv).filter (fun q => !(q.1 == i) && (!(q.1 == i + 1) && !(q.1 + 1 == i && q.2.category == 2))))) : lh ls nL ((lv.set i (some v)).set (i + 1) none) := by
  refine ⟨h.1, h.2.1, fun j w hj => ?_⟩
  by_cases hj1 : j = i + 1
  · subst hj1
    by_cases hl : i + 1 < (lv.set i (some v)).length
    · rw [List.getElem?_set_self hl] at hj; cases hj
    · rw [List.getElem?_eq_none (by rw [List.length_set]; omega)] at hj; cases hj
  rw [List.getElem?_set_ne (by omega)] at hj
  by_cases hji : j = i
  · subst hji
    have hl : j < lv.length := by
      have := (List.getElem?_eq_some_iff.mp hj).1
      simpa using this
    rw [List.getElem?_set_self hl] at hj
    cases hj
    exact h.2.2 (j, v) List.mem_cons_self
  · rw [List.getElem?_set_ne (by omega)] at hj
    refine h.2.2 (j, w) (List.mem_cons_of_mem _ (List.mem_filter.mpr ⟨lvz_mem.mpr hj, ?_⟩))
    have h1 : (j == i) = false := by simpa using hji
    have h3 : (j == i + 1) = false := by simpa using hj1
    have h2 : (j + 1 == i && w.category == 2) = false := by
      cases hc : (j + 1 == i) with
      | false => rfl
      | true =>
        have hi : i = j + 1 := by have := beq_iff_eq.mp hc; omega
        subst hi
        simp only [okst, hj] at ho
        have := beq_iff_eq.mp ho
        rw [this]; rfl
    simp [h1, h2, h3]
