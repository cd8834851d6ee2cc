/-! ===== whole numbers: an int is zI of a whole number; a byte's cell is zB ===== -/
def zI (x : Int) : Int32 := Int32.ofInt x
abbrev vI (x : Int) : Value := .int (zI x)
def zB (x : Int) : Int32 := (zI x).toInt8.toInt32
def i32 (x : Int) : Prop := -2147483648 ≤ x ∧ x < 2147483648
theorem i32_0 : i32 0 := by unfold i32; omega
theorem zI_toInt {x : Int} (h : i32 x) : (zI x).toInt = x := by
  unfold i32 at h
  unfold zI
  rw [Int32.toInt_ofInt_of_le (by omega) (by omega)]
theorem zI_of (v : Int32) : zI v.toInt = v := by unfold zI; exact Int32.ofInt_toInt v
theorem i32_toInt (v : Int32) : i32 v.toInt := ⟨by have := Int32.le_toInt v; omega, by have := Int32.toInt_lt v; omega⟩
theorem zI_add (x y : Int) : zI x + zI y = zI (x + y) := by unfold zI; rw [Int32.ofInt_add]
theorem zI_sub (x y : Int) : zI x - zI y = zI (x - y) := by unfold zI; rw [Int32.ofInt_sub]
theorem zI_mul (x y : Int) : zI x * zI y = zI (x * y) := by unfold zI; rw [Int32.ofInt_mul]
theorem zI_eq {x y : Int} (hx : i32 x) (hy : i32 y) : zI x = zI y ↔ x = y := ⟨fun h => by rw [← zI_toInt hx, ← zI_toInt hy, h], fun h => by rw [h]⟩
theorem zI_lt {x y : Int} (hx : i32 x) (hy : i32 y) : zI x < zI y ↔ x < y := by rw [Int32.lt_iff_toInt_lt, zI_toInt hx, zI_toInt hy]
theorem zI_le {x y : Int} (hx : i32 x) (hy : i32 y) : zI x ≤ zI y ↔ x ≤ y := by rw [Int32.le_iff_toInt_le, zI_toInt hx, zI_toInt hy]
theorem zI_nat (n : Nat) : zI (n : Int) = nI n := by unfold zI nI; exact Int32.ofInt_eq_ofNat
theorem zI_clamp {x : Int} (h0 : 0 ≤ x) (h : x < 2147483648) : (zI x).toNatClampNeg = x.toNat := by
  obtain ⟨j, rfl⟩ := Int.eq_ofNat_of_zero_le h0
  rw [zI_nat, nI_clamp (by omega)]
  rfl
theorem zI_in {x : Int} {n : Nat} (h0 : 0 ≤ x) (h : x < n) (hn : n < 2147483648) : vp_in (zI x) n := by
  obtain ⟨j, rfl⟩ := Int.eq_ofNat_of_zero_le h0
  rw [zI_nat]
  exact vp_in_nI (by omega) (by omega)
def isRf : Value → Bool
  | .ref _ => true
  | .null => true
  | _ => false
theorem isRf_rf (r : Option Nat) : isRf (va_rf r) = true := by cases r <;> rfl
section ROWS
variable {μ : Mx} {k n : Nat} {ws : va_W} {pc : Nat} {lv : List (Option Value)} {st : List Value}
theorem r_iconst {x : Int} (hd : decode (mB μ) pc = .ok (.iconst x, 1)) (kk : WP μ k n ws (pc + 1) lv (vI x :: st)) : WP μ k n ws pc lv st := by
  intro p e s m args below meth c C H locs ls hP hD hS hl
  exact lv_iconst C.1 C.2.1 hd rfl (kk p e s m args below meth c C H locs ls hP hD hS hl)
theorem r_bipush {x : Int} (hd : decode (mB μ) pc = .ok (.bipush x, 2)) (hv : (Int8.ofInt x).toInt32 = zI x) (kk : WP μ k n ws (pc + 2) lv (vI x :: st)) : WP μ k n ws pc lv st := by
  intro p e s m args below meth c C H locs ls hP hD hS hl
  exact lv_bipush C.1 C.2.1 hd hv (kk p e s m args below meth c C H locs ls hP hD hS hl)
theorem r_sipush {x : Int} (hd : decode (mB μ) pc = .ok (.sipush x, 3)) (hv : (Int16.ofInt x).toInt32 = zI x) (kk : WP μ k n ws (pc + 3) lv (vI x :: st)) : WP μ k n ws pc lv st := by
  intro p e s m args below meth c C H locs ls hP hD hS hl
  exact lv_sipush C.1 C.2.1 hd hv (kk p e s m args below meth c C H locs ls hP hD hS hl)
theorem r_null (hd : decode (mB μ) pc = .ok (.aconst_null, 1)) (kk : WP μ k n ws (pc + 1) lv (.null :: st)) : WP μ k n ws pc lv st := by
  intro p e s m args below meth c C H locs ls hP hD hS hl
  exact lv_null C.1 C.2.1 hd (kk p e s m args below meth c C H locs ls hP hD hS hl)
theorem r_lconst {x : Fin 2} {v : Int64} (hd : decode (mB μ) pc = .ok (.lconst x, 1)) (hv : Int64.ofNat x.val = v) (kk : WP μ k n ws (pc + 1) lv (.long v :: st)) : WP μ k n ws pc lv st := by
  intro p e s m args below meth c C H locs ls hP hD hS hl
  exact lv_lconst C.1 C.2.1 hd (by rw [← hv]) (kk p e s m args below meth c C H locs ls hP hD hS hl)
theorem r_ldc2 {i : Nat} {v : Int64} (hd : decode (mB μ) pc = .ok (.ldc2_w i, 3)) (hw : Cond.constantLong (mO μ) i v ∈ gt) (kk : WP μ k n ws (pc + 3) lv (.long v :: st)) : WP μ k n ws pc lv st := by
  intro p e s m args below meth c C H locs ls hP hD hS hl
  exact lv_ldc2 C.1 C.2.1 C.2.2.2.2.1 (C.2.2.2.2.2.1 _ hw) hd (kk p e s m args below meth c C H locs ls hP hD hS hl)
theorem r_iload_n {i : Fin 4} {x : Int32} (hd : decode (mB μ) pc = .ok (.iload_n i, 1)) (hv : lv[(i : Nat)]? = some (some (.int x))) (kk : WP μ k n ws (pc + 1) lv (.int x :: st)) : WP μ k n ws pc lv st := by
  intro p e s m args below meth c C H locs ls hP hD hS hl
  exact lv_iload_n C.1 C.2.1 hd rfl (hl.2.2 _ _ hv) (kk p e s m args below meth c C H locs ls hP hD hS hl)
theorem r_iload {i : Nat} {x : Int32} (hd : decode (mB μ) pc = .ok (.iload i, 2)) (hv : lv[i]? = some (some (.int x))) (kk : WP μ k n ws (pc + 2) lv (.int x :: st)) : WP μ k n ws pc lv st := by
  intro p e s m args below meth c C H locs ls hP hD hS hl
  exact lv_iload C.1 C.2.1 hd (hl.2.2 _ _ hv) (kk p e s m args below meth c C H locs ls hP hD hS hl)
theorem r_lload_n {i : Fin 4} {x : Int64} (hd : decode (mB μ) pc = .ok (.lload_n i, 1)) (hv : lv[(i : Nat)]? = some (some (.long x))) (kk : WP μ k n ws (pc + 1) lv (.long x :: st)) : WP μ k n ws pc lv st := by
  intro p e s m args below meth c C H locs ls hP hD hS hl
  exact lv_lload_n C.1 C.2.1 hd rfl (hl.2.2 _ _ hv) (kk p e s m args below meth c C H locs ls hP hD hS hl)
theorem r_lload {i : Nat} {x : Int64} (hd : decode (mB μ) pc = .ok (.lload i, 2)) (hv : lv[i]? = some (some (.long x))) (kk : WP μ k n ws (pc + 2) lv (.long x :: st)) : WP μ k n ws pc lv st := by
  intro p e s m args below meth c C H locs ls hP hD hS hl
  exact lv_lload C.1 C.2.1 hd (hl.2.2 _ _ hv) (kk p e s m args below meth c C H locs ls hP hD hS hl)
theorem r_aload_n {i : Fin 4} {v : Value} (hd : decode (mB μ) pc = .ok (.aload_n i, 1)) (hv : lv[(i : Nat)]? = some (some v)) (hr : isRf v = true) (kk : WP μ k n ws (pc + 1) lv (v :: st)) : WP μ k n ws pc lv st := by
  intro p e s m args below meth c C H locs ls hP hD hS hl
  cases v <;> first | (cases hr; done) | exact lv_aload_n C.1 C.2.1 hd rfl (hl.2.2 _ _ hv) (kk p e s m args below meth c C H locs ls hP hD hS hl) | exact lv_aload_nN C.1 C.2.1 hd rfl (hl.2.2 _ _ hv) (kk p e s m args below meth c C H locs ls hP hD hS hl)
theorem r_aload {i : Nat} {v : Value} (hd : decode (mB μ) pc = .ok (.aload i, 2)) (hv : lv[i]? = some (some v)) (hr : isRf v = true) (kk : WP μ k n ws (pc + 2) lv (v :: st)) : WP μ k n ws pc lv st := by
  intro p e s m args below meth c C H locs ls hP hD hS hl
  cases v <;> first | (cases hr; done) | exact lv_aload C.1 C.2.1 hd (hl.2.2 _ _ hv) (kk p e s m args below meth c C H locs ls hP hD hS hl) | exact lv_aloadN C.1 C.2.1 hd (hl.2.2 _ _ hv) (kk p e s m args below meth c C H locs ls hP hD hS hl)
theorem r_istore_n {i : Fin 4} {x : Int32} (hd : decode (mB μ) pc = .ok (.istore_n i, 1)) (hn : (i : Nat) < mN μ) (ho : okst lv (i : Nat) = true) (kk : WP μ k n ws (pc + 1) (lv.set (i : Nat) (some (.int x))) st) : WP μ k n ws pc lv (.int x :: st) := by
  intro p e s m args below meth c C H locs ls hP hD hS hl
  exact lv_istore_n C.1 C.2.1 hd rfl hl.to hn rfl (fun ls hl => kk p e s m args below meth c C H locs ls hP hD hS (lh.store ho hl))
theorem r_istore {i : Nat} {x : Int32} (hd : decode (mB μ) pc = .ok (.istore i, 2)) (hn : i < mN μ) (ho : okst lv i = true) (kk : WP μ k n ws (pc + 2) (lv.set i (some (.int x))) st) : WP μ k n ws pc lv (.int x :: st) := by
  intro p e s m args below meth c C H locs ls hP hD hS hl
  exact lv_istore C.1 C.2.1 hd hl.to hn rfl (fun ls hl => kk p e s m args below meth c C H locs ls hP hD hS (lh.store ho hl))
theorem r_astore_n {i : Fin 4} {v : Value} (hd : decode (mB μ) pc = .ok (.astore_n i, 1)) (hn : (i : Nat) < mN μ) (ho : okst lv (i : Nat) = true) (hr : isRf v = true) (kk : WP μ k n ws (pc + 1) (lv.set (i : Nat) (some v)) st) : WP μ k n ws pc lv (v :: st) := by
  intro p e s m args below meth c C H locs ls hP hD hS hl
  cases v <;> first | (cases hr; done) | exact lv_astore_n C.1 C.2.1 hd rfl hl.to hn rfl (fun ls hl => kk p e s m args below meth c C H locs ls hP hD hS (lh.store ho hl)) | exact lv_astore_nN C.1 C.2.1 hd rfl hl.to hn rfl (fun ls hl => kk p e s m args below meth c C H locs ls hP hD hS (lh.store ho hl))
theorem r_astore {i : Nat} {v : Value} (hd : decode (mB μ) pc = .ok (.astore i, 2)) (hn : i < mN μ) (ho : okst lv i = true) (hr : isRf v = true) (kk : WP μ k n ws (pc + 2) (lv.set i (some v)) st) : WP μ k n ws pc lv (v :: st) := by
  intro p e s m args below meth c C H locs ls hP hD hS hl
  cases v <;> first | (cases hr; done) | exact lv_astore C.1 C.2.1 hd hl.to hn rfl (fun ls hl => kk p e s m args below meth c C H locs ls hP hD hS (lh.store ho hl)) | exact lv_astoreN C.1 C.2.1 hd hl.to hn rfl (fun ls hl => kk p e s m args below meth c C H locs ls hP hD hS (lh.store ho hl))
theorem r_lstore_n {i : Fin 4} {x : Int64} (hd : decode (mB μ) pc = .ok (.lstore_n i, 1)) (hn : (i : Nat) + 1 < mN μ) (ho : okst lv (i : Nat) = true) (kk : WP μ k n ws (pc + 1) ((lv.set (i : Nat) (some (.long x))).set ((i : Nat) + 1) none) st) : WP μ k n ws pc lv (.long x :: st) := by
  intro p e s m args below meth c C H locs ls hP hD hS hl
  exact lv_lstore_n C.1 C.2.1 hd rfl hl.to hn rfl (fun ls hl => kk p e s m args below meth c C H locs ls hP hD hS (lh.store2 ho hl))
theorem r_lstore {i : Nat} {x : Int64} (hd : decode (mB μ) pc = .ok (.lstore i, 2)) (hn : i + 1 < mN μ) (ho : okst lv i = true) (kk : WP μ k n ws (pc + 2) ((lv.set i (some (.long x))).set (i + 1) none) st) : WP μ k n ws pc lv (.long x :: st) := by
  intro p e s m args below meth c C H locs ls hP hD hS hl
  exact lv_lstore C.1 C.2.1 hd hl.to hn rfl (fun ls hl => kk p e s m args below meth c C H locs ls hP hD hS (lh.store2 ho hl))
theorem r_iinc {i : Nat} {a x : Int} (hd : decode (mB μ) pc = .ok (.iinc i a, 3)) (hv : lv[i]? = some (some (vI x))) (hn : i < mN μ) (ho : okst lv i = true) (kk : WP μ k n ws (pc + 3) (lv.set i (some (vI (x + a)))) st) : WP μ k n ws pc lv st := by
  intro p e s m args below meth c C H locs ls hP hD hS hl
  obtain ⟨j, hj⟩ := List.getElem?_of_mem (lvz_mem.mpr hv)
  exact lv_iinc C.1 C.2.1 hd hl.to hj (zI_add x a) hn rfl (fun ls hl => kk p e s m args below meth c C H locs ls hP hD hS (lh.store ho hl))
theorem r_iadd {x y : Int} (hd : decode (mB μ) pc = .ok (.iadd, 1)) (kk : WP μ k n ws (pc + 1) lv (vI (x + y) :: st)) : WP μ k n ws pc lv (vI y :: vI x :: st) := by
  intro p e s m args below meth c C H locs ls hP hD hS hl
  exact lv_iadd C.1 C.2.1 hd (by rw [zI_add]; exact kk p e s m args below meth c C H locs ls hP hD hS hl)
theorem r_isub {x y : Int} (hd : decode (mB μ) pc = .ok (.isub, 1)) (kk : WP μ k n ws (pc + 1) lv (vI (x - y) :: st)) : WP μ k n ws pc lv (vI y :: vI x :: st) := by
  intro p e s m args below meth c C H locs ls hP hD hS hl
  exact lv_isub C.1 C.2.1 hd (by rw [zI_sub]; exact kk p e s m args below meth c C H locs ls hP hD hS hl)
theorem r_imul {x y : Int} (hd : decode (mB μ) pc = .ok (.imul, 1)) (kk : WP μ k n ws (pc + 1) lv (vI (x * y) :: st)) : WP μ k n ws pc lv (vI y :: vI x :: st) := by
  intro p e s m args below meth c C H locs ls hP hD hS hl
  exact lv_imul C.1 C.2.1 hd (by rw [zI_mul]; exact kk p e s m args below meth c C H locs ls hP hD hS hl)
theorem r_iandR {x y : Int32} (hd : decode (mB μ) pc = .ok (.iand, 1)) (kk : WP μ k n ws (pc + 1) lv (.int (x &&& y) :: st)) : WP μ k n ws pc lv (.int y :: .int x :: st) := by
  intro p e s m args below meth c C H locs ls hP hD hS hl
  exact lv_iand C.1 C.2.1 hd (kk p e s m args below meth c C H locs ls hP hD hS hl)
theorem r_iorR {x y : Int32} (hd : decode (mB μ) pc = .ok (.ior, 1)) (kk : WP μ k n ws (pc + 1) lv (.int (x ||| y) :: st)) : WP μ k n ws pc lv (.int y :: .int x :: st) := by
  intro p e s m args below meth c C H locs ls hP hD hS hl
  exact lv_ior C.1 C.2.1 hd (kk p e s m args below meth c C H locs ls hP hD hS hl)
theorem r_ishlR {x y : Int32} (hd : decode (mB μ) pc = .ok (.ishl, 1)) (kk : WP μ k n ws (pc + 1) lv (.int (x <<< (y &&& 31)) :: st)) : WP μ k n ws pc lv (.int y :: .int x :: st) := by
  intro p e s m args below meth c C H locs ls hP hD hS hl
  exact lv_ishl C.1 C.2.1 hd (kk p e s m args below meth c C H locs ls hP hD hS hl)
theorem r_ishrR {x y : Int32} (hd : decode (mB μ) pc = .ok (.ishr, 1)) (kk : WP μ k n ws (pc + 1) lv (.int (x >>> (y &&& 31)) :: st)) : WP μ k n ws pc lv (.int y :: .int x :: st) := by
  intro p e s m args below meth c C H locs ls hP hD hS hl
  exact lv_ishr C.1 C.2.1 hd (kk p e s m args below meth c C H locs ls hP hD hS hl)
theorem r_iushrR {x y : Int32} (hd : decode (mB μ) pc = .ok (.iushr, 1)) (kk : WP μ k n ws (pc + 1) lv (.int (x.toUInt32 >>> (y.toUInt32 &&& Int32.toUInt32 31)).toInt32 :: st)) : WP μ k n ws pc lv (.int y :: .int x :: st) := by
  intro p e s m args below meth c C H locs ls hP hD hS hl
  exact lv_iushr C.1 C.2.1 hd rfl (kk p e s m args below meth c C H locs ls hP hD hS hl)
theorem r_idivR {x y : Int32} (hd : decode (mB μ) pc = .ok (.idiv, 1)) (h0 : ¬ y = 0) (kk : WP μ k n ws (pc + 1) lv (.int (x / y) :: st)) : WP μ k n ws pc lv (.int y :: .int x :: st) := by
  intro p e s m args below meth c C H locs ls hP hD hS hl
  exact lv_idiv C.1 C.2.1 hd h0 (kk p e s m args below meth c C H locs ls hP hD hS hl)
theorem r_iremR {x y : Int32} (hd : decode (mB μ) pc = .ok (.irem, 1)) (h0 : ¬ y = 0) (kk : WP μ k n ws (pc + 1) lv (.int (x - x / y * y) :: st)) : WP μ k n ws pc lv (.int y :: .int x :: st) := by
  intro p e s m args below meth c C H locs ls hP hD hS hl
  exact lv_irem C.1 C.2.1 hd h0 (kk p e s m args below meth c C H locs ls hP hD hS hl)
theorem r_i2b {x : Int} (hd : decode (mB μ) pc = .ok (.i2b, 1)) (kk : WP μ k n ws (pc + 1) lv (.int (zB x) :: st)) : WP μ k n ws pc lv (vI x :: st) := by
  intro p e s m args below meth c C H locs ls hP hD hS hl
  exact lv_i2b C.1 C.2.1 hd rfl (kk p e s m args below meth c C H locs ls hP hD hS hl)
theorem r_i2l {x : Int32} (hd : decode (mB μ) pc = .ok (.i2l, 1)) (kk : WP μ k n ws (pc + 1) lv (.long x.toInt64 :: st)) : WP μ k n ws pc lv (.int x :: st) := by
  intro p e s m args below meth c C H locs ls hP hD hS hl
  exact lv_i2l C.1 C.2.1 hd rfl (kk p e s m args below meth c C H locs ls hP hD hS hl)
theorem r_l2i {x : Int64} (hd : decode (mB μ) pc = .ok (.l2i, 1)) (kk : WP μ k n ws (pc + 1) lv (.int x.toInt32 :: st)) : WP μ k n ws pc lv (.long x :: st) := by
  intro p e s m args below meth c C H locs ls hP hD hS hl
  exact lv_l2i C.1 C.2.1 hd rfl (kk p e s m args below meth c C H locs ls hP hD hS hl)
theorem r_lsub {x y : Int64} (hd : decode (mB μ) pc = .ok (.lsub, 1)) (kk : WP μ k n ws (pc + 1) lv (.long (x - y) :: st)) : WP μ k n ws pc lv (.long y :: .long x :: st) := by
  intro p e s m args below meth c C H locs ls hP hD hS hl
  exact lv_lsub C.1 C.2.1 hd (kk p e s m args below meth c C H locs ls hP hD hS hl)
theorem r_land {x y : Int64} (hd : decode (mB μ) pc = .ok (.land, 1)) (kk : WP μ k n ws (pc + 1) lv (.long (x &&& y) :: st)) : WP μ k n ws pc lv (.long y :: .long x :: st) := by
  intro p e s m args below meth c C H locs ls hP hD hS hl
  exact lv_land C.1 C.2.1 hd (kk p e s m args below meth c C H locs ls hP hD hS hl)
theorem r_lor {x y : Int64} (hd : decode (mB μ) pc = .ok (.lor, 1)) (kk : WP μ k n ws (pc + 1) lv (.long (x ||| y) :: st)) : WP μ k n ws pc lv (.long y :: .long x :: st) := by
  intro p e s m args below meth c C H locs ls hP hD hS hl
  exact lv_lor C.1 C.2.1 hd (kk p e s m args below meth c C H locs ls hP hD hS hl)
theorem r_lushr {x : Int64} {y : Int32} (hd : decode (mB μ) pc = .ok (.lushr, 1)) (kk : WP μ k n ws (pc + 1) lv (.long (x.toUInt64 >>> (y.toInt64.toUInt64 &&& Int64.toUInt64 63)).toInt64 :: st)) : WP μ k n ws pc lv (.int y :: .long x :: st) := by
  intro p e s m args below meth c C H locs ls hP hD hS hl
  exact lv_lushr C.1 C.2.1 hd rfl (kk p e s m args below meth c C H locs ls hP hD hS hl)
theorem r_lshl {x : Int64} {y : Int32} (hd : decode (mB μ) pc = .ok (.lshl, 1)) (kk : WP μ k n ws (pc + 1) lv (.long (x <<< (y.toInt64 &&& 63)) :: st)) : WP μ k n ws pc lv (.int y :: .long x :: st) := by
  intro p e s m args below meth c C H locs ls hP hD hS hl
  exact lv_lshl C.1 C.2.1 hd rfl (kk p e s m args below meth c C H locs ls hP hD hS hl)
theorem r_lshr {x : Int64} {y : Int32} (hd : decode (mB μ) pc = .ok (.lshr, 1)) (kk : WP μ k n ws (pc + 1) lv (.long (x >>> (y.toInt64 &&& 63)) :: st)) : WP μ k n ws pc lv (.int y :: .long x :: st) := by
  intro p e s m args below meth c C H locs ls hP hD hS hl
  exact lv_lshr C.1 C.2.1 hd rfl (kk p e s m args below meth c C H locs ls hP hD hS hl)
theorem r_lcmp {x y : Int64} (hd : decode (mB μ) pc = .ok (.lcmp, 1)) (kk : WP μ k n ws (pc + 1) lv (.int (lg_cmp x y) :: st)) : WP μ k n ws pc lv (.long y :: .long x :: st) := by
  intro p e s m args below meth c C H locs ls hP hD hS hl
  exact W.lcmp C.1 C.2.1 hd (kk p e s m args below meth c C H locs ls hP hD hS hl)
theorem r_dup {a : Value} (hd : decode (mB μ) pc = .ok (.dup, 1)) (ha : a.category = 1) (kk : WP μ k n ws (pc + 1) lv (a :: a :: st)) : WP μ k n ws pc lv (a :: st) := by
  intro p e s m args below meth c C H locs ls hP hD hS hl
  exact lv_dup C.1 C.2.1 hd ha (kk p e s m args below meth c C H locs ls hP hD hS hl)
theorem r_pop {a : Value} (hd : decode (mB μ) pc = .ok (.pop, 1)) (ha : a.category = 1) (kk : WP μ k n ws (pc + 1) lv st) : WP μ k n ws pc lv (a :: st) := by
  intro p e s m args below meth c C H locs ls hP hD hS hl
  exact lv_pop C.1 C.2.1 hd ha (kk p e s m args below meth c C H locs ls hP hD hS hl)
theorem r_dup_x1 {a b : Value} (hd : decode (mB μ) pc = .ok (.dup_x1, 1)) (ha : a.category = 1) (hb : b.category = 1) (kk : WP μ k n ws (pc + 1) lv (a :: b :: a :: st)) : WP μ k n ws pc lv (a :: b :: st) := by
  intro p e s m args below meth c C H locs ls hP hD hS hl
  exact lv_dup_x1 C.1 C.2.1 hd ha hb (kk p e s m args below meth c C H locs ls hP hD hS hl)
theorem r_dup_x2 {a b d : Value} (hd : decode (mB μ) pc = .ok (.dup_x2, 1)) (ha : a.category = 1) (hb : b.category = 1) (hc : d.category = 1) (kk : WP μ k n ws (pc + 1) lv (a :: b :: d :: a :: st)) : WP μ k n ws pc lv (a :: b :: d :: st) := by
  intro p e s m args below meth c C H locs ls hP hD hS hl
  exact lv_dup_x2 C.1 C.2.1 hd ha hb hc (kk p e s m args below meth c C H locs ls hP hD hS hl)
theorem r_dup2 {a b : Value} (hd : decode (mB μ) pc = .ok (.dup2, 1)) (ha : a.category = 1) (hb : b.category = 1) (kk : WP μ k n ws (pc + 1) lv (a :: b :: a :: b :: st)) : WP μ k n ws pc lv (a :: b :: st) := by
  intro p e s m args below meth c C H locs ls hP hD hS hl
  exact lv_dup2_11 C.1 C.2.1 hd ha hb (kk p e s m args below meth c C H locs ls hP hD hS hl)
theorem r_goto {off : Int} (tgt : Nat) (hd : decode (mB μ) pc = .ok (.goto off, 3)) (ht : (pc : Int) + off = (tgt : Int)) (kk : WP μ k n ws tgt lv st) : WP μ k n ws pc lv st := by
  intro p e s m args below meth c C H locs ls hP hD hS hl
  exact lv_goto C.1 C.2.1 hd ht (kk p e s m args below meth c C H locs ls hP hD hS hl)
theorem r_icmp_eq {x y : Int} {off : Int} (tgt : Nat) (hd : decode (mB μ) pc = .ok (.if_icmp .eq off, 3)) (ht : (pc : Int) + off = (tgt : Int)) (hx : i32 x) (hy : i32 y) (kt : x = y → WP μ k n ws tgt lv st) (kf : ¬ (x = y) → WP μ k n ws (pc + 3) lv st) : WP μ k n ws pc lv (vI y :: vI x :: st) := by
  intro p e s m args below meth c C H locs ls hP hD hS hl
  exact lv_icmp_eq C.1 C.2.1 hd ht (fun h => kt ((zI_eq hx hy).mp h) p e s m args below meth c C H locs ls hP hD hS hl) (fun h => kf (fun q => h ((zI_eq hx hy).mpr q)) p e s m args below meth c C H locs ls hP hD hS hl)
theorem r_icmp_ne {x y : Int} {off : Int} (tgt : Nat) (hd : decode (mB μ) pc = .ok (.if_icmp .ne off, 3)) (ht : (pc : Int) + off = (tgt : Int)) (hx : i32 x) (hy : i32 y) (kt : ¬ x = y → WP μ k n ws tgt lv st) (kf : ¬ (¬ x = y) → WP μ k n ws (pc + 3) lv st) : WP μ k n ws pc lv (vI y :: vI x :: st) := by
  intro p e s m args below meth c C H locs ls hP hD hS hl
  exact lv_icmp_ne C.1 C.2.1 hd ht (fun h => kt (fun q => h ((zI_eq hx hy).mpr q)) p e s m args below meth c C H locs ls hP hD hS hl) (fun h => kf (fun q => q ((zI_eq hx hy).mp h)) p e s m args below meth c C H locs ls hP hD hS hl)
theorem r_icmp_lt {x y : Int} {off : Int} (tgt : Nat) (hd : decode (mB μ) pc = .ok (.if_icmp .lt off, 3)) (ht : (pc : Int) + off = (tgt : Int)) (hx : i32 x) (hy : i32 y) (kt : x < y → WP μ k n ws tgt lv st) (kf : ¬ (x < y) → WP μ k n ws (pc + 3) lv st) : WP μ k n ws pc lv (vI y :: vI x :: st) := by
  intro p e s m args below meth c C H locs ls hP hD hS hl
  exact lv_icmp_lt C.1 C.2.1 hd ht (fun h => kt ((zI_lt hx hy).mp h) p e s m args below meth c C H locs ls hP hD hS hl) (fun h => kf (fun q => h ((zI_lt hx hy).mpr q)) p e s m args below meth c C H locs ls hP hD hS hl)
theorem r_icmp_ge {x y : Int} {off : Int} (tgt : Nat) (hd : decode (mB μ) pc = .ok (.if_icmp .ge off, 3)) (ht : (pc : Int) + off = (tgt : Int)) (hx : i32 x) (hy : i32 y) (kt : y ≤ x → WP μ k n ws tgt lv st) (kf : ¬ (y ≤ x) → WP μ k n ws (pc + 3) lv st) : WP μ k n ws pc lv (vI y :: vI x :: st) := by
  intro p e s m args below meth c C H locs ls hP hD hS hl
  exact lv_icmp_ge C.1 C.2.1 hd ht (fun h => kt ((zI_le hy hx).mp h) p e s m args below meth c C H locs ls hP hD hS hl) (fun h => kf (fun q => h ((zI_le hy hx).mpr q)) p e s m args below meth c C H locs ls hP hD hS hl)
theorem r_icmp_gt {x y : Int} {off : Int} (tgt : Nat) (hd : decode (mB μ) pc = .ok (.if_icmp .gt off, 3)) (ht : (pc : Int) + off = (tgt : Int)) (hx : i32 x) (hy : i32 y) (kt : y < x → WP μ k n ws tgt lv st) (kf : ¬ (y < x) → WP μ k n ws (pc + 3) lv st) : WP μ k n ws pc lv (vI y :: vI x :: st) := by
  intro p e s m args below meth c C H locs ls hP hD hS hl
  exact lv_icmp_gt C.1 C.2.1 hd ht (fun h => kt ((zI_lt hy hx).mp h) p e s m args below meth c C H locs ls hP hD hS hl) (fun h => kf (fun q => h ((zI_lt hy hx).mpr q)) p e s m args below meth c C H locs ls hP hD hS hl)
theorem r_icmp_le {x y : Int} {off : Int} (tgt : Nat) (hd : decode (mB μ) pc = .ok (.if_icmp .le off, 3)) (ht : (pc : Int) + off = (tgt : Int)) (hx : i32 x) (hy : i32 y) (kt : x ≤ y → WP μ k n ws tgt lv st) (kf : ¬ (x ≤ y) → WP μ k n ws (pc + 3) lv st) : WP μ k n ws pc lv (vI y :: vI x :: st) := by
  intro p e s m args below meth c C H locs ls hP hD hS hl
  exact lv_icmp_le C.1 C.2.1 hd ht (fun h => kt ((zI_le hx hy).mp h) p e s m args below meth c C H locs ls hP hD hS hl) (fun h => kf (fun q => h ((zI_le hx hy).mpr q)) p e s m args below meth c C H locs ls hP hD hS hl)
theorem r_if_eq {x : Int} {off : Int} (tgt : Nat) (hd : decode (mB μ) pc = .ok (.ifCond .eq off, 3)) (ht : (pc : Int) + off = (tgt : Int)) (hx : i32 x) (kt : x = 0 → WP μ k n ws tgt lv st) (kf : ¬ (x = 0) → WP μ k n ws (pc + 3) lv st) : WP μ k n ws pc lv (vI x :: st) := by
  intro p e s m args below meth c C H locs ls hP hD hS hl
  exact lv_if_eq C.1 C.2.1 hd ht (fun h => kt ((zI_eq hx i32_0).mp h) p e s m args below meth c C H locs ls hP hD hS hl) (fun h => kf (fun q => h ((zI_eq hx i32_0).mpr q)) p e s m args below meth c C H locs ls hP hD hS hl)
theorem r_if_ne {x : Int} {off : Int} (tgt : Nat) (hd : decode (mB μ) pc = .ok (.ifCond .ne off, 3)) (ht : (pc : Int) + off = (tgt : Int)) (hx : i32 x) (kt : ¬ x = 0 → WP μ k n ws tgt lv st) (kf : ¬ (¬ x = 0) → WP μ k n ws (pc + 3) lv st) : WP μ k n ws pc lv (vI x :: st) := by
  intro p e s m args below meth c C H locs ls hP hD hS hl
  exact lv_if_ne C.1 C.2.1 hd ht (fun h => kt (fun q => h ((zI_eq hx i32_0).mpr q)) p e s m args below meth c C H locs ls hP hD hS hl) (fun h => kf (fun q => q ((zI_eq hx i32_0).mp h)) p e s m args below meth c C H locs ls hP hD hS hl)
theorem r_if_lt {x : Int} {off : Int} (tgt : Nat) (hd : decode (mB μ) pc = .ok (.ifCond .lt off, 3)) (ht : (pc : Int) + off = (tgt : Int)) (hx : i32 x) (kt : x < 0 → WP μ k n ws tgt lv st) (kf : ¬ (x < 0) → WP μ k n ws (pc + 3) lv st) : WP μ k n ws pc lv (vI x :: st) := by
  intro p e s m args below meth c C H locs ls hP hD hS hl
  exact lv_if_lt C.1 C.2.1 hd ht (fun h => kt ((zI_lt hx i32_0).mp h) p e s m args below meth c C H locs ls hP hD hS hl) (fun h => kf (fun q => h ((zI_lt hx i32_0).mpr q)) p e s m args below meth c C H locs ls hP hD hS hl)
theorem r_if_ge {x : Int} {off : Int} (tgt : Nat) (hd : decode (mB μ) pc = .ok (.ifCond .ge off, 3)) (ht : (pc : Int) + off = (tgt : Int)) (hx : i32 x) (kt : 0 ≤ x → WP μ k n ws tgt lv st) (kf : ¬ (0 ≤ x) → WP μ k n ws (pc + 3) lv st) : WP μ k n ws pc lv (vI x :: st) := by
  intro p e s m args below meth c C H locs ls hP hD hS hl
  exact lv_if_ge C.1 C.2.1 hd ht (fun h => kt ((zI_le i32_0 hx).mp h) p e s m args below meth c C H locs ls hP hD hS hl) (fun h => kf (fun q => h ((zI_le i32_0 hx).mpr q)) p e s m args below meth c C H locs ls hP hD hS hl)
theorem r_if_gt {x : Int} {off : Int} (tgt : Nat) (hd : decode (mB μ) pc = .ok (.ifCond .gt off, 3)) (ht : (pc : Int) + off = (tgt : Int)) (hx : i32 x) (kt : 0 < x → WP μ k n ws tgt lv st) (kf : ¬ (0 < x) → WP μ k n ws (pc + 3) lv st) : WP μ k n ws pc lv (vI x :: st) := by
  intro p e s m args below meth c C H locs ls hP hD hS hl
  exact lv_if_gt C.1 C.2.1 hd ht (fun h => kt ((zI_lt i32_0 hx).mp h) p e s m args below meth c C H locs ls hP hD hS hl) (fun h => kf (fun q => h ((zI_lt i32_0 hx).mpr q)) p e s m args below meth c C H locs ls hP hD hS hl)
theorem r_if_le {x : Int} {off : Int} (tgt : Nat) (hd : decode (mB μ) pc = .ok (.ifCond .le off, 3)) (ht : (pc : Int) + off = (tgt : Int)) (hx : i32 x) (kt : x ≤ 0 → WP μ k n ws tgt lv st) (kf : ¬ (x ≤ 0) → WP μ k n ws (pc + 3) lv st) : WP μ k n ws pc lv (vI x :: st) := by
  intro p e s m args below meth c C H locs ls hP hD hS hl
  exact lv_if_le C.1 C.2.1 hd ht (fun h => kt ((zI_le hx i32_0).mp h) p e s m args below meth c C H locs ls hP hD hS hl) (fun h => kf (fun q => h ((zI_le hx i32_0).mpr q)) p e s m args below meth c C H locs ls hP hD hS hl)
theorem r_ifnull {r : Option Nat} {off : Int} (tgt : Nat) (hd : decode (mB μ) pc = .ok (.ifnull off, 3)) (ht : (pc : Int) + off = (tgt : Int)) (kn : r = none → WP μ k n ws tgt lv st) (ks : ∀ a, r = some a → WP μ k n ws (pc + 3) lv st) : WP μ k n ws pc lv (va_rf r :: st) := by
  intro p e s m args below meth c C H locs ls hP hD hS hl
  cases r with
  | none => exact lv_ifnullN C.1 C.2.1 hd ht (kn rfl p e s m args below meth c C H locs ls hP hD hS hl)
  | some a => exact lv_ifnull C.1 C.2.1 hd (ks a rfl p e s m args below meth c C H locs ls hP hD hS hl)
theorem r_ifnonnull {r : Option Nat} {off : Int} (tgt : Nat) (hd : decode (mB μ) pc = .ok (.ifnonnull off, 3)) (ht : (pc : Int) + off = (tgt : Int)) (kn : r = none → WP μ k n ws (pc + 3) lv st) (ks : ∀ a, r = some a → WP μ k n ws tgt lv st) : WP μ k n ws pc lv (va_rf r :: st) := by
  intro p e s m args below meth c C H locs ls hP hD hS hl
  cases r with
  | none => exact lv_ifnonnullN C.1 C.2.1 hd (kn rfl p e s m args below meth c C H locs ls hP hD hS hl)
  | some a => exact lv_ifnonnull C.1 C.2.1 hd ht (ks a rfl p e s m args below meth c C H locs ls hP hD hS hl)
theorem r_acmp_eq {ra rb : Option Nat} {off : Int} (tgt : Nat) (hd : decode (mB μ) pc = .ok (.if_acmp .eq off, 3)) (ht : (pc : Int) + off = (tgt : Int)) (kt : ra = rb → WP μ k n ws tgt lv st) (kf : ¬ ra = rb → WP μ k n ws (pc + 3) lv st) : WP μ k n ws pc lv (va_rf rb :: va_rf ra :: st) := by
  intro p e s m args below meth c C H locs ls hP hD hS hl
  exact lv_acmp_eq C.1 C.2.1 hd ht (fun h => kt h p e s m args below meth c C H locs ls hP hD hS hl) (fun h => kf h p e s m args below meth c C H locs ls hP hD hS hl)
theorem r_acmp_ne {ra rb : Option Nat} {off : Int} (tgt : Nat) (hd : decode (mB μ) pc = .ok (.if_acmp .ne off, 3)) (ht : (pc : Int) + off = (tgt : Int)) (kt : ¬ ra = rb → WP μ k n ws tgt lv st) (kf : ra = rb → WP μ k n ws (pc + 3) lv st) : WP μ k n ws pc lv (va_rf rb :: va_rf ra :: st) := by
  intro p e s m args below meth c C H locs ls hP hD hS hl
  exact lv_acmp_ne C.1 C.2.1 hd ht (fun h => kt h p e s m args below meth c C H locs ls hP hD hS hl) (fun h => kf h p e s m args below meth c C H locs ls hP hD hS hl)
theorem r_tableOut {dflt lo hi : Int} {offs : Array Int} {len : Nat} {x : Int} (tgt : Nat) (hd : decode (mB μ) pc = .ok (.tableswitch dflt lo hi offs, len)) (hx : i32 x) (h : x < lo ∨ hi < x) (ht : (pc : Int) + dflt = (tgt : Int)) (kk : WP μ k n ws tgt lv st) : WP μ k n ws pc lv (vI x :: st) := by
  intro p e s m args below meth c C H locs ls hP hD hS hl
  exact lv_tableOut C.1 C.2.1 hd (by rw [zI_toInt hx]; exact h) ht (kk p e s m args below meth c C H locs ls hP hD hS hl)
theorem r_tableIn {dflt lo hi : Int} {offs : Array Int} {len : Nat} {x off : Int} (tgt : Nat) (hd : decode (mB μ) pc = .ok (.tableswitch dflt lo hi offs, len)) (hx : i32 x) (h1 : lo ≤ x) (h2 : x ≤ hi) (ho : offs[(x - lo).toNat]? = some off) (ht : (pc : Int) + off = (tgt : Int)) (kk : WP μ k n ws tgt lv st) : WP μ k n ws pc lv (vI x :: st) := by
  intro p e s m args below meth c C H locs ls hP hD hS hl
  exact lv_tableIn C.1 C.2.1 hd (by rw [zI_toInt hx]; omega) (by rw [zI_toInt hx]; omega) (by rw [zI_toInt hx]; exact ho) ht (kk p e s m args below meth c C H locs ls hP hD hS hl)
theorem r_lookup {dflt : Int} {ps : Array (Int × Int)} {len : Nat} {x off : Int} (tgt : Nat) (hd : decode (mB μ) pc = .ok (.lookupswitch dflt ps, len)) (hx : i32 x) (hp : (ps.toList.zip (ps.toList.drop 1)).all (fun (a, next) => a.1 < next.1) = true) (ho : Op.lookupswitch.offset ps.toList dflt x = off) (ht : (pc : Int) + off = (tgt : Int)) (kk : WP μ k n ws tgt lv st) : WP μ k n ws pc lv (vI x :: st) := by
  intro p e s m args below meth c C H locs ls hP hD hS hl
  exact lv_lookup C.1 C.2.1 hd hp (by rw [zI_toInt hx]; exact ho) ht (kk p e s m args below meth c C H locs ls hP hD hS hl)
end ROWS
