/-! ===== runs of chunks and of samples: plain ===== -/
abbrev cR (v : mS) (t : Int) : Int := pv v (tb v t 2) 0
abbrev cF (v : mS) (t r : Int) : Int := pv v (tb v t 2) (1 + 3 * r)
abbrev cM (v : mS) (t r : Int) : Int := pv v (tb v t 2) (2 + 3 * r)
abbrev cC (v : mS) (t : Int) : Int := pv v (pbx v t) 0
/-- the rows of CHUNKS are in order -/
def chA (v : mS) (t : Int) : Prop := ∀ r, 0 ≤ r → r < cR v t → (r = 0 → cF v t r = 1) ∧ (0 < r → cF v t (r - 1) < cF v t r) ∧ cM v t r ≠ 0
/-- the rows of SYNCS are in order -/
def syA (v : mS) (t : Int) : Prop := ∀ r, 0 ≤ r → r < pv v (tb v t 6) 0 → (r = 0 → 0 < pv v (tb v t 6) (1 + r)) ∧ (0 < r → pv v (tb v t 6) r < pv v (tb v t 6) (1 + r))
theorem chA_of {v : mS} {t : Int} (h : ¬ rowsBad v (tb v t 2) 2) : chA v t := by
  obtain ⟨-, -, h3⟩ := kW_row (by omega) h
  intro r r0 r1
  have r1' : r < pv v (tb v t 2) 0 := r1
  have hb : ¬ badC v (tb v t 2) r := fun q => h3 ⟨r.toNat, by omega, Or.inl ⟨rfl, by rw [show ((r.toNat : Nat) : Int) = r by omega]; exact q⟩⟩
  unfold badC at hb
  refine ⟨fun e => ?_, fun e => ?_, fun e => hb (Or.inr e)⟩
  · subst e
    rw [if_pos rfl] at hb
    show pv v (tb v t 2) (1 + 3 * 0) = 1
    rw [show (1 : Int) + 3 * 0 = 1 by omega]
    exact Classical.byContradiction fun q => hb (Or.inl q)
  · rw [if_neg (by omega)] at hb
    show pv v (tb v t 2) (1 + 3 * (r - 1)) < _
    rw [show 1 + 3 * (r - 1) = 3 * r - 2 by omega]
    exact Classical.byContradiction fun q => hb (Or.inl q)
theorem syA_of {v : mS} {t : Int} (h : ¬ rowsBad v (tb v t 6) 6) : syA v t := by
  obtain ⟨-, -, h3⟩ := kW_row (by omega) h
  intro r r0 r1
  have hb : ¬ badS v (tb v t 6) r := fun q => h3 ⟨r.toNat, by omega, Or.inr ⟨rfl, by rw [show ((r.toNat : Nat) : Int) = r by omega]; exact q⟩⟩
  unfold badS at hb
  refine ⟨fun e => ?_, fun e => ?_⟩
  · rw [if_pos e] at hb; omega
  · rw [if_neg (by omega)] at hb; omega
theorem chA_lt {v : mS} {t : Int} (h : chA v t) : ∀ (d : Nat) (r : Int), 0 ≤ r → r + 1 + d < cR v t → cF v t r < cF v t (r + 1 + d)
  | 0, r, h0, h1 => by
    have := (h (r + 1) (by omega) (by omega)).2.1 (by omega)
    rw [show r + 1 - 1 = r by omega] at this
    rw [show r + 1 + ((0 : Nat) : Int) = r + 1 by omega]
    exact this
  | d + 1, r, h0, h1 => by
    have h2 := chA_lt h d r h0 (by omega)
    have := (h (r + 1 + (d + 1 : Nat)) (by omega) h1).2.1 (by omega)
    rw [show r + 1 + ((d + 1 : Nat) : Int) - 1 = r + 1 + d by omega] at this
    omega
theorem chA_mono {v : mS} {t : Int} (h : chA v t) {r j : Int} (h0 : 0 ≤ r) (h1 : r < j) (h2 : j < cR v t) : cF v t r < cF v t j := by
  have := chA_lt h (j - r - 1).toNat r h0 (by omega)
  rw [show r + 1 + (((j - r - 1).toNat : Nat) : Int) = j by omega] at this
  exact this
theorem chA_1 {v : mS} {t : Int} (h : chA v t) {r : Int} (h0 : 0 ≤ r) (h1 : r < cR v t) : 1 ≤ cF v t r := by
  have e := (h 0 (by omega) (by omega)).1 rfl
  by_cases hr : r = 0
  · subst hr; omega
  · have := chA_mono h (r := 0) (j := r) (by omega) (by omega) h1
    omega
/-- the chunk before which row r ends -/
def uN (v : mS) (t r : Int) : Int := if r + 1 < cR v t then cF v t (r + 1) else cC v t + 1
theorem rowU_eq {v : mS} {k c r : Int} (h0 : 0 ≤ r) (hr : pv v k (1 + 3 * r) ≤ c) : ∀ n : Nat, r < n → (∀ j : Int, r < j → j < n → c < pv v k (1 + 3 * j)) → rowU v k c n = r
  | 0, h, _ => by omega
  | n + 1, h, hj => by
    unfold rowU
    by_cases e : r = n
    · subst e; rw [if_pos hr]
    · have := hj n (by omega) (by omega)
      rw [if_neg (by omega)]
      exact rowU_eq h0 hr n (by omega) (fun j a b => hj j a (by omega))
section RUNS
variable {v : mS} {t : Int}
theorem ru_run (h : chA v t) {r c : Int} (h0 : 0 ≤ r) (h1 : r < cR v t) (hc : cF v t r ≤ c ∧ c < uN v t r) : rowU v (tb v t 2) c (cR v t).toNat = r := by
  refine rowU_eq h0 hc.1 _ (by omega) (fun j a b => ?_)
  have e : uN v t r = cF v t (r + 1) := by unfold uN; rw [if_pos (by omega)]
  rw [e] at hc
  by_cases q : j = r + 1
  · subst q; exact hc.2
  · have := chA_mono h (r := r + 1) (j := j) (by omega) (by omega) (by omega)
    have := hc.2
    show c < cF v t j
    omega
theorem mn_run (h : chA v t) {r c : Int} (h0 : 0 ≤ r) (h1 : r < cR v t) (hc : cF v t r ≤ c ∧ c < uN v t r) : mnO v t c = cM v t r := by
  unfold mnO
  rw [ru_run h h0 h1 hc]
theorem smp_run (h : chA v t) {r : Int} (h0 : 0 ≤ r) (h1 : r < cR v t) : ∀ j : Nat, cF v t r + j ≤ uN v t r → smp v t (cF v t r - 1 + j).toNat = smp v t (cF v t r - 1).toNat + j * cM v t r
  | 0, _ => by rw [show cF v t r - 1 + ((0 : Nat) : Int) = cF v t r - 1 by omega, show ((0 : Nat) : Int) * cM v t r = 0 from Int.zero_mul _]; omega
  | j + 1, hj => by
    have ih := smp_run h h0 h1 j (by omega)
    have hf := chA_1 h h0 h1
    have e : (cF v t r - 1 + ((j + 1 : Nat) : Int)).toNat = (cF v t r - 1 + (j : Int)).toNat + 1 := by omega
    rw [e]
    show smp v t _ + mnO v t (1 + ((cF v t r - 1 + (j : Int)).toNat : Int)) = _
    rw [ih, mn_run h h0 h1 (by omega), Int.natCast_add, Int.add_mul]
    show _ = _ + (_ + 1 * _)
    omega
/-- the samples ahead of row r -/
def sS (v : mS) (t r : Int) : Int := if r < cR v t then smp v t (cF v t r - 1).toNat else smp v t (cC v t).toNat
theorem sS_0 (h : chA v t) (hC : cR v t = 0 → cC v t = 0) (hb : byOk v) : sS v t 0 = 0 := by
  unfold sS
  have hp := (pv_b hb (tb v t 2) 0).1
  change 0 ≤ cR v t at hp
  split
  · rename_i q
    rw [(h 0 (by omega) q).1 rfl]
    rfl
  · rw [hC (by omega)]
    rfl
theorem uN_le (h : chA v t) (hF : ∀ r, 0 ≤ r → r < cR v t → cF v t r ≤ cC v t) {r : Int} (h0 : 0 ≤ r) (h1 : r < cR v t) : cF v t r < uN v t r ∧ uN v t r ≤ cC v t + 1 := by
  unfold uN
  split
  · rename_i q
    have := chA_mono h (r := r) (j := r + 1) h0 (by omega) q
    have := hF (r + 1) (by omega) q
    omega
  · have := hF r h0 h1
    omega
theorem sS_s (h : chA v t) (hF : ∀ r, 0 ≤ r → r < cR v t → cF v t r ≤ cC v t) {r : Int} (h0 : 0 ≤ r) (h1 : r < cR v t) : sS v t (r + 1) = sS v t r + (uN v t r - cF v t r) * cM v t r := by
  have hu := uN_le h hF h0 h1
  have hf := chA_1 h h0 h1
  have := smp_run h h0 h1 (uN v t r - cF v t r).toNat (by omega)
  rw [show cF v t r - 1 + (((uN v t r - cF v t r).toNat : Nat) : Int) = uN v t r - 1 by omega, show (((uN v t r - cF v t r).toNat : Nat) : Int) = uN v t r - cF v t r by omega] at this
  have e1 : sS v t r = smp v t (cF v t r - 1).toNat := by unfold sS; rw [if_pos h1]
  rw [e1, ← this]
  unfold sS uN
  split
  · rfl
  · rw [show cC v t + 1 - 1 = cC v t by omega]
theorem smp_b (hb : byOk v) (c : Nat) : 0 ≤ smp v t c ∧ smp v t c ≤ 255 * c := sumI_le (fun i => by have := mnO_b hb t (1 + i); omega) c
theorem smp_mono (hb : byOk v) {a b : Nat} (h : a ≤ b) : smp v t a ≤ smp v t b := sumI_mono (fun i => (mnO_b hb t (1 + i)).1) h
/-- rows of counts and values: the value of a sample in row r -/
abbrev cumI (v : mS) (k : Int) (r : Nat) : Int := sumI (fun r => pv v k (1 + 2 * r)) r
theorem rv_at {f g : Int → Int} {i : Int} (hf : ∀ r, 0 ≤ f r) : ∀ (n r d : Nat), d < n → sumI f (r + d) ≤ i → i < sumI f (r + d + 1) → rv f g i n r (sumI f r) = g ((r + d : Nat) : Int)
  | 0, r, d, h, _, _ => by omega
  | n + 1, r, d, h, h1, h2 => by
    unfold rv
    show (if i < sumI f (r + 1) then _ else rv f g i n ((r + 1 : Nat) : Int) (sumI f (r + 1))) = _
    cases d with
    | zero => rw [if_pos h2]; rfl
    | succ d =>
      have := sumI_mono hf (a := r + 1) (b := r + (d + 1)) (by omega)
      rw [if_neg (by omega), rv_at hf n (r + 1) d (by omega) (by rw [show r + 1 + d = r + (d + 1) by omega]; exact h1) (by rw [show r + 1 + d + 1 = r + (d + 1) + 1 by omega]; exact h2)]
      rw [show r + 1 + d = r + (d + 1) by omega]
theorem rvK_at (hb : byOk v) {k i : Int} {r : Nat} (hr : (r : Int) < pv v k 0) (h1 : cumI v k r ≤ i) (h2 : i < cumI v k (r + 1)) : rvK v k i = pv v k (2 + 2 * r) := by
  have := rv_at (f := fun r => pv v k (1 + 2 * r)) (g := fun r => pv v k (2 + 2 * r)) (i := i) (fun r => (pv_b hb k (1 + 2 * r)).1) (pv v k 0).toNat 0 r (by omega) (by rw [Nat.zero_add]; exact h1) (by rw [Nat.zero_add]; exact h2)
  rw [Nat.zero_add] at this
  exact this
theorem cum_row {k : Int} : ∀ (n : Nat) (i : Int), 0 ≤ i → i < cumI v k n → ∃ r : Nat, r < n ∧ cumI v k r ≤ i ∧ i < cumI v k (r + 1)
  | 0, i, h0, h1 => by
    have : cumI v k 0 = 0 := rfl
    omega
  | n + 1, i, h0, h1 => by
    by_cases q : i < cumI v k n
    · obtain ⟨r, a, b⟩ := cum_row n i h0 q
      exact ⟨r, by omega, b⟩
    · exact ⟨n, by omega, by omega, h1⟩
/-- Table.valueAt is the value of the sample, as long as there is one -/
theorem vaO_eq {z : mS} {k : Int} (hb : byOk v) (hpv : pv z k = pv v k) (h17 : z 17 k = pv v k 0) {i : Int} (hi : 0 ≤ i ∧ i < cumI v k (pv v k 0).toNat) : vaO z k (z 17 k).toNat 0 i = rvK v k i := by
  obtain ⟨r, hr, h1, h2⟩ := cum_row (pv v k 0).toNat i hi.1 hi.2
  rw [rvK_at hb (by omega) h1 h2]
  have key : ∀ (f q : Nat), q ≤ r → r - q ≤ f → vaO z k f q (i - cumI v k q) = pv v k (2 + 2 * r) := by
    intro f
    induction f with
    | zero =>
      intro q q1 q2
      have e : q = r := by omega
      subst e
      unfold vaO
      rw [h17, if_pos (by omega), hpv]
    | succ f ih =>
      intro q q1 q2
      unfold vaO
      by_cases e : q = r
      · subst e
        have e2 : cumI v k (q + 1) = cumI v k q + pv v k (1 + 2 * (q : Int)) := rfl
        rw [hpv, h17, if_neg (by omega), if_pos (by omega)]
      · have e2 : cumI v k (q + 1) = cumI v k q + pv v k (1 + 2 * (q : Int)) := rfl
        have := sumI_mono (f := fun r => pv v k (1 + 2 * r)) (fun r => (pv_b hb k (1 + 2 * r)).1) (a := q + 1) (b := r) (by omega)
        have this : cumI v k (q + 1) ≤ cumI v k r := this
        rw [hpv, h17, if_pos (by omega), show i - cumI v k q - pv v k (1 + 2 * (q : Int)) = i - cumI v k (q + 1) by omega]
        exact ih (q + 1) (by omega) (by omega)
  have := key (z 17 k).toNat 0 (by omega) (by omega)
  rw [show i - cumI v k 0 = i from Int.sub_zero i] at this
  exact this
/-- times add up by rows -/
theorem du_run (hb : byOk v) {r : Nat} (hr : (r : Int) < pv v (tb v t 0) 0) : ∀ n : Nat, (n : Int) ≤ pv v (tb v t 0) (1 + 2 * r) → sumI (duO v t) ((cumI v (tb v t 0) r).toNat + n) = sumI (duO v t) (cumI v (tb v t 0) r).toNat + n * pv v (tb v t 0) (2 + 2 * r)
  | 0, _ => by rw [show ((0 : Nat) : Int) * pv v (tb v t 0) (2 + 2 * r) = 0 from Int.zero_mul _, Nat.add_zero, Int.add_zero]
  | n + 1, h => by
    have hc := (sumI_b (f := fun r => pv v (tb v t 0) (1 + 2 * r)) (fun i => pv_b hb _ _) r).1
    have hc : 0 ≤ cumI v (tb v t 0) r := hc
    have e2 : cumI v (tb v t 0) (r + 1) = cumI v (tb v t 0) r + pv v (tb v t 0) (1 + 2 * (r : Int)) := rfl
    show sumI (duO v t) ((cumI v (tb v t 0) r).toNat + n) + duO v t (((cumI v (tb v t 0) r).toNat + n : Nat) : Int) = _
    rw [du_run hb hr n (by omega)]
    have : duO v t (((cumI v (tb v t 0) r).toNat + n : Nat) : Int) = pv v (tb v t 0) (2 + 2 * r) := rvK_at hb hr (by omega) (by omega)
    rw [this, Int.natCast_add, Int.add_mul]
    show _ = _ + (_ + 1 * _)
    omega
end RUNS
