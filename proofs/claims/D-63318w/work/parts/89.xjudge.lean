/-! ===== the component: judge ===== -/
theorem rowsBad_at {z u : mS} {k : Int} (h3 : z 3 k = u 3 k) (h5 : z 5 k = u 5 k) (hp : pv z k = pv u k) (kd : Int) : rowsBad z k kd ↔ rowsBad u k kd := by
  unfold rowsBad badC badS
  rw [h3, h5, hp]
theorem kn_kd {ty : Int} (h : 0 ≤ kdO ty) : knO ty 2 = kdO ty + 3 := by
  unfold kdO at h ⊢
  unfold knO
  rw [if_neg (show ¬ (2 : Int) < 2 by omega)]
  repeat' split
  all_goals omega
theorem kn_78 {ty : Int} : (knO ty 2 = 8 → ty = 79) ∧ (knO ty 2 = 7 → ty = 111) := by
  unfold knO
  rw [if_neg (show ¬ (2 : Int) < 2 by omega)]
  constructor <;> (intro h; repeat' split at h; all_goals omega)
section KC2
variable {G : gG} {y : xP} {z s : mS}
theorem kc_u (hr : rdOk s) (ho : hoOk s) {u : mS} (hu : u = (kdF s (s 0 1).toNat).1) : ∀ c, c ≠ 0 → c ≠ 10 → c ≠ 11 → u c = s c := by
  rw [hu]; exact (kdF_D s hr ho (s 0 1).toNat (by have := hr.1.1; omega)).1
theorem kc_pv (hq : qI G y z s) {u : mS} (huc : ∀ c, c ≠ 0 → c ≠ 10 → c ≠ 11 → u c = s c) {k : Int} (h0 : 0 ≤ k) (h1 : k < yn y) : pv z k = pv u k := by
  obtain ⟨⟨g2, -, -, g5, -, -⟩, -⟩ := hq.2.2.2.2.2 k h0 h1
  funext i
  unfold pv
  rw [huc 1 (by omega) (by omega) (by omega), huc 2 (by omega) (by omega) (by omega), huc 5 (by omega) (by omega) (by omega), g2, g5, hq.1.2.2.2.1]
theorem kc_rows (hq : qI G y z s) (hr : rdOk s) (ho : hoOk s) (h2 : o2Ok s) (h : kdR s = 0) {u : mS} (hu : u = (kdF s (s 0 1).toNat).1) : rowsAny u ↔ ∃ k : Int, 0 ≤ k ∧ k < yn y ∧ 3 ≤ z 27 k ∧ rowsBad z k (z 26 k - 3) := by
  have huc := kc_u hr ho hu
  have hn := kc_n hq hr ho h2
  obtain ⟨-, k2, -, -, k5, k6⟩ := kdF_D s hr ho (s 0 1).toNat (by have := hr.1.1; omega)
  obtain ⟨-, c1, c2, w0, -⟩ := kdR_0 hr ho h
  rw [hn] at k2 k5 k6 w0 c1 c2 hu
  have hd := k6.mp w0
  have rb : ∀ k : Int, 0 ≤ k → k < yn y → ∀ kd, rowsBad z k kd ↔ rowsBad u k kd := by
    intro k a b kd
    obtain ⟨⟨-, g3, -, g5, -, -⟩, -⟩ := hq.2.2.2.2.2 k a b
    exact rowsBad_at (by rw [g3, huc 3 (by omega) (by omega) (by omega)]) (by rw [g5, huc 5 (by omega) (by omega) (by omega)]) (kc_pv hq huc a b) kd
  rw [← hu] at k2 k5 c1 c2
  constructor
  · rintro ⟨k, k1, a1, a2, a3⟩
    have e := k5 ((k : Int) / 8) ((k : Int) % 8) (by omega) (by omega) (by omega) (by omega)
    rw [show 8 * ((k : Int) / 8) + (k : Int) % 8 = k by omega] at e
    rw [e] at a2 a3
    obtain ⟨e1, e2, e3⟩ := (lsb_b (pK s ((k : Int) / 8) ((k : Int) % 8)) (yn y)).resolve_left (by omega)
    generalize lsb (pK s ((k : Int) / 8) ((k : Int) % 8)) (yn y) = b at e1 e2 e3 a3
    obtain ⟨p1, p2, p3⟩ := pK_t.mp e3
    obtain ⟨⟨-, -, g4, -, g6, -⟩, g26, g27, -⟩ := hq.2.2.2.2.2 b e1 e2
    have e26 : z 26 b = (k : Int) % 8 + 3 := by rw [g26, g4, g6, p1, kn_kd (by omega), p2]
    refine ⟨b, e1, e2, ?_, ?_⟩
    · rw [g27]
      refine (sl_cl (by omega)).mpr ?_
      rw [g26, g4, g6, p1]
      exact (kn_sl (by omega)).mpr ⟨rfl, by omega⟩
    · rw [e26, show (k : Int) % 8 + 3 - 3 = (k : Int) % 8 by omega]
      exact (rb b e1 e2 _).mpr a3
  · rintro ⟨b, e1, e2, e3, e4⟩
    obtain ⟨⟨-, -, g4, -, g6, -⟩, g26, g27, -⟩ := hq.2.2.2.2.2 b e1 e2
    have hb1 : b < s 0 1 := by rw [hq.1.2.2.1]; exact e2
    have hrb := hr.2 b e1 hb1
    have ho26 := knO_b (z 4 b) (z 6 b)
    rw [g27] at e3
    have hsl := (sl_cl (by rw [g26]; exact ho26)).mp e3
    rw [g26, g4, g6] at hsl
    obtain ⟨p1, p2⟩ := (kn_sl (by omega)).mp hsl
    have e26 : z 26 b = kdO (s 4 b) + 3 := by rw [g26, g4, g6, p1, kn_kd p2]
    have kb := kdO_b (s 4 b)
    obtain ⟨q1, q2, q3, q4⟩ := (ho b e1 hb1).2.2 p1
    have hc := (kc_2 hq hr ho h2 e1 e2 p1 q1 (by omega) (pTm_t.mpr ⟨q3, q4⟩)).mp rfl
    have hcn := cnb_nn (pTm s) (s 7 b).toNat
    have hcl := cnb_lt (p := pTm s) (a := s 7 b) (n := yn y) q1 (by omega) (pTm_t.mpr ⟨q3, q4⟩)
    generalize cnb (pTm s) (s 7 b).toNat = i at hc hcn hcl
    have hpk : pK s i (kdO (s 4 b)) b = true := pK_t.mpr ⟨p1, rfl, hc⟩
    have e := k5 i (kdO (s 4 b)) hcn (by omega) p2 kb.2
    have el : lsb (pK s i (kdO (s 4 b))) (yn y) = b := by
      have hm := lsb_max (pK s i (kdO (s 4 b))) (yn y) b e1 e2 hpk
      obtain ⟨x1, x2, x3⟩ := (lsb_b (pK s i (kdO (s 4 b))) (yn y)).resolve_left (by omega)
      refine Classical.byContradiction fun q => hd ⟨i, kdO (s 4 b), b, _, ⟨hcn, by omega, p2, kb.2⟩, e1, ?_, x2, hpk, x3⟩
      omega
    rw [el] at e
    rw [e26, show kdO (s 4 b) + 3 - 3 = kdO (s 4 b) by omega] at e4
    refine ⟨(8 * i + kdO (s 4 b)).toNat, by omega, ?_⟩
    rw [show (((8 * i + kdO (s 4 b)).toNat : Nat) : Int) = 8 * i + kdO (s 4 b) by omega]
    refine ⟨by omega, by rw [e]; exact e1, ?_⟩
    rw [e, show (8 * i + kdO (s 4 b)) % 8 = kdO (s 4 b) by omega]
    exact (rb b e1 e2 _).mp e4
/-- rows found by sound: the tables of a track -/
theorem kc_tK (hq : qI G y z s) (hr : rdOk s) (ho : hoOk s) (h2 : o2Ok s) (h : kdR s = 0) {u : mS} (hu : u = (kdF s (s 0 1).toNat).1) {tb' : Int → Option Nat} {z2 : mS} (hz : ∀ c, c ≠ 0 → c ≠ 17 → z2 c = z c) (hrow : ∀ k : Int, 0 ≤ k → k < yn y → 3 ≤ z 27 k → ¬ rowsBad z k (z 26 k - 3) ∧ z2 17 k = pv z k (if slO (z 26 k) = 3 then 1 else 0)) {i : Nat} (hi : (i : Int) < u 0 3) (htb : ∀ sl, 0 ≤ sl → sl < 7 → tb' (tix i sl) = rN (yo y) (ts u i sl)) : tK (yT y tb') z2 u i ∧ chA u i ∧ (0 ≤ tb u i 6 → syA u i) := by
  have huc := kc_u hr ho hu
  have hk := (kc_all hq hr ho h2).2 h
  obtain ⟨-, c1, c2, -, c4⟩ := kdR_0 hr ho h
  rw [← hu] at hk c1 c2 c4
  obtain ⟨-, -, hk3⟩ := hk
  obtain ⟨j, j0, j1, -, -, hgk⟩ := hk3 i hi
  have hby : byOk z := hq.1.2.2.2.2
  have hX : ∀ sl, 0 ≤ sl → sl < 7 → 0 ≤ ts u i sl → tX (yT y tb') z2 u sl (ts u i sl) ∧ ¬ rowsBad u (ts u i sl) (z 26 (ts u i sl) - 3) := by
    intro sl s0 s1 hp
    have hb := gk_b (z := z) (h := j) (sl := sl) (n := yn y)
    rw [hgk sl s0 s1] at hb
    obtain ⟨b0, b1, b2, b3⟩ := hb.resolve_left (by omega)
    generalize ts u i sl = b at b0 b1 b2 b3
    obtain ⟨⟨g2, g3, g4, g5, g6, g7⟩, g26, g27, -⟩ := hq.2.2.2.2.2 b b0 b1
    have hrb := hr.2 b b0 (by rw [hq.1.2.2.1]; exact b1)
    have ho26 := knO_b (z 4 b) (z 6 b)
    rw [← g26] at ho26
    have h3 : 3 ≤ z 27 b := by rw [g27]; exact (sl_cl ho26).mpr (by omega)
    obtain ⟨r1, r2⟩ := hrow b b0 b1 h3
    have hpv := kc_pv hq huc b0 b1
    rw [b3] at r2
    have r1' : ¬ rowsBad u b (z 26 b - 3) := fun q => r1 ((rowsBad_at (by rw [g3, huc 3 (by omega) (by omega) (by omega)]) (by rw [g5, huc 5 (by omega) (by omega) (by omega)]) hpv _).mpr q)
    have hlev : s 6 b = 2 ∧ 0 ≤ kdO (s 4 b) := (kn_sl (ty := s 4 b) (lev := s 6 b) (by omega)).mp (by rw [← g4, ← g6, ← g26]; omega)
    refine ⟨⟨⟨b0, b1⟩, ⟨?_, ?_, ?_⟩, ?_, ⟨?_, ?_, ?_, ?_⟩, ?_, fun e => ?_, fun e => ?_, ?_⟩, r1'⟩
    · rw [hz 1 (by omega) (by omega), huc 1 (by omega) (by omega) (by omega)]; exact hq.1.2.2.2.1.symm
    · rw [hz 2 (by omega) (by omega), huc 2 (by omega) (by omega) (by omega)]; exact g2
    · rw [hz 5 (by omega) (by omega), huc 5 (by omega) (by omega) (by omega)]; exact g5
    · rw [hz 2 (by omega) (by omega), hz 3 (by omega) (by omega), hz 5 (by omega) (by omega), g2, g3, g5]; omega
    · rw [hz 26 (by omega) (by omega)]; exact ho26.1
    · rw [hz 26 (by omega) (by omega)]; exact ho26.2
    · rw [hz 26 (by omega) (by omega)]; exact b3
    · rw [hz 27 (by omega) (by omega), hz 26 (by omega) (by omega)]; exact g27
    · rw [r2, hpv]
    · subst e
      have o6 := (slO_inv b3).2.2.2.1 rfl
      rw [hz 3 (by omega) (by omega), hz 5 (by omega) (by omega)]
      rw [o6] at r1
      unfold rowsBad at r1
      rw [← hpv]
      refine ⟨?_, fun e0 => ?_⟩
      · exact Classical.byContradiction fun q => r1 (Or.inl ⟨by omega, Or.inl (by omega)⟩)
      · refine Classical.byContradiction fun q => r1 (Or.inl ⟨by omega, Or.inr ?_⟩)
        rw [if_pos e0]; exact q
    · have ne6 : z 26 b - 3 ≠ 3 := fun q => by
        rw [show z 26 b = 6 by omega] at b3
        exact e b3.symm
      obtain ⟨-, w2, -⟩ := kW_row ne6 r1
      rw [hz 3 (by omega) (by omega), hz 5 (by omega) (by omega), hz 26 (by omega) (by omega), w2, hpv]
      have : wdO (z 26 b) = kW (z 26 b - 3) := by
        have hs := slO_inv b3
        rcases (by omega : sl = 0 ∨ sl = 1 ∨ sl = 2 ∨ sl = 4 ∨ sl = 5 ∨ sl = 6) with q | q | q | q | q | q
        · rw [hs.1 q]; rfl
        · rw [hs.2.1 q]; rfl
        · rw [hs.2.2.1 q]; rfl
        · rcases hs.2.2.2.2.1 q with w | w <;> rw [w] <;> rfl
        · rw [hs.2.2.2.2.2.1 q]; rfl
        · rw [hs.2.2.2.2.2.2 q]; rfl
      rw [this]
    · rw [hz 26 (by omega) (by omega), huc 4 (by omega) (by omega) (by omega)]
      have ek : z 26 b = knO (s 4 b) 2 := by rw [g26, g4, g6, hlev.1]
      constructor
      · intro q
        rw [q] at b3
        refine ⟨b3.symm, fun q2 => ?_⟩
        have := kn_78.1 (ek.symm.trans q)
        omega
      · rintro ⟨q, q2⟩
        rcases (slO_inv b3).2.2.2.2.1 q with w | w
        · exact absurd (kn_78.2 (ek.symm.trans w)) q2
        · exact w
  have hp0 : 0 ≤ ts u i 0 ∧ 0 ≤ ts u i 2 ∧ 0 ≤ ts u i 3 ∧ 0 ≤ ts u i 4 := by
    obtain ⟨w1, w2, w3, w4⟩ := c4 i (by omega) hi
    refine ⟨w2, w3, w4, ?_⟩
    show 0 ≤ pbx u i
    unfold pbx
    split
    · exact Classical.byContradiction fun q => w1 ⟨fun _ => by omega, fun _ => by omega⟩
    · omega
  refine ⟨⟨⟨by omega, ?_, ?_⟩, htb, fun sl s0 s1 hp => (hX sl s0 s1 hp).1, hp0⟩, ?_, fun hp => ?_⟩
  · unfold byOk; rw [hz 1 (by omega) (by omega)]; exact hby
  · unfold byOk; rw [huc 1 (by omega) (by omega) (by omega), hq.1.2.2.2.1]; exact hby
  · obtain ⟨x1, x2⟩ := hX 2 (by omega) (by omega) hp0.2.1
    have := (slO_inv x1.2.2.2.1.2.2.1).2.2.1 rfl
    rw [hz 26 (by omega) (by omega)] at this
    rw [this] at x2
    exact chA_of x2
  · obtain ⟨x1, x2⟩ := hX 5 (by omega) (by omega) hp
    have := (slO_inv x1.2.2.2.1.2.2.1).2.2.2.2.2.1 rfl
    rw [hz 26 (by omega) (by omega)] at this
    rw [this] at x2
    exact syA_of x2
end KC2
section XROWS4
variable {μ : Mx} {k n : Nat} {y : xP} {z : mS} {pc : Nat} {lv : List (Option Value)} {st : List Value}
theorem r_castX {idx : Nat} (hd : decode (mB μ) pc = .ok (.checkcast idx, 3)) (hlk : Cond.classLink (mO μ) idx "MovieBoxes$Box" ∈ gt) (kb : Int) (hk : -1 ≤ kb ∧ kb < yn y) (hc : 1 ≤ z 27 kb ∧ z 27 kb ≤ 5) (kk : WP μ k n (xW (mG μ) y z) (pc + 3) lv (.ref (yo y kb) :: st)) : WP μ k n (xW (mG μ) y z) pc lv (.ref (yo y kb) :: st) := by
  rcases (by omega : z 27 kb = (1 : Nat) ∨ z 27 kb = (2 : Nat) ∨ z 27 kb = (3 : Nat) ∨ z 27 kb = (4 : Nat) ∨ z 27 kb = (5 : Nat)) with h | h | h | h | h
  · exact r_cast (ci := 1) hd _ rfl (xw_bc hk h) hlk nw_989 kk
  · exact r_cast (ci := 2) hd _ rfl (xw_bc hk h) hlk nw_990 kk
  · exact r_cast (ci := 3) hd _ rfl (xw_bc hk h) hlk nw_993 kk
  · exact r_cast (ci := 4) hd _ rfl (xw_bc hk h) hlk nw_991 kk
  · exact r_cast (ci := 5) hd _ rfl (xw_bc hk h) hlk nw_992 kk
end XROWS4
/-- the list gives box k -/
theorem c_X_get (G : gG) (l : Launch) (y : xP) (z u : mS) (hq : qI G y z u) (k : Int) (hk : 0 ≤ k ∧ k < yn y) : Ct G l q_A_get 2 0 0 [.ref (yc y 3), vI k] (xW G y z) (fun r w => r = some (Value.ref (yo y k)) ∧ w = xW G y z) := by
  rcases hq.2.2.2.1 with h | ⟨N, h1, h2, h3, h4, h5⟩
  · omega
  · have hpos : (xW G y z)[13 + yn y + (yR y).length]? = some (ye y, aQ G 5 N (gO (yo y) (yn y))) := by
      rw [xW_eq, h1, ← List.append_assoc, ← List.append_assoc]
      have hl : (xH G y z ++ xB G (yo y) z (yn y) ++ yR y).length = 13 + yn y + (yR y).length := by
        simp only [List.length_append, xB_len]
        show 12 + (yn y + 1) + (yR y).length = _
        omega
      rw [← hl]
      exact app_e
    have := c_A_get G l (xW G y z) 3 (13 + yn y + (yR y).length) (yc y 3) (ye y) N (z 0 7) (z 0 1) (gO (yo y) (yn y)) rfl hpos (by omega) k ⟨hk.1, by rw [hq.1.2.1]; exact hk.2, by rw [hq.1.2.1]; exact h5⟩
    have e : gO (yo y) (yn y) k = some (yo y k) := by unfold gO; rw [if_pos hk]
    rw [e] at this
    exact this
