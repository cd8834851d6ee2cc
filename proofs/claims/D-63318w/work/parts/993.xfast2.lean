theorem d_X_fastStart_0 : decode prog_1_method_30_code 0 = .ok (.aload_n 0, 1) := by decide +kernel
theorem d_X_fastStart_1 : decode prog_1_method_30_code 1 = .ok (.invokevirtual 253, 3) := by decide +kernel
theorem d_X_fastStart_4 : decode prog_1_method_30_code 4 = .ok (.ifCond .eq 5, 3) := by decide +kernel
theorem d_X_fastStart_57 : decode prog_1_method_30_code 57 = .ok (.aload_n 0, 1) := by decide +kernel
theorem d_X_fastStart_58 : decode prog_1_method_30_code 58 = .ok (.getfield 192, 3) := by decide +kernel
theorem d_X_fastStart_61 : decode prog_1_method_30_code 61 = .ok (.getfield 196, 3) := by decide +kernel
theorem d_X_fastStart_64 : decode prog_1_method_30_code 64 = .ok (.ireturn, 1) := by decide +kernel
theorem d_X_fastStart_65 : decode prog_1_method_30_code 65 = .ok (.iconst 0, 1) := by decide +kernel
theorem d_X_fastStart_66 : decode prog_1_method_30_code 66 = .ok (.istore_n 3, 1) := by decide +kernel
theorem d_X_fastStart_17 : decode prog_1_method_30_code 17 = .ok (.aload_n 1, 1) := by decide +kernel
theorem d_X_fastStart_18 : decode prog_1_method_30_code 18 = .ok (.ifnull 21, 3) := by decide +kernel
theorem d_X_fastStart_39 : decode prog_1_method_30_code 39 = .ok (.aload_n 1, 1) := by decide +kernel
theorem d_X_fastStart_40 : decode prog_1_method_30_code 40 = .ok (.ifnull 17, 3) := by decide +kernel
theorem d_X_fastStart_21 : decode prog_1_method_30_code 21 = .ok (.aload_n 1, 1) := by decide +kernel
theorem d_X_fastStart_22 : decode prog_1_method_30_code 22 = .ok (.getfield 230, 3) := by decide +kernel
theorem d_X_fastStart_25 : decode prog_1_method_30_code 25 = .ok (.getstatic 70, 3) := by decide +kernel
theorem d_X_fastStart_28 : decode prog_1_method_30_code 28 = .ok (.if_acmp .eq 11, 3) := by decide +kernel
theorem d_X_fastStart_43 : decode prog_1_method_30_code 43 = .ok (.aload_n 0, 1) := by decide +kernel
theorem d_X_fastStart_44 : decode prog_1_method_30_code 44 = .ok (.getfield 192, 3) := by decide +kernel
theorem d_X_fastStart_47 : decode prog_1_method_30_code 47 = .ok (.getfield 320, 3) := by decide +kernel
theorem d_X_fastStart_50 : decode prog_1_method_30_code 50 = .ok (.aload_n 1, 1) := by decide +kernel
theorem d_X_fastStart_51 : decode prog_1_method_30_code 51 = .ok (.getfield 139, 3) := by decide +kernel
theorem d_X_fastStart_54 : decode prog_1_method_30_code 54 = .ok (.if_icmp .ge 11, 3) := by decide +kernel
theorem d_X_fastStart_31 : decode prog_1_method_30_code 31 = .ok (.aload_n 1, 1) := by decide +kernel
theorem d_X_fastStart_32 : decode prog_1_method_30_code 32 = .ok (.getfield 223, 3) := by decide +kernel
theorem d_X_fastStart_35 : decode prog_1_method_30_code 35 = .ok (.astore_n 1, 1) := by decide +kernel
theorem d_X_fastStart_36 : decode prog_1_method_30_code 36 = .ok (.goto (-19), 3) := by decide +kernel
theorem d_X_fastStart_9 : decode prog_1_method_30_code 9 = .ok (.aload_n 0, 1) := by decide +kernel
theorem d_X_fastStart_10 : decode prog_1_method_30_code 10 = .ok (.getfield 19, 3) := by decide +kernel
theorem d_X_fastStart_13 : decode prog_1_method_30_code 13 = .ok (.getfield 219, 3) := by decide +kernel
theorem d_X_fastStart_16 : decode prog_1_method_30_code 16 = .ok (.astore_n 1, 1) := by decide +kernel
theorem d_X_fastStart_7 : decode prog_1_method_30_code 7 = .ok (.iconst (-1), 1) := by decide +kernel
theorem d_X_fastStart_8 : decode prog_1_method_30_code 8 = .ok (.ireturn, 1) := by decide +kernel
section XFAST
variable (G : gG) (l : Launch) (y0 : xP)
set_option maxRecDepth 8000 in
set_option maxHeartbeats 16000000 in
theorem c_X_fastStart (z0 s0 : mS) (h : xPre G y0 z0 s0) : Ct G l q_X_fastStart 14 61 1134 [.ref (yc y0 0)] (xW G y0 z0) (fun r w => ∃ (n : Int) (x : mS) (y : xP) (z : mS), r = some (vI n) ∧ w = xW G y z ∧ fsR s0 n x ∧ x 0 0 = z 0 0 ∧ x 1 = z 1 ∧ xI G y z ∧ yc y = yc y0 ∧ (z 0 5 = 1 → z 0 0 = z0 0 0 ∧ z 1 = z0 1 ∧ ∃ f v, ckR s0 f v ∧ jQ G y z f v)) := by
  have hm := h.2.1
  refine Ct.intro [some (.ref (yc y0 0)), none, none, none, none, none] (by decide) (Nat.le_of_ble_eq_true rfl) rfl (fun sz => ?_)
  generalize hQ : (fun r w => ∃ (n : Int) (x : mS) (y : xP) (z : mS), r = some (vI n) ∧ w = xW G y z ∧ fsR s0 n x ∧ x 0 0 = z 0 0 ∧ x 1 = z 1 ∧ xI G y z ∧ yc y = yc y0 ∧ (z 0 5 = 1 → z 0 0 = z0 0 0 ∧ z 1 = z0 1 ∧ ∃ f v, ckR s0 f v ∧ jQ G y z f v)) = Q
  refine r_aload_n d_X_fastStart_0 rfl rfl ?_
  refine r_kV0 d_X_fastStart_1 lk_X_253 (c_X_rd G l y0 z0 s0 h) 0 rfl rfl (Nat.le_of_ble_eq_true rfl) (rok rfl rfl) ⟨(Nat.le_of_ble_eq_true rfl), (Nat.le_of_ble_eq_true rfl)⟩ (fun r ws2 hq => ?_)
  obtain ⟨f, v, y, z, rfl, rfl, hp⟩ := hq
  show WP _ _ _ _ _ _ (_ :: _)
  rw [show yc y0 = yc y from hp.2.2.2.2.2.2.symm]
  obtain ⟨hck, hjq, hxI, hz00, hz1, hz5, hyc⟩ := id hp
  have hf6 := ckR_b6 hm hck
  obtain ⟨v00, v1⟩ := ck_00 hm hck
  rw [h.2.2.1, ← hz00] at v00
  rw [h.2.2.2.1, ← hz1] at v1
  have same : ∀ n x, x = v → (fsR s0 n x) → Q (some (vI n)) (xW G y z) := by
    intro n x hx hfs
    subst hx
    rw [← hQ]
    exact ⟨n, x, y, z, rfl, rfl, hfs, v00, v1, hxI, hyc, fun _ => ⟨hz00, hz1, f, x, hck, hjq⟩⟩
  refine r_if_eq 9 d_X_fastStart_4 (by decide) (by unfold i32; omega) (fun h1 => ?_) (fun h1 => ?_)
  · subst h1
    obtain ⟨j02, j03, j18, jT⟩ := hjq.2.2 rfl
    have hq' := hjq.2.1 (by omega) (by omega)
    obtain ⟨hor, hf⟩ := ckR_o hm hck
    have hO2 := ck_o2 hm hck
    have hr : rdOk v := hf.1.2.1
    have ho : hoOk v := hf.1.2.2.1
    have hby : byOk v := hf.1.1
    have h01 : v 0 1 = yn y := hq'.1.2.2.1
    have h3 := hf.1.2.2.2.1
    have hB := qI_bI hq'
    obtain ⟨m0, m1, m2, m3⟩ := hf.2.1.1
    have hrM := hr.2 (v 0 2) m0 m1
    have hmk : -1 ≤ v 0 2 ∧ v 0 2 < yn y := by omega
    have g7' : ∀ j : Int, 0 ≤ j → j < yn y → z 7 j = v 7 j := fun j a c => (hq'.2.2.2.2.2 j a c).1.2.2.2.2.2
    have hn1 : (v 0 1).toNat = yn y := by omega
    have h27M : z 27 (v 0 2) = 1 := by
      obtain ⟨⟨-, -, g4, -, g6, -⟩, g26, g27, -⟩ := hq'.2.2.2.2.2 (v 0 2) m0 hmk.2
      rw [g27, g26, g4, g6, m2, m3]
      rfl
    have hMc : 1 ≤ z 27 (v 0 2) ∧ z 27 (v 0 2) ≤ 5 := by omega
    have zM2 : z 2 (v 0 2) = v 2 (v 0 2) := (hq'.2.2.2.2.2 (v 0 2) m0 hmk.2).1.1
    have zM3 : z 3 (v 0 2) = v 3 (v 0 2) := (hq'.2.2.2.2.2 (v 0 2) m0 hmk.2).1.2.1
    have hfW0 : fW G y z v 0 := by
      refine ⟨hq', ⟨hf, hor⟩, ⟨j02, j03⟩, fun t ht => (jT t ht).1, ⟨by omega, by omega, fun _ => by omega⟩, fun k k0 k1 k2 => ⟨Or.inl (j18 k k0 k1), ck_p4 hm hck hq' k0 k1 k2⟩, fun t ht => ?_, fun t ht hb => ?_⟩
      · have hk := tK_k (jT t ht).1 (jT t ht).1.2.2.2.2.2.2 ⟨by omega, by omega⟩
        have h0 : 0 ≤ pbx v t := (jT t ht).1.2.2.2.2.2.2
        have := j18 (pbx v t) h0 hk.2
        unfold wbit
        omega
      · unfold wbit at hb; omega
    -- no move
    have c57 : ∀ lv, (fdx v (v 0 1).toNat 0 < 0 ∨ v 0 2 < fdx v (v 0 1).toNat 0) → WP (mth G l q_X_fastStart 14 61 1134 (xW G y0 z0) sz Q) (0 + 61) (0 + 1134) (xW G y z) 57 (some (.ref (yc y 0)) :: lv) [] := by
      intro lv hc
      refine r_aload_n d_X_fastStart_57 rfl rfl ?_
      refine r_get d_X_fastStart_58 fl_X_192_0 0 rfl rfl ?_
      rw [j02, rN_nn m0]
      refine r_getB d_X_fastStart_61 fb_X_196 (v 0 2) hmk hMc rfl ?_
      rw [zM3]
      refine r_iret d_X_fastStart_64 rfl (Nat.le_of_ble_eq_true rfl) (Nat.le_of_ble_eq_true rfl) ?_
      exact same _ v rfl ⟨0, v, hck, Or.inr (Or.inl ⟨rfl, hc, rfl, rfl⟩)⟩
    have hend : ∀ (n : Int) (x zz : mS), fsR s0 n x → x 0 0 = zz 0 0 → x 1 = zz 1 → xI G y zz → zz 0 5 = 0 → Q (some (vI n)) (xW G y zz) := by
      intro n x zz a1 a2 a3 a4 a5
      rw [← hQ]
      exact ⟨n, x, y, zz, rfl, rfl, a1, a2, a3, a4, hyc, fun q => by omega⟩
    -- the move
    have c65 : ∀ d : Int, fdx v (v 0 1).toNat 0 = d → 0 ≤ d → d < v 0 2 → v 6 d = 0 → WP (mth G l q_X_fastStart 14 61 1134 (xW G y0 z0) sz Q) (0 + 61) (0 + 1134) (xW G y z) 65 [some (.ref (yc y 0)), some (.ref (yo y d)), none, none, none, none] [] := by
      intro d hfd d0 d1 d6
      have hdk : -1 ≤ d ∧ d < yn y := by omega
      have hrd := hr.2 d d0 (by omega)
      have hdc := bI_cl hB hdk.1 hdk.2
      have zd2 : z 2 d = v 2 d := (hq'.2.2.2.2.2 d d0 hdk.2).1.1
      have hdm := hor.2 d (v 0 2) d0 d1 m1 d6 m2
      have hme := hor.1 (v 0 2) m0 m1
      refine r_iconst d_X_fastStart_65 ?_
      refine r_istore_n d_X_fastStart_66 (Nat.le_of_ble_eq_true rfl) rfl ?_
      show WP _ _ _ _ _ [_, _, _, _, _, _] _
      exact fs_lpO G l (W0 := xW G y0 z0) (sz := sz) ⟨hck, ⟨hf, hor, hO2⟩, hq', hxI, ⟨v00, v1⟩, j02, hfd, d0, d1, d6⟩ hend 3 0 0 z none none (Or.inl rfl) (Or.inl rfl) (by omega) hfW0 (wyI_0 v) (by omega) (by omega) (fun _ _ _ _ _ _ => rfl)
    have lev0 : ∀ j : Int, 0 ≤ j → j < yn y → z 7 j ≠ -1 → ¬ fdC v j := by
      intro j a c e q
      exact e (by rw [g7' j a c]; exact (ho_root hr ho a (by omega)).mpr q.1)
    have lpS : ∀ (F m : Nat), yn y - m ≤ F → m ≤ yn y → fdx v (yn y - m) m = fdx v (yn y) 0 → WP (mth G l q_X_fastStart 14 61 1134 (xW G y0 z0) sz Q) (0 + 61) (0 + 1134) (xW G y z) 17 [some (.ref (yc y 0)), some (va_rf (rN (yo y) (nxt (z 7) (-1) (yn y - m) m))), none, none, none, none] [] := by
      intro F
      have none' : fdx v (yn y) 0 < 0 → WP (mth G l q_X_fastStart 14 61 1134 (xW G y0 z0) sz Q) (0 + 61) (0 + 1134) (xW G y z) 17 [some (.ref (yc y 0)), some .null, none, none, none, none] [] := by
        intro hlt
        refine r_aload_n d_X_fastStart_17 rfl rfl ?_
        refine r_ifnull (r := none) 39 d_X_fastStart_18 (by decide) (fun _ => ?_) (fun _ q => by cases q)
        refine r_aload_n d_X_fastStart_39 rfl rfl ?_
        refine r_ifnull (r := none) 57 d_X_fastStart_40 (by decide) (fun _ => ?_) (fun _ q => by cases q)
        exact c57 _ (Or.inl (by rw [hn1]; exact hlt))
      induction F with
      | zero =>
        intro m hF hm' he
        rw [show yn y - m = 0 by omega] at he ⊢
        have he : -1 = fdx v (yn y) 0 := he
        exact none' (by omega)
      | succ F ih =>
        intro m hF hm' he
        rcases nxt_step (z := z) (h := -1) hm' with ⟨e, hno⟩ | ⟨k, e, b1, b2, b3, b4⟩
        · rw [e]
          refine none' ?_
          have := fdx_skip (v := v) (yn y - m) m 0 (fun j a c => lev0 j (by omega) (by omega) (hno j a (by omega)))
          rw [Nat.add_zero, he] at this
          rw [this]
          show (-1 : Int) < 0
          omega
        · rw [e, rN_nn (by omega)]
          have hkb : -1 ≤ (k : Int) ∧ (k : Int) < yn y := by omega
          have hcb := bI_cl hB hkb.1 hkb.2
          obtain ⟨o0, o1, -⟩ := hB.2.2 k (by omega) (by omega)
          obtain ⟨⟨g2, g3, g4, g5, g6, g7⟩, g26, -⟩ := hq'.2.2.2.2.2 k (by omega) (by omega)
          have hrk := hr.2 k (by omega) (by omega)
          have hl0 : v 6 k = 0 := (ho_root hr ho (by omega) (by omega)).mp (by rw [← g7]; exact b3)
          have he2 : fdx v (yn y - k) k = fdx v (yn y) 0 := by
            rw [← he]
            have := fdx_skip (v := v) (k - m) m (yn y - k) (fun j a c => lev0 j (by omega) (by omega) (b4 j a (by omega)))
            rw [show k - m + (yn y - k) = yn y - m by omega, show m + (k - m) = k by omega] at this
            exact this.symm
          rw [show yn y - k = (yn y - (k + 1)) + 1 by omega] at he2
          refine r_aload_n d_X_fastStart_17 rfl rfl ?_
          refine r_ifnull (r := some (yo y k)) 39 d_X_fastStart_18 (by decide) (fun q => by cases q) (fun _ _ => ?_)
          refine r_aload_n d_X_fastStart_21 rfl rfl ?_
          refine r_getB d_X_fastStart_22 fb_X_230 ((k : Int)) hkb hcb rfl ?_
          refine r_getsK (i := 1) d_X_fastStart_25 (by decide) w_273 ?_
          refine r_akEq 39 d_X_fastStart_28 (by decide) ⟨o0, o1⟩ (by decide) (fun h5 => ?_) (fun h5 => ?_)
          · have h5 : z 26 k = 1 := h5
            have h68 : v 4 k = 68 := by rw [g26, g4, g6] at h5; exact (kn_1.mp h5).2
            have hfk : fdx v (v 0 1).toNat 0 = k := by
              rw [hn1, ← he2]
              conv => lhs; unfold fdx
              rw [if_pos ⟨hl0, h68⟩]
            refine r_aload_n d_X_fastStart_39 rfl rfl ?_
            refine r_ifnull (r := some (yo y k)) 57 d_X_fastStart_40 (by decide) (fun q => by cases q) (fun _ _ => ?_)
            refine r_aload_n d_X_fastStart_43 rfl rfl ?_
            refine r_get d_X_fastStart_44 fl_X_192_0 0 rfl rfl ?_
            rw [j02, rN_nn m0]
            refine r_getB d_X_fastStart_47 fb_X_320 (v 0 2) hmk hMc rfl ?_
            refine r_aload_n d_X_fastStart_50 rfl rfl ?_
            refine r_getB d_X_fastStart_51 fb_X_139 ((k : Int)) hkb hcb rfl ?_
            rw [zM2, g2]
            have hne : (k : Int) ≠ v 0 2 := fun q => by rw [q] at h68; omega
            refine r_icmp_ge 65 d_X_fastStart_54 (by decide) (by unfold i32; omega) (by unfold i32; omega) (fun h6 => ?_) (fun h6 => ?_)
            · have hlt : (k : Int) < v 0 2 := by
                rcases (by omega : (k : Int) < v 0 2 ∨ v 0 2 < k) with q | q
                · exact q
                · have := hor.2 (v 0 2) k m0 q (by omega) m2 hl0; omega
              exact c65 k hfk (by omega) hlt hl0
            · refine c57 _ (Or.inr ?_)
              rw [hfk]
              rcases (by omega : (k : Int) < v 0 2 ∨ v 0 2 < k) with q | q
              · have := hor.2 k (v 0 2) (by omega) q m1 hl0 m2; omega
              · exact q
          · have h5 : ¬ z 26 k = 1 := h5
            have hno : ¬ fdC v k := fun q => h5 (by rw [g26, g4, g6]; exact kn_1.mpr ⟨by have := q.1; omega, q.2⟩)
            refine r_aload_n d_X_fastStart_31 rfl rfl ?_
            refine r_getB d_X_fastStart_32 fb_X_223 ((k : Int)) hkb hcb rfl ?_
            rw [bI_next hB b2, b3]
            refine r_astore_n d_X_fastStart_35 (Nat.le_of_ble_eq_true rfl) rfl (isRf_rf _) ?_
            show WP _ _ _ _ _ [_, _, _, _, _, _] _
            refine r_goto 17 d_X_fastStart_36 (by decide) ?_
            refine ih (k + 1) (by omega) (by omega) ?_
            rw [← he2]
            conv => rhs; unfold fdx
            rw [if_neg hno]
            rfl
    refine r_aload_n d_X_fastStart_9 rfl rfl ?_
    refine r_get d_X_fastStart_10 fl_X_19_0 0 rfl rfl ?_
    refine r_getX d_X_fastStart_13 fl_X_219_1 (-1) ⟨by omega, by omega⟩ hB.2.1 rfl ?_
    rw [(hB.1.1 (-1) (by omega) (by omega)).1]
    refine r_astore_n d_X_fastStart_16 (Nat.le_of_ble_eq_true rfl) rfl (isRf_rf _) ?_
    show WP _ _ _ _ _ [_, _, _, _, _, _] _
    exact lpS (yn y) 0 (by omega) (by omega) rfl
  · refine r_iconst d_X_fastStart_7 ?_
    refine r_iret d_X_fastStart_8 rfl (Nat.le_of_ble_eq_true rfl) (Nat.le_of_ble_eq_true rfl) ?_
    exact same _ v rfl ⟨f, v, hck, Or.inl ⟨by omega, rfl, rfl⟩⟩
end XFAST
