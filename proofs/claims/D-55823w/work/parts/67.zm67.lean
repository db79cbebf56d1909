set_option maxRecDepth 100000
/-! changes: enter, spire -/
theorem zson_eq2 {f : zF} {p : Int} {k : Nat} (n : Nat) (hk : k < n) (e : zsp f k = p) (u : ∀ j : Nat, j < n → zsp f j = p → j = k) : zson f p n = k := by
  induction n with
  | zero => omega
  | succ n ih =>
    show (if zsp f n = p then (n : Int) else zson f p n) = k
    by_cases q : zsp f n = p
    · rw [if_pos q]; have := u n (by omega) q; omega
    · rw [if_neg q]
      by_cases z : k = n
      · subst z; exact absurd e q
      · exact ih (by omega) (fun j j1 j2 => u j (by omega) j2)
theorem zson_no2 {f : zF} {p : Int} (n : Nat) (u : ∀ j : Nat, j < n → zsp f j ≠ p) : zson f p n = -1 := by
  induction n with
  | zero => rfl
  | succ n ih =>
    show (if zsp f n = p then (n : Int) else zson f p n) = -1
    rw [if_neg (u n (by omega))]
    exact ih (fun j j1 => u j (by omega))
theorem zent_v {f : zF} {x y sk gs : Int} (h : 0 ≤ f 0) : ∃ F1 : zF, F1 0 = f 0 + 1 ∧ (∀ k : Int, k ≠ 0 → (k < 13 + 9 * f 0 ∨ 13 + 9 * f 0 + 9 ≤ k) → F1 k = f k) ∧ (∀ j : Int, 0 ≤ j → j < 9 → F1 (13 + 9 * f 0 + j) = zev x y sk gs j) ∧ zent f x y sk gs = js_uz F1 7 (F1 7 + 1) := by
  have n0 : ∀ j : Int, j < 13 + 9 * f 0 ∨ 13 + 9 * f 0 + (9 : Nat) ≤ j → zent0 f x y sk gs 9 j = f j := fun j hj => zent0_n 9 hj
  have s0 : ∀ j : Int, 0 ≤ j → j < (9 : Nat) → zent0 f x y sk gs 9 (13 + 9 * f 0 + j) = zev x y sk gs j := fun j a b => zent0_s 9 a b
  unfold zent
  generalize zent0 f x y sk gs 9 = G at n0 s0 ⊢
  refine ⟨js_uz G 0 (G 0 + 1), ?_, fun k k0 k1 => ?_, fun j a b => ?_, ?_⟩
  · rw [js_uz_s, n0 0 (by omega)]
  · rw [js_uz_n k0, n0 k (by omega)]
  · rw [js_uz_n (by omega), s0 j a (by omega)]
  · rw [show js_uz G 0 (G 0 + 1) 7 = G 7 from js_uz_n (by decide)]
theorem xc_spireAt {ρ : js_R} {h : js_H} {em : Nat} {T : Int} {P : Nat → Prop} {B : Nat → Nat} {Bb Bs : Int → Nat} {f : zF} {x : Nat} {u1 u2 u3 u4 u5 u6 u7 : Value} {p : Int} (hx : h x = some (js_ob true 0 [.ref (B 0), u1, u2, u3, u4, u5, u6, u7])) (hZ : zSt em T P B Bb Bs f h) {T2 : Int} (hI : zI T2 f) (rp : 0 ≤ p ∧ p < 100) : js_Con ρ mX1_spireAt 4 0 0 [.ref x, .int (jI p)] h (js_ret (some (.int (jI (zspon f p)))) h) := by
  refine js_body [(0, .ref x), (1, .int (jI p))] rfl (by decide) (Nat.le_of_ble_eq_true rfl) rfl ?_
  have h01 := zI_01 hI
  obtain ⟨z_10, z_11, ⟨mb_1, rb_1, z_12⟩, ⟨ms_1, rs_1, z_13⟩, z_14, z_15, z_16, z_17, z_18, z_19, z_110, z_111, z_112⟩ := id hZ
  obtain ⟨sa_1, sb_1, sc_1, sd_1, se_1, sf_1, sg_1⟩ := z_111
  obtain ⟨wb_1, cb_1, gb_1, heb_1, rcb_1, hgb_1⟩ := zL_rd z_17 z_10 (by omega)
  obtain ⟨ws_1, cs_1, gs_1, hes_1, rcs_1, hgs_1⟩ := zL_rd z_18 z_10 (by omega)
  obtain ⟨gm_1, ze_1⟩ := z_10
  refine js_iconst dX1_spireAt_0 ?_
  refine js_istore_n (L' := [(2, .int (jI 0)), (0, .ref x), (1, .int (jI p))]) dX1_spireAt_1 (by decide) rfl ?_
  refine js_sub (L' := [(0, .ref x), (1, .int (jI p)), (2, .int (jI 0))]) [1, 2, 0] rfl ?_
  refine js_loop (σ := Nat) (fun k => (k : Int) ≤ f 1 ∧ ∀ j : Nat, j < k → zsp f j ≠ p) (fun k => (f 1).toNat - k) (fun k => 0) (fun k => 0) 2 (fun k => [(0, .ref x), (1, .int (jI p)), (2, .int (jI ((k : Int))))]) (fun k => []) (fun k => h) (fun k hk IHk => ?_) 0 ⟨by omega, fun j z => absurd z (Nat.not_lt_zero j)⟩
  show js_ok ρ mX1_spireAt _ 4 0 0 2 [(0, .ref x), (1, .int (jI p)), (2, .int (jI ((k : Int))))] [] h
  refine js_iload_n 2 dX1_spireAt_2 rfl ?_
  refine js_aload_n 0 dX1_spireAt_3 rfl ?_
  refine gX1_10 rfl dX1_spireAt_4 hx rfl ?_
  refine gX1_125 rfl dX1_spireAt_7 z_11 rfl ?_
  refine eX1_108 rfl dX1_spireAt_10 z_13 (con_lsize z_13 (by omega)) (Nat.le_of_ble_eq_true rfl) (Nat.le_of_ble_eq_true rfl) ?_
  refine js_icmp_ge (tgt := 45) dX1_spireAt_13 (by decide) (by omega) (fun c3 => ?_) (fun c3 => ?_)
  · refine js_iconst dX1_spireAt_45 ?_
    exact js_iret rfl rfl dX1_spireAt_46 ⟨js_reti (by unfold zspon; rw [zson_no2 _ (fun j j1 => hk.2 j (by omega))]), rfl⟩
  · have hP := zI_P hI (i := (k : Int)) (by omega) (by omega)
    have hPp := zIP_p hP
    refine js_aload_n 0 dX1_spireAt_16 rfl ?_
    refine gX1_10 rfl dX1_spireAt_17 hx rfl ?_
    refine gX1_125 rfl dX1_spireAt_20 z_11 rfl ?_
    refine js_iload_n 2 dX1_spireAt_23 rfl ?_
    refine eX1_128 rfl dX1_spireAt_24 z_13 (con_lget z_13 (by omega) hes_1 (by omega) (by omega)) (Nat.le_of_ble_eq_true rfl) (Nat.le_of_ble_eq_true rfl) ?_
    rw [show gs_1 ((k : Int)) = some (Bs ((k : Int))) from hgs_1 _ (by omega) (by omega)]
    show js_ok ρ mX1_spireAt _ 4 0 0 27 [(0, .ref x), (1, .int (jI p)), (2, .int (jI ((k : Int))))] [.ref (Bs ((k : Int)))] h
    refine js_castS (r := (RX6, TX6, 3)) rfl q1195 dX1_spireAt_27 (z_110 ((k : Int)) (by omega) (by omega)) ?_
    refine gX1_134 rfl dX1_spireAt_30 (z_110 ((k : Int)) (by omega) (by omega)) rfl ?_
    refine js_iload_n 1 dX1_spireAt_33 rfl ?_
    refine js_icmp_ne (tgt := 39) dX1_spireAt_34 (by decide) (by omega) (fun c4 => ?_) (fun c4 => ?_)
    · refine js_iinc (L' := [(2, .int (jI (((k : Int)) + 1))), (0, .ref x), (1, .int (jI p))]) 2 dX1_spireAt_39 rfl (by decide) rfl ?_
      refine js_goto (tgt := 2) dX1_spireAt_42 (by decide) ?_
      refine js_sub (L' := [(0, .ref x), (1, .int (jI p)), (2, .int (jI (((k : Int)) + 1)))]) [1, 2, 0] rfl ?_
      exact IHk (k + 1) ⟨by omega, fun j z => by
            by_cases q : j = k
            · subst q; assumption
            · exact hk.2 j (by omega)⟩ (by omega)
    · refine js_iload_n 2 dX1_spireAt_37 rfl ?_
      exact js_iret rfl rfl dX1_spireAt_38 ⟨js_reti (by unfold zspon; exact (zson_eq2 (k := k) _ (by omega) (by omega) (fun j j1 j2 => by have := hI.2.2.2.2.2.2.2.2.1 j k (by omega) (by omega) (by omega) (by omega) (by omega); omega)).symm), rfl⟩
theorem xo_spire {ρ : js_R} {h : js_H} {em : Nat} {T : Int} {col : Nat → Nat} {c : Nat} {B : Nat → Nat} {Bb Bs : Int → Nat} {x : Nat} {f : zF} {Y : zY} {x1 y1 sd : Int} (hC : zC em T col c B Bb Bs x f Y h) (hE : js_sv ρ 1 = .ref em) (hw : Y.2.2.2.2.1 = 0 ∨ Y.2.2.2.2.1 = 1) (hT : T + 400 ≤ 1000000) (rx1 : -2147483648 ≤ x1 ∧ x1 < 2147483648) (ry1 : -2147483648 ≤ y1 ∧ y1 < 2147483648) (rsd : -2147483648 ≤ sd ∧ sd < 2147483648) : js_Con ρ mX1_spire 13 50 500 [.ref x, .int (jI x1), .int (jI y1), .int (jI sd)] h (zOp em T col c B Bb Bs x f Y (zdoSpire f x1 y1 sd) h) := by
  refine js_body [(0, .ref x), (1, .int (jI x1)), (2, .int (jI y1)), (3, .int (jI sd))] rfl (by decide) (Nat.le_of_ble_eq_true rfl) rfl ?_
  obtain ⟨cz1, cz2, cz3, ⟨c4a, hI⟩, hZ, sv, rv, hi, ib, lb, vi, vl, cs, hx, cz7, cz8, ⟨cz9, c9a, c9b⟩, cz10, cz11⟩ := id hC
  obtain ⟨tT1, tT2⟩ := zI_T hI
  have h01 := zI_01 hI
  obtain ⟨z_10, z_11, ⟨mb_1, rb_1, z_12⟩, ⟨ms_1, rs_1, z_13⟩, z_14, z_15, z_16, z_17, z_18, z_19, z_110, z_111, z_112⟩ := id hZ
  obtain ⟨sa_1, sb_1, sc_1, sd_1, se_1, sf_1, sg_1⟩ := z_111
  obtain ⟨wb_1, cb_1, gb_1, heb_1, rcb_1, hgb_1⟩ := zL_rd z_17 z_10 (by omega)
  obtain ⟨ws_1, cs_1, gs_1, hes_1, rcs_1, hgs_1⟩ := zL_rd z_18 z_10 (by omega)
  obtain ⟨gm_1, ze_1⟩ := z_10
  refine js_aload_n 0 dX1_spire_0 rfl ?_
  refine js_iload_n 1 dX1_spire_1 rfl ?_
  refine js_iload_n 2 dX1_spire_2 rfl ?_
  refine vX1_100 (kc' := 46) (ks' := 482) rfl dX1_spire_3 hx (xc_mustOn hx (by omega) (by omega)) (Nat.le_of_ble_eq_true rfl) (by omega) (by omega) (Nat.le_of_ble_eq_true rfl) (fun v2 g2 q2 => ?_) (fun E2 g2 q2 => ?_)
  · obtain ⟨p2, e2, g0_2⟩ | ⟨_, e2, _⟩ | ⟨_, e2, _⟩ := q2
    rotate_left
    · cases e2
    · cases e2
    cases e2
    rw [g0_2]
    show js_ok ρ mX1_spire _ 13 46 482 6 [(0, .ref x), (1, .int (jI x1)), (2, .int (jI y1)), (3, .int (jI sd))] [] h
    refine js_aload_n 0 dX1_spire_6 rfl ?_
    refine js_iload_n 3 dX1_spire_7 rfl ?_
    refine js_iconst dX1_spire_8 ?_
    refine js_iconst dX1_spire_9 ?_
    refine vX1_96 (kc' := 44) (ks' := 473) rfl dX1_spire_10 hx (xc_inRange hx (by omega) (by omega) (by omega)) (Nat.le_of_ble_eq_true rfl) (by omega) (by omega) (Nat.le_of_ble_eq_true rfl) (fun v3 g3 q3 => ?_) (fun E3 g3 q3 => ?_)
    · obtain ⟨p3, e3, g0_3⟩ | ⟨_, e3, _⟩ := q3
      rotate_left
      · cases e3
      cases e3
      rw [g0_3]
      show js_ok ρ mX1_spire _ 13 44 473 13 [(0, .ref x), (1, .int (jI x1)), (2, .int (jI y1)), (3, .int (jI sd))] [] h
      refine js_bipush dX1_spire_13 rfl ?_
      refine js_iload_n 2 dX1_spire_15 rfl ?_
      refine js_imul dX1_spire_16 ?_
      refine js_iload_n 1 dX1_spire_17 rfl ?_
      refine js_iadd dX1_spire_18 ?_
      refine js_istore (L' := [(4, .int (jI ((10 * y1) + x1))), (0, .ref x), (1, .int (jI x1)), (2, .int (jI y1)), (3, .int (jI sd))]) dX1_spire_19 (by decide) rfl ?_
      have hnx := znext_r (w := sd) (show 0 ≤ 10 * y1 + x1 ∧ 10 * y1 + x1 < 100 by omega)
      have hne := znext_ne (w := sd) (show 0 ≤ 10 * y1 + x1 ∧ 10 * y1 + x1 < 100 by omega) (by omega)
      have hsr := zspon_r f (10 * y1 + x1) (by omega)
      refine js_aload_n 1 dX1_spire_21 rfl ?_
      refine js_iload 0 dX1_spire_22 rfl ?_
      refine js_iload_n 4 dX1_spire_24 rfl ?_
      refine eX1_137 rfl dX1_spire_25 (con_next (by omega) (by omega)) (Nat.le_of_ble_eq_true rfl) (Nat.le_of_ble_eq_true rfl) ?_
      refine js_iload 0 dX1_spire_28 rfl ?_
      refine js_icmp_ne (tgt := 37) dX1_spire_30 (by decide) (by omega) (fun c4 => ?_) (fun c4 => ?_)
      · refine js_iconst dX1_spire_37 ?_
        refine js_top (b := jb False) (jb_f id).symm ?_
        refine js_iconst dX1_spire_38 ?_
        refine js_iload_n 4 dX1_spire_39 rfl ?_
        refine vX1_53 (kc' := 42) (ks' := 464) rfl dX1_spire_40 hx (xc_refuse hx) (Nat.le_of_ble_eq_true rfl) (by omega) (by omega) (Nat.le_of_ble_eq_true rfl) (fun v5 g5 q5 => ?_) (fun E5 g5 q5 => by obtain ⟨_, e5, _⟩ | ⟨p5, _, _⟩ := q5; cases e5; exact absurd p5 id)
        obtain ⟨_, e5, g0_5⟩ | ⟨p5, _, _⟩ := q5
        rotate_left
        · exact absurd p5 id
        cases e5
        rw [g0_5]
        show js_ok ρ mX1_spire _ 13 42 464 43 [(4, .int (jI ((10 * y1) + x1))), (0, .ref x), (1, .int (jI x1)), (2, .int (jI y1)), (3, .int (jI sd))] [] h
        refine js_aload_n 1 dX1_spire_43 rfl ?_
        refine js_iload 0 dX1_spire_44 rfl ?_
        refine eX1_141 rfl dX1_spire_46 hx (xc_spireAt hx hZ hI (by omega)) (Nat.le_of_ble_eq_true rfl) (Nat.le_of_ble_eq_true rfl) ?_
        show js_ok ρ mX1_spire _ 13 42 464 49 [(4, .int (jI ((10 * y1) + x1))), (0, .ref x), (1, .int (jI x1)), (2, .int (jI y1)), (3, .int (jI sd))] [.int (jI (zspon f ((10 * y1) + x1)))] h
        refine js_istore (L' := [(5, .int (jI (zspon f ((10 * y1) + x1)))), (4, .int (jI ((10 * y1) + x1))), (0, .ref x), (1, .int (jI x1)), (2, .int (jI y1)), (3, .int (jI sd))]) dX1_spire_49 (by decide) rfl ?_
        refine js_aload_n 2 dX1_spire_51 rfl ?_
        refine js_iload 0 dX1_spire_52 rfl ?_
        refine js_iconst dX1_spire_54 ?_
        refine js_icmp_eq (tgt := 62) dX1_spire_55 (by decide) (by omega) (fun c6 => ?_) (fun c6 => ?_)
        · refine js_iconst dX1_spire_62 ?_
          refine js_top (b := jb False) (jb_f id).symm ?_
          refine js_iconst dX1_spire_63 ?_
          refine js_iload 0 dX1_spire_64 rfl ?_
          refine vX1_53 (kc' := 40) (ks' := 455) rfl dX1_spire_66 hx (xc_refuse hx) (Nat.le_of_ble_eq_true rfl) (by omega) (by omega) (Nat.le_of_ble_eq_true rfl) (fun v7 g7 q7 => ?_) (fun E7 g7 q7 => by obtain ⟨_, e7, _⟩ | ⟨p7, _, _⟩ := q7; cases e7; exact absurd p7 id)
          obtain ⟨_, e7, g0_7⟩ | ⟨p7, _, _⟩ := q7
          rotate_left
          · exact absurd p7 id
          cases e7
          rw [g0_7]
          show js_ok ρ mX1_spire _ 13 40 455 69 [(5, .int (jI (zspon f ((10 * y1) + x1)))), (4, .int (jI ((10 * y1) + x1))), (0, .ref x), (1, .int (jI x1)), (2, .int (jI y1)), (3, .int (jI sd))] [] h
          refine js_aload_n 2 dX1_spire_69 rfl ?_
          refine js_aload_n 2 dX1_spire_70 rfl ?_
          refine gX1_10 rfl dX1_spire_71 hx rfl ?_
          refine gX1_125 rfl dX1_spire_74 z_11 rfl ?_
          refine eX1_108 rfl dX1_spire_77 z_13 (con_lsize z_13 (by omega)) (Nat.le_of_ble_eq_true rfl) (Nat.le_of_ble_eq_true rfl) ?_
          refine js_iconst dX1_spire_80 ?_
          refine js_icmp_ne (tgt := 88) dX1_spire_81 (by decide) (by omega) (fun c8 => ?_) (fun c8 => ?_)
          · refine js_iconst dX1_spire_88 ?_
            refine js_top (b := jb False) (jb_f id).symm ?_
            refine js_iconst dX1_spire_89 ?_
            refine js_iconst dX1_spire_90 ?_
            refine vX1_53 (kc' := 38) (ks' := 446) rfl dX1_spire_91 hx (xc_refuse hx) (Nat.le_of_ble_eq_true rfl) (by omega) (by omega) (Nat.le_of_ble_eq_true rfl) (fun v9 g9 q9 => ?_) (fun E9 g9 q9 => by obtain ⟨_, e9, _⟩ | ⟨p9, _, _⟩ := q9; cases e9; exact absurd p9 id)
            obtain ⟨_, e9, g0_9⟩ | ⟨p9, _, _⟩ := q9
            rotate_left
            · exact absurd p9 id
            cases e9
            rw [g0_9]
            show js_ok ρ mX1_spire _ 13 38 446 94 [(5, .int (jI (zspon f ((10 * y1) + x1)))), (4, .int (jI ((10 * y1) + x1))), (0, .ref x), (1, .int (jI x1)), (2, .int (jI y1)), (3, .int (jI sd))] [] h
            refine js_aload_n 2 dX1_spire_94 rfl ?_
            have ho : zdoSpire f x1 y1 sd = .inr (f 1, zspr f x1 y1 sd) := by unfold zdoSpire; (repeat' split) <;> first | rfl | (exfalso; omega)
            have hI' := zdoSpire_I hI hT ho
            refine vX1_111 (kc' := 7) (ks' := 42) rfl dX1_spire_95 hx (xc_change hC hE hw) (Nat.le_of_ble_eq_true rfl) (by omega) (by omega) (Nat.le_of_ble_eq_true rfl) (fun v10 g10 q10 => ?_) (fun E10 g10 q10 => by cases q10.1)
            obtain ⟨e10, col1, hC1, kk1⟩ := q10
            cases e10
            obtain ⟨_, _, _, _, hZ1, sv1, rv1, hi1, ib1, lb1, _, _, _, hx1, _⟩ := id hC1
            obtain ⟨z_110, z_111, ⟨mb_11, rb_11, z_112⟩, ⟨ms_11, rs_11, z_113⟩, z_114, z_115, z_116, z_117, z_118, z_119, z_1110, z_1111, z_1112⟩ := id hZ1
            obtain ⟨sa_11, sb_11, sc_11, sd_11, se_11, sf_11, sg_11⟩ := z_1111
            obtain ⟨wb_11, cb_11, gb_11, heb_11, rcb_11, hgb_11⟩ := zL_rd z_117 z_110 (by omega)
            obtain ⟨ws_11, cs_11, gs_11, hes_11, rcs_11, hgs_11⟩ := zL_rd z_118 z_110 (by omega)
            obtain ⟨gm_11, ze_11⟩ := z_110
            show js_ok ρ mX1_spire _ 13 7 42 98 [(5, .int (jI (zspon f ((10 * y1) + x1)))), (4, .int (jI ((10 * y1) + x1))), (0, .ref x), (1, .int (jI x1)), (2, .int (jI y1)), (3, .int (jI sd))] [] g10
            refine js_aload_n 2 dX1_spire_98 rfl ?_
            refine gX1_10 rfl dX1_spire_99 hx1 rfl ?_
            refine gX1_125 rfl dX1_spire_102 z_111 rfl ?_
            refine nX1_132 (kc' := 6) (ks' := 39) rfl dX1_spire_105 (by omega) (by omega) (fun a12 hf_a12 hB_a12 => ?_)
            refine js_dup dX1_spire_108 rfl ?_
            refine js_iload 1 dX1_spire_109 rfl ?_
            refine js_iload_n 5 dX1_spire_111 rfl ?_
            refine eX1_145 rfl dX1_spire_112 (con_sinit js_up_s) (Nat.le_of_ble_eq_true rfl) (Nat.le_of_ble_eq_true rfl) ?_
            rw [js_up_up]
            show js_ok ρ mX1_spire _ 13 6 39 115 [(5, .int (jI (zspon f ((10 * y1) + x1)))), (4, .int (jI ((10 * y1) + x1))), (0, .ref x), (1, .int (jI x1)), (2, .int (jI y1)), (3, .int (jI sd))] [.ref a12, .ref (B 2)] (js_up g10 a12 (js_ob true 5 [.int (jI ((10 * y1) + x1)), .int (jI sd), .int (jI 0)]))
            have nv := zSt_new2 hZ1 hf_a12
            have eB : zSo (zspr f x1 y1 sd) (f 1) = js_ob true 5 [.int (jI (10 * y1 + x1)), .int (jI sd), .int (jI 0)] := by
                unfold zSo zsp zspr
                simp (disch := omega) only [js_uz_n, js_uz_s]
            have er : zspr f x1 y1 sd 1 = f 1 + 1 := js_uz_s
            have nxc : ¬ col1 x = c := fun z => by
              obtain ⟨_, _, k3, _, _, _, _, _, _, _, _, _, _, _, k7, _⟩ := hC1
              omega
            have hxv : zNe x a12 := js_nef hx1 hf_a12
            refine vX1_118 (kc' := 5) (ks' := 29) rfl dX1_spire_115 ((js_up_n (js_nef z_113 hf_a12)).trans z_113) (zc_addS (f := f) (f' := zspr f x1 y1 sd) (zSt_upO hZ1 nv.1 nv.2) hE (by rw [eB]; exact js_up_s) nv.1 (by omega) er (fun k k1 k2 k3 k4 => by unfold zspr; simp (disch := omega) only [js_uz_n])) (Nat.le_of_ble_eq_true rfl) (by omega) (by omega) (Nat.le_of_ble_eq_true rfl) (fun v13 g13 q13 => ?_) (fun E13 g13 q13 => by cases q13.1)
            obtain ⟨e13, ⟨e6, q6, y13⟩, fr13⟩ := q13
            cases e13
            have yx := fr13 x _ nxc ((js_up_n hxv).trans hx1)
            obtain ⟨mb2, rb2, zl2⟩ := y13.2.2.1
            obtain ⟨ms2, rs2, zl3⟩ := y13.2.2.2.1
            show js_ok ρ mX1_spire _ 13 5 29 118 [(5, .int (jI (zspon f ((10 * y1) + x1)))), (4, .int (jI ((10 * y1) + x1))), (0, .ref x), (1, .int (jI x1)), (2, .int (jI y1)), (3, .int (jI sd))] [.int (jI 1)] g13
            refine js_pop dX1_spire_118 rfl ?_
            refine js_aload_n 2 dX1_spire_119 rfl ?_
            refine gX1_10 rfl dX1_spire_120 yx rfl ?_
            refine gX1_125 rfl dX1_spire_123 y13.2.1 rfl ?_
            refine eX1_108 rfl dX1_spire_126 zl3 (con_lsize zl3 (by omega)) (Nat.le_of_ble_eq_true rfl) (Nat.le_of_ble_eq_true rfl) ?_
            refine js_iconst dX1_spire_129 ?_
            refine js_isub dX1_spire_130 ?_
            have frF : ∀ (a : Nat) (e : js_E), col1 a ≠ c → g10 a = some e → g13 a = some e := fun a e n y => (fr13 a e n ((js_up_n (fun z => by rw [z, hf_a12] at y; cases y)).trans y))
            have hdF : ∀ a : Nat, g10 a ≠ none → g13 a ≠ none := fun a n => by
              by_cases q : col1 a = c
              · exact (y13.2.2.2.2.2.2.2.2.2.2.2.2 a (Or.inl q))
              · exact zdom_k (fun e y => frF a e q y) n
            exact js_iret rfl rfl dX1_spire_131 (zOp_new ho hC1 kk1 hI' y13 rfl hf_a12 (q6.imp id zup_none) frF (by rw [er]; omega) hdF)
          · refine js_iconst dX1_spire_84 ?_
            refine js_goto (tgt := 89) dX1_spire_85 (by decide) ?_
            refine js_top (b := jb True) (jb_t trivial).symm ?_
            refine js_iconst dX1_spire_89 ?_
            refine js_iconst dX1_spire_90 ?_
            refine vX1_53 (kc' := 38) (ks' := 446) rfl dX1_spire_91 hx (xc_refuse hx) (Nat.le_of_ble_eq_true rfl) (by omega) (by omega) (Nat.le_of_ble_eq_true rfl) (fun v14 g14 q14 => ?_) (fun E14 g14 q14 => ?_)
            · obtain ⟨p14, _, _⟩ | ⟨_, e14, _⟩ := q14
              · exact absurd trivial p14
              · cases e14
            · obtain ⟨_, e14, _⟩ | ⟨_, e14, r14⟩ := q14
              · cases e14
              · cases e14
                exact js_out rfl (zOp_rf (by unfold zdoSpire; (repeat' split) <;> first | rfl | (exfalso; omega)) hC hx r14)
        · refine js_iconst dX1_spire_58 ?_
          refine js_goto (tgt := 63) dX1_spire_59 (by decide) ?_
          refine js_top (b := jb True) (jb_t trivial).symm ?_
          refine js_iconst dX1_spire_63 ?_
          refine js_iload 0 dX1_spire_64 rfl ?_
          refine vX1_53 (kc' := 40) (ks' := 455) rfl dX1_spire_66 hx (xc_refuse hx) (Nat.le_of_ble_eq_true rfl) (by omega) (by omega) (Nat.le_of_ble_eq_true rfl) (fun v15 g15 q15 => ?_) (fun E15 g15 q15 => ?_)
          · obtain ⟨p15, _, _⟩ | ⟨_, e15, _⟩ := q15
            · exact absurd trivial p15
            · cases e15
          · obtain ⟨_, e15, _⟩ | ⟨_, e15, r15⟩ := q15
            · cases e15
            · cases e15
              exact js_out rfl (zOp_rf (by unfold zdoSpire; (repeat' split) <;> first | rfl | (exfalso; omega)) hC hx r15)
      · refine js_iconst dX1_spire_33 ?_
        refine js_goto (tgt := 38) dX1_spire_34 (by decide) ?_
        refine js_top (b := jb True) (jb_t trivial).symm ?_
        refine js_iconst dX1_spire_38 ?_
        refine js_iload_n 4 dX1_spire_39 rfl ?_
        refine vX1_53 (kc' := 42) (ks' := 464) rfl dX1_spire_40 hx (xc_refuse hx) (Nat.le_of_ble_eq_true rfl) (by omega) (by omega) (Nat.le_of_ble_eq_true rfl) (fun v16 g16 q16 => ?_) (fun E16 g16 q16 => ?_)
        · obtain ⟨p16, _, _⟩ | ⟨_, e16, _⟩ := q16
          · exact absurd trivial p16
          · cases e16
        · obtain ⟨_, e16, _⟩ | ⟨_, e16, r16⟩ := q16
          · cases e16
          · cases e16
            exact js_out rfl (zOp_rf (by unfold zdoSpire; (repeat' split) <;> first | rfl | (exfalso; omega)) hC hx r16)
    · obtain ⟨_, e3, _⟩ | ⟨p3, e3, r3⟩ := q3
      · cases e3
      · cases e3
        exact js_out rfl (zOp_rf (by unfold zdoSpire; (repeat' split) <;> first | rfl | (exfalso; omega)) hC hx r3)
  · obtain ⟨_, e2, _⟩ | ⟨p2, e2, r2⟩ | ⟨p2, e2, r2⟩ := q2
    · cases e2
    · cases e2
      exact js_out rfl (zOp_rf (by unfold zdoSpire; (repeat' split) <;> first | rfl | (exfalso; omega)) hC hx r2)
    · cases e2
      exact js_out rfl (zOp_rf (by unfold zdoSpire; (repeat' split) <;> first | rfl | (exfalso; omega)) hC hx r2)
