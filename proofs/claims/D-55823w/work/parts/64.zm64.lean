set_option maxRecDepth 100000
/-! changes: hours -/
theorem xo_hour {ρ : js_R} {h : js_H} {em : Nat} {T : Int} {col : Nat → Nat} {c : Nat} {B : Nat → Nat} {Bb Bs : Int → Nat} {x : Nat} {f : zF} {Y : zY} {n : Int} (hC : zC em T col c B Bb Bs x f Y h) (hE : js_sv ρ 1 = .ref em) (hw : Y.2.2.2.2.1 = 0 ∨ Y.2.2.2.2.1 = 1) (hT : T + 400 ≤ 1000000) (rn : -2147483648 ≤ n ∧ n < 2147483648) : js_Con ρ mX1_hour 12 90 500 [.ref x, .int (jI n)] h (zOp em T col c B Bb Bs x f Y (zdoHour f n) h) := by
  refine js_body [(0, .ref x), (1, .int (jI n))] rfl (by decide) (Nat.le_of_ble_eq_true rfl) rfl ?_
  obtain ⟨cz1, cz2, cz3, ⟨c4a, hI⟩, hZ, sv, rv, hi, ib, lb, vi, vl, cs, hx, cz7, cz8, ⟨cz9, c9a, c9b⟩, cz10, cz11⟩ := id hC
  obtain ⟨tT1, tT2⟩ := zI_T hI
  have h01 := zI_01 hI
  obtain ⟨z_10, z_11, ⟨mb_1, rb_1, z_12⟩, ⟨ms_1, rs_1, z_13⟩, z_14, z_15, z_16, z_17, z_18, z_19, z_110, z_111, z_112⟩ := id hZ
  obtain ⟨sa_1, sb_1, sc_1, sd_1, se_1, sf_1, sg_1⟩ := z_111
  obtain ⟨wb_1, cb_1, gb_1, heb_1, rcb_1, hgb_1⟩ := zL_rd z_17 z_10 (by omega)
  obtain ⟨ws_1, cs_1, gs_1, hes_1, rcs_1, hgs_1⟩ := zL_rd z_18 z_10 (by omega)
  obtain ⟨gm_1, ze_1⟩ := z_10
  refine js_aload_n 0 dX1_hour_0 rfl ?_
  refine js_iload_n 1 dX1_hour_1 rfl ?_
  refine js_iconst dX1_hour_2 ?_
  refine js_bipush dX1_hour_3 rfl ?_
  refine vX1_96 (kc' := 88) (ks' := 491) rfl dX1_hour_5 hx (xc_inRange hx (by omega) (by omega) (by omega)) (Nat.le_of_ble_eq_true rfl) (by omega) (by omega) (Nat.le_of_ble_eq_true rfl) (fun v2 g2 q2 => ?_) (fun E2 g2 q2 => ?_)
  · obtain ⟨p2, e2, g0_2⟩ | ⟨_, e2, _⟩ := q2
    rotate_left
    · cases e2
    cases e2
    rw [g0_2]
    show js_ok ρ mX1_hour _ 12 88 491 8 [(0, .ref x), (1, .int (jI n))] [] h
    refine js_aload_n 0 dX1_hour_8 rfl ?_
    have ho : zdoHour f n = .inr (zhrs f n.toNat 3 - f 3, zhrs f n.toNat) := by unfold zdoHour; rw [if_neg (by omega)]
    have hI' := zdoHour_I hI hT ho
    refine vX1_111 (kc' := 57) (ks' := 87) rfl dX1_hour_9 hx (xc_change hC hE hw) (Nat.le_of_ble_eq_true rfl) (by omega) (by omega) (Nat.le_of_ble_eq_true rfl) (fun v3 g3 q3 => ?_) (fun E3 g3 q3 => by cases q3.1)
    obtain ⟨e3, col1, hC1, kk1⟩ := q3
    cases e3
    obtain ⟨_, _, _, _, hZ1, sv1, rv1, hi1, ib1, lb1, _, _, _, hx1, _⟩ := id hC1
    obtain ⟨z_40, z_41, ⟨mb_4, rb_4, z_42⟩, ⟨ms_4, rs_4, z_43⟩, z_44, z_45, z_46, z_47, z_48, z_49, z_410, z_411, z_412⟩ := id hZ1
    obtain ⟨sa_4, sb_4, sc_4, sd_4, se_4, sf_4, sg_4⟩ := z_411
    obtain ⟨wb_4, cb_4, gb_4, heb_4, rcb_4, hgb_4⟩ := zL_rd z_47 z_40 (by omega)
    obtain ⟨ws_4, cs_4, gs_4, hes_4, rcs_4, hgs_4⟩ := zL_rd z_48 z_40 (by omega)
    obtain ⟨gm_4, ze_4⟩ := z_40
    show js_ok ρ mX1_hour _ 12 57 87 12 [(0, .ref x), (1, .int (jI n))] [] g3
    refine js_iconst dX1_hour_12 ?_
    refine js_top (b := zhrs f 0 3 - f 3) (by show (0 : Int) = f 3 - f 3; omega) ?_
    refine js_istore_n (L' := [(2, .int (jI (zhrs f 0 3 - f 3))), (0, .ref x), (1, .int (jI n))]) dX1_hour_13 (by decide) rfl ?_
    refine js_iconst dX1_hour_14 ?_
    refine js_top (b := ((0 : Nat) : Int)) (by omega) ?_
    refine js_istore_n (L' := [(3, .int (jI (((0 : Nat) : Int)))), (2, .int (jI (zhrs f 0 3 - f 3))), (0, .ref x), (1, .int (jI n))]) dX1_hour_15 (by decide) rfl ?_
    have nxc : ¬ col1 x = c := fun z => by
      obtain ⟨_, _, k3, _, _, _, _, _, _, _, _, _, _, _, k7, _⟩ := hC1
      omega
    refine js_sub (L' := [(0, .ref x), (1, .int (jI n)), (2, .int (jI (zhrs f 0 3 - f 3))), (3, .int (jI (((0 : Nat) : Int))))]) [2, 3, 1, 0] rfl ?_
    refine js_ok.more (js_loop (σ := Nat × js_H) (fun s => ((s.1 : Nat) : Int) ≤ n ∧ zSt em T (fun q => col1 q = c) B Bb Bs (zhrs f s.1) s.2 ∧ zFr (fun q => col1 q = c) g3 s.2) (fun s => n.toNat - s.1) (fun s => (2 * (24 - s.1))) (fun s => (3 * (24 - s.1))) 16 (fun s => [(0, .ref x), (1, .int (jI n)), (2, .int (jI (zhrs f s.1 3 - f 3))), (3, .int (jI (((s.1 : Nat) : Int))))]) (fun s => []) (fun s => s.2) (fun s hk IHs => ?_) (0, g3) (⟨by omega, hZ1, zFr_refl⟩)) (Nat.le_refl _) (by omega) (by omega)
    obtain ⟨k, g⟩ := s
    have hk : ((k : Nat) : Int) ≤ n ∧ zSt em T (fun q => col1 q = c) B Bb Bs (zhrs f k) g ∧ zFr (fun q => col1 q = c) g3 g := hk
    show js_ok ρ mX1_hour _ 12 ((2 * (24 - k))) ((3 * (24 - k))) 16 [(0, .ref x), (1, .int (jI n)), (2, .int (jI (zhrs f k 3 - f 3))), (3, .int (jI (((k : Nat) : Int))))] [] g
    obtain ⟨yk, yZ, yfr⟩ := hk
    obtain ⟨iK, e0, e1⟩ := zhrs_I hI k (by omega)
    have yx := yfr x _ nxc hx1
    refine js_iload_n 3 dX1_hour_16 rfl ?_
    refine js_iload_n 1 dX1_hour_17 rfl ?_
    refine js_icmp_ge (tgt := 37) dX1_hour_18 (by decide) (by omega) (fun c5 => ?_) (fun c5 => ?_)
    · refine js_iload_n 2 dX1_hour_37 rfl ?_
      exact js_iret rfl rfl dX1_hour_38 (zOp_cur ho hC1 kk1 hI' (by rw [show n.toNat = k by omega]; exact yZ) yfr (by rw [show n.toNat = k by omega]))
    · refine js_iload_n 2 dX1_hour_21 rfl ?_
      refine js_aload_n 0 dX1_hour_22 rfl ?_
      refine gX1_10 rfl dX1_hour_23 yx rfl ?_
      refine vX1_193 (kc' := ((2 * (24 - k)) - 2)) (ks' := ((3 * (24 - k)) - 3)) rfl dX1_hour_26 yZ.2.1 (zc_hour yZ iK (by omega)) (Nat.le_of_ble_eq_true rfl) (by omega) (by omega) (Nat.le_of_ble_eq_true rfl) (fun v6 g6 q6 => ?_) (fun E6 g6 q6 => by cases q6.1)
      obtain ⟨e6, y6, fr6⟩ := q6
      cases e6
      refine js_iadd dX1_hour_29 ?_
      refine js_top (b := zhrs f (k + 1) 3 - f 3) (by show (zhrs f k 3 - f 3 + (zhrs f (k + 1) 3 - zhrs f k 3) : Int) = _; omega) ?_
      refine js_istore_n (L' := [(2, .int (jI (zhrs f (k + 1) 3 - f 3))), (0, .ref x), (1, .int (jI n)), (3, .int (jI (((k : Nat) : Int))))]) dX1_hour_30 (by decide) rfl ?_
      refine js_iinc (L' := [(3, .int (jI ((((k : Nat) : Int)) + 1))), (2, .int (jI (zhrs f (k + 1) 3 - f 3))), (0, .ref x), (1, .int (jI n))]) 3 dX1_hour_31 rfl (by decide) rfl ?_
      refine js_goto (tgt := 16) dX1_hour_34 (by decide) ?_
      refine js_sub (L' := [(0, .ref x), (1, .int (jI n)), (2, .int (jI (zhrs f (k + 1) 3 - f 3))), (3, .int (jI ((((k : Nat) : Int)) + 1)))]) [2, 3, 1, 0] rfl ?_
      exact js_ok.more (IHs ((k + 1), g6) (show ((((k + 1)) : Nat) : Int) ≤ n ∧ zSt em T (fun q => col1 q = c) B Bb Bs (zhrs f ((k + 1))) g6 ∧ zFr (fun q => col1 q = c) g3 g6 from ⟨by omega, y6, zFr_trans yfr fr6⟩) (show n.toNat - ((k + 1)) < n.toNat - k by omega)) (Nat.le_refl _) (by omega) (by omega)
  · obtain ⟨_, e2, _⟩ | ⟨p2, e2, r2⟩ := q2
    · cases e2
    · cases e2
      exact js_out rfl (zOp_rf (by unfold zdoHour; rw [if_pos (by omega)]) hC hx r2)
