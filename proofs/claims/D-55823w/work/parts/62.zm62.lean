set_option maxRecDepth 100000
/-! changes in place -/
theorem zOp_cur {em : Nat} {T : Int} {col col1 : Nat → Nat} {c : Nat} {B : Nat → Nat} {Bb Bs : Int → Nat} {x : Nat} {f f' : zF} {Y : zY} {o : zO} {h g h' : js_H} {v w : Int} (ho : o = .inr (v, f')) (hC : zC em T col1 c B Bb Bs x f (zpush Y f) g) (k : zKe col col1 h g) (hI : zI (T + 400) f') (hz : zSt em T (fun q => col1 q = c) B Bb Bs f' h') (fr : zFr (fun q => col1 q = c) g h') (hv : w = v) : zOp em T col c B Bb Bs x f Y o h (.inl (some (.int (jI w)))) h' := by
  rw [ho]
  refine ⟨by rw [hv], col1, B, Bb, Bs, rfl, zC_cur hC (by omega) hI (zSt_fr hz (by omega) (fun a e _ w => w)) fr, k.1, fun a e z w => fr a e (fun y => ?_) (k.2.1 a e z w), fun a n => ?_⟩
  rotate_left
  · by_cases q : col1 a = c
    · exact hz.2.2.2.2.2.2.2.2.2.2.2.2 a q
    · exact zdom_k (fun e w => fr a e q w) (k.2.2 a n)
  have y : col1 a = c := y
  rw [k.1 a (fun p => by rw [w] at p; cases p), z] at y
  have := hC.2.2.1
  omega
theorem xo_seal {ρ : js_R} {h : js_H} {em : Nat} {T : Int} {col : Nat → Nat} {c : Nat} {B : Nat → Nat} {Bb Bs : Int → Nat} {x : Nat} {f : zF} {Y : zY} {b ht : Int} (hC : zC em T col c B Bb Bs x f Y h) (hE : js_sv ρ 1 = .ref em) (hw : Y.2.2.2.2.1 = 0 ∨ Y.2.2.2.2.1 = 1) (hT : T + 400 ≤ 1000000) (rb : -2147483648 ≤ b ∧ b < 2147483648) (rht : -2147483648 ≤ ht ∧ ht < 2147483648) : js_Con ρ mX1_seal 12 40 440 [.ref x, .int (jI b), .int (jI ht)] h (zOp em T col c B Bb Bs x f Y (zdoSeal f b ht) h) := by
  refine js_body [(0, .ref x), (1, .int (jI b)), (2, .int (jI ht))] rfl (by decide) (Nat.le_of_ble_eq_true rfl) rfl ?_
  obtain ⟨cz1, cz2, cz3, ⟨c4a, hI⟩, hZ, sv, rv, hi, ib, lb, vi, vl, cs, hx, cz7, cz8, ⟨cz9, c9a, c9b⟩, cz10, cz11⟩ := id hC
  obtain ⟨tT1, tT2⟩ := zI_T hI
  have h01 := zI_01 hI
  obtain ⟨z_10, z_11, ⟨mb_1, rb_1, z_12⟩, ⟨ms_1, rs_1, z_13⟩, z_14, z_15, z_16, z_17, z_18, z_19, z_110, z_111, z_112⟩ := id hZ
  obtain ⟨sa_1, sb_1, sc_1, sd_1, se_1, sf_1, sg_1⟩ := z_111
  obtain ⟨wb_1, cb_1, gb_1, heb_1, rcb_1, hgb_1⟩ := zL_rd z_17 z_10 (by omega)
  obtain ⟨ws_1, cs_1, gs_1, hes_1, rcs_1, hgs_1⟩ := zL_rd z_18 z_10 (by omega)
  obtain ⟨gm_1, ze_1⟩ := z_10
  refine js_aload_n 0 dX1_seal_0 rfl ?_
  refine js_iload_n 1 dX1_seal_1 rfl ?_
  refine vX1_154 (kc' := 38) (ks' := 431) rfl dX1_seal_2 hx (xc_mustB hx hZ hI (by omega)) (Nat.le_of_ble_eq_true rfl) (by omega) (by omega) (Nat.le_of_ble_eq_true rfl) (fun v2 g2 q2 => ?_) (fun E2 g2 q2 => ?_)
  · obtain ⟨p2, e2, g0_2⟩ | ⟨_, e2, _⟩ := q2
    rotate_left
    · cases e2
    cases e2
    rw [g0_2]
    show js_ok ρ mX1_seal _ 12 38 431 5 [(0, .ref x), (1, .int (jI b)), (2, .int (jI ht))] [] h
    refine js_aload_n 0 dX1_seal_5 rfl ?_
    refine js_iload_n 2 dX1_seal_6 rfl ?_
    refine js_iconst dX1_seal_7 ?_
    refine js_iconst dX1_seal_8 ?_
    refine vX1_96 (kc' := 36) (ks' := 422) rfl dX1_seal_9 hx (xc_inRange hx (by omega) (by omega) (by omega)) (Nat.le_of_ble_eq_true rfl) (by omega) (by omega) (Nat.le_of_ble_eq_true rfl) (fun v3 g3 q3 => ?_) (fun E3 g3 q3 => ?_)
    · obtain ⟨p3, e3, g0_3⟩ | ⟨_, e3, _⟩ := q3
      rotate_left
      · cases e3
      cases e3
      rw [g0_3]
      show js_ok ρ mX1_seal _ 12 36 422 12 [(0, .ref x), (1, .int (jI b)), (2, .int (jI ht))] [] h
      have hBb := zI_B hI (b := b) (by omega) (by omega)
      have hBpb := zIB_p hBb
      unfold zIB at hBb
      refine js_aload_n 0 dX1_seal_12 rfl ?_
      refine gX1_10 rfl dX1_seal_13 hx rfl ?_
      refine gX1_104 rfl dX1_seal_16 z_11 rfl ?_
      refine js_iload_n 1 dX1_seal_19 rfl ?_
      refine eX1_128 rfl dX1_seal_20 z_12 (con_lget z_12 (by omega) heb_1 (by omega) (by omega)) (Nat.le_of_ble_eq_true rfl) (Nat.le_of_ble_eq_true rfl) ?_
      rw [show gb_1 b = some (Bb b) from hgb_1 _ (by omega) (by omega)]
      show js_ok ρ mX1_seal _ 12 36 422 23 [(0, .ref x), (1, .int (jI b)), (2, .int (jI ht))] [.ref (Bb b)] h
      refine js_castS (r := (RX5, TX5, 8)) rfl q506 dX1_seal_23 (z_19 b (by omega) (by omega)) ?_
      refine js_astore_n (L' := [(3, .ref (Bb b)), (0, .ref x), (1, .int (jI b)), (2, .int (jI ht))]) dX1_seal_26 (by decide) rfl ?_
      refine js_aload_n 0 dX1_seal_27 rfl ?_
      refine gX1_190 rfl dX1_seal_28 (z_19 b (by omega) (by omega)) rfl ?_
      refine js_istore (L' := [(4, .int (jI (f (13 + 9 * b + 8)))), (3, .ref (Bb b)), (0, .ref x), (1, .int (jI b)), (2, .int (jI ht))]) dX1_seal_31 (by decide) rfl ?_
      refine js_aload_n 2 dX1_seal_33 rfl ?_
      refine js_iload 0 dX1_seal_34 rfl ?_
      refine js_iload_n 4 dX1_seal_36 rfl ?_
      refine js_icmp_ne (tgt := 44) dX1_seal_37 (by decide) (by omega) (fun c4 => ?_) (fun c4 => ?_)
      · refine js_iconst dX1_seal_44 ?_
        refine js_top (b := jb False) (jb_f id).symm ?_
        refine js_iconst dX1_seal_45 ?_
        refine js_iload_n 4 dX1_seal_46 rfl ?_
        refine vX1_53 (kc' := 34) (ks' := 413) rfl dX1_seal_47 hx (xc_refuse hx) (Nat.le_of_ble_eq_true rfl) (by omega) (by omega) (Nat.le_of_ble_eq_true rfl) (fun v5 g5 q5 => ?_) (fun E5 g5 q5 => by obtain ⟨_, e5, _⟩ | ⟨p5, _, _⟩ := q5; cases e5; exact absurd p5 id)
        obtain ⟨_, e5, g0_5⟩ | ⟨p5, _, _⟩ := q5
        rotate_left
        · exact absurd p5 id
        cases e5
        rw [g0_5]
        show js_ok ρ mX1_seal _ 12 34 413 50 [(4, .int (jI (f (13 + 9 * b + 8)))), (3, .ref (Bb b)), (0, .ref x), (1, .int (jI b)), (2, .int (jI ht))] [] h
        refine js_aload_n 2 dX1_seal_50 rfl ?_
        have ho : zdoSeal f b ht = .inr (f (13 + 9 * b + 8), js_uz f (13 + 9 * b + 8) ht) := by unfold zdoSeal; (repeat' split) <;> first | rfl | (exfalso; omega)
        have hI' := zdoSeal_I hI hT ho
        refine vX1_111 (kc' := 3) (ks' := 9) rfl dX1_seal_51 hx (xc_change hC hE hw) (Nat.le_of_ble_eq_true rfl) (by omega) (by omega) (Nat.le_of_ble_eq_true rfl) (fun v6 g6 q6 => ?_) (fun E6 g6 q6 => by cases q6.1)
        obtain ⟨e6, col1, hC1, kk1⟩ := q6
        cases e6
        obtain ⟨_, _, _, _, hZ1, sv1, rv1, hi1, ib1, lb1, _, _, _, hx1, _⟩ := id hC1
        obtain ⟨z_70, z_71, ⟨mb_7, rb_7, z_72⟩, ⟨ms_7, rs_7, z_73⟩, z_74, z_75, z_76, z_77, z_78, z_79, z_710, z_711, z_712⟩ := id hZ1
        obtain ⟨sa_7, sb_7, sc_7, sd_7, se_7, sf_7, sg_7⟩ := z_711
        obtain ⟨wb_7, cb_7, gb_7, heb_7, rcb_7, hgb_7⟩ := zL_rd z_77 z_70 (by omega)
        obtain ⟨ws_7, cs_7, gs_7, hes_7, rcs_7, hgs_7⟩ := zL_rd z_78 z_70 (by omega)
        obtain ⟨gm_7, ze_7⟩ := z_70
        show js_ok ρ mX1_seal _ 12 3 9 54 [(4, .int (jI (f (13 + 9 * b + 8)))), (3, .ref (Bb b)), (0, .ref x), (1, .int (jI b)), (2, .int (jI ht))] [] g6
        refine js_aload_n 1 dX1_seal_54 rfl ?_
        refine js_iload_n 4 dX1_seal_55 rfl ?_
        refine pX1_190 rfl dX1_seal_56 (z_79 b (by omega) (by omega)) (Nat.le_of_ble_eq_true rfl) rfl rfl ?_
        show js_ok ρ mX1_seal _ 12 3 9 59 [(4, .int (jI (f (13 + 9 * b + 8)))), (3, .ref (Bb b)), (0, .ref x), (1, .int (jI b)), (2, .int (jI ht))] [] (js_up g6 (Bb b) (js_ob true 4 [.int (jI (zpt f b)), .int (jI (f (13 + 9 * b + 2))), .int (jI (f (13 + 9 * b + 3))), .int (jI (f (13 + 9 * b + 4))), .int (jI (f (13 + 9 * b + 5))), .int (jI (f (13 + 9 * b + 6))), .int (jI (f (13 + 9 * b + 7))), .int (jI ht)]))
        refine js_iload 0 dX1_seal_59 rfl ?_
        exact js_iret rfl rfl dX1_seal_61 (zOp_cur ho hC1 kk1 hI' (zSt_upB hZ1 ⟨by omega, by omega⟩ ⟨by omega, by omega⟩ (fun k k1 k2 k3 => by simp (disch := omega) only [js_uz_n]) (by unfold zBo zpt; simp (disch := omega) only [js_uz_n, js_uz_s])) (zFr_up zFr_refl (sd_7 b (by omega) (by omega))) rfl)
      · refine js_iconst dX1_seal_40 ?_
        refine js_goto (tgt := 45) dX1_seal_41 (by decide) ?_
        refine js_top (b := jb True) (jb_t trivial).symm ?_
        refine js_iconst dX1_seal_45 ?_
        refine js_iload_n 4 dX1_seal_46 rfl ?_
        refine vX1_53 (kc' := 34) (ks' := 413) rfl dX1_seal_47 hx (xc_refuse hx) (Nat.le_of_ble_eq_true rfl) (by omega) (by omega) (Nat.le_of_ble_eq_true rfl) (fun v8 g8 q8 => ?_) (fun E8 g8 q8 => ?_)
        · obtain ⟨p8, _, _⟩ | ⟨_, e8, _⟩ := q8
          · exact absurd trivial p8
          · cases e8
        · obtain ⟨_, e8, _⟩ | ⟨_, e8, r8⟩ := q8
          · cases e8
          · cases e8
            exact js_out rfl (zOp_rf (by unfold zdoSeal; (repeat' split) <;> first | rfl | (exfalso; omega)) hC hx r8)
    · obtain ⟨_, e3, _⟩ | ⟨p3, e3, r3⟩ := q3
      · cases e3
      · cases e3
        exact js_out rfl (zOp_rf (by unfold zdoSeal; (repeat' split) <;> first | rfl | (exfalso; omega)) hC hx r3)
  · obtain ⟨_, e2, _⟩ | ⟨p2, e2, r2⟩ := q2
    · cases e2
    · cases e2
      exact js_out rfl (zOp_rf (by unfold zdoSeal; (repeat' split) <;> first | rfl | (exfalso; omega)) hC hx r2)
theorem xo_wind {ρ : js_R} {h : js_H} {em : Nat} {T : Int} {col : Nat → Nat} {c : Nat} {B : Nat → Nat} {Bb Bs : Int → Nat} {x : Nat} {f : zF} {Y : zY} {ht d : Int} (hC : zC em T col c B Bb Bs x f Y h) (hE : js_sv ρ 1 = .ref em) (hw : Y.2.2.2.2.1 = 0 ∨ Y.2.2.2.2.1 = 1) (hT : T + 400 ≤ 1000000) (rht : -2147483648 ≤ ht ∧ ht < 2147483648) (rd : -2147483648 ≤ d ∧ d < 2147483648) : js_Con ρ mX1_wind 12 40 440 [.ref x, .int (jI ht), .int (jI d)] h (zOp em T col c B Bb Bs x f Y (zdoWind f ht d) h) := by
  refine js_body [(0, .ref x), (1, .int (jI ht)), (2, .int (jI d))] rfl (by decide) (Nat.le_of_ble_eq_true rfl) rfl ?_
  obtain ⟨cz1, cz2, cz3, ⟨c4a, hI⟩, hZ, sv, rv, hi, ib, lb, vi, vl, cs, hx, cz7, cz8, ⟨cz9, c9a, c9b⟩, cz10, cz11⟩ := id hC
  obtain ⟨tT1, tT2⟩ := zI_T hI
  have h01 := zI_01 hI
  obtain ⟨z_10, z_11, ⟨mb_1, rb_1, z_12⟩, ⟨ms_1, rs_1, z_13⟩, z_14, z_15, z_16, z_17, z_18, z_19, z_110, z_111, z_112⟩ := id hZ
  obtain ⟨sa_1, sb_1, sc_1, sd_1, se_1, sf_1, sg_1⟩ := z_111
  obtain ⟨wb_1, cb_1, gb_1, heb_1, rcb_1, hgb_1⟩ := zL_rd z_17 z_10 (by omega)
  obtain ⟨ws_1, cs_1, gs_1, hes_1, rcs_1, hgs_1⟩ := zL_rd z_18 z_10 (by omega)
  obtain ⟨gm_1, ze_1⟩ := z_10
  refine js_aload_n 0 dX1_wind_0 rfl ?_
  refine js_iload_n 1 dX1_wind_1 rfl ?_
  refine js_iconst dX1_wind_2 ?_
  refine js_iconst dX1_wind_3 ?_
  refine vX1_96 (kc' := 38) (ks' := 431) rfl dX1_wind_4 hx (xc_inRange hx (by omega) (by omega) (by omega)) (Nat.le_of_ble_eq_true rfl) (by omega) (by omega) (Nat.le_of_ble_eq_true rfl) (fun v2 g2 q2 => ?_) (fun E2 g2 q2 => ?_)
  · obtain ⟨p2, e2, g0_2⟩ | ⟨_, e2, _⟩ := q2
    rotate_left
    · cases e2
    cases e2
    rw [g0_2]
    show js_ok ρ mX1_wind _ 12 38 431 7 [(0, .ref x), (1, .int (jI ht)), (2, .int (jI d))] [] h
    refine js_aload_n 0 dX1_wind_7 rfl ?_
    refine js_iload_n 2 dX1_wind_8 rfl ?_
    refine js_iconst dX1_wind_9 ?_
    refine js_iconst dX1_wind_10 ?_
    refine vX1_96 (kc' := 36) (ks' := 422) rfl dX1_wind_11 hx (xc_inRange hx (by omega) (by omega) (by omega)) (Nat.le_of_ble_eq_true rfl) (by omega) (by omega) (Nat.le_of_ble_eq_true rfl) (fun v3 g3 q3 => ?_) (fun E3 g3 q3 => ?_)
    · obtain ⟨p3, e3, g0_3⟩ | ⟨_, e3, _⟩ := q3
      rotate_left
      · cases e3
      cases e3
      rw [g0_3]
      show js_ok ρ mX1_wind _ 12 36 422 14 [(0, .ref x), (1, .int (jI ht)), (2, .int (jI d))] [] h
      have gw : zwa f ht = f (8 + ht - 1) := by rw [zwa_g (by omega)]; congr 1; omega
      have rw8 := zI_w hI (8 + ht - 1) (by omega) (by omega)
      refine js_aload_n 0 dX1_wind_14 rfl ?_
      refine gX1_10 rfl dX1_wind_15 hx rfl ?_
      refine gX1_151 rfl dX1_wind_18 z_11 rfl ?_
      refine js_iload_n 1 dX1_wind_21 rfl ?_
      refine js_iaload dX1_wind_22 z_16 (by omega) ?_
      refine js_istore_n (L' := [(3, .int (jI ((zwa f) ht))), (0, .ref x), (1, .int (jI ht)), (2, .int (jI d))]) dX1_wind_23 (by decide) rfl ?_
      refine js_aload_n 1 dX1_wind_24 rfl ?_
      refine js_iload_n 0 dX1_wind_25 rfl ?_
      refine js_iload_n 3 dX1_wind_26 rfl ?_
      refine js_icmp_ne (tgt := 34) dX1_wind_27 (by decide) (by omega) (fun c4 => ?_) (fun c4 => ?_)
      · refine js_iconst dX1_wind_34 ?_
        refine js_top (b := jb False) (jb_f id).symm ?_
        refine js_iconst dX1_wind_35 ?_
        refine js_iload_n 3 dX1_wind_36 rfl ?_
        refine vX1_53 (kc' := 34) (ks' := 413) rfl dX1_wind_37 hx (xc_refuse hx) (Nat.le_of_ble_eq_true rfl) (by omega) (by omega) (Nat.le_of_ble_eq_true rfl) (fun v5 g5 q5 => ?_) (fun E5 g5 q5 => by obtain ⟨_, e5, _⟩ | ⟨p5, _, _⟩ := q5; cases e5; exact absurd p5 id)
        obtain ⟨_, e5, g0_5⟩ | ⟨p5, _, _⟩ := q5
        rotate_left
        · exact absurd p5 id
        cases e5
        rw [g0_5]
        show js_ok ρ mX1_wind _ 12 34 413 40 [(3, .int (jI ((zwa f) ht))), (0, .ref x), (1, .int (jI ht)), (2, .int (jI d))] [] h
        refine js_aload_n 1 dX1_wind_40 rfl ?_
        have ho : zdoWind f ht d = .inr (f (8 + ht - 1), js_uz f (8 + ht - 1) d) := by unfold zdoWind; (repeat' split) <;> first | rfl | (exfalso; omega)
        have hI' := zdoWind_I hI hT ho
        refine vX1_111 (kc' := 3) (ks' := 9) rfl dX1_wind_41 hx (xc_change hC hE hw) (Nat.le_of_ble_eq_true rfl) (by omega) (by omega) (Nat.le_of_ble_eq_true rfl) (fun v6 g6 q6 => ?_) (fun E6 g6 q6 => by cases q6.1)
        obtain ⟨e6, col1, hC1, kk1⟩ := q6
        cases e6
        obtain ⟨_, _, _, _, hZ1, sv1, rv1, hi1, ib1, lb1, _, _, _, hx1, _⟩ := id hC1
        obtain ⟨z_70, z_71, ⟨mb_7, rb_7, z_72⟩, ⟨ms_7, rs_7, z_73⟩, z_74, z_75, z_76, z_77, z_78, z_79, z_710, z_711, z_712⟩ := id hZ1
        obtain ⟨sa_7, sb_7, sc_7, sd_7, se_7, sf_7, sg_7⟩ := z_711
        obtain ⟨wb_7, cb_7, gb_7, heb_7, rcb_7, hgb_7⟩ := zL_rd z_77 z_70 (by omega)
        obtain ⟨ws_7, cs_7, gs_7, hes_7, rcs_7, hgs_7⟩ := zL_rd z_78 z_70 (by omega)
        obtain ⟨gm_7, ze_7⟩ := z_70
        show js_ok ρ mX1_wind _ 12 3 9 44 [(3, .int (jI ((zwa f) ht))), (0, .ref x), (1, .int (jI ht)), (2, .int (jI d))] [] g6
        refine js_aload_n 1 dX1_wind_44 rfl ?_
        refine gX1_10 rfl dX1_wind_45 hx1 rfl ?_
        refine gX1_151 rfl dX1_wind_48 z_71 rfl ?_
        refine js_iload_n 2 dX1_wind_51 rfl ?_
        refine js_iload_n 3 dX1_wind_52 rfl ?_
        refine js_iastore dX1_wind_53 z_76 (by omega) ?_
        show js_ok ρ mX1_wind _ 12 3 9 54 [(3, .int (jI ((zwa f) ht))), (0, .ref x), (1, .int (jI ht)), (2, .int (jI d))] [] (js_up g6 (B 5) (js_aI true 0 6 (js_uz (zwa f) ht d)))
        refine js_iload_n 0 dX1_wind_54 rfl ?_
        exact js_iret rfl rfl dX1_wind_55 (zOp_cur ho hC1 kk1 hI' (zSt_upW hZ1 ⟨by omega, by omega⟩ (fun k k1 k2 k3 => by simp (disch := omega) only [js_uz_n]) (by rw [zwa_u (by omega), show (7 + ht : Int) = 8 + ht - 1 by omega])) (zFr_up zFr_refl sa_7.2.2.2.2.2) (by rw [zwa_g (by omega), show (7 + ht : Int) = 8 + ht - 1 by omega]))
      · refine js_iconst dX1_wind_30 ?_
        refine js_goto (tgt := 35) dX1_wind_31 (by decide) ?_
        refine js_top (b := jb True) (jb_t trivial).symm ?_
        refine js_iconst dX1_wind_35 ?_
        refine js_iload_n 3 dX1_wind_36 rfl ?_
        refine vX1_53 (kc' := 34) (ks' := 413) rfl dX1_wind_37 hx (xc_refuse hx) (Nat.le_of_ble_eq_true rfl) (by omega) (by omega) (Nat.le_of_ble_eq_true rfl) (fun v8 g8 q8 => ?_) (fun E8 g8 q8 => ?_)
        · obtain ⟨p8, _, _⟩ | ⟨_, e8, _⟩ := q8
          · exact absurd trivial p8
          · cases e8
        · obtain ⟨_, e8, _⟩ | ⟨_, e8, r8⟩ := q8
          · cases e8
          · cases e8
            exact js_out rfl (zOp_rf (by unfold zdoWind; (repeat' split) <;> first | rfl | (exfalso; omega)) hC hx r8)
    · obtain ⟨_, e3, _⟩ | ⟨p3, e3, r3⟩ := q3
      · cases e3
      · cases e3
        exact js_out rfl (zOp_rf (by unfold zdoWind; (repeat' split) <;> first | rfl | (exfalso; omega)) hC hx r3)
  · obtain ⟨_, e2, _⟩ | ⟨p2, e2, r2⟩ := q2
    · cases e2
    · cases e2
      exact js_out rfl (zOp_rf (by unfold zdoWind; (repeat' split) <;> first | rfl | (exfalso; omega)) hC hx r2)
theorem xo_farm {ρ : js_R} {h : js_H} {em : Nat} {T : Int} {col : Nat → Nat} {c : Nat} {B : Nat → Nat} {Bb Bs : Int → Nat} {x : Nat} {f : zF} {Y : zY} {x1 y1 fe : Int} (hC : zC em T col c B Bb Bs x f Y h) (hE : js_sv ρ 1 = .ref em) (hw : Y.2.2.2.2.1 = 0 ∨ Y.2.2.2.2.1 = 1) (hT : T + 400 ≤ 1000000) (rx1 : -2147483648 ≤ x1 ∧ x1 < 2147483648) (ry1 : -2147483648 ≤ y1 ∧ y1 < 2147483648) (rfe : -2147483648 ≤ fe ∧ fe < 2147483648) : js_Con ρ mX1_farm 13 42 450 [.ref x, .int (jI x1), .int (jI y1), .int (jI fe)] h (zOp em T col c B Bb Bs x f Y (zdoFarm f x1 y1 fe) h) := by
  refine js_body [(0, .ref x), (1, .int (jI x1)), (2, .int (jI y1)), (3, .int (jI fe))] rfl (by decide) (Nat.le_of_ble_eq_true rfl) rfl ?_
  obtain ⟨cz1, cz2, cz3, ⟨c4a, hI⟩, hZ, sv, rv, hi, ib, lb, vi, vl, cs, hx, cz7, cz8, ⟨cz9, c9a, c9b⟩, cz10, cz11⟩ := id hC
  obtain ⟨tT1, tT2⟩ := zI_T hI
  have h01 := zI_01 hI
  obtain ⟨z_10, z_11, ⟨mb_1, rb_1, z_12⟩, ⟨ms_1, rs_1, z_13⟩, z_14, z_15, z_16, z_17, z_18, z_19, z_110, z_111, z_112⟩ := id hZ
  obtain ⟨sa_1, sb_1, sc_1, sd_1, se_1, sf_1, sg_1⟩ := z_111
  obtain ⟨wb_1, cb_1, gb_1, heb_1, rcb_1, hgb_1⟩ := zL_rd z_17 z_10 (by omega)
  obtain ⟨ws_1, cs_1, gs_1, hes_1, rcs_1, hgs_1⟩ := zL_rd z_18 z_10 (by omega)
  obtain ⟨gm_1, ze_1⟩ := z_10
  refine js_aload_n 0 dX1_farm_0 rfl ?_
  refine js_iload_n 1 dX1_farm_1 rfl ?_
  refine js_iload_n 2 dX1_farm_2 rfl ?_
  refine vX1_100 (kc' := 38) (ks' := 432) rfl dX1_farm_3 hx (xc_mustOn hx (by omega) (by omega)) (Nat.le_of_ble_eq_true rfl) (by omega) (by omega) (Nat.le_of_ble_eq_true rfl) (fun v2 g2 q2 => ?_) (fun E2 g2 q2 => ?_)
  · obtain ⟨p2, e2, g0_2⟩ | ⟨_, e2, _⟩ | ⟨_, e2, _⟩ := q2
    rotate_left
    · cases e2
    · cases e2
    cases e2
    rw [g0_2]
    show js_ok ρ mX1_farm _ 13 38 432 6 [(0, .ref x), (1, .int (jI x1)), (2, .int (jI y1)), (3, .int (jI fe))] [] h
    refine js_aload_n 0 dX1_farm_6 rfl ?_
    refine js_iload_n 3 dX1_farm_7 rfl ?_
    refine js_iconst dX1_farm_8 ?_
    refine js_bipush dX1_farm_9 rfl ?_
    refine vX1_96 (kc' := 36) (ks' := 423) rfl dX1_farm_11 hx (xc_inRange hx (by omega) (by omega) (by omega)) (Nat.le_of_ble_eq_true rfl) (by omega) (by omega) (Nat.le_of_ble_eq_true rfl) (fun v3 g3 q3 => ?_) (fun E3 g3 q3 => ?_)
    · obtain ⟨p3, e3, g0_3⟩ | ⟨_, e3, _⟩ := q3
      rotate_left
      · cases e3
      cases e3
      rw [g0_3]
      show js_ok ρ mX1_farm _ 13 36 423 14 [(0, .ref x), (1, .int (jI x1)), (2, .int (jI y1)), (3, .int (jI fe))] [] h
      have gw : zfa f (10 * y1 + x1) = f (87 + (10 * y1 + x1)) := zfa_g (by omega)
      have rw8 := zI_f hI (10 * y1 + x1) (by omega) (by omega)
      refine js_aload_n 0 dX1_farm_14 rfl ?_
      refine gX1_10 rfl dX1_farm_15 hx rfl ?_
      refine gX1_147 rfl dX1_farm_18 z_11 rfl ?_
      refine js_bipush dX1_farm_21 rfl ?_
      refine js_iload_n 2 dX1_farm_23 rfl ?_
      refine js_imul dX1_farm_24 ?_
      refine js_iload_n 1 dX1_farm_25 rfl ?_
      refine js_iadd dX1_farm_26 ?_
      refine js_iaload dX1_farm_27 z_14 (by omega) ?_
      refine js_istore (L' := [(4, .int (jI ((zfa f) ((10 * y1) + x1)))), (0, .ref x), (1, .int (jI x1)), (2, .int (jI y1)), (3, .int (jI fe))]) dX1_farm_28 (by decide) rfl ?_
      refine js_aload_n 1 dX1_farm_30 rfl ?_
      refine js_iload 0 dX1_farm_31 rfl ?_
      refine js_iload_n 4 dX1_farm_33 rfl ?_
      refine js_icmp_ne (tgt := 41) dX1_farm_34 (by decide) (by omega) (fun c4 => ?_) (fun c4 => ?_)
      · refine js_iconst dX1_farm_41 ?_
        refine js_top (b := jb False) (jb_f id).symm ?_
        refine js_iconst dX1_farm_42 ?_
        refine js_iload_n 4 dX1_farm_43 rfl ?_
        refine vX1_53 (kc' := 34) (ks' := 414) rfl dX1_farm_44 hx (xc_refuse hx) (Nat.le_of_ble_eq_true rfl) (by omega) (by omega) (Nat.le_of_ble_eq_true rfl) (fun v5 g5 q5 => ?_) (fun E5 g5 q5 => by obtain ⟨_, e5, _⟩ | ⟨p5, _, _⟩ := q5; cases e5; exact absurd p5 id)
        obtain ⟨_, e5, g0_5⟩ | ⟨p5, _, _⟩ := q5
        rotate_left
        · exact absurd p5 id
        cases e5
        rw [g0_5]
        show js_ok ρ mX1_farm _ 13 34 414 47 [(4, .int (jI ((zfa f) ((10 * y1) + x1)))), (0, .ref x), (1, .int (jI x1)), (2, .int (jI y1)), (3, .int (jI fe))] [] h
        refine js_aload_n 1 dX1_farm_47 rfl ?_
        have ho : zdoFarm f x1 y1 fe = .inr (f (87 + (10 * y1 + x1)), js_uz f (87 + (10 * y1 + x1)) fe) := by unfold zdoFarm; (repeat' split) <;> first | rfl | (exfalso; omega)
        have hI' := zdoFarm_I hI hT ho
        refine vX1_111 (kc' := 3) (ks' := 10) rfl dX1_farm_48 hx (xc_change hC hE hw) (Nat.le_of_ble_eq_true rfl) (by omega) (by omega) (Nat.le_of_ble_eq_true rfl) (fun v6 g6 q6 => ?_) (fun E6 g6 q6 => by cases q6.1)
        obtain ⟨e6, col1, hC1, kk1⟩ := q6
        cases e6
        obtain ⟨_, _, _, _, hZ1, sv1, rv1, hi1, ib1, lb1, _, _, _, hx1, _⟩ := id hC1
        obtain ⟨z_70, z_71, ⟨mb_7, rb_7, z_72⟩, ⟨ms_7, rs_7, z_73⟩, z_74, z_75, z_76, z_77, z_78, z_79, z_710, z_711, z_712⟩ := id hZ1
        obtain ⟨sa_7, sb_7, sc_7, sd_7, se_7, sf_7, sg_7⟩ := z_711
        obtain ⟨wb_7, cb_7, gb_7, heb_7, rcb_7, hgb_7⟩ := zL_rd z_77 z_70 (by omega)
        obtain ⟨ws_7, cs_7, gs_7, hes_7, rcs_7, hgs_7⟩ := zL_rd z_78 z_70 (by omega)
        obtain ⟨gm_7, ze_7⟩ := z_70
        show js_ok ρ mX1_farm _ 13 3 10 51 [(4, .int (jI ((zfa f) ((10 * y1) + x1)))), (0, .ref x), (1, .int (jI x1)), (2, .int (jI y1)), (3, .int (jI fe))] [] g6
        refine js_aload_n 1 dX1_farm_51 rfl ?_
        refine gX1_10 rfl dX1_farm_52 hx1 rfl ?_
        refine gX1_147 rfl dX1_farm_55 z_71 rfl ?_
        refine js_bipush dX1_farm_58 rfl ?_
        refine js_iload_n 3 dX1_farm_60 rfl ?_
        refine js_imul dX1_farm_61 ?_
        refine js_iload_n 2 dX1_farm_62 rfl ?_
        refine js_iadd dX1_farm_63 ?_
        refine js_iload_n 4 dX1_farm_64 rfl ?_
        refine js_iastore dX1_farm_65 z_74 (by omega) ?_
        show js_ok ρ mX1_farm _ 13 3 10 66 [(4, .int (jI ((zfa f) ((10 * y1) + x1)))), (0, .ref x), (1, .int (jI x1)), (2, .int (jI y1)), (3, .int (jI fe))] [] (js_up g6 (B 3) (js_aI true 0 100 (js_uz (zfa f) ((10 * y1) + x1) fe)))
        refine js_iload 0 dX1_farm_66 rfl ?_
        exact js_iret rfl rfl dX1_farm_68 (zOp_cur ho hC1 kk1 hI' (zSt_upF hZ1 ⟨by omega, by omega⟩ (fun k k1 k2 k3 => by simp (disch := omega) only [js_uz_n]) (by rw [zfa_u (by omega)])) (zFr_up zFr_refl sa_7.2.2.2.1) (zfa_g (by omega)))
      · refine js_iconst dX1_farm_37 ?_
        refine js_goto (tgt := 42) dX1_farm_38 (by decide) ?_
        refine js_top (b := jb True) (jb_t trivial).symm ?_
        refine js_iconst dX1_farm_42 ?_
        refine js_iload_n 4 dX1_farm_43 rfl ?_
        refine vX1_53 (kc' := 34) (ks' := 414) rfl dX1_farm_44 hx (xc_refuse hx) (Nat.le_of_ble_eq_true rfl) (by omega) (by omega) (Nat.le_of_ble_eq_true rfl) (fun v8 g8 q8 => ?_) (fun E8 g8 q8 => ?_)
        · obtain ⟨p8, _, _⟩ | ⟨_, e8, _⟩ := q8
          · exact absurd trivial p8
          · cases e8
        · obtain ⟨_, e8, _⟩ | ⟨_, e8, r8⟩ := q8
          · cases e8
          · cases e8
            exact js_out rfl (zOp_rf (by unfold zdoFarm; (repeat' split) <;> first | rfl | (exfalso; omega)) hC hx r8)
    · obtain ⟨_, e3, _⟩ | ⟨p3, e3, r3⟩ := q3
      · cases e3
      · cases e3
        exact js_out rfl (zOp_rf (by unfold zdoFarm; (repeat' split) <;> first | rfl | (exfalso; omega)) hC hx r3)
  · obtain ⟨_, e2, _⟩ | ⟨p2, e2, r2⟩ | ⟨p2, e2, r2⟩ := q2
    · cases e2
    · cases e2
      exact js_out rfl (zOp_rf (by unfold zdoFarm; (repeat' split) <;> first | rfl | (exfalso; omega)) hC hx r2)
    · cases e2
      exact js_out rfl (zOp_rf (by unfold zdoFarm; (repeat' split) <;> first | rfl | (exfalso; omega)) hC hx r2)
theorem xo_drop {ρ : js_R} {h : js_H} {em : Nat} {T : Int} {col : Nat → Nat} {c : Nat} {B : Nat → Nat} {Bb Bs : Int → Nat} {x : Nat} {f : zF} {Y : zY} {b sk : Int} (hC : zC em T col c B Bb Bs x f Y h) (hE : js_sv ρ 1 = .ref em) (hw : Y.2.2.2.2.1 = 0 ∨ Y.2.2.2.2.1 = 1) (hT : T + 400 ≤ 1000000) (rb : -2147483648 ≤ b ∧ b < 2147483648) (rsk : -2147483648 ≤ sk ∧ sk < 2147483648) : js_Con ρ mX1_drop 12 44 460 [.ref x, .int (jI b), .int (jI sk)] h (zOp em T col c B Bb Bs x f Y (zdoDrop f b sk) h) := by
  refine js_body [(0, .ref x), (1, .int (jI b)), (2, .int (jI sk))] rfl (by decide) (Nat.le_of_ble_eq_true rfl) rfl ?_
  obtain ⟨cz1, cz2, cz3, ⟨c4a, hI⟩, hZ, sv, rv, hi, ib, lb, vi, vl, cs, hx, cz7, cz8, ⟨cz9, c9a, c9b⟩, cz10, cz11⟩ := id hC
  obtain ⟨tT1, tT2⟩ := zI_T hI
  have h01 := zI_01 hI
  obtain ⟨z_10, z_11, ⟨mb_1, rb_1, z_12⟩, ⟨ms_1, rs_1, z_13⟩, z_14, z_15, z_16, z_17, z_18, z_19, z_110, z_111, z_112⟩ := id hZ
  obtain ⟨sa_1, sb_1, sc_1, sd_1, se_1, sf_1, sg_1⟩ := z_111
  obtain ⟨wb_1, cb_1, gb_1, heb_1, rcb_1, hgb_1⟩ := zL_rd z_17 z_10 (by omega)
  obtain ⟨ws_1, cs_1, gs_1, hes_1, rcs_1, hgs_1⟩ := zL_rd z_18 z_10 (by omega)
  obtain ⟨gm_1, ze_1⟩ := z_10
  refine js_aload_n 0 dX1_drop_0 rfl ?_
  refine js_iload_n 1 dX1_drop_1 rfl ?_
  refine vX1_154 (kc' := 42) (ks' := 451) rfl dX1_drop_2 hx (xc_mustB hx hZ hI (by omega)) (Nat.le_of_ble_eq_true rfl) (by omega) (by omega) (Nat.le_of_ble_eq_true rfl) (fun v2 g2 q2 => ?_) (fun E2 g2 q2 => ?_)
  · obtain ⟨p2, e2, g0_2⟩ | ⟨_, e2, _⟩ := q2
    rotate_left
    · cases e2
    cases e2
    rw [g0_2]
    show js_ok ρ mX1_drop _ 12 42 451 5 [(0, .ref x), (1, .int (jI b)), (2, .int (jI sk))] [] h
    refine js_aload_n 0 dX1_drop_5 rfl ?_
    refine js_iload_n 2 dX1_drop_6 rfl ?_
    refine js_iconst dX1_drop_7 ?_
    refine js_bipush dX1_drop_8 rfl ?_
    refine vX1_96 (kc' := 40) (ks' := 442) rfl dX1_drop_10 hx (xc_inRange hx (by omega) (by omega) (by omega)) (Nat.le_of_ble_eq_true rfl) (by omega) (by omega) (Nat.le_of_ble_eq_true rfl) (fun v3 g3 q3 => ?_) (fun E3 g3 q3 => ?_)
    · obtain ⟨p3, e3, g0_3⟩ | ⟨_, e3, _⟩ := q3
      rotate_left
      · cases e3
      cases e3
      rw [g0_3]
      show js_ok ρ mX1_drop _ 12 40 442 13 [(0, .ref x), (1, .int (jI b)), (2, .int (jI sk))] [] h
      have hBb := zI_B hI (b := b) (by omega) (by omega)
      have hBpb := zIB_p hBb
      unfold zIB at hBb
      refine js_aload_n 0 dX1_drop_13 rfl ?_
      refine gX1_10 rfl dX1_drop_14 hx rfl ?_
      refine gX1_104 rfl dX1_drop_17 z_11 rfl ?_
      refine js_iload_n 1 dX1_drop_20 rfl ?_
      refine eX1_128 rfl dX1_drop_21 z_12 (con_lget z_12 (by omega) heb_1 (by omega) (by omega)) (Nat.le_of_ble_eq_true rfl) (Nat.le_of_ble_eq_true rfl) ?_
      rw [show gb_1 b = some (Bb b) from hgb_1 _ (by omega) (by omega)]
      show js_ok ρ mX1_drop _ 12 40 442 24 [(0, .ref x), (1, .int (jI b)), (2, .int (jI sk))] [.ref (Bb b)] h
      refine js_castS (r := (RX5, TX5, 8)) rfl q506 dX1_drop_24 (z_19 b (by omega) (by omega)) ?_
      refine js_astore_n (L' := [(3, .ref (Bb b)), (0, .ref x), (1, .int (jI b)), (2, .int (jI sk))]) dX1_drop_27 (by decide) rfl ?_
      refine js_aload_n 1 dX1_drop_28 rfl ?_
      refine js_aload_n 0 dX1_drop_29 rfl ?_
      refine gX1_158 rfl dX1_drop_30 (z_19 b (by omega) (by omega)) rfl ?_
      refine js_if_ne (tgt := 40) dX1_drop_33 (by decide) (by omega) (fun c4 => ?_) (fun c4 => ?_)
      · refine js_iconst dX1_drop_40 ?_
        refine js_top (b := jb False) (jb_f id).symm ?_
        refine js_bipush dX1_drop_41 rfl ?_
        refine js_aload_n 0 dX1_drop_43 rfl ?_
        refine gX1_161 rfl dX1_drop_44 (z_19 b (by omega) (by omega)) rfl ?_
        refine vX1_53 (kc' := 38) (ks' := 433) rfl dX1_drop_47 hx (xc_refuse hx) (Nat.le_of_ble_eq_true rfl) (by omega) (by omega) (Nat.le_of_ble_eq_true rfl) (fun v5 g5 q5 => ?_) (fun E5 g5 q5 => by obtain ⟨_, e5, _⟩ | ⟨p5, _, _⟩ := q5; cases e5; exact absurd p5 id)
        obtain ⟨_, e5, g0_5⟩ | ⟨p5, _, _⟩ := q5
        rotate_left
        · exact absurd p5 id
        cases e5
        rw [g0_5]
        show js_ok ρ mX1_drop _ 12 38 433 50 [(3, .ref (Bb b)), (0, .ref x), (1, .int (jI b)), (2, .int (jI sk))] [] h
        refine js_aload_n 1 dX1_drop_50 rfl ?_
        refine js_aload_n 0 dX1_drop_51 rfl ?_
        refine gX1_164 rfl dX1_drop_52 (z_19 b (by omega) (by omega)) rfl ?_
        refine js_iload_n 3 dX1_drop_55 rfl ?_
        refine js_icmp_ge (tgt := 63) dX1_drop_56 (by decide) (by omega) (fun c6 => ?_) (fun c6 => ?_)
        · refine js_iconst dX1_drop_63 ?_
          refine js_top (b := jb False) (jb_f id).symm ?_
          refine js_bipush dX1_drop_64 rfl ?_
          refine js_aload_n 0 dX1_drop_66 rfl ?_
          refine gX1_164 rfl dX1_drop_67 (z_19 b (by omega) (by omega)) rfl ?_
          refine vX1_53 (kc' := 36) (ks' := 424) rfl dX1_drop_70 hx (xc_refuse hx) (Nat.le_of_ble_eq_true rfl) (by omega) (by omega) (Nat.le_of_ble_eq_true rfl) (fun v7 g7 q7 => ?_) (fun E7 g7 q7 => by obtain ⟨_, e7, _⟩ | ⟨p7, _, _⟩ := q7; cases e7; exact absurd p7 id)
          obtain ⟨_, e7, g0_7⟩ | ⟨p7, _, _⟩ := q7
          rotate_left
          · exact absurd p7 id
          cases e7
          rw [g0_7]
          show js_ok ρ mX1_drop _ 12 36 424 73 [(3, .ref (Bb b)), (0, .ref x), (1, .int (jI b)), (2, .int (jI sk))] [] h
          refine js_aload_n 1 dX1_drop_73 rfl ?_
          refine js_aload_n 0 dX1_drop_74 rfl ?_
          refine gX1_161 rfl dX1_drop_75 (z_19 b (by omega) (by omega)) rfl ?_
          refine js_iload_n 3 dX1_drop_78 rfl ?_
          refine js_iadd dX1_drop_79 ?_
          refine js_iconst dX1_drop_80 ?_
          refine js_icmp_le (tgt := 88) dX1_drop_81 (by decide) (by omega) (fun c8 => ?_) (fun c8 => ?_)
          · refine js_iconst dX1_drop_88 ?_
            refine js_top (b := jb False) (jb_f id).symm ?_
            refine js_bipush dX1_drop_89 rfl ?_
            refine js_iconst dX1_drop_91 ?_
            refine js_aload_n 0 dX1_drop_92 rfl ?_
            refine gX1_161 rfl dX1_drop_93 (z_19 b (by omega) (by omega)) rfl ?_
            refine js_isub dX1_drop_96 ?_
            refine vX1_53 (kc' := 34) (ks' := 415) rfl dX1_drop_97 hx (xc_refuse hx) (Nat.le_of_ble_eq_true rfl) (by omega) (by omega) (Nat.le_of_ble_eq_true rfl) (fun v9 g9 q9 => ?_) (fun E9 g9 q9 => by obtain ⟨_, e9, _⟩ | ⟨p9, _, _⟩ := q9; cases e9; exact absurd p9 id)
            obtain ⟨_, e9, g0_9⟩ | ⟨p9, _, _⟩ := q9
            rotate_left
            · exact absurd p9 id
            cases e9
            rw [g0_9]
            show js_ok ρ mX1_drop _ 12 34 415 100 [(3, .ref (Bb b)), (0, .ref x), (1, .int (jI b)), (2, .int (jI sk))] [] h
            refine js_aload_n 1 dX1_drop_100 rfl ?_
            have ho : zdoDrop f b sk = .inr (f (13 + 9 * b + 2) + sk, js_uz (js_uz (js_uz f (13 + 9 * b + 2) (f (13 + 9 * b + 2) + sk)) (13 + 9 * b + 3) (f (13 + 9 * b + 3) - sk)) 6 (f 6 + sk)) := by unfold zdoDrop; (repeat' split) <;> first | rfl | (exfalso; omega)
            have hI' := zdoDrop_I hI hT ho
            refine vX1_111 (kc' := 3) (ks' := 11) rfl dX1_drop_101 hx (xc_change hC hE hw) (Nat.le_of_ble_eq_true rfl) (by omega) (by omega) (Nat.le_of_ble_eq_true rfl) (fun v10 g10 q10 => ?_) (fun E10 g10 q10 => by cases q10.1)
            obtain ⟨e10, col1, hC1, kk1⟩ := q10
            cases e10
            obtain ⟨_, _, _, _, hZ1, sv1, rv1, hi1, ib1, lb1, _, _, _, hx1, _⟩ := id hC1
            obtain ⟨z_110, z_111, ⟨mb_11, rb_11, z_112⟩, ⟨ms_11, rs_11, z_113⟩, z_114, z_115, z_116, z_117, z_118, z_119, z_1110, z_1111, z_1112⟩ := id hZ1
            obtain ⟨sa_11, sb_11, sc_11, sd_11, se_11, sf_11, sg_11⟩ := z_1111
            obtain ⟨wb_11, cb_11, gb_11, heb_11, rcb_11, hgb_11⟩ := zL_rd z_117 z_110 (by omega)
            obtain ⟨ws_11, cs_11, gs_11, hes_11, rcs_11, hgs_11⟩ := zL_rd z_118 z_110 (by omega)
            obtain ⟨gm_11, ze_11⟩ := z_110
            show js_ok ρ mX1_drop _ 12 3 11 104 [(3, .ref (Bb b)), (0, .ref x), (1, .int (jI b)), (2, .int (jI sk))] [] g10
            refine js_aload_n 0 dX1_drop_104 rfl ?_
            refine js_dup dX1_drop_105 rfl ?_
            refine gX1_164 rfl dX1_drop_106 (z_119 b (by omega) (by omega)) rfl ?_
            refine js_iload_n 3 dX1_drop_109 rfl ?_
            refine js_isub dX1_drop_110 ?_
            refine pX1_164 rfl dX1_drop_111 (z_119 b (by omega) (by omega)) (Nat.le_of_ble_eq_true rfl) rfl rfl ?_
            show js_ok ρ mX1_drop _ 12 3 11 114 [(3, .ref (Bb b)), (0, .ref x), (1, .int (jI b)), (2, .int (jI sk))] [] (js_up g10 (Bb b) (js_ob true 4 [.int (jI (zpt f b)), .int (jI (f (13 + 9 * b + 2))), .int (jI ((f (13 + 9 * b + 3)) - sk)), .int (jI (f (13 + 9 * b + 4))), .int (jI (f (13 + 9 * b + 5))), .int (jI (f (13 + 9 * b + 6))), .int (jI (f (13 + 9 * b + 7))), .int (jI (f (13 + 9 * b + 8)))]))
            refine js_aload_n 0 dX1_drop_114 rfl ?_
            refine js_dup dX1_drop_115 rfl ?_
            refine gX1_161 rfl dX1_drop_116 js_up_s rfl ?_
            refine js_iload_n 3 dX1_drop_119 rfl ?_
            refine js_iadd dX1_drop_120 ?_
            refine pX1_161 rfl dX1_drop_121 js_up_s (Nat.le_of_ble_eq_true rfl) rfl rfl ?_
            rw [js_up_up]
            show js_ok ρ mX1_drop _ 12 3 11 124 [(3, .ref (Bb b)), (0, .ref x), (1, .int (jI b)), (2, .int (jI sk))] [] (js_up g10 (Bb b) (js_ob true 4 [.int (jI (zpt f b)), .int (jI ((f (13 + 9 * b + 2)) + sk)), .int (jI ((f (13 + 9 * b + 3)) - sk)), .int (jI (f (13 + 9 * b + 4))), .int (jI (f (13 + 9 * b + 5))), .int (jI (f (13 + 9 * b + 6))), .int (jI (f (13 + 9 * b + 7))), .int (jI (f (13 + 9 * b + 8)))]))
            refine js_aload_n 1 dX1_drop_124 rfl ?_
            refine gX1_10 rfl dX1_drop_125 ((js_up_n (js_nek hx1 (z_119 b (by omega) (by omega)) (js_kOO (by decide)))).trans hx1) rfl ?_
            refine js_dup dX1_drop_128 rfl ?_
            refine gX1_167 rfl dX1_drop_129 ((js_up_n (js_nek z_111 (z_119 b (by omega) (by omega)) (js_kOO (by decide)))).trans z_111) rfl ?_
            refine js_iload_n 3 dX1_drop_132 rfl ?_
            refine js_iadd dX1_drop_133 ?_
            refine pX1_167 rfl dX1_drop_134 ((js_up_n (js_nek z_111 (z_119 b (by omega) (by omega)) (js_kOO (by decide)))).trans z_111) (Nat.le_of_ble_eq_true rfl) rfl rfl ?_
            show js_ok ρ mX1_drop _ 12 3 11 137 [(3, .ref (Bb b)), (0, .ref x), (1, .int (jI b)), (2, .int (jI sk))] [] (js_up (js_up g10 (Bb b) (js_ob true 4 [.int (jI (zpt f b)), .int (jI ((f (13 + 9 * b + 2)) + sk)), .int (jI ((f (13 + 9 * b + 3)) - sk)), .int (jI (f (13 + 9 * b + 4))), .int (jI (f (13 + 9 * b + 5))), .int (jI (f (13 + 9 * b + 6))), .int (jI (f (13 + 9 * b + 7))), .int (jI (f (13 + 9 * b + 8)))])) (B 0) (js_ob true 1 [.ref (B 1), .ref (B 2), .ref (B 3), .ref (B 4), .ref (B 5), .int (jI (f 2)), .int (jI (f 3)), .int (jI (f 4)), .int (jI (f 5)), .int (jI ((f 6) + sk)), .int (jI (f 7))]))
            refine js_aload_n 0 dX1_drop_137 rfl ?_
            refine gX1_161 rfl dX1_drop_138 ((js_up_n (Ne.symm (js_nek z_111 (z_119 b (by omega) (by omega)) (js_kOO (by decide))))).trans js_up_s) rfl ?_
            exact js_iret rfl rfl dX1_drop_141 (zOp_cur ho hC1 kk1 hI' (zSt_upT (zSt_upB (f' := js_uz (js_uz f (13 + 9 * b + 2) (f (13 + 9 * b + 2) + sk)) (13 + 9 * b + 3) (f (13 + 9 * b + 3) - sk)) hZ1 ⟨by omega, by omega⟩ ⟨by omega, by omega⟩ (fun k k1 k2 k3 => by simp (disch := omega) only [js_uz_n]) (by unfold zBo zpt; simp (disch := omega) only [js_uz_n, js_uz_s])) ⟨by simp (disch := omega) only [js_uz_n]; omega, by simp (disch := omega) only [js_uz_n]; omega⟩ (fun k k1 k2 k3 => by simp (disch := omega) only [js_uz_n]) (by unfold zTo; simp (disch := omega) only [js_uz_n, js_uz_s])) (zFr_up (zFr_up zFr_refl (sd_11 b (by omega) (by omega))) sa_11.1) rfl)
          · refine js_iconst dX1_drop_84 ?_
            refine js_goto (tgt := 89) dX1_drop_85 (by decide) ?_
            refine js_top (b := jb True) (jb_t trivial).symm ?_
            refine js_bipush dX1_drop_89 rfl ?_
            refine js_iconst dX1_drop_91 ?_
            refine js_aload_n 0 dX1_drop_92 rfl ?_
            refine gX1_161 rfl dX1_drop_93 (z_19 b (by omega) (by omega)) rfl ?_
            refine js_isub dX1_drop_96 ?_
            refine vX1_53 (kc' := 34) (ks' := 415) rfl dX1_drop_97 hx (xc_refuse hx) (Nat.le_of_ble_eq_true rfl) (by omega) (by omega) (Nat.le_of_ble_eq_true rfl) (fun v12 g12 q12 => ?_) (fun E12 g12 q12 => ?_)
            · obtain ⟨p12, _, _⟩ | ⟨_, e12, _⟩ := q12
              · exact absurd trivial p12
              · cases e12
            · obtain ⟨_, e12, _⟩ | ⟨_, e12, r12⟩ := q12
              · cases e12
              · cases e12
                exact js_out rfl (zOp_rf (by unfold zdoDrop; (repeat' split) <;> first | rfl | (exfalso; omega)) hC hx r12)
        · refine js_iconst dX1_drop_59 ?_
          refine js_goto (tgt := 64) dX1_drop_60 (by decide) ?_
          refine js_top (b := jb True) (jb_t trivial).symm ?_
          refine js_bipush dX1_drop_64 rfl ?_
          refine js_aload_n 0 dX1_drop_66 rfl ?_
          refine gX1_164 rfl dX1_drop_67 (z_19 b (by omega) (by omega)) rfl ?_
          refine vX1_53 (kc' := 36) (ks' := 424) rfl dX1_drop_70 hx (xc_refuse hx) (Nat.le_of_ble_eq_true rfl) (by omega) (by omega) (Nat.le_of_ble_eq_true rfl) (fun v13 g13 q13 => ?_) (fun E13 g13 q13 => ?_)
          · obtain ⟨p13, _, _⟩ | ⟨_, e13, _⟩ := q13
            · exact absurd trivial p13
            · cases e13
          · obtain ⟨_, e13, _⟩ | ⟨_, e13, r13⟩ := q13
            · cases e13
            · cases e13
              exact js_out rfl (zOp_rf (by unfold zdoDrop; (repeat' split) <;> first | rfl | (exfalso; omega)) hC hx r13)
      · refine js_iconst dX1_drop_36 ?_
        refine js_goto (tgt := 41) dX1_drop_37 (by decide) ?_
        refine js_top (b := jb True) (jb_t trivial).symm ?_
        refine js_bipush dX1_drop_41 rfl ?_
        refine js_aload_n 0 dX1_drop_43 rfl ?_
        refine gX1_161 rfl dX1_drop_44 (z_19 b (by omega) (by omega)) rfl ?_
        refine vX1_53 (kc' := 38) (ks' := 433) rfl dX1_drop_47 hx (xc_refuse hx) (Nat.le_of_ble_eq_true rfl) (by omega) (by omega) (Nat.le_of_ble_eq_true rfl) (fun v14 g14 q14 => ?_) (fun E14 g14 q14 => ?_)
        · obtain ⟨p14, _, _⟩ | ⟨_, e14, _⟩ := q14
          · exact absurd trivial p14
          · cases e14
        · obtain ⟨_, e14, _⟩ | ⟨_, e14, r14⟩ := q14
          · cases e14
          · cases e14
            exact js_out rfl (zOp_rf (by unfold zdoDrop; (repeat' split) <;> first | rfl | (exfalso; omega)) hC hx r14)
    · obtain ⟨_, e3, _⟩ | ⟨p3, e3, r3⟩ := q3
      · cases e3
      · cases e3
        exact js_out rfl (zOp_rf (by unfold zdoDrop; (repeat' split) <;> first | rfl | (exfalso; omega)) hC hx r3)
  · obtain ⟨_, e2, _⟩ | ⟨p2, e2, r2⟩ := q2
    · cases e2
    · cases e2
      exact js_out rfl (zOp_rf (by unfold zdoDrop; (repeat' split) <;> first | rfl | (exfalso; omega)) hC hx r2)
