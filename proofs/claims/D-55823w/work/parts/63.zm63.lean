set_option maxRecDepth 100000
/-! changes: vent, trade, hour -/
theorem zvent_e {f : zF} {b lv e : Int} (h1 : 0 ≤ b ∧ b < 6) (hp : 0 ≤ zpt f b ∧ zpt f b < 100) (he : e = if f (13 + 9 * b + 2) - lv ≤ 0 then f (87 + zpt f b) else 0) : zfee (zgas f b lv) b lv = e ∧ zsinks (zgas f b lv) b lv = js_uz (js_uz (js_uz (js_uz (js_uz f (13 + 9 * b + 4) (max 0 (f (13 + 9 * b + 4) - lv))) (13 + 9 * b + 2) (f (13 + 9 * b + 2) - lv)) (13 + 9 * b + 7) (f (13 + 9 * b + 7) + e)) (187 + zpt f b) (f (187 + zpt f b) + e)) 5 (f 5 + e) := by
  have hpt : zpt (zgas f b lv) b = zpt f b := by
    unfold zpt zgas
    simp (disch := omega) only [js_uz_n]
  have hfe : zfee (zgas f b lv) b lv = e := by
    unfold zfee
    rw [hpt, he]
    unfold zgas
    simp (disch := omega) only [js_uz_n]
  refine ⟨hfe, ?_⟩
  unfold zsinks
  rw [hpt, hfe]
  unfold zgas
  generalize zpt f b = p at hp
  simp (disch := omega) only [js_uz_n]
theorem xo_vent {ρ : js_R} {h : js_H} {em : Nat} {T : Int} {col : Nat → Nat} {c : Nat} {B : Nat → Nat} {Bb Bs : Int → Nat} {x : Nat} {f : zF} {Y : zY} {b lv : Int} (hC : zC em T col c B Bb Bs x f Y h) (hE : js_sv ρ 1 = .ref em) (hw : Y.2.2.2.2.1 = 0 ∨ Y.2.2.2.2.1 = 1) (hT : T + 400 ≤ 1000000) (rb : -2147483648 ≤ b ∧ b < 2147483648) (rlv : -2147483648 ≤ lv ∧ lv < 2147483648) : js_Con ρ mX1_vent 12 44 460 [.ref x, .int (jI b), .int (jI lv)] h (zOp em T col c B Bb Bs x f Y (zdoVent f b lv) h) := by
  refine js_body [(0, .ref x), (1, .int (jI b)), (2, .int (jI lv))] rfl (by decide) (Nat.le_of_ble_eq_true rfl) rfl ?_
  obtain ⟨cz1, cz2, cz3, ⟨c4a, hI⟩, hZ, sv, rv, hi, ib, lb, vi, vl, cs, hx, cz7, cz8, ⟨cz9, c9a, c9b⟩, cz10, cz11⟩ := id hC
  obtain ⟨tT1, tT2⟩ := zI_T hI
  have h01 := zI_01 hI
  obtain ⟨z_10, z_11, ⟨mb_1, rb_1, z_12⟩, ⟨ms_1, rs_1, z_13⟩, z_14, z_15, z_16, z_17, z_18, z_19, z_110, z_111, z_112⟩ := id hZ
  obtain ⟨sa_1, sb_1, sc_1, sd_1, se_1, sf_1, sg_1⟩ := z_111
  obtain ⟨wb_1, cb_1, gb_1, heb_1, rcb_1, hgb_1⟩ := zL_rd z_17 z_10 (by omega)
  obtain ⟨ws_1, cs_1, gs_1, hes_1, rcs_1, hgs_1⟩ := zL_rd z_18 z_10 (by omega)
  obtain ⟨gm_1, ze_1⟩ := z_10
  refine js_aload_n 0 dX1_vent_0 rfl ?_
  refine js_iload_n 1 dX1_vent_1 rfl ?_
  refine vX1_154 (kc' := 42) (ks' := 451) rfl dX1_vent_2 hx (xc_mustB hx hZ hI (by omega)) (Nat.le_of_ble_eq_true rfl) (by omega) (by omega) (Nat.le_of_ble_eq_true rfl) (fun v2 g2 q2 => ?_) (fun E2 g2 q2 => ?_)
  · obtain ⟨p2, e2, g0_2⟩ | ⟨_, e2, _⟩ := q2
    rotate_left
    · cases e2
    cases e2
    rw [g0_2]
    show js_ok ρ mX1_vent _ 12 42 451 5 [(0, .ref x), (1, .int (jI b)), (2, .int (jI lv))] [] h
    refine js_aload_n 0 dX1_vent_5 rfl ?_
    refine js_iload_n 2 dX1_vent_6 rfl ?_
    refine js_iconst dX1_vent_7 ?_
    refine js_iconst dX1_vent_8 ?_
    refine vX1_96 (kc' := 40) (ks' := 442) rfl dX1_vent_9 hx (xc_inRange hx (by omega) (by omega) (by omega)) (Nat.le_of_ble_eq_true rfl) (by omega) (by omega) (Nat.le_of_ble_eq_true rfl) (fun v3 g3 q3 => ?_) (fun E3 g3 q3 => ?_)
    · obtain ⟨p3, e3, g0_3⟩ | ⟨_, e3, _⟩ := q3
      rotate_left
      · cases e3
      cases e3
      rw [g0_3]
      show js_ok ρ mX1_vent _ 12 40 442 12 [(0, .ref x), (1, .int (jI b)), (2, .int (jI lv))] [] h
      have hBb := zI_B hI (b := b) (by omega) (by omega)
      have hBpb := zIB_p hBb
      unfold zIB at hBb
      refine js_aload_n 0 dX1_vent_12 rfl ?_
      refine gX1_10 rfl dX1_vent_13 hx rfl ?_
      refine gX1_104 rfl dX1_vent_16 z_11 rfl ?_
      refine js_iload_n 1 dX1_vent_19 rfl ?_
      refine eX1_128 rfl dX1_vent_20 z_12 (con_lget z_12 (by omega) heb_1 (by omega) (by omega)) (Nat.le_of_ble_eq_true rfl) (Nat.le_of_ble_eq_true rfl) ?_
      rw [show gb_1 b = some (Bb b) from hgb_1 _ (by omega) (by omega)]
      show js_ok ρ mX1_vent _ 12 40 442 23 [(0, .ref x), (1, .int (jI b)), (2, .int (jI lv))] [.ref (Bb b)] h
      refine js_castS (r := (RX5, TX5, 8)) rfl q506 dX1_vent_23 (z_19 b (by omega) (by omega)) ?_
      refine js_astore_n (L' := [(3, .ref (Bb b)), (0, .ref x), (1, .int (jI b)), (2, .int (jI lv))]) dX1_vent_26 (by decide) rfl ?_
      refine js_aload_n 1 dX1_vent_27 rfl ?_
      refine js_aload_n 0 dX1_vent_28 rfl ?_
      refine gX1_161 rfl dX1_vent_29 (z_19 b (by omega) (by omega)) rfl ?_
      refine js_iload_n 3 dX1_vent_32 rfl ?_
      refine js_icmp_ge (tgt := 40) dX1_vent_33 (by decide) (by omega) (fun c4 => ?_) (fun c4 => ?_)
      · refine js_iconst dX1_vent_40 ?_
        refine js_top (b := jb False) (jb_f id).symm ?_
        refine js_bipush dX1_vent_41 rfl ?_
        refine js_aload_n 0 dX1_vent_43 rfl ?_
        refine gX1_161 rfl dX1_vent_44 (z_19 b (by omega) (by omega)) rfl ?_
        refine vX1_53 (kc' := 38) (ks' := 433) rfl dX1_vent_47 hx (xc_refuse hx) (Nat.le_of_ble_eq_true rfl) (by omega) (by omega) (Nat.le_of_ble_eq_true rfl) (fun v5 g5 q5 => ?_) (fun E5 g5 q5 => by obtain ⟨_, e5, _⟩ | ⟨p5, _, _⟩ := q5; cases e5; exact absurd p5 id)
        obtain ⟨_, e5, g0_5⟩ | ⟨p5, _, _⟩ := q5
        rotate_left
        · exact absurd p5 id
        cases e5
        rw [g0_5]
        show js_ok ρ mX1_vent _ 12 38 433 50 [(3, .ref (Bb b)), (0, .ref x), (1, .int (jI b)), (2, .int (jI lv))] [] h
        refine js_aload_n 1 dX1_vent_50 rfl ?_
        have ho : zdoVent f b lv = .inr (zfee (zgas f b lv) b lv, zsinks (zgas f b lv) b lv) := by unfold zdoVent; (repeat' split) <;> first | rfl | (exfalso; omega)
        have hI' := zdoVent_I hI hT ho
        refine vX1_111 (kc' := 7) (ks' := 29) rfl dX1_vent_51 hx (xc_change hC hE hw) (Nat.le_of_ble_eq_true rfl) (by omega) (by omega) (Nat.le_of_ble_eq_true rfl) (fun v6 g6 q6 => ?_) (fun E6 g6 q6 => by cases q6.1)
        obtain ⟨e6, col1, hC1, kk1⟩ := q6
        cases e6
        obtain ⟨_, _, _, _, hZ1, sv1, rv1, hi1, ib1, lb1, _, _, _, hx1, _⟩ := id hC1
        obtain ⟨z_70, z_71, ⟨mb_7, rb_7, z_72⟩, ⟨ms_7, rs_7, z_73⟩, z_74, z_75, z_76, z_77, z_78, z_79, z_710, z_711, z_712⟩ := id hZ1
        obtain ⟨sa_7, sb_7, sc_7, sd_7, se_7, sf_7, sg_7⟩ := z_711
        obtain ⟨wb_7, cb_7, gb_7, heb_7, rcb_7, hgb_7⟩ := zL_rd z_77 z_70 (by omega)
        obtain ⟨ws_7, cs_7, gs_7, hes_7, rcs_7, hgs_7⟩ := zL_rd z_78 z_70 (by omega)
        obtain ⟨gm_7, ze_7⟩ := z_70
        show js_ok ρ mX1_vent _ 12 7 29 54 [(3, .ref (Bb b)), (0, .ref x), (1, .int (jI b)), (2, .int (jI lv))] [] g6
        refine js_aload_n 0 dX1_vent_54 rfl ?_
        refine js_dup dX1_vent_55 rfl ?_
        refine gX1_161 rfl dX1_vent_56 (z_79 b (by omega) (by omega)) rfl ?_
        refine js_iload_n 3 dX1_vent_59 rfl ?_
        refine js_isub dX1_vent_60 ?_
        refine pX1_161 rfl dX1_vent_61 (z_79 b (by omega) (by omega)) (Nat.le_of_ble_eq_true rfl) rfl rfl ?_
        show js_ok ρ mX1_vent _ 12 7 29 64 [(3, .ref (Bb b)), (0, .ref x), (1, .int (jI b)), (2, .int (jI lv))] [] (js_up g6 (Bb b) (js_ob true 4 [.int (jI (zpt f b)), .int (jI ((f (13 + 9 * b + 2)) - lv)), .int (jI (f (13 + 9 * b + 3))), .int (jI (f (13 + 9 * b + 4))), .int (jI (f (13 + 9 * b + 5))), .int (jI (f (13 + 9 * b + 6))), .int (jI (f (13 + 9 * b + 7))), .int (jI (f (13 + 9 * b + 8)))]))
        refine js_aload_n 0 dX1_vent_64 rfl ?_
        refine js_iconst dX1_vent_65 ?_
        refine js_aload_n 0 dX1_vent_66 rfl ?_
        refine gX1_158 rfl dX1_vent_67 js_up_s rfl ?_
        refine js_iload_n 3 dX1_vent_70 rfl ?_
        refine js_isub dX1_vent_71 ?_
        refine js_mmax q1234 dX1_vent_72 (by omega) (Nat.le_of_ble_eq_true rfl) (Nat.le_of_ble_eq_true rfl) ?_
        refine pX1_158 rfl dX1_vent_75 js_up_s (Nat.le_of_ble_eq_true rfl) rfl rfl ?_
        rw [js_up_up]
        show js_ok ρ mX1_vent _ 12 7 29 78 [(3, .ref (Bb b)), (0, .ref x), (1, .int (jI b)), (2, .int (jI lv))] [] (js_up g6 (Bb b) (js_ob true 4 [.int (jI (zpt f b)), .int (jI ((f (13 + 9 * b + 2)) - lv)), .int (jI (f (13 + 9 * b + 3))), .int (jI (max 0 ((f (13 + 9 * b + 4)) - lv))), .int (jI (f (13 + 9 * b + 5))), .int (jI (f (13 + 9 * b + 6))), .int (jI (f (13 + 9 * b + 7))), .int (jI (f (13 + 9 * b + 8)))]))
        refine js_aload_n 0 dX1_vent_78 rfl ?_
        refine eX1_175 rfl dX1_vent_79 js_up_s (con_flies js_up_s (by omega)) (Nat.le_of_ble_eq_true rfl) (Nat.le_of_ble_eq_true rfl) ?_
        refine js_if_eqB (tgt := 89) dX1_vent_82 (by decide) (fun c8 => ?_) (fun c8 => ?_)
        · refine js_aload_n 1 dX1_vent_89 rfl ?_
          refine gX1_10 rfl dX1_vent_90 ((js_up_n (js_nek hx1 (z_79 b (by omega) (by omega)) (js_kOO (by decide)))).trans hx1) rfl ?_
          refine js_aload_n 0 dX1_vent_93 rfl ?_
          have gf : zfa f (zpt f b) = f (87 + (zpt f b)) := zfa_g (by omega)
          have rf8 := zI_f hI (zpt f b) (by omega) (by omega)
          refine eX1_179 rfl dX1_vent_94 ((js_up_n (js_nek z_71 (z_79 b (by omega) (by omega)) (js_kOO (by decide)))).trans z_71) (con_pays ((js_up_n (js_nek z_71 (z_79 b (by omega) (by omega)) (js_kOO (by decide)))).trans z_71) js_up_s ((js_up_n (js_nek z_74 (z_79 b (by omega) (by omega)) js_kAO)).trans z_74) ((js_up_n (js_nek z_75 (z_79 b (by omega) (by omega)) js_kAO)).trans z_75) sg_7.1.2.1 (by omega)) (Nat.le_of_ble_eq_true rfl) (Nat.le_of_ble_eq_true rfl) ?_
          rw [js_up_up]
          show js_ok ρ mX1_vent _ 12 7 29 97 [(3, .ref (Bb b)), (0, .ref x), (1, .int (jI b)), (2, .int (jI lv))] [.int (jI (zfa f (zpt f b)))] (js_up (js_up (js_up g6 (Bb b) (js_ob true 4 [.int (jI (zpt f b)), .int (jI ((f (13 + 9 * b + 2)) - lv)), .int (jI (f (13 + 9 * b + 3))), .int (jI (max 0 ((f (13 + 9 * b + 4)) - lv))), .int (jI (f (13 + 9 * b + 5))), .int (jI (f (13 + 9 * b + 6))), .int (jI (f (13 + 9 * b + 7) + zfa f (zpt f b))), .int (jI (f (13 + 9 * b + 8)))])) (B 4) (js_aI true 0 100 (js_uz (zca f) (zpt f b) (zca f (zpt f b) + zfa f (zpt f b))))) (B 0) (js_ob true 1 [.ref (B 1), .ref (B 2), .ref (B 3), .ref (B 4), .ref (B 5), .int (jI (f 2)), .int (jI (f 3)), .int (jI (f 4)), .int (jI (f 5 + zfa f (zpt f b))), .int (jI (f 6)), .int (jI (f 7))]))
          exact js_iret rfl rfl dX1_vent_97 (zOp_cur ho hC1 kk1 hI' (by
              have gc : zca f (zpt f b) = f (187 + zpt f b) := zca_g (by omega)
              obtain ⟨x1, x2⟩ := zvent_e (f := f) (b := b) (lv := lv) (e := f (87 + zpt f b)) (by omega) (by omega) (by rw [if_pos (by omega)])
              rw [x2]
              have zB := zSt_upB (b := b) (E := js_ob true 4 [.int (jI (zpt f b)), .int (jI ((f (13 + 9 * b + 2)) - lv)), .int (jI (f (13 + 9 * b + 3))), .int (jI (max 0 ((f (13 + 9 * b + 4)) - lv))), .int (jI (f (13 + 9 * b + 5))), .int (jI (f (13 + 9 * b + 6))), .int (jI (f (13 + 9 * b + 7) + zfa f (zpt f b))), .int (jI (f (13 + 9 * b + 8)))]) (f' := js_uz (js_uz (js_uz f (13 + 9 * b + 4) (max 0 (f (13 + 9 * b + 4) - lv))) (13 + 9 * b + 2) (f (13 + 9 * b + 2) - lv)) (13 + 9 * b + 7) (f (13 + 9 * b + 7) + f (87 + zpt f b))) hZ1 ⟨by omega, by omega⟩ ⟨by omega, by omega⟩ (fun k k1 k2 k3 => by simp (disch := omega) only [js_uz_n]) (by rw [gf]; unfold zBo; rw [show zpt (js_uz (js_uz (js_uz f (13 + 9 * b + 4) (max 0 (f (13 + 9 * b + 4) - lv))) (13 + 9 * b + 2) (f (13 + 9 * b + 2) - lv)) (13 + 9 * b + 7) (f (13 + 9 * b + 7) + f (87 + zpt f b))) b = zpt f b from by unfold zpt; simp (disch := omega) only [js_uz_n]]; simp (disch := omega) only [js_uz_n, js_uz_s])
              have zC' := zSt_upC (E := js_aI true 0 100 (js_uz (zca f) (zpt f b) (zca f (zpt f b) + zfa f (zpt f b)))) (f' := js_uz (js_uz (js_uz (js_uz f (13 + 9 * b + 4) (max 0 (f (13 + 9 * b + 4) - lv))) (13 + 9 * b + 2) (f (13 + 9 * b + 2) - lv)) (13 + 9 * b + 7) (f (13 + 9 * b + 7) + f (87 + zpt f b))) (187 + zpt f b) (f (187 + zpt f b) + f (87 + zpt f b))) zB ⟨by simp (disch := omega) only [js_uz_n]; omega, by simp (disch := omega) only [js_uz_n]; omega⟩ (fun k k1 k2 k3 => by simp (disch := omega) only [js_uz_n]) (by rw [gf, gc, zca_u (by omega)]; congr 1; refine zca_e (fun q q1 q2 => ?_); by_cases y : q = zpt f b <;> first | (rw [y, js_uz_s, js_uz_s]; done) | (rw [js_uz_n (by omega), js_uz_n (by omega)]; simp (disch := omega) only [js_uz_n]; done))
              exact zSt_upT zC' ⟨by simp (disch := omega) only [js_uz_n]; omega, by simp (disch := omega) only [js_uz_n]; omega⟩ (fun k k1 k2 k3 => by simp (disch := omega) only [js_uz_n]) (by rw [gf]; unfold zTo; simp (disch := omega) only [js_uz_n, js_uz_s])) (zFr_up (zFr_up (zFr_up zFr_refl (sd_7 b (by omega) (by omega))) sa_7.2.2.2.2.1) sa_7.1) (by obtain ⟨x1, x2⟩ := zvent_e (f := f) (b := b) (lv := lv) (e := f (87 + zpt f b)) (by omega) (by omega) (by rw [if_pos (by omega)]); rw [x1, gf]))
        · refine js_iconst dX1_vent_85 ?_
          refine js_goto (tgt := 97) dX1_vent_86 (by decide) ?_
          exact js_iret rfl rfl dX1_vent_97 (zOp_cur ho hC1 kk1 hI' (by
              obtain ⟨x1, x2⟩ := zvent_e (f := f) (b := b) (lv := lv) (e := 0) (by omega) (by omega) (by rw [if_neg (by omega)])
              rw [x2, Int.add_zero, Int.add_zero, Int.add_zero]
              have zB := zSt_upB (b := b) (E := js_ob true 4 [.int (jI (zpt f b)), .int (jI ((f (13 + 9 * b + 2)) - lv)), .int (jI (f (13 + 9 * b + 3))), .int (jI (max 0 ((f (13 + 9 * b + 4)) - lv))), .int (jI (f (13 + 9 * b + 5))), .int (jI (f (13 + 9 * b + 6))), .int (jI (f (13 + 9 * b + 7))), .int (jI (f (13 + 9 * b + 8)))]) (f' := (js_uz (js_uz f (13 + 9 * b + 4) (max 0 (f (13 + 9 * b + 4) - lv))) (13 + 9 * b + 2) (f (13 + 9 * b + 2) - lv))) hZ1 ⟨by omega, by omega⟩ ⟨by omega, by omega⟩ (fun k k1 k2 k3 => by simp (disch := omega) only [js_uz_n]) (by unfold zBo; rw [show zpt (js_uz (js_uz f (13 + 9 * b + 4) (max 0 (f (13 + 9 * b + 4) - lv))) (13 + 9 * b + 2) (f (13 + 9 * b + 2) - lv)) b = zpt f b from by unfold zpt; simp (disch := omega) only [js_uz_n]]; simp (disch := omega) only [js_uz_n, js_uz_s])
              have ef : js_uz (js_uz (js_uz (js_uz (js_uz f (13 + 9 * b + 4) (max 0 (f (13 + 9 * b + 4) - lv))) (13 + 9 * b + 2) (f (13 + 9 * b + 2) - lv)) (13 + 9 * b + 7) (f (13 + 9 * b + 7))) (187 + zpt f b) (f (187 + zpt f b))) 5 (f 5) = (js_uz (js_uz f (13 + 9 * b + 4) (max 0 (f (13 + 9 * b + 4) - lv))) (13 + 9 * b + 2) (f (13 + 9 * b + 2) - lv)) := by
                funext k
                by_cases y : k = 5
                · rw [y, js_uz_s]; simp (disch := omega) only [js_uz_n]
                · rw [js_uz_n y]
                  by_cases y2 : k = 187 + zpt f b
                  · rw [y2, js_uz_s]; simp (disch := omega) only [js_uz_n]
                  · rw [js_uz_n y2]
                    by_cases y3 : k = 13 + 9 * b + 7
                    · rw [y3, js_uz_s]; simp (disch := omega) only [js_uz_n]
                    · rw [js_uz_n y3]
              rw [ef]
              exact zB) (zFr_up zFr_refl (sd_7 b (by omega) (by omega))) (by obtain ⟨x1, x2⟩ := zvent_e (f := f) (b := b) (lv := lv) (e := 0) (by omega) (by omega) (by rw [if_neg (by omega)]); rw [x1]))
      · refine js_iconst dX1_vent_36 ?_
        refine js_goto (tgt := 41) dX1_vent_37 (by decide) ?_
        refine js_top (b := jb True) (jb_t trivial).symm ?_
        refine js_bipush dX1_vent_41 rfl ?_
        refine js_aload_n 0 dX1_vent_43 rfl ?_
        refine gX1_161 rfl dX1_vent_44 (z_19 b (by omega) (by omega)) rfl ?_
        refine vX1_53 (kc' := 38) (ks' := 433) rfl dX1_vent_47 hx (xc_refuse hx) (Nat.le_of_ble_eq_true rfl) (by omega) (by omega) (Nat.le_of_ble_eq_true rfl) (fun v9 g9 q9 => ?_) (fun E9 g9 q9 => ?_)
        · obtain ⟨p9, _, _⟩ | ⟨_, e9, _⟩ := q9
          · exact absurd trivial p9
          · cases e9
        · obtain ⟨_, e9, _⟩ | ⟨_, e9, r9⟩ := q9
          · cases e9
          · cases e9
            exact js_out rfl (zOp_rf (by unfold zdoVent; (repeat' split) <;> first | rfl | (exfalso; omega)) hC hx r9)
    · obtain ⟨_, e3, _⟩ | ⟨p3, e3, r3⟩ := q3
      · cases e3
      · cases e3
        exact js_out rfl (zOp_rf (by unfold zdoVent; (repeat' split) <;> first | rfl | (exfalso; omega)) hC hx r3)
  · obtain ⟨_, e2, _⟩ | ⟨p2, e2, r2⟩ := q2
    · cases e2
    · cases e2
      exact js_out rfl (zOp_rf (by unfold zdoVent; (repeat' split) <;> first | rfl | (exfalso; omega)) hC hx r2)
theorem xo_trade {ρ : js_R} {h : js_H} {em : Nat} {T : Int} {col : Nat → Nat} {c : Nat} {B : Nat → Nat} {Bb Bs : Int → Nat} {x : Nat} {f : zF} {Y : zY} {b k sk : Int} (hC : zC em T col c B Bb Bs x f Y h) (hE : js_sv ρ 1 = .ref em) (hw : Y.2.2.2.2.1 = 0 ∨ Y.2.2.2.2.1 = 1) (hT : T + 400 ≤ 1000000) (rb : -2147483648 ≤ b ∧ b < 2147483648) (rk : -2147483648 ≤ k ∧ k < 2147483648) (rsk : -2147483648 ≤ sk ∧ sk < 2147483648) : js_Con ρ mX1_trade 12 48 480 [.ref x, .int (jI b), .int (jI k), .int (jI sk)] h (zOp em T col c B Bb Bs x f Y (zdoTrade f b k sk) h) := by
  refine js_body [(0, .ref x), (1, .int (jI b)), (2, .int (jI k)), (3, .int (jI sk))] rfl (by decide) (Nat.le_of_ble_eq_true rfl) rfl ?_
  obtain ⟨cz1, cz2, cz3, ⟨c4a, hI⟩, hZ, sv, rv, hi, ib, lb, vi, vl, cs, hx, cz7, cz8, ⟨cz9, c9a, c9b⟩, cz10, cz11⟩ := id hC
  obtain ⟨tT1, tT2⟩ := zI_T hI
  have h01 := zI_01 hI
  obtain ⟨z_10, z_11, ⟨mb_1, rb_1, z_12⟩, ⟨ms_1, rs_1, z_13⟩, z_14, z_15, z_16, z_17, z_18, z_19, z_110, z_111, z_112⟩ := id hZ
  obtain ⟨sa_1, sb_1, sc_1, sd_1, se_1, sf_1, sg_1⟩ := z_111
  obtain ⟨wb_1, cb_1, gb_1, heb_1, rcb_1, hgb_1⟩ := zL_rd z_17 z_10 (by omega)
  obtain ⟨ws_1, cs_1, gs_1, hes_1, rcs_1, hgs_1⟩ := zL_rd z_18 z_10 (by omega)
  obtain ⟨gm_1, ze_1⟩ := z_10
  refine js_aload_n 0 dX1_trade_0 rfl ?_
  refine js_iload_n 1 dX1_trade_1 rfl ?_
  refine vX1_154 (kc' := 46) (ks' := 471) rfl dX1_trade_2 hx (xc_mustB hx hZ hI (by omega)) (Nat.le_of_ble_eq_true rfl) (by omega) (by omega) (Nat.le_of_ble_eq_true rfl) (fun v2 g2 q2 => ?_) (fun E2 g2 q2 => ?_)
  · obtain ⟨p2, e2, g0_2⟩ | ⟨_, e2, _⟩ := q2
    rotate_left
    · cases e2
    cases e2
    rw [g0_2]
    show js_ok ρ mX1_trade _ 12 46 471 5 [(0, .ref x), (1, .int (jI b)), (2, .int (jI k)), (3, .int (jI sk))] [] h
    refine js_aload_n 0 dX1_trade_5 rfl ?_
    refine js_iload_n 2 dX1_trade_6 rfl ?_
    refine vX1_154 (kc' := 44) (ks' := 462) rfl dX1_trade_7 hx (xc_mustB hx hZ hI (by omega)) (Nat.le_of_ble_eq_true rfl) (by omega) (by omega) (Nat.le_of_ble_eq_true rfl) (fun v3 g3 q3 => ?_) (fun E3 g3 q3 => ?_)
    · obtain ⟨p3, e3, g0_3⟩ | ⟨_, e3, _⟩ := q3
      rotate_left
      · cases e3
      cases e3
      rw [g0_3]
      show js_ok ρ mX1_trade _ 12 44 462 10 [(0, .ref x), (1, .int (jI b)), (2, .int (jI k)), (3, .int (jI sk))] [] h
      refine js_aload_n 0 dX1_trade_10 rfl ?_
      refine js_iload_n 1 dX1_trade_11 rfl ?_
      refine js_iload_n 2 dX1_trade_12 rfl ?_
      refine js_icmp_ne (tgt := 20) dX1_trade_13 (by decide) (by omega) (fun c4 => ?_) (fun c4 => ?_)
      · refine js_iconst dX1_trade_20 ?_
        refine js_top (b := jb False) (jb_f id).symm ?_
        refine js_bipush dX1_trade_21 rfl ?_
        refine js_iload_n 1 dX1_trade_23 rfl ?_
        refine vX1_53 (kc' := 42) (ks' := 453) rfl dX1_trade_24 hx (xc_refuse hx) (Nat.le_of_ble_eq_true rfl) (by omega) (by omega) (Nat.le_of_ble_eq_true rfl) (fun v5 g5 q5 => ?_) (fun E5 g5 q5 => by obtain ⟨_, e5, _⟩ | ⟨p5, _, _⟩ := q5; cases e5; exact absurd p5 id)
        obtain ⟨_, e5, g0_5⟩ | ⟨p5, _, _⟩ := q5
        rotate_left
        · exact absurd p5 id
        cases e5
        rw [g0_5]
        show js_ok ρ mX1_trade _ 12 42 453 27 [(0, .ref x), (1, .int (jI b)), (2, .int (jI k)), (3, .int (jI sk))] [] h
        refine js_aload_n 0 dX1_trade_27 rfl ?_
        refine js_iload_n 3 dX1_trade_28 rfl ?_
        refine js_iconst dX1_trade_29 ?_
        refine js_bipush dX1_trade_30 rfl ?_
        refine vX1_96 (kc' := 40) (ks' := 444) rfl dX1_trade_32 hx (xc_inRange hx (by omega) (by omega) (by omega)) (Nat.le_of_ble_eq_true rfl) (by omega) (by omega) (Nat.le_of_ble_eq_true rfl) (fun v6 g6 q6 => ?_) (fun E6 g6 q6 => ?_)
        · obtain ⟨p6, e6, g0_6⟩ | ⟨_, e6, _⟩ := q6
          rotate_left
          · cases e6
          cases e6
          rw [g0_6]
          show js_ok ρ mX1_trade _ 12 40 444 35 [(0, .ref x), (1, .int (jI b)), (2, .int (jI k)), (3, .int (jI sk))] [] h
          have hBb := zI_B hI (b := b) (by omega) (by omega)
          have hBpb := zIB_p hBb
          unfold zIB at hBb
          have hBk := zI_B hI (b := k) (by omega) (by omega)
          have hBpk := zIB_p hBk
          unfold zIB at hBk
          have zar := zapt_r (f := f) (b := b) (c := k) (by omega) (by omega)
          refine js_aload_n 0 dX1_trade_35 rfl ?_
          refine gX1_10 rfl dX1_trade_36 hx rfl ?_
          refine gX1_104 rfl dX1_trade_39 z_11 rfl ?_
          refine js_iload_n 1 dX1_trade_42 rfl ?_
          refine eX1_128 rfl dX1_trade_43 z_12 (con_lget z_12 (by omega) heb_1 (by omega) (by omega)) (Nat.le_of_ble_eq_true rfl) (Nat.le_of_ble_eq_true rfl) ?_
          rw [show gb_1 b = some (Bb b) from hgb_1 _ (by omega) (by omega)]
          show js_ok ρ mX1_trade _ 12 40 444 46 [(0, .ref x), (1, .int (jI b)), (2, .int (jI k)), (3, .int (jI sk))] [.ref (Bb b)] h
          refine js_castS (r := (RX5, TX5, 8)) rfl q506 dX1_trade_46 (z_19 b (by omega) (by omega)) ?_
          refine js_astore (L' := [(4, .ref (Bb b)), (0, .ref x), (1, .int (jI b)), (2, .int (jI k)), (3, .int (jI sk))]) dX1_trade_49 (by decide) rfl ?_
          refine js_aload_n 1 dX1_trade_51 rfl ?_
          refine gX1_10 rfl dX1_trade_52 hx rfl ?_
          refine gX1_104 rfl dX1_trade_55 z_11 rfl ?_
          refine js_iload_n 3 dX1_trade_58 rfl ?_
          refine eX1_128 rfl dX1_trade_59 z_12 (con_lget z_12 (by omega) heb_1 (by omega) (by omega)) (Nat.le_of_ble_eq_true rfl) (Nat.le_of_ble_eq_true rfl) ?_
          rw [show gb_1 k = some (Bb k) from hgb_1 _ (by omega) (by omega)]
          show js_ok ρ mX1_trade _ 12 40 444 62 [(4, .ref (Bb b)), (0, .ref x), (1, .int (jI b)), (2, .int (jI k)), (3, .int (jI sk))] [.ref (Bb k)] h
          refine js_castS (r := (RX5, TX5, 8)) rfl q506 dX1_trade_62 (z_19 k (by omega) (by omega)) ?_
          refine js_astore (L' := [(5, .ref (Bb k)), (4, .ref (Bb b)), (0, .ref x), (1, .int (jI b)), (2, .int (jI k)), (3, .int (jI sk))]) dX1_trade_65 (by decide) rfl ?_
          refine js_aload_n 2 dX1_trade_67 rfl ?_
          refine js_aload 1 dX1_trade_68 rfl ?_
          refine js_aload 0 dX1_trade_70 rfl ?_
          refine eX1_183 rfl dX1_trade_72 (z_19 b (by omega) (by omega)) (con_bbeside (z_19 b (by omega) (by omega)) (z_19 k (by omega) (by omega)) (by omega) (by omega) (by omega) (by omega)) (Nat.le_of_ble_eq_true rfl) (Nat.le_of_ble_eq_true rfl) ?_
          show js_ok ρ mX1_trade _ 12 40 444 75 [(5, .ref (Bb k)), (4, .ref (Bb b)), (0, .ref x), (1, .int (jI b)), (2, .int (jI k)), (3, .int (jI sk))] [.int (jI (jb (zapt f b k ≤ 1))), .ref x] h
          refine js_if_neB (tgt := 82) dX1_trade_75 (by decide) (fun c7 => ?_) (fun c7 => ?_)
          · refine js_iconst dX1_trade_82 ?_
            refine js_top (b := jb False) (jb_f id).symm ?_
            refine js_bipush dX1_trade_83 rfl ?_
            refine js_aload 1 dX1_trade_85 rfl ?_
            refine js_aload 0 dX1_trade_87 rfl ?_
            refine eX1_187 rfl dX1_trade_89 (z_19 b (by omega) (by omega)) (con_bapart (z_19 b (by omega) (by omega)) (z_19 k (by omega) (by omega)) (by omega) (by omega) (by omega) (by omega)) (Nat.le_of_ble_eq_true rfl) (Nat.le_of_ble_eq_true rfl) ?_
            show js_ok ρ mX1_trade _ 12 40 444 92 [(5, .ref (Bb k)), (4, .ref (Bb b)), (0, .ref x), (1, .int (jI b)), (2, .int (jI k)), (3, .int (jI sk))] [.int (jI (zapt f b k)), .int (jI 9), .int (jI (jb False)), .ref x] h
            refine vX1_53 (kc' := 38) (ks' := 435) rfl dX1_trade_92 hx (xc_refuse hx) (Nat.le_of_ble_eq_true rfl) (by omega) (by omega) (Nat.le_of_ble_eq_true rfl) (fun v8 g8 q8 => ?_) (fun E8 g8 q8 => by obtain ⟨_, e8, _⟩ | ⟨p8, _, _⟩ := q8; cases e8; exact absurd p8 id)
            obtain ⟨_, e8, g0_8⟩ | ⟨p8, _, _⟩ := q8
            rotate_left
            · exact absurd p8 id
            cases e8
            rw [g0_8]
            show js_ok ρ mX1_trade _ 12 38 435 95 [(5, .ref (Bb k)), (4, .ref (Bb b)), (0, .ref x), (1, .int (jI b)), (2, .int (jI k)), (3, .int (jI sk))] [] h
            refine js_aload_n 2 dX1_trade_95 rfl ?_
            refine js_aload 1 dX1_trade_96 rfl ?_
            refine gX1_164 rfl dX1_trade_98 (z_19 b (by omega) (by omega)) rfl ?_
            refine js_iload_n 5 dX1_trade_101 rfl ?_
            refine js_icmp_ge (tgt := 109) dX1_trade_102 (by decide) (by omega) (fun c9 => ?_) (fun c9 => ?_)
            · refine js_iconst dX1_trade_109 ?_
              refine js_top (b := jb False) (jb_f id).symm ?_
              refine js_bipush dX1_trade_110 rfl ?_
              refine js_aload 1 dX1_trade_112 rfl ?_
              refine gX1_164 rfl dX1_trade_114 (z_19 b (by omega) (by omega)) rfl ?_
              refine vX1_53 (kc' := 36) (ks' := 426) rfl dX1_trade_117 hx (xc_refuse hx) (Nat.le_of_ble_eq_true rfl) (by omega) (by omega) (Nat.le_of_ble_eq_true rfl) (fun v10 g10 q10 => ?_) (fun E10 g10 q10 => by obtain ⟨_, e10, _⟩ | ⟨p10, _, _⟩ := q10; cases e10; exact absurd p10 id)
              obtain ⟨_, e10, g0_10⟩ | ⟨p10, _, _⟩ := q10
              rotate_left
              · exact absurd p10 id
              cases e10
              rw [g0_10]
              show js_ok ρ mX1_trade _ 12 36 426 120 [(5, .ref (Bb k)), (4, .ref (Bb b)), (0, .ref x), (1, .int (jI b)), (2, .int (jI k)), (3, .int (jI sk))] [] h
              refine js_aload_n 2 dX1_trade_120 rfl ?_
              refine js_aload 0 dX1_trade_121 rfl ?_
              refine gX1_164 rfl dX1_trade_123 (z_19 k (by omega) (by omega)) rfl ?_
              refine js_iload_n 5 dX1_trade_126 rfl ?_
              refine js_iadd dX1_trade_127 ?_
              refine js_bipush dX1_trade_128 rfl ?_
              refine js_icmp_le (tgt := 137) dX1_trade_130 (by decide) (by omega) (fun c11 => ?_) (fun c11 => ?_)
              · refine js_iconst dX1_trade_137 ?_
                refine js_top (b := jb False) (jb_f id).symm ?_
                refine js_bipush dX1_trade_138 rfl ?_
                refine js_bipush dX1_trade_140 rfl ?_
                refine js_aload 0 dX1_trade_142 rfl ?_
                refine gX1_164 rfl dX1_trade_144 (z_19 k (by omega) (by omega)) rfl ?_
                refine js_isub dX1_trade_147 ?_
                refine vX1_53 (kc' := 34) (ks' := 417) rfl dX1_trade_148 hx (xc_refuse hx) (Nat.le_of_ble_eq_true rfl) (by omega) (by omega) (Nat.le_of_ble_eq_true rfl) (fun v12 g12 q12 => ?_) (fun E12 g12 q12 => by obtain ⟨_, e12, _⟩ | ⟨p12, _, _⟩ := q12; cases e12; exact absurd p12 id)
                obtain ⟨_, e12, g0_12⟩ | ⟨p12, _, _⟩ := q12
                rotate_left
                · exact absurd p12 id
                cases e12
                rw [g0_12]
                show js_ok ρ mX1_trade _ 12 34 417 151 [(5, .ref (Bb k)), (4, .ref (Bb b)), (0, .ref x), (1, .int (jI b)), (2, .int (jI k)), (3, .int (jI sk))] [] h
                refine js_aload_n 2 dX1_trade_151 rfl ?_
                have ho : zdoTrade f b k sk = .inr (f (13 + 9 * k + 3) + sk, js_uz (js_uz f (13 + 9 * b + 3) (f (13 + 9 * b + 3) - sk)) (13 + 9 * k + 3) (f (13 + 9 * k + 3) + sk)) := by unfold zdoTrade; (repeat' split) <;> first | rfl | (exfalso; omega)
                have hI' := zdoTrade_I hI hT ho
                refine vX1_111 (kc' := 3) (ks' := 13) rfl dX1_trade_152 hx (xc_change hC hE hw) (Nat.le_of_ble_eq_true rfl) (by omega) (by omega) (Nat.le_of_ble_eq_true rfl) (fun v13 g13 q13 => ?_) (fun E13 g13 q13 => by cases q13.1)
                obtain ⟨e13, col1, hC1, kk1⟩ := q13
                cases e13
                obtain ⟨_, _, _, _, hZ1, sv1, rv1, hi1, ib1, lb1, _, _, _, hx1, _⟩ := id hC1
                obtain ⟨z_140, z_141, ⟨mb_14, rb_14, z_142⟩, ⟨ms_14, rs_14, z_143⟩, z_144, z_145, z_146, z_147, z_148, z_149, z_1410, z_1411, z_1412⟩ := id hZ1
                obtain ⟨sa_14, sb_14, sc_14, sd_14, se_14, sf_14, sg_14⟩ := z_1411
                obtain ⟨wb_14, cb_14, gb_14, heb_14, rcb_14, hgb_14⟩ := zL_rd z_147 z_140 (by omega)
                obtain ⟨ws_14, cs_14, gs_14, hes_14, rcs_14, hgs_14⟩ := zL_rd z_148 z_140 (by omega)
                obtain ⟨gm_14, ze_14⟩ := z_140
                show js_ok ρ mX1_trade _ 12 3 13 155 [(5, .ref (Bb k)), (4, .ref (Bb b)), (0, .ref x), (1, .int (jI b)), (2, .int (jI k)), (3, .int (jI sk))] [] g13
                refine js_aload 1 dX1_trade_155 rfl ?_
                refine js_dup dX1_trade_157 rfl ?_
                refine gX1_164 rfl dX1_trade_158 (z_149 b (by omega) (by omega)) rfl ?_
                refine js_iload_n 5 dX1_trade_161 rfl ?_
                refine js_isub dX1_trade_162 ?_
                refine pX1_164 rfl dX1_trade_163 (z_149 b (by omega) (by omega)) (Nat.le_of_ble_eq_true rfl) rfl rfl ?_
                show js_ok ρ mX1_trade _ 12 3 13 166 [(5, .ref (Bb k)), (4, .ref (Bb b)), (0, .ref x), (1, .int (jI b)), (2, .int (jI k)), (3, .int (jI sk))] [] (js_up g13 (Bb b) (js_ob true 4 [.int (jI (zpt f b)), .int (jI (f (13 + 9 * b + 2))), .int (jI ((f (13 + 9 * b + 3)) - sk)), .int (jI (f (13 + 9 * b + 4))), .int (jI (f (13 + 9 * b + 5))), .int (jI (f (13 + 9 * b + 6))), .int (jI (f (13 + 9 * b + 7))), .int (jI (f (13 + 9 * b + 8)))]))
                refine js_aload 0 dX1_trade_166 rfl ?_
                refine js_dup dX1_trade_168 rfl ?_
                refine gX1_164 rfl dX1_trade_169 ((js_up_n (fun z => by have := sg_14.2.2.1 _ _ (by omega) (by omega) (by omega) (by omega) z; omega)).trans (z_149 k (by omega) (by omega))) rfl ?_
                refine js_iload_n 5 dX1_trade_172 rfl ?_
                refine js_iadd dX1_trade_173 ?_
                refine pX1_164 rfl dX1_trade_174 ((js_up_n (fun z => by have := sg_14.2.2.1 _ _ (by omega) (by omega) (by omega) (by omega) z; omega)).trans (z_149 k (by omega) (by omega))) (Nat.le_of_ble_eq_true rfl) rfl rfl ?_
                show js_ok ρ mX1_trade _ 12 3 13 177 [(5, .ref (Bb k)), (4, .ref (Bb b)), (0, .ref x), (1, .int (jI b)), (2, .int (jI k)), (3, .int (jI sk))] [] (js_up (js_up g13 (Bb b) (js_ob true 4 [.int (jI (zpt f b)), .int (jI (f (13 + 9 * b + 2))), .int (jI ((f (13 + 9 * b + 3)) - sk)), .int (jI (f (13 + 9 * b + 4))), .int (jI (f (13 + 9 * b + 5))), .int (jI (f (13 + 9 * b + 6))), .int (jI (f (13 + 9 * b + 7))), .int (jI (f (13 + 9 * b + 8)))])) (Bb k) (js_ob true 4 [.int (jI (zpt f k)), .int (jI (f (13 + 9 * k + 2))), .int (jI ((f (13 + 9 * k + 3)) + sk)), .int (jI (f (13 + 9 * k + 4))), .int (jI (f (13 + 9 * k + 5))), .int (jI (f (13 + 9 * k + 6))), .int (jI (f (13 + 9 * k + 7))), .int (jI (f (13 + 9 * k + 8)))]))
                refine js_aload 0 dX1_trade_177 rfl ?_
                refine gX1_164 rfl dX1_trade_179 js_up_s rfl ?_
                exact js_iret rfl rfl dX1_trade_182 (zOp_cur ho hC1 kk1 hI' (zSt_upB (zSt_upB (f' := js_uz f (13 + 9 * b + 3) (f (13 + 9 * b + 3) - sk)) hZ1 ⟨by omega, by omega⟩ ⟨by omega, by omega⟩ (fun k k1 k2 k3 => by simp (disch := omega) only [js_uz_n]) (by unfold zBo zpt; simp (disch := omega) only [js_uz_n, js_uz_s])) ⟨by omega, by simp (disch := omega) only [js_uz_n]; omega⟩ ⟨by simp (disch := omega) only [js_uz_n]; omega, by simp (disch := omega) only [js_uz_n]; omega⟩ (fun k k1 k2 k3 => by simp (disch := omega) only [js_uz_n]) (by unfold zBo zpt; simp (disch := omega) only [js_uz_n, js_uz_s])) (zFr_up (zFr_up zFr_refl (sd_14 b (by omega) (by omega))) (sd_14 k (by omega) (by omega))) rfl)
              · refine js_iconst dX1_trade_133 ?_
                refine js_goto (tgt := 138) dX1_trade_134 (by decide) ?_
                refine js_top (b := jb True) (jb_t trivial).symm ?_
                refine js_bipush dX1_trade_138 rfl ?_
                refine js_bipush dX1_trade_140 rfl ?_
                refine js_aload 0 dX1_trade_142 rfl ?_
                refine gX1_164 rfl dX1_trade_144 (z_19 k (by omega) (by omega)) rfl ?_
                refine js_isub dX1_trade_147 ?_
                refine vX1_53 (kc' := 34) (ks' := 417) rfl dX1_trade_148 hx (xc_refuse hx) (Nat.le_of_ble_eq_true rfl) (by omega) (by omega) (Nat.le_of_ble_eq_true rfl) (fun v15 g15 q15 => ?_) (fun E15 g15 q15 => ?_)
                · obtain ⟨p15, _, _⟩ | ⟨_, e15, _⟩ := q15
                  · exact absurd trivial p15
                  · cases e15
                · obtain ⟨_, e15, _⟩ | ⟨_, e15, r15⟩ := q15
                  · cases e15
                  · cases e15
                    exact js_out rfl (zOp_rf (by unfold zdoTrade; (repeat' split) <;> first | rfl | (exfalso; omega)) hC hx r15)
            · refine js_iconst dX1_trade_105 ?_
              refine js_goto (tgt := 110) dX1_trade_106 (by decide) ?_
              refine js_top (b := jb True) (jb_t trivial).symm ?_
              refine js_bipush dX1_trade_110 rfl ?_
              refine js_aload 1 dX1_trade_112 rfl ?_
              refine gX1_164 rfl dX1_trade_114 (z_19 b (by omega) (by omega)) rfl ?_
              refine vX1_53 (kc' := 36) (ks' := 426) rfl dX1_trade_117 hx (xc_refuse hx) (Nat.le_of_ble_eq_true rfl) (by omega) (by omega) (Nat.le_of_ble_eq_true rfl) (fun v16 g16 q16 => ?_) (fun E16 g16 q16 => ?_)
              · obtain ⟨p16, _, _⟩ | ⟨_, e16, _⟩ := q16
                · exact absurd trivial p16
                · cases e16
              · obtain ⟨_, e16, _⟩ | ⟨_, e16, r16⟩ := q16
                · cases e16
                · cases e16
                  exact js_out rfl (zOp_rf (by unfold zdoTrade; (repeat' split) <;> first | rfl | (exfalso; omega)) hC hx r16)
          · refine js_iconst dX1_trade_78 ?_
            refine js_goto (tgt := 83) dX1_trade_79 (by decide) ?_
            refine js_top (b := jb True) (jb_t trivial).symm ?_
            refine js_bipush dX1_trade_83 rfl ?_
            refine js_aload 1 dX1_trade_85 rfl ?_
            refine js_aload 0 dX1_trade_87 rfl ?_
            refine eX1_187 rfl dX1_trade_89 (z_19 b (by omega) (by omega)) (con_bapart (z_19 b (by omega) (by omega)) (z_19 k (by omega) (by omega)) (by omega) (by omega) (by omega) (by omega)) (Nat.le_of_ble_eq_true rfl) (Nat.le_of_ble_eq_true rfl) ?_
            show js_ok ρ mX1_trade _ 12 40 444 92 [(5, .ref (Bb k)), (4, .ref (Bb b)), (0, .ref x), (1, .int (jI b)), (2, .int (jI k)), (3, .int (jI sk))] [.int (jI (zapt f b k)), .int (jI 9), .int (jI (jb True)), .ref x] h
            refine vX1_53 (kc' := 38) (ks' := 435) rfl dX1_trade_92 hx (xc_refuse hx) (Nat.le_of_ble_eq_true rfl) (by omega) (by omega) (Nat.le_of_ble_eq_true rfl) (fun v17 g17 q17 => ?_) (fun E17 g17 q17 => ?_)
            · obtain ⟨p17, _, _⟩ | ⟨_, e17, _⟩ := q17
              · exact absurd trivial p17
              · cases e17
            · obtain ⟨_, e17, _⟩ | ⟨_, e17, r17⟩ := q17
              · cases e17
              · cases e17
                exact js_out rfl (zOp_rf (by unfold zdoTrade; (repeat' split) <;> first | rfl | (exfalso; omega)) hC hx r17)
        · obtain ⟨_, e6, _⟩ | ⟨p6, e6, r6⟩ := q6
          · cases e6
          · cases e6
            exact js_out rfl (zOp_rf (by unfold zdoTrade; (repeat' split) <;> first | rfl | (exfalso; omega)) hC hx r6)
      · refine js_iconst dX1_trade_16 ?_
        refine js_goto (tgt := 21) dX1_trade_17 (by decide) ?_
        refine js_top (b := jb True) (jb_t trivial).symm ?_
        refine js_bipush dX1_trade_21 rfl ?_
        refine js_iload_n 1 dX1_trade_23 rfl ?_
        refine vX1_53 (kc' := 42) (ks' := 453) rfl dX1_trade_24 hx (xc_refuse hx) (Nat.le_of_ble_eq_true rfl) (by omega) (by omega) (Nat.le_of_ble_eq_true rfl) (fun v18 g18 q18 => ?_) (fun E18 g18 q18 => ?_)
        · obtain ⟨p18, _, _⟩ | ⟨_, e18, _⟩ := q18
          · exact absurd trivial p18
          · cases e18
        · obtain ⟨_, e18, _⟩ | ⟨_, e18, r18⟩ := q18
          · cases e18
          · cases e18
            exact js_out rfl (zOp_rf (by unfold zdoTrade; (repeat' split) <;> first | rfl | (exfalso; omega)) hC hx r18)
    · obtain ⟨_, e3, _⟩ | ⟨p3, e3, r3⟩ := q3
      · cases e3
      · cases e3
        exact js_out rfl (zOp_rf (by unfold zdoTrade; (repeat' split) <;> first | rfl | (exfalso; omega)) hC hx r3)
  · obtain ⟨_, e2, _⟩ | ⟨p2, e2, r2⟩ := q2
    · cases e2
    · cases e2
      exact js_out rfl (zOp_rf (by unfold zdoTrade; (repeat' split) <;> first | rfl | (exfalso; omega)) hC hx r2)
