set_option maxRecDepth 100000
/-! changes: enter -/
theorem zent_w {f : zF} {x y sk gs : Int} (h : 0 ≤ f 0 ∧ f 0 ≤ 5 ∧ f 1 ≤ 5) : ∃ F1 : zF, F1 0 = f 0 + 1 ∧ (∀ k : Int, k ≠ 0 → (k < 13 + 9 * f 0 ∨ 13 + 9 * f 0 + 9 ≤ k) → F1 k = f k) ∧ (∀ j : Int, 0 ≤ j → j < 9 → F1 (13 + 9 * f 0 + j) = zev x y sk gs j) ∧ zent f x y sk gs = js_uz F1 7 (F1 7 + 1) ∧ (F1 0 ≤ 6 ∧ F1 1 ≤ 5) ∧ (∀ k : Int, 0 ≤ k → k < 287 → (k < 2 ∨ 8 ≤ k) → js_uz F1 7 (F1 7 + 1) k = F1 k) ∧ F1 0 - 1 = f 0 := by
  obtain ⟨F1, a, b, c, d⟩ := zent_v (f := f) (x := x) (y := y) (sk := sk) (gs := gs) h.1
  exact ⟨F1, a, b, c, d, ⟨by omega, by rw [b 1 (by omega) (by omega)]; omega⟩, fun k k1 k2 k3 => js_uz_n (by omega), by omega⟩
theorem zent_t {F1 : zF} {B : Nat → Nat} {e6 : Nat} : js_ob true 1 [.ref (B 1), .ref (B 2), .ref (B 3), .ref (B 4), .ref (B 5), .int (jI (F1 2)), .int (jI (F1 3)), .int (jI (F1 4)), .int (jI (F1 5)), .int (jI (F1 6)), .int (jI (F1 7 + 1))] = zTo (js_uz F1 7 (F1 7 + 1)) (fun k => if k = 6 then e6 else B k) := by
  unfold zTo
  simp (disch := omega) only [js_uz_n, js_uz_s]
  rfl
theorem zent_u {em : Nat} {T : Int} {P : Nat → Prop} {B : Nat → Nat} {Bb Bs : Int → Nat} {F1 F2 : zF} {h : js_H} {e6 : Nat} (hZ : zSt em T P (fun k => if k = 6 then e6 else B k) Bb Bs F1 h) (h6 : F1 0 ≤ 6 ∧ F1 1 ≤ 5) (hf : ∀ k : Int, 0 ≤ k → k < 287 → (k < 2 ∨ 8 ≤ k) → js_uz F1 7 (F1 7 + 1) k = F1 k) (e : F2 = js_uz F1 7 (F1 7 + 1)) : zSt em T P (fun k => if k = 6 then e6 else B k) Bb Bs F2 (js_up h (B 0) (js_ob true 1 [.ref (B 1), .ref (B 2), .ref (B 3), .ref (B 4), .ref (B 5), .int (jI (F1 2)), .int (jI (F1 3)), .int (jI (F1 4)), .int (jI (F1 5)), .int (jI (F1 6)), .int (jI (F1 7 + 1))])) := by
  rw [e]
  exact zSt_upT hZ h6 hf zent_t
theorem xo_enter {ρ : js_R} {h : js_H} {em : Nat} {T : Int} {col : Nat → Nat} {c : Nat} {B : Nat → Nat} {Bb Bs : Int → Nat} {x : Nat} {f : zF} {Y : zY} {x1 y1 sk gs : Int} (hC : zC em T col c B Bb Bs x f Y h) (hE : js_sv ρ 1 = .ref em) (hw : Y.2.2.2.2.1 = 0 ∨ Y.2.2.2.2.1 = 1) (hT : T + 400 ≤ 1000000) (rx1 : -2147483648 ≤ x1 ∧ x1 < 2147483648) (ry1 : -2147483648 ≤ y1 ∧ y1 < 2147483648) (rsk : -2147483648 ≤ sk ∧ sk < 2147483648) (rgs : -2147483648 ≤ gs ∧ gs < 2147483648) : js_Con ρ mX1_enter 13 48 480 [.ref x, .int (jI x1), .int (jI y1), .int (jI sk), .int (jI gs)] h (zOp em T col c B Bb Bs x f Y (zdoEnter f x1 y1 sk gs) h) := by
  refine js_body [(0, .ref x), (1, .int (jI x1)), (2, .int (jI y1)), (3, .int (jI sk)), (4, .int (jI gs))] rfl (by decide) (Nat.le_of_ble_eq_true rfl) rfl ?_
  obtain ⟨cz1, cz2, cz3, ⟨c4a, hI⟩, hZ, sv, rv, hi, ib, lb, vi, vl, cs, hx, cz7, cz8, ⟨cz9, c9a, c9b⟩, cz10, cz11⟩ := id hC
  obtain ⟨tT1, tT2⟩ := zI_T hI
  have h01 := zI_01 hI
  obtain ⟨z_10, z_11, ⟨mb_1, rb_1, z_12⟩, ⟨ms_1, rs_1, z_13⟩, z_14, z_15, z_16, z_17, z_18, z_19, z_110, z_111, z_112⟩ := id hZ
  obtain ⟨sa_1, sb_1, sc_1, sd_1, se_1, sf_1, sg_1⟩ := z_111
  obtain ⟨wb_1, cb_1, gb_1, heb_1, rcb_1, hgb_1⟩ := zL_rd z_17 z_10 (by omega)
  obtain ⟨ws_1, cs_1, gs_1, hes_1, rcs_1, hgs_1⟩ := zL_rd z_18 z_10 (by omega)
  obtain ⟨gm_1, ze_1⟩ := z_10
  refine js_aload_n 0 dX1_enter_0 rfl ?_
  refine js_iload_n 1 dX1_enter_1 rfl ?_
  refine js_iload_n 2 dX1_enter_2 rfl ?_
  refine vX1_100 (kc' := 44) (ks' := 462) rfl dX1_enter_3 hx (xc_mustOn hx (by omega) (by omega)) (Nat.le_of_ble_eq_true rfl) (by omega) (by omega) (Nat.le_of_ble_eq_true rfl) (fun v2 g2 q2 => ?_) (fun E2 g2 q2 => ?_)
  · obtain ⟨p2, e2, g0_2⟩ | ⟨_, e2, _⟩ | ⟨_, e2, _⟩ := q2
    rotate_left
    · cases e2
    · cases e2
    cases e2
    rw [g0_2]
    show js_ok ρ mX1_enter _ 13 44 462 6 [(0, .ref x), (1, .int (jI x1)), (2, .int (jI y1)), (3, .int (jI sk)), (4, .int (jI gs))] [] h
    refine js_aload_n 0 dX1_enter_6 rfl ?_
    refine js_iload_n 3 dX1_enter_7 rfl ?_
    refine js_iconst dX1_enter_8 ?_
    refine js_bipush dX1_enter_9 rfl ?_
    refine vX1_96 (kc' := 42) (ks' := 453) rfl dX1_enter_11 hx (xc_inRange hx (by omega) (by omega) (by omega)) (Nat.le_of_ble_eq_true rfl) (by omega) (by omega) (Nat.le_of_ble_eq_true rfl) (fun v3 g3 q3 => ?_) (fun E3 g3 q3 => ?_)
    · obtain ⟨p3, e3, g0_3⟩ | ⟨_, e3, _⟩ := q3
      rotate_left
      · cases e3
      cases e3
      rw [g0_3]
      show js_ok ρ mX1_enter _ 13 42 453 14 [(0, .ref x), (1, .int (jI x1)), (2, .int (jI y1)), (3, .int (jI sk)), (4, .int (jI gs))] [] h
      refine js_aload_n 0 dX1_enter_14 rfl ?_
      refine js_iload 4 dX1_enter_15 rfl ?_
      refine js_iconst dX1_enter_17 ?_
      refine js_bipush dX1_enter_18 rfl ?_
      refine vX1_96 (kc' := 40) (ks' := 444) rfl dX1_enter_20 hx (xc_inRange hx (by omega) (by omega) (by omega)) (Nat.le_of_ble_eq_true rfl) (by omega) (by omega) (Nat.le_of_ble_eq_true rfl) (fun v4 g4 q4 => ?_) (fun E4 g4 q4 => ?_)
      · obtain ⟨p4, e4, g0_4⟩ | ⟨_, e4, _⟩ := q4
        rotate_left
        · cases e4
        cases e4
        rw [g0_4]
        show js_ok ρ mX1_enter _ 13 40 444 23 [(0, .ref x), (1, .int (jI x1)), (2, .int (jI y1)), (3, .int (jI sk)), (4, .int (jI gs))] [] h
        refine js_aload_n 0 dX1_enter_23 rfl ?_
        refine js_aload_n 0 dX1_enter_24 rfl ?_
        refine gX1_10 rfl dX1_enter_25 hx rfl ?_
        refine gX1_104 rfl dX1_enter_28 z_11 rfl ?_
        refine eX1_108 rfl dX1_enter_31 z_12 (con_lsize z_12 (by omega)) (Nat.le_of_ble_eq_true rfl) (Nat.le_of_ble_eq_true rfl) ?_
        refine js_bipush dX1_enter_34 rfl ?_
        refine js_icmp_ne (tgt := 43) dX1_enter_36 (by decide) (by omega) (fun c5 => ?_) (fun c5 => ?_)
        · refine js_iconst dX1_enter_43 ?_
          refine js_top (b := jb False) (jb_f id).symm ?_
          refine js_iconst dX1_enter_44 ?_
          refine js_bipush dX1_enter_45 rfl ?_
          refine vX1_53 (kc' := 38) (ks' := 435) rfl dX1_enter_47 hx (xc_refuse hx) (Nat.le_of_ble_eq_true rfl) (by omega) (by omega) (Nat.le_of_ble_eq_true rfl) (fun v6 g6 q6 => ?_) (fun E6 g6 q6 => by obtain ⟨_, e6, _⟩ | ⟨p6, _, _⟩ := q6; cases e6; exact absurd p6 id)
          obtain ⟨_, e6, g0_6⟩ | ⟨p6, _, _⟩ := q6
          rotate_left
          · exact absurd p6 id
          cases e6
          rw [g0_6]
          show js_ok ρ mX1_enter _ 13 38 435 50 [(0, .ref x), (1, .int (jI x1)), (2, .int (jI y1)), (3, .int (jI sk)), (4, .int (jI gs))] [] h
          refine js_aload_n 0 dX1_enter_50 rfl ?_
          have ho : zdoEnter f x1 y1 sk gs = .inr (f 0, zent f x1 y1 sk gs) := by unfold zdoEnter; (repeat' split) <;> first | rfl | (exfalso; omega)
          have hI' := zdoEnter_I hI hT ho
          refine vX1_111 (kc' := 7) (ks' := 31) rfl dX1_enter_51 hx (xc_change hC hE hw) (Nat.le_of_ble_eq_true rfl) (by omega) (by omega) (Nat.le_of_ble_eq_true rfl) (fun v7 g7 q7 => ?_) (fun E7 g7 q7 => by cases q7.1)
          obtain ⟨e7, col1, hC1, kk1⟩ := q7
          cases e7
          obtain ⟨_, _, _, _, hZ1, sv1, rv1, hi1, ib1, lb1, _, _, _, hx1, _⟩ := id hC1
          obtain ⟨z_80, z_81, ⟨mb_8, rb_8, z_82⟩, ⟨ms_8, rs_8, z_83⟩, z_84, z_85, z_86, z_87, z_88, z_89, z_810, z_811, z_812⟩ := id hZ1
          obtain ⟨sa_8, sb_8, sc_8, sd_8, se_8, sf_8, sg_8⟩ := z_811
          obtain ⟨wb_8, cb_8, gb_8, heb_8, rcb_8, hgb_8⟩ := zL_rd z_87 z_80 (by omega)
          obtain ⟨ws_8, cs_8, gs_8, hes_8, rcs_8, hgs_8⟩ := zL_rd z_88 z_80 (by omega)
          obtain ⟨gm_8, ze_8⟩ := z_80
          show js_ok ρ mX1_enter _ 13 7 31 54 [(0, .ref x), (1, .int (jI x1)), (2, .int (jI y1)), (3, .int (jI sk)), (4, .int (jI gs))] [] g7
          refine js_aload_n 0 dX1_enter_54 rfl ?_
          refine gX1_10 rfl dX1_enter_55 hx1 rfl ?_
          refine gX1_104 rfl dX1_enter_58 z_81 rfl ?_
          refine nX1_114 (kc' := 6) (ks' := 23) rfl dX1_enter_61 (by omega) (by omega) (fun a9 hf_a9 hB_a9 => ?_)
          refine js_dup dX1_enter_64 rfl ?_
          refine js_bipush dX1_enter_65 rfl ?_
          refine js_iload_n 2 dX1_enter_67 rfl ?_
          refine js_imul dX1_enter_68 ?_
          refine js_iload_n 1 dX1_enter_69 rfl ?_
          refine js_iadd dX1_enter_70 ?_
          refine js_iload_n 3 dX1_enter_71 rfl ?_
          refine js_iload 4 dX1_enter_72 rfl ?_
          refine eX1_116 rfl dX1_enter_74 (con_binit js_up_s) (Nat.le_of_ble_eq_true rfl) (Nat.le_of_ble_eq_true rfl) ?_
          rw [js_up_up]
          show js_ok ρ mX1_enter _ 13 6 23 77 [(0, .ref x), (1, .int (jI x1)), (2, .int (jI y1)), (3, .int (jI sk)), (4, .int (jI gs))] [.ref a9, .ref (B 1)] (js_up g7 a9 (js_ob true 4 [.int (jI ((10 * y1) + x1)), .int (jI 0), .int (jI sk), .int (jI gs), .int (jI 0), .int (jI 0), .int (jI 0), .int (jI 0)]))
          obtain ⟨F1, er, eF, eA, eZ, h61, hfU, hw1⟩ := zent_w (f := f) (x := x1) (y := y1) (sk := sk) (gs := gs) (by omega)
          have nv := zSt_new2 hZ1 hf_a9
          have eB : zBo F1 (f 0) = js_ob true 4 [.int (jI (10 * y1 + x1)), .int (jI 0), .int (jI sk), .int (jI gs), .int (jI 0), .int (jI 0), .int (jI 0), .int (jI 0)] := by
              unfold zBo zpt
              rw [eA 0 (by decide) (by decide), eA 1 (by decide) (by decide), eA 2 (by decide) (by decide), eA 3 (by decide) (by decide), eA 4 (by decide) (by decide), eA 5 (by decide) (by decide), eA 6 (by decide) (by decide), eA 7 (by decide) (by decide), eA 8 (by decide) (by decide)]
              rfl
          
          have nxc : ¬ col1 x = c := fun z => by
            obtain ⟨_, _, k3, _, _, _, _, _, _, _, _, _, _, _, k7, _⟩ := hC1
            omega
          have hxv : zNe x a9 := js_nef hx1 hf_a9
          refine vX1_118 (kc' := 5) (ks' := 13) rfl dX1_enter_77 ((js_up_n (js_nef z_82 hf_a9)).trans z_82) (zc_addB (f := f) (f' := F1) (zSt_upO hZ1 nv.1 nv.2) hE (by rw [eB]; exact js_up_s) nv.1 (by omega) er (fun k k1 k2 k3 k4 => eF k k3 k4)) (Nat.le_of_ble_eq_true rfl) (by omega) (by omega) (Nat.le_of_ble_eq_true rfl) (fun v10 g10 q10 => ?_) (fun E10 g10 q10 => by cases q10.1)
          obtain ⟨e10, ⟨e6, q6, y10⟩, fr10⟩ := q10
          cases e10
          have yx := fr10 x _ nxc ((js_up_n hxv).trans hx1)
          obtain ⟨mb2, rb2, zl2⟩ := y10.2.2.1
          obtain ⟨ms2, rs2, zl3⟩ := y10.2.2.2.1
          show js_ok ρ mX1_enter _ 13 5 13 80 [(0, .ref x), (1, .int (jI x1)), (2, .int (jI y1)), (3, .int (jI sk)), (4, .int (jI gs))] [.int (jI 1)] g10
          refine js_pop dX1_enter_80 rfl ?_
          refine js_aload_n 0 dX1_enter_81 rfl ?_
          refine gX1_10 rfl dX1_enter_82 yx rfl ?_
          refine js_dup dX1_enter_85 rfl ?_
          refine gX1_122 rfl dX1_enter_86 y10.2.1 rfl ?_
          refine js_iconst dX1_enter_89 ?_
          refine js_iadd dX1_enter_90 ?_
          refine pX1_122 rfl dX1_enter_91 y10.2.1 (Nat.le_of_ble_eq_true rfl) rfl rfl ?_
          show js_ok ρ mX1_enter _ 13 5 13 94 [(0, .ref x), (1, .int (jI x1)), (2, .int (jI y1)), (3, .int (jI sk)), (4, .int (jI gs))] [] (js_up g10 (B 0) (js_ob true 1 [.ref (B 1), .ref (B 2), .ref (B 3), .ref (B 4), .ref (B 5), .int (jI (F1 2)), .int (jI (F1 3)), .int (jI (F1 4)), .int (jI (F1 5)), .int (jI (F1 6)), .int (jI ((F1 7) + 1))]))
          refine js_aload_n 0 dX1_enter_94 rfl ?_
          refine gX1_10 rfl dX1_enter_95 ((js_up_n (js_nek yx y10.2.1 (js_kOO (by decide)))).trans yx) rfl ?_
          refine gX1_104 rfl dX1_enter_98 js_up_s rfl ?_
          refine eX1_108 rfl dX1_enter_101 ((js_up_n (js_nek zl2 y10.2.1 (js_kOO (by decide)))).trans zl2) (con_lsize ((js_up_n (js_nek zl2 y10.2.1 (js_kOO (by decide)))).trans zl2) (by omega)) (Nat.le_of_ble_eq_true rfl) (Nat.le_of_ble_eq_true rfl) ?_
          refine js_iconst dX1_enter_104 ?_
          refine js_isub dX1_enter_105 ?_
          have frF : ∀ (a : Nat) (e : js_E), col1 a ≠ c → g7 a = some e → (js_up g10 (B 0) (js_ob true 1 [.ref (B 1), .ref (B 2), .ref (B 3), .ref (B 4), .ref (B 5), .int (jI (F1 2)), .int (jI (F1 3)), .int (jI (F1 4)), .int (jI (F1 5)), .int (jI (F1 6)), .int (jI ((F1 7) + 1))])) a = some e := fun a e n y => (js_up_n (fun z : a = B 0 => n (by rw [z]; exact sa_8.1))).trans (fr10 a e n ((js_up_n (fun z => by rw [z, hf_a9] at y; cases y)).trans y))
          have hdF : ∀ a : Nat, g7 a ≠ none → (js_up g10 (B 0) (js_ob true 1 [.ref (B 1), .ref (B 2), .ref (B 3), .ref (B 4), .ref (B 5), .int (jI (F1 2)), .int (jI (F1 3)), .int (jI (F1 4)), .int (jI (F1 5)), .int (jI (F1 6)), .int (jI ((F1 7) + 1))])) a ≠ none := fun a n => by
            by_cases q : col1 a = c
            · exact js_up_d (y10.2.2.2.2.2.2.2.2.2.2.2.2 a (Or.inl q))
            · exact zdom_k (fun e y => frF a e q y) n
          exact js_iret rfl rfl dX1_enter_106 (zOp_new ho hC1 kk1 hI' (zent_u y10 h61 hfU eZ) rfl hf_a9 (q6.imp id zup_none) frF hw1 hdF)
        · refine js_iconst dX1_enter_39 ?_
          refine js_goto (tgt := 44) dX1_enter_40 (by decide) ?_
          refine js_top (b := jb True) (jb_t trivial).symm ?_
          refine js_iconst dX1_enter_44 ?_
          refine js_bipush dX1_enter_45 rfl ?_
          refine vX1_53 (kc' := 38) (ks' := 435) rfl dX1_enter_47 hx (xc_refuse hx) (Nat.le_of_ble_eq_true rfl) (by omega) (by omega) (Nat.le_of_ble_eq_true rfl) (fun v11 g11 q11 => ?_) (fun E11 g11 q11 => ?_)
          · obtain ⟨p11, _, _⟩ | ⟨_, e11, _⟩ := q11
            · exact absurd trivial p11
            · cases e11
          · obtain ⟨_, e11, _⟩ | ⟨_, e11, r11⟩ := q11
            · cases e11
            · cases e11
              exact js_out rfl (zOp_rf (by unfold zdoEnter; (repeat' split) <;> first | rfl | (exfalso; omega)) hC hx r11)
      · obtain ⟨_, e4, _⟩ | ⟨p4, e4, r4⟩ := q4
        · cases e4
        · cases e4
          exact js_out rfl (zOp_rf (by unfold zdoEnter; (repeat' split) <;> first | rfl | (exfalso; omega)) hC hx r4)
    · obtain ⟨_, e3, _⟩ | ⟨p3, e3, r3⟩ := q3
      · cases e3
      · cases e3
        exact js_out rfl (zOp_rf (by unfold zdoEnter; (repeat' split) <;> first | rfl | (exfalso; omega)) hC hx r3)
  · obtain ⟨_, e2, _⟩ | ⟨p2, e2, r2⟩ | ⟨p2, e2, r2⟩ := q2
    · cases e2
    · cases e2
      exact js_out rfl (zOp_rf (by unfold zdoEnter; (repeat' split) <;> first | rfl | (exfalso; omega)) hC hx r2)
    · cases e2
      exact js_out rfl (zOp_rf (by unfold zdoEnter; (repeat' split) <;> first | rfl | (exfalso; omega)) hC hx r2)
