set_option maxRecDepth 100000
/-! questions of the class: numbers -/
/-- a question's answer: t tells whether it throws, and which; only new cells are changed -/
def zAns (t : Int) (v : Value) (E1 E2 : String) (h : js_H) : js_Q := fun r h' => zFr (fun _ => False) h h' ∧ ((t = 0 ∧ r = .inl (some v)) ∨ (t = 1 ∧ r = .inr E1) ∨ (t = 2 ∧ r = .inr E2))
theorem xc_chkB {ρ : js_R} {h : js_H} {em : Nat} {T : Int} {P : Nat → Prop} {B : Nat → Nat} {Bb Bs : Int → Nat} {f : zF} {x : Nat} {u1 u2 u3 u4 u5 u6 u7 : Value} {b : Int} (hx : h x = some (js_ob true 0 [.ref (B 0), u1, u2, u3, u4, u5, u6, u7])) (hZ : zSt em T P B Bb Bs f h) {T2 : Int} (hI : zI T2 f) (rb : -2147483648 ≤ b ∧ b < 2147483648) : js_Con ρ mX1_checkBalloon 10 1 6 [.ref x, .int (jI b)] h (zChk (0 ≤ b ∧ b ≤ f 0 - 1) "java/lang/IndexOutOfBoundsException" h) := by
  refine js_body [(0, .ref x), (1, .int (jI b))] rfl (by decide) (Nat.le_of_ble_eq_true rfl) rfl ?_
  have h01 := zI_01 hI
  obtain ⟨z_10, z_11, ⟨mb_1, rb_1, z_12⟩, ⟨ms_1, rs_1, z_13⟩, z_14, z_15, z_16, z_17, z_18, z_19, z_110, z_111, z_112⟩ := id hZ
  obtain ⟨sa_1, sb_1, sc_1, sd_1, se_1, sf_1, sg_1⟩ := z_111
  obtain ⟨wb_1, cb_1, gb_1, heb_1, rcb_1, hgb_1⟩ := zL_rd z_17 z_10 (by omega)
  obtain ⟨ws_1, cs_1, gs_1, hes_1, rcs_1, hgs_1⟩ := zL_rd z_18 z_10 (by omega)
  obtain ⟨gm_1, ze_1⟩ := z_10
  refine js_aload_n 0 dX1_checkBalloon_0 rfl ?_
  refine gX1_10 rfl dX1_checkBalloon_1 hx rfl ?_
  refine js_iload_n 1 dX1_checkBalloon_4 rfl ?_
  refine eX1_93 rfl dX1_checkBalloon_5 z_11 (zc_isB hZ hI (by omega)) (Nat.le_of_ble_eq_true rfl) (Nat.le_of_ble_eq_true rfl) ?_
  refine vX1_199 (kc' := 0) (ks' := 0) rfl dX1_checkBalloon_8 (con_chkI) (Nat.le_of_ble_eq_true rfl) (by omega) (by omega) (Nat.le_of_ble_eq_true rfl) (fun v2 g2 q2 => ?_) (fun E2 g2 q2 => ?_)
  · obtain ⟨g0_2, ⟨p2, e2⟩ | ⟨_, e2⟩⟩ := q2
    rotate_left
    · cases e2
    cases e2
    rw [g0_2]
    show js_ok ρ mX1_checkBalloon _ 10 0 0 11 [(0, .ref x), (1, .int (jI b))] [] h
    exact js_vret rfl dX1_checkBalloon_11 ⟨rfl, Or.inl ⟨by assumption, rfl⟩⟩
  · obtain ⟨g0_2, ⟨_, e2⟩ | ⟨p2, e2⟩⟩ := q2
    · cases e2
    · cases e2
      rw [g0_2]
      exact js_out rfl ⟨rfl, Or.inr ⟨p2, rfl⟩⟩
theorem xc_chkS {ρ : js_R} {h : js_H} {em : Nat} {T : Int} {P : Nat → Prop} {B : Nat → Nat} {Bb Bs : Int → Nat} {f : zF} {x : Nat} {u1 u2 u3 u4 u5 u6 u7 : Value} {sp : Int} (hx : h x = some (js_ob true 0 [.ref (B 0), u1, u2, u3, u4, u5, u6, u7])) (hZ : zSt em T P B Bb Bs f h) {T2 : Int} (hI : zI T2 f) (rsp : -2147483648 ≤ sp ∧ sp < 2147483648) : js_Con ρ mX1_checkSpire 10 1 6 [.ref x, .int (jI sp)] h (zChk (0 ≤ sp ∧ sp ≤ f 1 - 1) "java/lang/IndexOutOfBoundsException" h) := by
  refine js_body [(0, .ref x), (1, .int (jI sp))] rfl (by decide) (Nat.le_of_ble_eq_true rfl) rfl ?_
  have h01 := zI_01 hI
  obtain ⟨z_10, z_11, ⟨mb_1, rb_1, z_12⟩, ⟨ms_1, rs_1, z_13⟩, z_14, z_15, z_16, z_17, z_18, z_19, z_110, z_111, z_112⟩ := id hZ
  obtain ⟨sa_1, sb_1, sc_1, sd_1, se_1, sf_1, sg_1⟩ := z_111
  obtain ⟨wb_1, cb_1, gb_1, heb_1, rcb_1, hgb_1⟩ := zL_rd z_17 z_10 (by omega)
  obtain ⟨ws_1, cs_1, gs_1, hes_1, rcs_1, hgs_1⟩ := zL_rd z_18 z_10 (by omega)
  obtain ⟨gm_1, ze_1⟩ := z_10
  refine js_iload_n 1 dX1_checkSpire_0 rfl ?_
  refine js_iconst dX1_checkSpire_1 ?_
  refine js_aload_n 0 dX1_checkSpire_2 rfl ?_
  refine gX1_10 rfl dX1_checkSpire_3 hx rfl ?_
  refine gX1_125 rfl dX1_checkSpire_6 z_11 rfl ?_
  refine eX1_108 rfl dX1_checkSpire_9 z_13 (con_lsize z_13 (by omega)) (Nat.le_of_ble_eq_true rfl) (Nat.le_of_ble_eq_true rfl) ?_
  refine js_iconst dX1_checkSpire_12 ?_
  refine js_isub dX1_checkSpire_13 ?_
  refine eX1_49 rfl dX1_checkSpire_14 (con_isBetween (by omega) (by omega) (by omega)) (Nat.le_of_ble_eq_true rfl) (Nat.le_of_ble_eq_true rfl) ?_
  refine vX1_199 (kc' := 0) (ks' := 0) rfl dX1_checkSpire_17 (con_chkI) (Nat.le_of_ble_eq_true rfl) (by omega) (by omega) (Nat.le_of_ble_eq_true rfl) (fun v2 g2 q2 => ?_) (fun E2 g2 q2 => ?_)
  · obtain ⟨g0_2, ⟨p2, e2⟩ | ⟨_, e2⟩⟩ := q2
    rotate_left
    · cases e2
    cases e2
    rw [g0_2]
    show js_ok ρ mX1_checkSpire _ 10 0 0 20 [(0, .ref x), (1, .int (jI sp))] [] h
    exact js_vret rfl dX1_checkSpire_20 ⟨rfl, Or.inl ⟨by assumption, rfl⟩⟩
  · obtain ⟨g0_2, ⟨_, e2⟩ | ⟨p2, e2⟩⟩ := q2
    · cases e2
    · cases e2
      rw [g0_2]
      exact js_out rfl ⟨rfl, Or.inr ⟨p2, rfl⟩⟩
theorem xc_chkH {ρ : js_R} {h : js_H} {x : Nat} {n m : Int} (rn : -2147483648 ≤ n ∧ n < 2147483648) (rm : -2147483648 ≤ m ∧ m < 2147483648) : js_Con ρ mX1_checkHours 10 1 6 [.ref x, .int (jI n), .int (jI m)] h (zChk (0 ≤ n ∧ n ≤ m) "java/lang/IllegalArgumentException" h) := by
  refine js_body [(0, .ref x), (1, .int (jI n)), (2, .int (jI m))] rfl (by decide) (Nat.le_of_ble_eq_true rfl) rfl ?_
  refine js_iload_n 1 dX1_checkHours_0 rfl ?_
  refine js_iconst dX1_checkHours_1 ?_
  refine js_iload_n 2 dX1_checkHours_2 rfl ?_
  refine eX1_49 rfl dX1_checkHours_3 (con_isBetween (by omega) (by omega) (by omega)) (Nat.le_of_ble_eq_true rfl) (Nat.le_of_ble_eq_true rfl) ?_
  refine vX1_206 (kc' := 0) (ks' := 0) rfl dX1_checkHours_6 (con_chk) (Nat.le_of_ble_eq_true rfl) (by omega) (by omega) (Nat.le_of_ble_eq_true rfl) (fun v1 g1 q1 => ?_) (fun E1 g1 q1 => ?_)
  · obtain ⟨g0_1, ⟨p1, e1⟩ | ⟨_, e1⟩⟩ := q1
    rotate_left
    · cases e1
    cases e1
    rw [g0_1]
    show js_ok ρ mX1_checkHours _ 10 0 0 9 [(0, .ref x), (1, .int (jI n)), (2, .int (jI m))] [] h
    exact js_vret rfl dX1_checkHours_9 ⟨rfl, Or.inl ⟨by assumption, rfl⟩⟩
  · obtain ⟨g0_1, ⟨_, e1⟩ | ⟨p1, e1⟩⟩ := q1
    · cases e1
    · cases e1
      rw [g0_1]
      exact js_out rfl ⟨rfl, Or.inr ⟨p1, rfl⟩⟩
theorem xq_balloonOf {ρ : js_R} {h : js_H} {em : Nat} {T : Int} {P : Nat → Prop} {B : Nat → Nat} {Bb Bs : Int → Nat} {f : zF} {x : Nat} {u1 u2 u3 u4 u5 u6 u7 : Value} {b w : Int} (hx : h x = some (js_ob true 0 [.ref (B 0), u1, u2, u3, u4, u5, u6, u7])) (hZ : zSt em T P B Bb Bs f h) {T2 : Int} (hI : zI T2 f) (rb : -2147483648 ≤ b ∧ b < 2147483648) (rw : -2147483648 ≤ w ∧ w < 2147483648) : js_Con ρ mX1_balloonOf 11 2 12 [.ref x, .int (jI b), .int (jI w)] h (zAns (zt2 (0 ≤ b ∧ b ≤ f 0 - 1) (0 ≤ w ∧ w ≤ 8)) (.int (jI (f (13 + 9 * b + w)))) "java/lang/IndexOutOfBoundsException" "java/lang/IllegalArgumentException" h) := by
  refine js_body [(0, .ref x), (1, .int (jI b)), (2, .int (jI w))] rfl (by decide) (Nat.le_of_ble_eq_true rfl) rfl ?_
  have h01 := zI_01 hI
  have z0 := zt2_c (0 ≤ b ∧ b ≤ f 0 - 1) (0 ≤ w ∧ w ≤ 8)
  obtain ⟨z_10, z_11, ⟨mb_1, rb_1, z_12⟩, ⟨ms_1, rs_1, z_13⟩, z_14, z_15, z_16, z_17, z_18, z_19, z_110, z_111, z_112⟩ := id hZ
  obtain ⟨sa_1, sb_1, sc_1, sd_1, se_1, sf_1, sg_1⟩ := z_111
  obtain ⟨wb_1, cb_1, gb_1, heb_1, rcb_1, hgb_1⟩ := zL_rd z_17 z_10 (by omega)
  obtain ⟨ws_1, cs_1, gs_1, hes_1, rcs_1, hgs_1⟩ := zL_rd z_18 z_10 (by omega)
  obtain ⟨gm_1, ze_1⟩ := z_10
  refine js_aload_n 0 dX1_balloonOf_0 rfl ?_
  refine js_iload_n 1 dX1_balloonOf_1 rfl ?_
  refine vX1_203 (kc' := 1) (ks' := 6) rfl dX1_balloonOf_2 hx (xc_chkB hx hZ hI (by omega)) (Nat.le_of_ble_eq_true rfl) (by omega) (by omega) (Nat.le_of_ble_eq_true rfl) (fun v2 g2 q2 => ?_) (fun E2 g2 q2 => ?_)
  · obtain ⟨g0_2, ⟨p2, e2⟩ | ⟨_, e2⟩⟩ := q2
    rotate_left
    · cases e2
    cases e2
    rw [g0_2]
    show js_ok ρ mX1_balloonOf _ 11 1 6 5 [(0, .ref x), (1, .int (jI b)), (2, .int (jI w))] [] h
    refine js_iload_n 2 dX1_balloonOf_5 rfl ?_
    refine js_iconst dX1_balloonOf_6 ?_
    refine js_bipush dX1_balloonOf_7 rfl ?_
    refine eX1_49 rfl dX1_balloonOf_9 (con_isBetween (by omega) (by omega) (by omega)) (Nat.le_of_ble_eq_true rfl) (Nat.le_of_ble_eq_true rfl) ?_
    refine vX1_206 (kc' := 0) (ks' := 0) rfl dX1_balloonOf_12 (con_chk) (Nat.le_of_ble_eq_true rfl) (by omega) (by omega) (Nat.le_of_ble_eq_true rfl) (fun v3 g3 q3 => ?_) (fun E3 g3 q3 => ?_)
    · obtain ⟨g0_3, ⟨p3, e3⟩ | ⟨_, e3⟩⟩ := q3
      rotate_left
      · cases e3
      cases e3
      rw [g0_3]
      show js_ok ρ mX1_balloonOf _ 11 0 0 15 [(0, .ref x), (1, .int (jI b)), (2, .int (jI w))] [] h
      refine js_aload_n 0 dX1_balloonOf_15 rfl ?_
      have hB := zI_B hI (b := b) (by omega) (by omega)
      have hBp := zIB_p hB
      unfold zIB at hB
      refine gX1_10 rfl dX1_balloonOf_16 hx rfl ?_
      refine gX1_104 rfl dX1_balloonOf_19 z_11 rfl ?_
      refine js_iload_n 1 dX1_balloonOf_22 rfl ?_
      refine eX1_128 rfl dX1_balloonOf_23 z_12 (con_lget z_12 (by omega) heb_1 (by omega) (by omega)) (Nat.le_of_ble_eq_true rfl) (Nat.le_of_ble_eq_true rfl) ?_
      rw [show gb_1 b = some (Bb b) from hgb_1 _ (by omega) (by omega)]
      show js_ok ρ mX1_balloonOf _ 11 0 0 26 [(0, .ref x), (1, .int (jI b)), (2, .int (jI w))] [.ref (Bb b)] h
      refine js_castS (r := (RX5, TX5, 8)) rfl q506 dX1_balloonOf_26 (z_19 b (by omega) (by omega)) ?_
      refine js_astore_n (L' := [(3, .ref (Bb b)), (0, .ref x), (1, .int (jI b)), (2, .int (jI w))]) dX1_balloonOf_29 (by decide) rfl ?_
      refine js_iload_n 3 dX1_balloonOf_30 rfl ?_
      rcases (show ((w : Int) < 0 ∨ 7 < (w : Int)) ∨ (w : Int) = 0 ∨ (w : Int) = 1 ∨ (w : Int) = 2 ∨ (w : Int) = 3 ∨ (w : Int) = 4 ∨ (w : Int) = 5 ∨ (w : Int) = 6 ∨ (w : Int) = 7 from by omega) with t4 | t4 | t4 | t4 | t4 | t4 | t4 | t4 | t4
      · refine js_tableOut (tgt := 122) dX1_balloonOf_31 (by omega) (by omega) (by decide) ?_
        refine js_aload_n 0 dX1_balloonOf_122 rfl ?_
        refine gX1_190 rfl dX1_balloonOf_123 (z_19 b (by omega) (by omega)) rfl ?_
        exact js_iret rfl rfl dX1_balloonOf_126 ⟨zFr_refl, Or.inl ⟨by omega, js_reti (by first | (unfold zpt; subst_vars; omega) | (subst_vars; rfl) | (rw [show w = 8 by omega]))⟩⟩
      · refine js_top (b := 0) t4 ?_
        refine js_tableIn (off := 45) (tgt := 76) dX1_balloonOf_31 (by decide) (by decide) (by decide) rfl (by decide) ?_
        refine js_aload_n 0 dX1_balloonOf_76 rfl ?_
        refine gX1_209 rfl dX1_balloonOf_77 (z_19 b (by omega) (by omega)) rfl ?_
        refine js_bipush dX1_balloonOf_80 rfl ?_
        refine js_irem dX1_balloonOf_82 (by omega) ?_
        exact js_iret rfl rfl dX1_balloonOf_83 ⟨zFr_refl, Or.inl ⟨by omega, js_reti (by first | (unfold zpt; subst_vars; omega) | (subst_vars; rfl) | (rw [show w = 8 by omega]))⟩⟩
      · refine js_top (b := 1) t4 ?_
        refine js_tableIn (off := 53) (tgt := 84) dX1_balloonOf_31 (by decide) (by decide) (by decide) rfl (by decide) ?_
        refine js_aload_n 0 dX1_balloonOf_84 rfl ?_
        refine gX1_209 rfl dX1_balloonOf_85 (z_19 b (by omega) (by omega)) rfl ?_
        refine js_bipush dX1_balloonOf_88 rfl ?_
        refine js_idiv dX1_balloonOf_90 (by omega) ?_
        exact js_iret rfl rfl dX1_balloonOf_91 ⟨zFr_refl, Or.inl ⟨by omega, js_reti (by first | (unfold zpt; subst_vars; omega) | (subst_vars; rfl) | (rw [show w = 8 by omega]))⟩⟩
      · refine js_top (b := 2) t4 ?_
        refine js_tableIn (off := 61) (tgt := 92) dX1_balloonOf_31 (by decide) (by decide) (by decide) rfl (by decide) ?_
        refine js_aload_n 0 dX1_balloonOf_92 rfl ?_
        refine gX1_161 rfl dX1_balloonOf_93 (z_19 b (by omega) (by omega)) rfl ?_
        exact js_iret rfl rfl dX1_balloonOf_96 ⟨zFr_refl, Or.inl ⟨by omega, js_reti (by first | (unfold zpt; subst_vars; omega) | (subst_vars; rfl) | (rw [show w = 8 by omega]))⟩⟩
      · refine js_top (b := 3) t4 ?_
        refine js_tableIn (off := 66) (tgt := 97) dX1_balloonOf_31 (by decide) (by decide) (by decide) rfl (by decide) ?_
        refine js_aload_n 0 dX1_balloonOf_97 rfl ?_
        refine gX1_164 rfl dX1_balloonOf_98 (z_19 b (by omega) (by omega)) rfl ?_
        exact js_iret rfl rfl dX1_balloonOf_101 ⟨zFr_refl, Or.inl ⟨by omega, js_reti (by first | (unfold zpt; subst_vars; omega) | (subst_vars; rfl) | (rw [show w = 8 by omega]))⟩⟩
      · refine js_top (b := 4) t4 ?_
        refine js_tableIn (off := 71) (tgt := 102) dX1_balloonOf_31 (by decide) (by decide) (by decide) rfl (by decide) ?_
        refine js_aload_n 0 dX1_balloonOf_102 rfl ?_
        refine gX1_158 rfl dX1_balloonOf_103 (z_19 b (by omega) (by omega)) rfl ?_
        exact js_iret rfl rfl dX1_balloonOf_106 ⟨zFr_refl, Or.inl ⟨by omega, js_reti (by first | (unfold zpt; subst_vars; omega) | (subst_vars; rfl) | (rw [show w = 8 by omega]))⟩⟩
      · refine js_top (b := 5) t4 ?_
        refine js_tableIn (off := 76) (tgt := 107) dX1_balloonOf_31 (by decide) (by decide) (by decide) rfl (by decide) ?_
        refine js_aload_n 0 dX1_balloonOf_107 rfl ?_
        refine gX1_210 rfl dX1_balloonOf_108 (z_19 b (by omega) (by omega)) rfl ?_
        exact js_iret rfl rfl dX1_balloonOf_111 ⟨zFr_refl, Or.inl ⟨by omega, js_reti (by first | (unfold zpt; subst_vars; omega) | (subst_vars; rfl) | (rw [show w = 8 by omega]))⟩⟩
      · refine js_top (b := 6) t4 ?_
        refine js_tableIn (off := 81) (tgt := 112) dX1_balloonOf_31 (by decide) (by decide) (by decide) rfl (by decide) ?_
        refine js_aload_n 0 dX1_balloonOf_112 rfl ?_
        refine gX1_213 rfl dX1_balloonOf_113 (z_19 b (by omega) (by omega)) rfl ?_
        exact js_iret rfl rfl dX1_balloonOf_116 ⟨zFr_refl, Or.inl ⟨by omega, js_reti (by first | (unfold zpt; subst_vars; omega) | (subst_vars; rfl) | (rw [show w = 8 by omega]))⟩⟩
      · refine js_top (b := 7) t4 ?_
        refine js_tableIn (off := 86) (tgt := 117) dX1_balloonOf_31 (by decide) (by decide) (by decide) rfl (by decide) ?_
        refine js_aload_n 0 dX1_balloonOf_117 rfl ?_
        refine gX1_216 rfl dX1_balloonOf_118 (z_19 b (by omega) (by omega)) rfl ?_
        exact js_iret rfl rfl dX1_balloonOf_121 ⟨zFr_refl, Or.inl ⟨by omega, js_reti (by first | (unfold zpt; subst_vars; omega) | (subst_vars; rfl) | (rw [show w = 8 by omega]))⟩⟩
    · obtain ⟨g0_3, ⟨_, e3⟩ | ⟨p3, e3⟩⟩ := q3
      · cases e3
      · cases e3
        rw [g0_3]
        exact js_out rfl ⟨zFr_refl, Or.inr (Or.inr ⟨by omega, rfl⟩)⟩
  · obtain ⟨g0_2, ⟨_, e2⟩ | ⟨p2, e2⟩⟩ := q2
    · cases e2
    · cases e2
      rw [g0_2]
      exact js_out rfl ⟨zFr_refl, Or.inr (Or.inl ⟨by omega, rfl⟩)⟩
theorem xq_spireOf {ρ : js_R} {h : js_H} {em : Nat} {T : Int} {P : Nat → Prop} {B : Nat → Nat} {Bb Bs : Int → Nat} {f : zF} {x : Nat} {u1 u2 u3 u4 u5 u6 u7 : Value} {sp w : Int} (hx : h x = some (js_ob true 0 [.ref (B 0), u1, u2, u3, u4, u5, u6, u7])) (hZ : zSt em T P B Bb Bs f h) {T2 : Int} (hI : zI T2 f) (rsp : -2147483648 ≤ sp ∧ sp < 2147483648) (rw : -2147483648 ≤ w ∧ w < 2147483648) : js_Con ρ mX1_spireOf 11 2 12 [.ref x, .int (jI sp), .int (jI w)] h (zAns (zt2 (0 ≤ sp ∧ sp ≤ f 1 - 1) (0 ≤ w ∧ w ≤ 4)) (.int (jI (zvSpireOf f sp w))) "java/lang/IndexOutOfBoundsException" "java/lang/IllegalArgumentException" h) := by
  refine js_body [(0, .ref x), (1, .int (jI sp)), (2, .int (jI w))] rfl (by decide) (Nat.le_of_ble_eq_true rfl) rfl ?_
  have h01 := zI_01 hI
  have z0 := zt2_c (0 ≤ sp ∧ sp ≤ f 1 - 1) (0 ≤ w ∧ w ≤ 4)
  obtain ⟨z_10, z_11, ⟨mb_1, rb_1, z_12⟩, ⟨ms_1, rs_1, z_13⟩, z_14, z_15, z_16, z_17, z_18, z_19, z_110, z_111, z_112⟩ := id hZ
  obtain ⟨sa_1, sb_1, sc_1, sd_1, se_1, sf_1, sg_1⟩ := z_111
  obtain ⟨wb_1, cb_1, gb_1, heb_1, rcb_1, hgb_1⟩ := zL_rd z_17 z_10 (by omega)
  obtain ⟨ws_1, cs_1, gs_1, hes_1, rcs_1, hgs_1⟩ := zL_rd z_18 z_10 (by omega)
  obtain ⟨gm_1, ze_1⟩ := z_10
  refine js_aload_n 0 dX1_spireOf_0 rfl ?_
  refine js_iload_n 1 dX1_spireOf_1 rfl ?_
  refine vX1_219 (kc' := 1) (ks' := 6) rfl dX1_spireOf_2 hx (xc_chkS hx hZ hI (by omega)) (Nat.le_of_ble_eq_true rfl) (by omega) (by omega) (Nat.le_of_ble_eq_true rfl) (fun v2 g2 q2 => ?_) (fun E2 g2 q2 => ?_)
  · obtain ⟨g0_2, ⟨p2, e2⟩ | ⟨_, e2⟩⟩ := q2
    rotate_left
    · cases e2
    cases e2
    rw [g0_2]
    show js_ok ρ mX1_spireOf _ 11 1 6 5 [(0, .ref x), (1, .int (jI sp)), (2, .int (jI w))] [] h
    refine js_iload_n 2 dX1_spireOf_5 rfl ?_
    refine js_iconst dX1_spireOf_6 ?_
    refine js_iconst dX1_spireOf_7 ?_
    refine eX1_49 rfl dX1_spireOf_8 (con_isBetween (by omega) (by omega) (by omega)) (Nat.le_of_ble_eq_true rfl) (Nat.le_of_ble_eq_true rfl) ?_
    refine vX1_206 (kc' := 0) (ks' := 0) rfl dX1_spireOf_11 (con_chk) (Nat.le_of_ble_eq_true rfl) (by omega) (by omega) (Nat.le_of_ble_eq_true rfl) (fun v3 g3 q3 => ?_) (fun E3 g3 q3 => ?_)
    · obtain ⟨g0_3, ⟨p3, e3⟩ | ⟨_, e3⟩⟩ := q3
      rotate_left
      · cases e3
      cases e3
      rw [g0_3]
      show js_ok ρ mX1_spireOf _ 11 0 0 14 [(0, .ref x), (1, .int (jI sp)), (2, .int (jI w))] [] h
      refine js_aload_n 0 dX1_spireOf_14 rfl ?_
      have hP := zI_P hI (i := sp) (by omega) (by omega)
      have hPp := zIP_p hP
      have hG := znexm_t hP.2.2.2.2
      unfold zIP at hP
      refine gX1_10 rfl dX1_spireOf_15 hx rfl ?_
      refine gX1_125 rfl dX1_spireOf_18 z_11 rfl ?_
      refine js_iload_n 1 dX1_spireOf_21 rfl ?_
      refine eX1_128 rfl dX1_spireOf_22 z_13 (con_lget z_13 (by omega) hes_1 (by omega) (by omega)) (Nat.le_of_ble_eq_true rfl) (Nat.le_of_ble_eq_true rfl) ?_
      rw [show gs_1 sp = some (Bs sp) from hgs_1 _ (by omega) (by omega)]
      show js_ok ρ mX1_spireOf _ 11 0 0 25 [(0, .ref x), (1, .int (jI sp)), (2, .int (jI w))] [.ref (Bs sp)] h
      refine js_castS (r := (RX6, TX6, 3)) rfl q1195 dX1_spireOf_25 (z_110 sp (by omega) (by omega)) ?_
      refine js_astore_n (L' := [(3, .ref (Bs sp)), (0, .ref x), (1, .int (jI sp)), (2, .int (jI w))]) dX1_spireOf_28 (by decide) rfl ?_
      refine js_iload_n 3 dX1_spireOf_29 rfl ?_
      rcases (show ((w : Int) < 0 ∨ 3 < (w : Int)) ∨ (w : Int) = 0 ∨ (w : Int) = 1 ∨ (w : Int) = 2 ∨ (w : Int) = 3 from by omega) with t4 | t4 | t4 | t4 | t4
      · refine js_tableOut (tgt := 86) dX1_spireOf_30 (by omega) (by omega) (by decide) ?_
        refine js_aload_n 0 dX1_spireOf_86 rfl ?_
        refine gX1_228 rfl dX1_spireOf_87 (z_110 sp (by omega) (by omega)) rfl ?_
        exact js_iret rfl rfl dX1_spireOf_90 ⟨zFr_refl, Or.inl ⟨by omega, js_reti (by unfold zvSpireOf; first | (rw [if_pos (by omega)]; exact hG.symm) | (subst_vars; rw [if_neg (by omega)]; first | rfl | (unfold zsp; simp; omega) | (rw [if_pos rfl]; done) | (unfold zsp; rw [if_neg (by omega)]; omega)) | (rw [if_neg (by omega), if_pos (by omega)]))⟩⟩
      · refine js_top (b := 0) t4 ?_
        refine js_tableIn (off := 30) (tgt := 60) dX1_spireOf_30 (by decide) (by decide) (by decide) rfl (by decide) ?_
        refine js_aload_n 0 dX1_spireOf_60 rfl ?_
        refine gX1_134 rfl dX1_spireOf_61 (z_110 sp (by omega) (by omega)) rfl ?_
        refine js_bipush dX1_spireOf_64 rfl ?_
        refine js_irem dX1_spireOf_66 (by omega) ?_
        exact js_iret rfl rfl dX1_spireOf_67 ⟨zFr_refl, Or.inl ⟨by omega, js_reti (by unfold zvSpireOf; first | (rw [if_pos (by omega)]; exact hG.symm) | (subst_vars; rw [if_neg (by omega)]; first | rfl | (unfold zsp; simp; omega) | (rw [if_pos rfl]; done) | (unfold zsp; rw [if_neg (by omega)]; omega)) | (rw [if_neg (by omega), if_pos (by omega)]))⟩⟩
      · refine js_top (b := 1) t4 ?_
        refine js_tableIn (off := 38) (tgt := 68) dX1_spireOf_30 (by decide) (by decide) (by decide) rfl (by decide) ?_
        refine js_aload_n 0 dX1_spireOf_68 rfl ?_
        refine gX1_134 rfl dX1_spireOf_69 (z_110 sp (by omega) (by omega)) rfl ?_
        refine js_bipush dX1_spireOf_72 rfl ?_
        refine js_idiv dX1_spireOf_74 (by omega) ?_
        exact js_iret rfl rfl dX1_spireOf_75 ⟨zFr_refl, Or.inl ⟨by omega, js_reti (by unfold zvSpireOf; first | (rw [if_pos (by omega)]; exact hG.symm) | (subst_vars; rw [if_neg (by omega)]; first | rfl | (unfold zsp; simp; omega) | (rw [if_pos rfl]; done) | (unfold zsp; rw [if_neg (by omega)]; omega)) | (rw [if_neg (by omega), if_pos (by omega)]))⟩⟩
      · refine js_top (b := 2) t4 ?_
        refine js_tableIn (off := 46) (tgt := 76) dX1_spireOf_30 (by decide) (by decide) (by decide) rfl (by decide) ?_
        refine js_aload_n 0 dX1_spireOf_76 rfl ?_
        refine gX1_222 rfl dX1_spireOf_77 (z_110 sp (by omega) (by omega)) rfl ?_
        exact js_iret rfl rfl dX1_spireOf_80 ⟨zFr_refl, Or.inl ⟨by omega, js_reti (by unfold zvSpireOf; first | (rw [if_pos (by omega)]; exact hG.symm) | (subst_vars; rw [if_neg (by omega)]; first | rfl | (unfold zsp; simp; omega) | (rw [if_pos rfl]; done) | (unfold zsp; rw [if_neg (by omega)]; omega)) | (rw [if_neg (by omega), if_pos (by omega)]))⟩⟩
      · refine js_top (b := 3) t4 ?_
        refine js_tableIn (off := 51) (tgt := 81) dX1_spireOf_30 (by decide) (by decide) (by decide) rfl (by decide) ?_
        refine js_aload_n 0 dX1_spireOf_81 rfl ?_
        refine eX1_225 rfl dX1_spireOf_82 (z_110 sp (by omega) (by omega)) (con_gate (z_110 sp (by omega) (by omega)) (by omega) (by omega)) (Nat.le_of_ble_eq_true rfl) (Nat.le_of_ble_eq_true rfl) ?_
        exact js_iret rfl rfl dX1_spireOf_85 ⟨zFr_refl, Or.inl ⟨by omega, js_reti (by unfold zvSpireOf; first | (rw [if_pos (by omega)]; exact hG.symm) | (subst_vars; rw [if_neg (by omega)]; first | rfl | (unfold zsp; simp; omega) | (rw [if_pos rfl]; done) | (unfold zsp; rw [if_neg (by omega)]; omega)) | (rw [if_neg (by omega), if_pos (by omega)]))⟩⟩
    · obtain ⟨g0_3, ⟨_, e3⟩ | ⟨p3, e3⟩⟩ := q3
      · cases e3
      · cases e3
        rw [g0_3]
        exact js_out rfl ⟨zFr_refl, Or.inr (Or.inr ⟨by omega, rfl⟩)⟩
  · obtain ⟨g0_2, ⟨_, e2⟩ | ⟨p2, e2⟩⟩ := q2
    · cases e2
    · cases e2
      rw [g0_2]
      exact js_out rfl ⟨zFr_refl, Or.inr (Or.inl ⟨by omega, rfl⟩)⟩
def zCkP (x y : Int) (h : js_H) : js_Q := fun r h' => h' = h ∧ ((((0 ≤ x ∧ x ≤ 9) ∧ 0 ≤ y ∧ y ≤ 9) ∧ r = .inl (some (.int (jI (10 * y + x))))) ∨ (¬ ((0 ≤ x ∧ x ≤ 9) ∧ 0 ≤ y ∧ y ≤ 9) ∧ r = .inr "java/lang/IndexOutOfBoundsException"))
theorem xc_chkP {ρ : js_R} {h : js_H} {x1 y1 : Int} (rx1 : -2147483648 ≤ x1 ∧ x1 < 2147483648) (ry1 : -2147483648 ≤ y1 ∧ y1 < 2147483648) : js_Con ρ mX1_checkedPoint 10 1 6 [.int (jI x1), .int (jI y1)] h (zCkP x1 y1 h) := by
  refine js_body [(0, .int (jI x1)), (1, .int (jI y1))] rfl (by decide) (Nat.le_of_ble_eq_true rfl) rfl ?_
  refine js_iload_n 0 dX1_checkedPoint_0 rfl ?_
  refine eX1_69 rfl dX1_checkedPoint_1 (con_isOn (by omega)) (Nat.le_of_ble_eq_true rfl) (Nat.le_of_ble_eq_true rfl) ?_
  refine js_if_eqB (tgt := 18) dX1_checkedPoint_4 (by decide) (fun c1 => ?_) (fun c1 => ?_)
  · refine js_iconst dX1_checkedPoint_18 ?_
    refine js_top (b := jb False) (jb_f id).symm ?_
    refine vX1_199 (kc' := 0) (ks' := 0) rfl dX1_checkedPoint_19 (con_chkI) (Nat.le_of_ble_eq_true rfl) (by omega) (by omega) (Nat.le_of_ble_eq_true rfl) (fun v2 g2 q2 => ?_) (fun E2 g2 q2 => ?_)
    · obtain ⟨g0_2, ⟨p2, e2⟩ | ⟨_, e2⟩⟩ := q2
      rotate_left
      · cases e2
      cases e2
      rw [g0_2]
      show js_ok ρ mX1_checkedPoint _ 10 0 0 22 [(0, .int (jI x1)), (1, .int (jI y1))] [] h
      refine js_bipush dX1_checkedPoint_22 rfl ?_
      refine js_iload_n 1 dX1_checkedPoint_24 rfl ?_
      refine js_imul dX1_checkedPoint_25 ?_
      refine js_iload_n 0 dX1_checkedPoint_26 rfl ?_
      refine js_iadd dX1_checkedPoint_27 ?_
      exact js_iret rfl rfl dX1_checkedPoint_28 ⟨rfl, Or.inl ⟨by first | omega | (exfalso; assumption), rfl⟩⟩
    · obtain ⟨g0_2, ⟨_, e2⟩ | ⟨p2, e2⟩⟩ := q2
      · cases e2
      · cases e2
        rw [g0_2]
        exact js_out rfl ⟨rfl, Or.inr ⟨by first | omega | exact absurd trivial p2, rfl⟩⟩
  · refine js_iload_n 1 dX1_checkedPoint_7 rfl ?_
    refine eX1_69 rfl dX1_checkedPoint_8 (con_isOn (by omega)) (Nat.le_of_ble_eq_true rfl) (Nat.le_of_ble_eq_true rfl) ?_
    refine js_if_eqB (tgt := 18) dX1_checkedPoint_11 (by decide) (fun c3 => ?_) (fun c3 => ?_)
    · refine js_iconst dX1_checkedPoint_18 ?_
      refine js_top (b := jb False) (jb_f id).symm ?_
      refine vX1_199 (kc' := 0) (ks' := 0) rfl dX1_checkedPoint_19 (con_chkI) (Nat.le_of_ble_eq_true rfl) (by omega) (by omega) (Nat.le_of_ble_eq_true rfl) (fun v4 g4 q4 => ?_) (fun E4 g4 q4 => ?_)
      · obtain ⟨g0_4, ⟨p4, e4⟩ | ⟨_, e4⟩⟩ := q4
        rotate_left
        · cases e4
        cases e4
        rw [g0_4]
        show js_ok ρ mX1_checkedPoint _ 10 0 0 22 [(0, .int (jI x1)), (1, .int (jI y1))] [] h
        refine js_bipush dX1_checkedPoint_22 rfl ?_
        refine js_iload_n 1 dX1_checkedPoint_24 rfl ?_
        refine js_imul dX1_checkedPoint_25 ?_
        refine js_iload_n 0 dX1_checkedPoint_26 rfl ?_
        refine js_iadd dX1_checkedPoint_27 ?_
        exact js_iret rfl rfl dX1_checkedPoint_28 ⟨rfl, Or.inl ⟨by first | omega | (exfalso; assumption), rfl⟩⟩
      · obtain ⟨g0_4, ⟨_, e4⟩ | ⟨p4, e4⟩⟩ := q4
        · cases e4
        · cases e4
          rw [g0_4]
          exact js_out rfl ⟨rfl, Or.inr ⟨by first | omega | exact absurd trivial p4, rfl⟩⟩
    · refine js_iconst dX1_checkedPoint_14 ?_
      refine js_goto (tgt := 19) dX1_checkedPoint_15 (by decide) ?_
      refine js_top (b := jb True) (jb_t trivial).symm ?_
      refine vX1_199 (kc' := 0) (ks' := 0) rfl dX1_checkedPoint_19 (con_chkI) (Nat.le_of_ble_eq_true rfl) (by omega) (by omega) (Nat.le_of_ble_eq_true rfl) (fun v5 g5 q5 => ?_) (fun E5 g5 q5 => ?_)
      · obtain ⟨g0_5, ⟨p5, e5⟩ | ⟨_, e5⟩⟩ := q5
        rotate_left
        · cases e5
        cases e5
        rw [g0_5]
        show js_ok ρ mX1_checkedPoint _ 10 0 0 22 [(0, .int (jI x1)), (1, .int (jI y1))] [] h
        refine js_bipush dX1_checkedPoint_22 rfl ?_
        refine js_iload_n 1 dX1_checkedPoint_24 rfl ?_
        refine js_imul dX1_checkedPoint_25 ?_
        refine js_iload_n 0 dX1_checkedPoint_26 rfl ?_
        refine js_iadd dX1_checkedPoint_27 ?_
        exact js_iret rfl rfl dX1_checkedPoint_28 ⟨rfl, Or.inl ⟨by first | omega | (exfalso; assumption), rfl⟩⟩
      · obtain ⟨g0_5, ⟨_, e5⟩ | ⟨p5, e5⟩⟩ := q5
        · cases e5
        · cases e5
          rw [g0_5]
          exact js_out rfl ⟨rfl, Or.inr ⟨by first | omega | exact absurd trivial p5, rfl⟩⟩
theorem xq_fee {ρ : js_R} {h : js_H} {em : Nat} {T : Int} {P : Nat → Prop} {B : Nat → Nat} {Bb Bs : Int → Nat} {f : zF} {x : Nat} {u1 u2 u3 u4 u5 u6 u7 : Value} {x1 y1 : Int} (hx : h x = some (js_ob true 0 [.ref (B 0), u1, u2, u3, u4, u5, u6, u7])) (hZ : zSt em T P B Bb Bs f h) {T2 : Int} (hI : zI T2 f) (rx1 : -2147483648 ≤ x1 ∧ x1 < 2147483648) (ry1 : -2147483648 ≤ y1 ∧ y1 < 2147483648) : js_Con ρ mX1_fee 11 1 6 [.ref x, .int (jI x1), .int (jI y1)] h (zAns (zt1 ((0 ≤ x1 ∧ x1 ≤ 9) ∧ 0 ≤ y1 ∧ y1 ≤ 9)) (.int (jI (f (87 + (10 * y1 + x1))))) "java/lang/IndexOutOfBoundsException" "java/lang/IllegalArgumentException" h) := by
  refine js_body [(0, .ref x), (1, .int (jI x1)), (2, .int (jI y1))] rfl (by decide) (Nat.le_of_ble_eq_true rfl) rfl ?_
  have h01 := zI_01 hI
  have z0 := zt1_c ((0 ≤ x1 ∧ x1 ≤ 9) ∧ 0 ≤ y1 ∧ y1 ≤ 9)
  obtain ⟨z_10, z_11, ⟨mb_1, rb_1, z_12⟩, ⟨ms_1, rs_1, z_13⟩, z_14, z_15, z_16, z_17, z_18, z_19, z_110, z_111, z_112⟩ := id hZ
  obtain ⟨sa_1, sb_1, sc_1, sd_1, se_1, sf_1, sg_1⟩ := z_111
  obtain ⟨wb_1, cb_1, gb_1, heb_1, rcb_1, hgb_1⟩ := zL_rd z_17 z_10 (by omega)
  obtain ⟨ws_1, cs_1, gs_1, hes_1, rcs_1, hgs_1⟩ := zL_rd z_18 z_10 (by omega)
  obtain ⟨gm_1, ze_1⟩ := z_10
  refine js_aload_n 0 dX1_fee_0 rfl ?_
  refine gX1_10 rfl dX1_fee_1 hx rfl ?_
  refine gX1_147 rfl dX1_fee_4 z_11 rfl ?_
  refine js_iload_n 1 dX1_fee_7 rfl ?_
  refine js_iload_n 2 dX1_fee_8 rfl ?_
  refine vX1_229 (kc' := 0) (ks' := 0) rfl dX1_fee_9 (xc_chkP (by omega) (by omega)) (Nat.le_of_ble_eq_true rfl) (by omega) (by omega) (Nat.le_of_ble_eq_true rfl) (fun v2 g2 q2 => ?_) (fun E2 g2 q2 => ?_)
  · obtain ⟨g0_2, ⟨p2, e2⟩ | ⟨_, e2⟩⟩ := q2
    rotate_left
    · cases e2
    cases e2
    rw [g0_2]
    show js_ok ρ mX1_fee _ 11 0 0 12 [(0, .ref x), (1, .int (jI x1)), (2, .int (jI y1))] [.int (jI (10 * y1 + x1)), .ref (B 3)] h
    refine js_iaload dX1_fee_12 z_14 (by omega) ?_
    exact js_iret rfl rfl dX1_fee_13 ⟨zFr_refl, Or.inl ⟨by omega, js_reti (by exact zfa_g (by omega))⟩⟩
  · obtain ⟨g0_2, ⟨_, e2⟩ | ⟨p2, e2⟩⟩ := q2
    · cases e2
    · cases e2
      rw [g0_2]
      exact js_out rfl ⟨zFr_refl, Or.inr (Or.inl ⟨by omega, rfl⟩)⟩
theorem xq_claims {ρ : js_R} {h : js_H} {em : Nat} {T : Int} {P : Nat → Prop} {B : Nat → Nat} {Bb Bs : Int → Nat} {f : zF} {x : Nat} {u1 u2 u3 u4 u5 u6 u7 : Value} {x1 y1 : Int} (hx : h x = some (js_ob true 0 [.ref (B 0), u1, u2, u3, u4, u5, u6, u7])) (hZ : zSt em T P B Bb Bs f h) {T2 : Int} (hI : zI T2 f) (rx1 : -2147483648 ≤ x1 ∧ x1 < 2147483648) (ry1 : -2147483648 ≤ y1 ∧ y1 < 2147483648) : js_Con ρ mX1_claims 11 1 6 [.ref x, .int (jI x1), .int (jI y1)] h (zAns (zt1 ((0 ≤ x1 ∧ x1 ≤ 9) ∧ 0 ≤ y1 ∧ y1 ≤ 9)) (.int (jI (f (187 + (10 * y1 + x1))))) "java/lang/IndexOutOfBoundsException" "java/lang/IllegalArgumentException" h) := by
  refine js_body [(0, .ref x), (1, .int (jI x1)), (2, .int (jI y1))] rfl (by decide) (Nat.le_of_ble_eq_true rfl) rfl ?_
  have h01 := zI_01 hI
  have z0 := zt1_c ((0 ≤ x1 ∧ x1 ≤ 9) ∧ 0 ≤ y1 ∧ y1 ≤ 9)
  obtain ⟨z_10, z_11, ⟨mb_1, rb_1, z_12⟩, ⟨ms_1, rs_1, z_13⟩, z_14, z_15, z_16, z_17, z_18, z_19, z_110, z_111, z_112⟩ := id hZ
  obtain ⟨sa_1, sb_1, sc_1, sd_1, se_1, sf_1, sg_1⟩ := z_111
  obtain ⟨wb_1, cb_1, gb_1, heb_1, rcb_1, hgb_1⟩ := zL_rd z_17 z_10 (by omega)
  obtain ⟨ws_1, cs_1, gs_1, hes_1, rcs_1, hgs_1⟩ := zL_rd z_18 z_10 (by omega)
  obtain ⟨gm_1, ze_1⟩ := z_10
  refine js_aload_n 0 dX1_claims_0 rfl ?_
  refine gX1_10 rfl dX1_claims_1 hx rfl ?_
  refine gX1_232 rfl dX1_claims_4 z_11 rfl ?_
  refine js_iload_n 1 dX1_claims_7 rfl ?_
  refine js_iload_n 2 dX1_claims_8 rfl ?_
  refine vX1_229 (kc' := 0) (ks' := 0) rfl dX1_claims_9 (xc_chkP (by omega) (by omega)) (Nat.le_of_ble_eq_true rfl) (by omega) (by omega) (Nat.le_of_ble_eq_true rfl) (fun v2 g2 q2 => ?_) (fun E2 g2 q2 => ?_)
  · obtain ⟨g0_2, ⟨p2, e2⟩ | ⟨_, e2⟩⟩ := q2
    rotate_left
    · cases e2
    cases e2
    rw [g0_2]
    show js_ok ρ mX1_claims _ 11 0 0 12 [(0, .ref x), (1, .int (jI x1)), (2, .int (jI y1))] [.int (jI (10 * y1 + x1)), .ref (B 4)] h
    refine js_iaload dX1_claims_12 z_15 (by omega) ?_
    exact js_iret rfl rfl dX1_claims_13 ⟨zFr_refl, Or.inl ⟨by omega, js_reti (by exact zca_g (by omega))⟩⟩
  · obtain ⟨g0_2, ⟨_, e2⟩ | ⟨p2, e2⟩⟩ := q2
    · cases e2
    · cases e2
      rw [g0_2]
      exact js_out rfl ⟨zFr_refl, Or.inr (Or.inl ⟨by omega, rfl⟩)⟩
theorem xq_windAt {ρ : js_R} {h : js_H} {em : Nat} {T : Int} {P : Nat → Prop} {B : Nat → Nat} {Bb Bs : Int → Nat} {f : zF} {x : Nat} {u1 u2 u3 u4 u5 u6 u7 : Value} {ht : Int} (hx : h x = some (js_ob true 0 [.ref (B 0), u1, u2, u3, u4, u5, u6, u7])) (hZ : zSt em T P B Bb Bs f h) {T2 : Int} (hI : zI T2 f) (rht : -2147483648 ≤ ht ∧ ht < 2147483648) : js_Con ρ mX1_windAt 10 1 6 [.ref x, .int (jI ht)] h (zAns (zt1 (1 ≤ ht ∧ ht ≤ 5)) (.int (jI (f (8 + ht - 1)))) "java/lang/IndexOutOfBoundsException" "java/lang/IllegalArgumentException" h) := by
  refine js_body [(0, .ref x), (1, .int (jI ht))] rfl (by decide) (Nat.le_of_ble_eq_true rfl) rfl ?_
  have h01 := zI_01 hI
  have z0 := zt1_c (1 ≤ ht ∧ ht ≤ 5)
  obtain ⟨z_10, z_11, ⟨mb_1, rb_1, z_12⟩, ⟨ms_1, rs_1, z_13⟩, z_14, z_15, z_16, z_17, z_18, z_19, z_110, z_111, z_112⟩ := id hZ
  obtain ⟨sa_1, sb_1, sc_1, sd_1, se_1, sf_1, sg_1⟩ := z_111
  obtain ⟨wb_1, cb_1, gb_1, heb_1, rcb_1, hgb_1⟩ := zL_rd z_17 z_10 (by omega)
  obtain ⟨ws_1, cs_1, gs_1, hes_1, rcs_1, hgs_1⟩ := zL_rd z_18 z_10 (by omega)
  obtain ⟨gm_1, ze_1⟩ := z_10
  refine js_iload_n 1 dX1_windAt_0 rfl ?_
  refine js_iconst dX1_windAt_1 ?_
  refine js_iconst dX1_windAt_2 ?_
  refine eX1_49 rfl dX1_windAt_3 (con_isBetween (by omega) (by omega) (by omega)) (Nat.le_of_ble_eq_true rfl) (Nat.le_of_ble_eq_true rfl) ?_
  refine vX1_199 (kc' := 0) (ks' := 0) rfl dX1_windAt_6 (con_chkI) (Nat.le_of_ble_eq_true rfl) (by omega) (by omega) (Nat.le_of_ble_eq_true rfl) (fun v2 g2 q2 => ?_) (fun E2 g2 q2 => ?_)
  · obtain ⟨g0_2, ⟨p2, e2⟩ | ⟨_, e2⟩⟩ := q2
    rotate_left
    · cases e2
    cases e2
    rw [g0_2]
    show js_ok ρ mX1_windAt _ 10 0 0 9 [(0, .ref x), (1, .int (jI ht))] [] h
    refine js_aload_n 0 dX1_windAt_9 rfl ?_
    refine gX1_10 rfl dX1_windAt_10 hx rfl ?_
    refine gX1_151 rfl dX1_windAt_13 z_11 rfl ?_
    refine js_iload_n 1 dX1_windAt_16 rfl ?_
    refine js_iaload dX1_windAt_17 z_16 (by omega) ?_
    exact js_iret rfl rfl dX1_windAt_18 ⟨zFr_refl, Or.inl ⟨by omega, js_reti (by rw [zwa_g (by omega)]; congr 1; omega)⟩⟩
  · obtain ⟨g0_2, ⟨_, e2⟩ | ⟨p2, e2⟩⟩ := q2
    · cases e2
    · cases e2
      rw [g0_2]
      exact js_out rfl ⟨zFr_refl, Or.inr (Or.inl ⟨by omega, rfl⟩)⟩
theorem zbon_s {f : zF} {p : Int} {k : Nat} : zbon f p (k + 1) = zbon f p k ||| (if zpt f k = p then jI 1 <<< (jI k &&& 31) else jI 0) := rfl
theorem zpar_s {f : zF} {b : Int} {k : Nat} : zpar f b (k + 1) = zpar f b k ||| (if ((k : Int) ≠ b ∧ zpt f k = zpt f b) ∧ zabs (f (13 + 9 * k + 2) - f (13 + 9 * b + 2)) < 2 then jI 1 <<< (jI k &&& 31) else jI 0) := rfl
theorem xq_at {ρ : js_R} {h : js_H} {em : Nat} {T : Int} {P : Nat → Prop} {B : Nat → Nat} {Bb Bs : Int → Nat} {f : zF} {x : Nat} {u1 u2 u3 u4 u5 u6 u7 : Value} {x1 y1 : Int} (hx : h x = some (js_ob true 0 [.ref (B 0), u1, u2, u3, u4, u5, u6, u7])) (hZ : zSt em T P B Bb Bs f h) {T2 : Int} (hI : zI T2 f) (rx1 : -2147483648 ≤ x1 ∧ x1 < 2147483648) (ry1 : -2147483648 ≤ y1 ∧ y1 < 2147483648) : js_Con ρ mX1_at 11 1 6 [.ref x, .int (jI x1), .int (jI y1)] h (zAns (zt1 ((0 ≤ x1 ∧ x1 ≤ 9) ∧ 0 ≤ y1 ∧ y1 ≤ 9)) (.int (zbon f (10 * y1 + x1) (f 0).toNat)) "java/lang/IndexOutOfBoundsException" "java/lang/IllegalArgumentException" h) := by
  refine js_body [(0, .ref x), (1, .int (jI x1)), (2, .int (jI y1))] rfl (by decide) (Nat.le_of_ble_eq_true rfl) rfl ?_
  have h01 := zI_01 hI
  have z0 := zt1_c ((0 ≤ x1 ∧ x1 ≤ 9) ∧ 0 ≤ y1 ∧ y1 ≤ 9)
  obtain ⟨z_10, z_11, ⟨mb_1, rb_1, z_12⟩, ⟨ms_1, rs_1, z_13⟩, z_14, z_15, z_16, z_17, z_18, z_19, z_110, z_111, z_112⟩ := id hZ
  obtain ⟨sa_1, sb_1, sc_1, sd_1, se_1, sf_1, sg_1⟩ := z_111
  obtain ⟨wb_1, cb_1, gb_1, heb_1, rcb_1, hgb_1⟩ := zL_rd z_17 z_10 (by omega)
  obtain ⟨ws_1, cs_1, gs_1, hes_1, rcs_1, hgs_1⟩ := zL_rd z_18 z_10 (by omega)
  obtain ⟨gm_1, ze_1⟩ := z_10
  refine js_iload_n 1 dX1_at_0 rfl ?_
  refine js_iload_n 2 dX1_at_1 rfl ?_
  refine vX1_229 (kc' := 0) (ks' := 0) rfl dX1_at_2 (xc_chkP (by omega) (by omega)) (Nat.le_of_ble_eq_true rfl) (by omega) (by omega) (Nat.le_of_ble_eq_true rfl) (fun v2 g2 q2 => ?_) (fun E2 g2 q2 => ?_)
  · obtain ⟨g0_2, ⟨p2, e2⟩ | ⟨_, e2⟩⟩ := q2
    rotate_left
    · cases e2
    cases e2
    rw [g0_2]
    show js_ok ρ mX1_at _ 11 0 0 5 [(0, .ref x), (1, .int (jI x1)), (2, .int (jI y1))] [.int (jI (10 * y1 + x1))] h
    refine js_istore_n (L' := [(3, .int (jI (10 * y1 + x1))), (0, .ref x), (1, .int (jI x1)), (2, .int (jI y1))]) dX1_at_5 (by decide) rfl ?_
    refine js_iconst dX1_at_6 ?_
    refine js_istore (L' := [(4, .int (jI 0)), (3, .int (jI (10 * y1 + x1))), (0, .ref x), (1, .int (jI x1)), (2, .int (jI y1))]) dX1_at_7 (by decide) rfl ?_
    refine js_iconst dX1_at_9 ?_
    refine js_istore (L' := [(5, .int (jI 0)), (4, .int (jI 0)), (3, .int (jI (10 * y1 + x1))), (0, .ref x), (1, .int (jI x1)), (2, .int (jI y1))]) dX1_at_10 (by decide) rfl ?_
    refine js_sub (L' := [(0, .ref x), (1, .int (jI x1)), (2, .int (jI y1)), (3, .int (jI (10 * y1 + x1))), (4, .int (jI 0)), (5, .int (jI 0))]) [3, 4, 5, 2, 1, 0] rfl ?_
    refine js_loop (σ := Nat) (fun k => (k : Int) ≤ f 0) (fun k => (f 0).toNat - k) (fun k => 0) (fun k => 0) 12 (fun k => [(0, .ref x), (1, .int (jI x1)), (2, .int (jI y1)), (3, .int (jI (10 * y1 + x1))), (4, .int (zbon f (10 * y1 + x1) k)), (5, .int (jI ((k : Int))))]) (fun k => []) (fun k => h) (fun k hk IHk => ?_) 0 (by omega)
    show js_ok ρ mX1_at _ 11 0 0 12 [(0, .ref x), (1, .int (jI x1)), (2, .int (jI y1)), (3, .int (jI (10 * y1 + x1))), (4, .int (zbon f (10 * y1 + x1) k)), (5, .int (jI ((k : Int))))] [] h
    refine js_iload 5 dX1_at_12 rfl ?_
    refine js_aload_n 0 dX1_at_14 rfl ?_
    refine gX1_10 rfl dX1_at_15 hx rfl ?_
    refine gX1_104 rfl dX1_at_18 z_11 rfl ?_
    refine eX1_108 rfl dX1_at_21 z_12 (con_lsize z_12 (by omega)) (Nat.le_of_ble_eq_true rfl) (Nat.le_of_ble_eq_true rfl) ?_
    refine js_icmp_ge (tgt := 68) dX1_at_24 (by decide) (by omega) (fun c4 => ?_) (fun c4 => ?_)
    · refine js_iload 4 dX1_at_68 rfl ?_
      exact js_iret rfl rfl dX1_at_70 ⟨zFr_refl, Or.inl ⟨by omega, js_retI (by rw [show (f 0).toNat = k by omega])⟩⟩
    · have hB := zI_B hI (b := (k : Int)) (by omega) (by omega)
      have hBp := zIB_p hB
      unfold zIB at hB
      refine js_iload 4 dX1_at_27 rfl ?_
      refine js_aload_n 0 dX1_at_29 rfl ?_
      refine gX1_10 rfl dX1_at_30 hx rfl ?_
      refine gX1_104 rfl dX1_at_33 z_11 rfl ?_
      refine js_iload 5 dX1_at_36 rfl ?_
      refine eX1_128 rfl dX1_at_38 z_12 (con_lget z_12 (by omega) heb_1 (by omega) (by omega)) (Nat.le_of_ble_eq_true rfl) (Nat.le_of_ble_eq_true rfl) ?_
      rw [show gb_1 ((k : Int)) = some (Bb ((k : Int))) from hgb_1 _ (by omega) (by omega)]
      show js_ok ρ mX1_at _ 11 0 0 41 [(0, .ref x), (1, .int (jI x1)), (2, .int (jI y1)), (3, .int (jI (10 * y1 + x1))), (4, .int (zbon f (10 * y1 + x1) k)), (5, .int (jI ((k : Int))))] [.ref (Bb ((k : Int))), .int (zbon f (10 * y1 + x1) k)] h
      refine js_castS (r := (RX5, TX5, 8)) rfl q506 dX1_at_41 (z_19 ((k : Int)) (by omega) (by omega)) ?_
      refine gX1_209 rfl dX1_at_44 (z_19 ((k : Int)) (by omega) (by omega)) rfl ?_
      refine js_cut (kc' := 0) (ks' := 0) 59 [(0, .ref x), (1, .int (jI x1)), (2, .int (jI y1)), (3, .int (jI (10 * y1 + x1))), (4, .int (zbon f (10 * y1 + x1) k)), (5, .int (jI ((k : Int))))] [.int (if zpt f (k : Int) = 10 * y1 + x1 then jI 1 <<< (jI (k : Int) &&& 31) else jI 0), .int (zbon f (10 * y1 + x1) k)] h ?_ (fun J5 => ?_)
      · refine js_ior dX1_at_59 ?_
        refine js_istore (L' := [(4, .int ((zbon f (10 * y1 + x1) k) ||| (if zpt f (k : Int) = 10 * y1 + x1 then jI 1 <<< (jI (k : Int) &&& 31) else jI 0))), (0, .ref x), (1, .int (jI x1)), (2, .int (jI y1)), (3, .int (jI (10 * y1 + x1))), (5, .int (jI ((k : Int))))]) dX1_at_60 (by decide) rfl ?_
        refine js_iinc (L' := [(5, .int (jI (((k : Int)) + 1))), (4, .int ((zbon f (10 * y1 + x1) k) ||| (if zpt f (k : Int) = 10 * y1 + x1 then jI 1 <<< (jI (k : Int) &&& 31) else jI 0))), (0, .ref x), (1, .int (jI x1)), (2, .int (jI y1)), (3, .int (jI (10 * y1 + x1)))]) 5 dX1_at_62 rfl (by decide) rfl ?_
        refine js_goto (tgt := 12) dX1_at_65 (by decide) ?_
        refine js_sub (L' := [(0, .ref x), (1, .int (jI x1)), (2, .int (jI y1)), (3, .int (jI (10 * y1 + x1))), (4, .int ((zbon f (10 * y1 + x1) k) ||| (if zpt f (k : Int) = 10 * y1 + x1 then jI 1 <<< (jI (k : Int) &&& 31) else jI 0))), (5, .int (jI (((k : Int)) + 1)))]) [2, 3, 4, 5, 1, 0] rfl ?_
        exact IHk (k + 1) (by omega) (by omega)
      · refine js_iload_n 3 dX1_at_47 rfl ?_
        refine js_icmp_ne (tgt := 58) dX1_at_48 (by decide) (by omega) (fun c6 => ?_) (fun c6 => ?_)
        · refine js_iconst dX1_at_58 ?_
          first | (rw [if_pos (show zpt f (k : Int) = 10 * y1 + x1 from by omega)] at J5; exact J5) | (rw [if_neg (show ¬ (zpt f (k : Int) = 10 * y1 + x1) from by omega)] at J5; exact J5)
        · refine js_iconst dX1_at_51 ?_
          refine js_iload 5 dX1_at_52 rfl ?_
          refine js_ishl dX1_at_54 ?_
          refine js_goto (tgt := 59) dX1_at_55 (by decide) ?_
          first | (rw [if_pos (show zpt f (k : Int) = 10 * y1 + x1 from by omega)] at J5; exact J5) | (rw [if_neg (show ¬ (zpt f (k : Int) = 10 * y1 + x1) from by omega)] at J5; exact J5)
  · obtain ⟨g0_2, ⟨_, e2⟩ | ⟨p2, e2⟩⟩ := q2
    · cases e2
    · cases e2
      rw [g0_2]
      exact js_out rfl ⟨zFr_refl, Or.inr (Or.inl ⟨by omega, rfl⟩)⟩
theorem zatg_G {T : Int} {f : zF} {b : Int} (h : zI T f) (h1 : 0 ≤ b) (h2 : b < f 0) : zatg f b ↔ zgG f b (zpt f b) := by
  have h5 := (zI_B h h1 h2).2.2.2.2.2.1
  unfold zatg zgG
  refine ⟨fun ⟨a, c⟩ => ⟨a, ?_⟩, fun ⟨a, c⟩ => ⟨a, ?_⟩⟩
  · have hP := zI_P h h5.1 a
    rw [← c]; exact (znexm_t hP.2.2.2.2).symm
  · have hP := zI_P h h5.1 a
    rw [← c]; exact znexm_t hP.2.2.2.2
theorem zc_atg {ρ : js_R} {h : js_H} {em : Nat} {T b : Int} {P : Nat → Prop} {B : Nat → Nat} {Bb Bs : Int → Nat} {f : zF} (hZ : zSt em T P B Bb Bs f h) {T2 : Int} (hI : zI T2 f) (hb : 0 ≤ b ∧ b < f 0) : js_Con ρ mX2_isAtGate 4 0 0 [.ref (B 0), .ref (Bb b)] h (js_ret (some (.int (jI (jb (zatg f b))))) h) := by
  have h01 := zI_01 hI
  have hB := zI_B hI hb.1 hb.2
  have hpr := zIB_p hB
  have hG := zatg_G hI hb.1 hb.2
  unfold zIB at hB
  obtain ⟨z0, z1, ⟨mb, rb, z2⟩, ⟨ms, rs, z3⟩, z4, z5, z6, z7, z8, z9, z10, z11, z12⟩ := id hZ
  obtain ⟨ws, cs, gs, hes, rcs, hgs⟩ := zL_rd z8 z0 (by omega)
  by_cases q : f (13 + 9 * b + 5) < f 1
  · have hP := zI_P hI (i := f (13 + 9 * b + 5)) (by omega) q
    have hPp := zIP_p hP
    unfold zIP at hP
    have c := con_atgS (ρ := ρ) z1 (z9 b hb.1 hb.2) z3 hes (by omega) (by omega) q (hgs _ (by omega) q) (z10 _ (by omega) q) hpr hPp (by omega)
    rw [show jb (zatg f b) = jb (znext (zsp f (f (13 + 9 * b + 5))) (f (67 + 4 * f (13 + 9 * b + 5) + 2)) = zpt f b) from by
      by_cases g : znext (zsp f (f (13 + 9 * b + 5))) (f (67 + 4 * f (13 + 9 * b + 5) + 2)) = zpt f b
      · rw [jb_t g, jb_t (hG.mpr ⟨q, g⟩)]
      · rw [jb_f g, jb_f (fun z => g (hG.mp z).2)]]
    exact c
  · have c := con_atgN (ρ := ρ) z1 (z9 b hb.1 hb.2) z3 hes (by omega) (by omega) (by omega) hpr
    rw [jb_f (fun z => q (hG.mp z).1)]
    exact c
theorem xq_isAtGate {ρ : js_R} {h : js_H} {em : Nat} {T : Int} {P : Nat → Prop} {B : Nat → Nat} {Bb Bs : Int → Nat} {f : zF} {x : Nat} {u1 u2 u3 u4 u5 u6 u7 : Value} {b : Int} (hx : h x = some (js_ob true 0 [.ref (B 0), u1, u2, u3, u4, u5, u6, u7])) (hZ : zSt em T P B Bb Bs f h) {T2 : Int} (hI : zI T2 f) (rb : -2147483648 ≤ b ∧ b < 2147483648) : js_Con ρ mX1_isAtGate 11 1 6 [.ref x, .int (jI b)] h (zAns (zt1 (0 ≤ b ∧ b ≤ f 0 - 1)) (.int (jI (jb (zatg f b)))) "java/lang/IndexOutOfBoundsException" "java/lang/IllegalArgumentException" h) := by
  refine js_body [(0, .ref x), (1, .int (jI b))] rfl (by decide) (Nat.le_of_ble_eq_true rfl) rfl ?_
  have h01 := zI_01 hI
  have z0 := zt1_c (0 ≤ b ∧ b ≤ f 0 - 1)
  obtain ⟨z_10, z_11, ⟨mb_1, rb_1, z_12⟩, ⟨ms_1, rs_1, z_13⟩, z_14, z_15, z_16, z_17, z_18, z_19, z_110, z_111, z_112⟩ := id hZ
  obtain ⟨sa_1, sb_1, sc_1, sd_1, se_1, sf_1, sg_1⟩ := z_111
  obtain ⟨wb_1, cb_1, gb_1, heb_1, rcb_1, hgb_1⟩ := zL_rd z_17 z_10 (by omega)
  obtain ⟨ws_1, cs_1, gs_1, hes_1, rcs_1, hgs_1⟩ := zL_rd z_18 z_10 (by omega)
  obtain ⟨gm_1, ze_1⟩ := z_10
  refine js_aload_n 0 dX1_isAtGate_0 rfl ?_
  refine js_iload_n 1 dX1_isAtGate_1 rfl ?_
  refine vX1_203 (kc' := 0) (ks' := 0) rfl dX1_isAtGate_2 hx (xc_chkB hx hZ hI (by omega)) (Nat.le_of_ble_eq_true rfl) (by omega) (by omega) (Nat.le_of_ble_eq_true rfl) (fun v2 g2 q2 => ?_) (fun E2 g2 q2 => ?_)
  · obtain ⟨g0_2, ⟨p2, e2⟩ | ⟨_, e2⟩⟩ := q2
    rotate_left
    · cases e2
    cases e2
    rw [g0_2]
    show js_ok ρ mX1_isAtGate _ 11 0 0 5 [(0, .ref x), (1, .int (jI b))] [] h
    refine js_aload_n 0 dX1_isAtGate_5 rfl ?_
    refine gX1_10 rfl dX1_isAtGate_6 hx rfl ?_
    refine js_aload_n 0 dX1_isAtGate_9 rfl ?_
    refine gX1_10 rfl dX1_isAtGate_10 hx rfl ?_
    refine gX1_104 rfl dX1_isAtGate_13 z_11 rfl ?_
    refine js_iload_n 1 dX1_isAtGate_16 rfl ?_
    refine eX1_128 rfl dX1_isAtGate_17 z_12 (con_lget z_12 (by omega) heb_1 (by omega) (by omega)) (Nat.le_of_ble_eq_true rfl) (Nat.le_of_ble_eq_true rfl) ?_
    rw [show gb_1 b = some (Bb b) from hgb_1 _ (by omega) (by omega)]
    show js_ok ρ mX1_isAtGate _ 11 0 0 20 [(0, .ref x), (1, .int (jI b))] [.ref (Bb b), .ref (B 0)] h
    refine js_castS (r := (RX5, TX5, 8)) rfl q506 dX1_isAtGate_20 (z_19 b (by omega) (by omega)) ?_
    refine eX1_235 rfl dX1_isAtGate_23 z_11 (zc_atg hZ hI ⟨by omega, by omega⟩) (Nat.le_of_ble_eq_true rfl) (Nat.le_of_ble_eq_true rfl) ?_
    exact js_iret rfl (jb_nar _) dX1_isAtGate_26 ⟨zFr_refl, Or.inl ⟨by omega, rfl⟩⟩
  · obtain ⟨g0_2, ⟨_, e2⟩ | ⟨p2, e2⟩⟩ := q2
    · cases e2
    · cases e2
      rw [g0_2]
      exact js_out rfl ⟨zFr_refl, Or.inr (Or.inl ⟨by omega, rfl⟩)⟩
