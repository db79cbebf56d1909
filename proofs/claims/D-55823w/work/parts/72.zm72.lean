set_option maxRecDepth 100000
/-! account, meanGas, flyingShare -/
theorem xc_mustSome {ρ : js_R} {h : js_H} {em : Nat} {T : Int} {P : Nat → Prop} {B : Nat → Nat} {Bb Bs : Int → Nat} {f : zF} {x : Nat} {u1 u2 u3 u4 u5 u6 u7 : Value}  (hx : h x = some (js_ob true 0 [.ref (B 0), u1, u2, u3, u4, u5, u6, u7])) (hZ : zSt em T P B Bb Bs f h) {T2 : Int} (hI : zI T2 f)  : js_Con ρ mX1_mustBeSome 9 1 6 [.ref x] h (zChk (f 0 ≠ 0) "java/lang/ArithmeticException" h) := by
  refine js_body [(0, .ref x)] rfl (by decide) (Nat.le_of_ble_eq_true rfl) rfl ?_
  have h01 := zI_01 hI
  obtain ⟨z_10, z_11, ⟨mb_1, rb_1, z_12⟩, ⟨ms_1, rs_1, z_13⟩, z_14, z_15, z_16, z_17, z_18, z_19, z_110, z_111, z_112⟩ := id hZ
  obtain ⟨sa_1, sb_1, sc_1, sd_1, se_1, sf_1, sg_1⟩ := z_111
  obtain ⟨wb_1, cb_1, gb_1, heb_1, rcb_1, hgb_1⟩ := zL_rd z_17 z_10 (by omega)
  obtain ⟨ws_1, cs_1, gs_1, hes_1, rcs_1, hgs_1⟩ := zL_rd z_18 z_10 (by omega)
  obtain ⟨gm_1, ze_1⟩ := z_10
  refine js_aload_n 0 dX1_mustBeSome_0 rfl ?_
  refine gX1_10 rfl dX1_mustBeSome_1 hx rfl ?_
  refine gX1_104 rfl dX1_mustBeSome_4 z_11 rfl ?_
  refine eX1_493 rfl dX1_mustBeSome_7 z_12 (con_lempty z_12 (by omega)) (Nat.le_of_ble_eq_true rfl) (Nat.le_of_ble_eq_true rfl) ?_
  refine js_if_eqB (tgt := 21) dX1_mustBeSome_10 (by decide) (fun c2 => ?_) (fun c2 => ?_)
  · exact js_vret rfl dX1_mustBeSome_21 ⟨rfl, Or.inl ⟨by omega, rfl⟩⟩
  · exact js_throw (kc' := 0) (ks' := 0) thX1_496 q2180 q148 rfl (Nat.le_of_ble_eq_true rfl) (by omega) (by omega) (by omega) (by decide) dX1_mustBeSome_13 dX1_mustBeSome_16 dX1_mustBeSome_17 dX1_mustBeSome_20 ⟨rfl, Or.inr ⟨by omega, rfl⟩⟩
theorem xq_meanGas {ρ : js_R} {h : js_H} {em : Nat} {T : Int} {P : Nat → Prop} {B : Nat → Nat} {Bb Bs : Int → Nat} {f : zF} {x : Nat} {u1 u2 u3 u4 u5 u6 u7 : Value}  (hx : h x = some (js_ob true 0 [.ref (B 0), u1, u2, u3, u4, u5, u6, u7])) (hZ : zSt em T P B Bb Bs f h) {T2 : Int} (hI : zI T2 f) (hT : T ≤ 1000000) : js_Con ρ mX1_meanGas 10 4 12 [.ref x] h (zAns (zt1 (f 0 ≠ 0)) (.double (FP.ddiv (FP.i2d (jI (zall f 4 1 (f 0).toNat))) (FP.i2d (jI (f 0))))) "java/lang/ArithmeticException" "java/lang/IllegalArgumentException" h) := by
  refine js_body [(0, .ref x)] rfl (by decide) (Nat.le_of_ble_eq_true rfl) rfl ?_
  have h01 := zI_01 hI
  have z0 := zt1_c (f 0 ≠ 0)
  have hall : 0 ≤ zall f 4 1 (f 0).toNat ∧ zall f 4 1 (f 0).toNat ≤ 240 := by
      have := zsum_r (f := f) (w := 4) (f 0).toNat (fun b z => by have z := zI_B hI (b := (b : Int)) (by omega) (by omega); unfold zIB at z; omega); omega
  obtain ⟨z_10, z_11, ⟨mb_1, rb_1, z_12⟩, ⟨ms_1, rs_1, z_13⟩, z_14, z_15, z_16, z_17, z_18, z_19, z_110, z_111, z_112⟩ := id hZ
  obtain ⟨sa_1, sb_1, sc_1, sd_1, se_1, sf_1, sg_1⟩ := z_111
  obtain ⟨wb_1, cb_1, gb_1, heb_1, rcb_1, hgb_1⟩ := zL_rd z_17 z_10 (by omega)
  obtain ⟨ws_1, cs_1, gs_1, hes_1, rcs_1, hgs_1⟩ := zL_rd z_18 z_10 (by omega)
  obtain ⟨gm_1, ze_1⟩ := z_10
  refine js_aload_n 0 dX1_meanGas_0 rfl ?_
  refine vX1_497 (kc' := 3) (ks' := 6) rfl dX1_meanGas_1 hx (xc_mustSome hx hZ hI) (Nat.le_of_ble_eq_true rfl) (by omega) (by omega) (Nat.le_of_ble_eq_true rfl) (fun v2 g2 q2 => ?_) (fun E2 g2 q2 => ?_)
  · obtain ⟨g0_2, ⟨p2, e2⟩ | ⟨_, e2⟩⟩ := q2
    rotate_left
    · cases e2
    cases e2
    rw [g0_2]
    show js_ok ρ mX1_meanGas _ 10 3 6 4 [(0, .ref x)] [] h
    refine js_aload_n 0 dX1_meanGas_4 rfl ?_
    refine vX1_500 (kc' := 1) (ks' := 1) rfl dX1_meanGas_5 hx (xc_gas hx hZ hI (by omega)) (Nat.le_of_ble_eq_true rfl) (by omega) (by omega) (Nat.le_of_ble_eq_true rfl) (fun v3 g3 q3 => ?_) (fun E3 g3 q3 => by cases q3.1)
    obtain ⟨e3, yfr⟩ := q3
    cases e3
    show js_ok ρ mX1_meanGas _ 10 1 1 8 [(0, .ref x)] [.int (jI (zall f 4 1 (f 0).toNat))] g3
    refine js_i2d dX1_meanGas_8 ?_
    refine js_aload_n 0 dX1_meanGas_9 rfl ?_
    refine gX1_10 rfl dX1_meanGas_10 (yfr _ _ (fun z => z) hx) rfl ?_
    refine gX1_104 rfl dX1_meanGas_13 (yfr _ _ (fun z => z) z_11) rfl ?_
    refine eX1_108 rfl dX1_meanGas_16 (yfr _ _ (fun z => z) z_12) (con_lsize (yfr _ _ (fun z => z) z_12) (by omega)) (Nat.le_of_ble_eq_true rfl) (Nat.le_of_ble_eq_true rfl) ?_
    refine js_i2d dX1_meanGas_19 ?_
    refine js_ddiv dX1_meanGas_20 (by exact zn64' (by omega) (by omega)) ?_
    exact js_dret rfl dX1_meanGas_21 ⟨yfr, Or.inl ⟨by omega, rfl⟩⟩
  · obtain ⟨g0_2, ⟨_, e2⟩ | ⟨p2, e2⟩⟩ := q2
    · cases e2
    · cases e2
      rw [g0_2]
      exact js_out rfl ⟨zFr_refl, Or.inr (Or.inl ⟨by omega, rfl⟩)⟩
theorem xq_flyingShare {ρ : js_R} {h : js_H} {em : Nat} {T : Int} {P : Nat → Prop} {B : Nat → Nat} {Bb Bs : Int → Nat} {f : zF} {x : Nat} {u1 u2 u3 u4 u5 u6 u7 : Value}  (hx : h x = some (js_ob true 0 [.ref (B 0), u1, u2, u3, u4, u5, u6, u7])) (hZ : zSt em T P B Bb Bs f h) {T2 : Int} (hI : zI T2 f) (hT : T ≤ 1000000) : js_Con ρ mX1_flyingShare 10 4 12 [.ref x] h (zAns (zt1 (f 0 ≠ 0)) (.float (FP.fdiv (FP.i2f (jI (zall f 2 0 (f 0).toNat))) (FP.i2f (jI (f 0))))) "java/lang/ArithmeticException" "java/lang/IllegalArgumentException" h) := by
  refine js_body [(0, .ref x)] rfl (by decide) (Nat.le_of_ble_eq_true rfl) rfl ?_
  have h01 := zI_01 hI
  have z0 := zt1_c (f 0 ≠ 0)
  have hall : 0 ≤ zall f 2 0 (f 0).toNat ∧ zall f 2 0 (f 0).toNat ≤ 6 := by
      have := zmany_r (f := f) (w := 2) (f 0).toNat; omega
  obtain ⟨z_10, z_11, ⟨mb_1, rb_1, z_12⟩, ⟨ms_1, rs_1, z_13⟩, z_14, z_15, z_16, z_17, z_18, z_19, z_110, z_111, z_112⟩ := id hZ
  obtain ⟨sa_1, sb_1, sc_1, sd_1, se_1, sf_1, sg_1⟩ := z_111
  obtain ⟨wb_1, cb_1, gb_1, heb_1, rcb_1, hgb_1⟩ := zL_rd z_17 z_10 (by omega)
  obtain ⟨ws_1, cs_1, gs_1, hes_1, rcs_1, hgs_1⟩ := zL_rd z_18 z_10 (by omega)
  obtain ⟨gm_1, ze_1⟩ := z_10
  refine js_aload_n 0 dX1_flyingShare_0 rfl ?_
  refine vX1_497 (kc' := 3) (ks' := 6) rfl dX1_flyingShare_1 hx (xc_mustSome hx hZ hI) (Nat.le_of_ble_eq_true rfl) (by omega) (by omega) (Nat.le_of_ble_eq_true rfl) (fun v2 g2 q2 => ?_) (fun E2 g2 q2 => ?_)
  · obtain ⟨g0_2, ⟨p2, e2⟩ | ⟨_, e2⟩⟩ := q2
    rotate_left
    · cases e2
    cases e2
    rw [g0_2]
    show js_ok ρ mX1_flyingShare _ 10 3 6 4 [(0, .ref x)] [] h
    refine js_aload_n 0 dX1_flyingShare_4 rfl ?_
    refine gX1_10 rfl dX1_flyingShare_5 hx rfl ?_
    refine vX1_476 (kc' := 1) (ks' := 3) rfl dX1_flyingShare_8 z_11 (zc_flying hZ hI) (Nat.le_of_ble_eq_true rfl) (by omega) (by omega) (Nat.le_of_ble_eq_true rfl) (fun v3 g3 q3 => ?_) (fun E3 g3 q3 => by cases q3.1)
    obtain ⟨e3, yZ, yfr⟩ := q3
    cases e3
    obtain ⟨z_40, z_41, ⟨mb_4, rb_4, z_42⟩, ⟨ms_4, rs_4, z_43⟩, z_44, z_45, z_46, z_47, z_48, z_49, z_410, z_411, z_412⟩ := id yZ
    obtain ⟨sa_4, sb_4, sc_4, sd_4, se_4, sf_4, sg_4⟩ := z_411
    obtain ⟨wb_4, cb_4, gb_4, heb_4, rcb_4, hgb_4⟩ := zL_rd z_47 z_40 (by omega)
    obtain ⟨ws_4, cs_4, gs_4, hes_4, rcs_4, hgs_4⟩ := zL_rd z_48 z_40 (by omega)
    obtain ⟨gm_4, ze_4⟩ := z_40
    show js_ok ρ mX1_flyingShare _ 10 1 3 11 [(0, .ref x)] [.int (jI (zall f 2 0 (f 0).toNat))] g3
    refine js_i2f dX1_flyingShare_11 ?_
    refine js_aload_n 0 dX1_flyingShare_12 rfl ?_
    refine gX1_10 rfl dX1_flyingShare_13 (yfr x _ (fun z => z) hx) rfl ?_
    refine gX1_104 rfl dX1_flyingShare_16 z_41 rfl ?_
    refine eX1_108 rfl dX1_flyingShare_19 z_42 (con_lsize z_42 (by omega)) (Nat.le_of_ble_eq_true rfl) (Nat.le_of_ble_eq_true rfl) ?_
    refine js_i2f dX1_flyingShare_22 ?_
    refine js_fdiv dX1_flyingShare_23 (by exact (zn32' (by omega) (by omega)).1) ?_
    exact js_fret rfl dX1_flyingShare_24 ⟨yfr, Or.inl ⟨by omega, rfl⟩⟩
  · obtain ⟨g0_2, ⟨_, e2⟩ | ⟨p2, e2⟩⟩ := q2
    · cases e2
    · cases e2
      rw [g0_2]
      exact js_out rfl ⟨zFr_refl, Or.inr (Or.inl ⟨by omega, rfl⟩)⟩
theorem con_sb4len {ρ : js_R} {h : js_H} {a : Nat} {w : Bool} {p q r : Value} {n : Int} (ha : h a = some (js_ob w 17 [p, q, r, .int (jI n)])) : js_Con ρ mJ4_length 0 0 0 [.ref a] h (js_ret (some (.int (jI n))) h) := by
  refine js_body [(0, .ref a)] rfl (by decide) (Nat.le_of_ble_eq_true rfl) rfl ?_
  refine js_aload_n 0 dJ4_length_0 rfl ?_
  refine gJ4_79 rfl dJ4_length_1 ha rfl ?_
  exact js_iret rfl rfl dJ4_length_4 ⟨rfl, rfl⟩
theorem con_sblen {ρ : js_R} {h : js_H} {a : Nat} {w : Bool} {p q r : Value} {n : Int} (ha : h a = some (js_ob w 17 [p, q, r, .int (jI n)])) : js_Con ρ mJ5_length 1 0 0 [.ref a] h (js_ret (some (.int (jI n))) h) := by
  refine js_body [(0, .ref a)] rfl (by decide) (Nat.le_of_ble_eq_true rfl) rfl ?_
  refine js_aload_n 0 dJ5_length_0 rfl ?_
  refine eJ5_343 rfl dJ5_length_1 ha (con_sb4len ha) (Nat.le_of_ble_eq_true rfl) (Nat.le_of_ble_eq_true rfl) ?_
  exact js_iret rfl rfl dJ5_length_4 ⟨rfl, rfl⟩
theorem xq_account {ρ : js_R} {h : js_H} {em : Nat} {T : Int} {col : Nat → Nat} {c : Nat} {B : Nat → Nat} {Bb Bs : Int → Nat} {x : Nat} {f : zF} {Y : zY} {wh : Int} (hC : zC em T col c B Bb Bs x f Y h) (rwh : -2147483648 ≤ wh ∧ wh < 2147483648) : js_Con ρ mX1_account 10 5 20 [.ref x, .int (jI wh)] h (zAns (zt1 (0 ≤ wh ∧ wh ≤ 13)) (.int (jI (zacc f Y.2.1.1 Y.2.2.1.2 wh))) "java/lang/IllegalArgumentException" "java/lang/IndexOutOfBoundsException" h) := by
  refine js_body [(0, .ref x), (1, .int (jI wh))] rfl (by decide) (Nat.le_of_ble_eq_true rfl) rfl ?_
  have z0 := zt1_c (0 ≤ wh ∧ wh ≤ 13)
  obtain ⟨cz1, cz2, cz3, ⟨c4a, hI⟩, hZ, sv, rv, hi, ib, lb, vi, vl, cs, hx, cz7, cz8, ⟨cz9, c9a, c9b⟩, cz10, cz11⟩ := id hC
  obtain ⟨tT1, tT2⟩ := zI_T hI
  have h01 := zI_01 hI
  obtain ⟨ed, hd, tl, q, ge, ch, y1, y2, y3, y4, y5, y6⟩ := cz9
  obtain ⟨⟨cs1, cs2, cap, ml, sg_, sk1, sk2, sk3⟩, _⟩ := id cz10
  obtain ⟨z_10, z_11, ⟨mb_1, rb_1, z_12⟩, ⟨ms_1, rs_1, z_13⟩, z_14, z_15, z_16, z_17, z_18, z_19, z_110, z_111, z_112⟩ := id hZ
  obtain ⟨sa_1, sb_1, sc_1, sd_1, se_1, sf_1, sg_1⟩ := z_111
  obtain ⟨wb_1, cb_1, gb_1, heb_1, rcb_1, hgb_1⟩ := zL_rd z_17 z_10 (by omega)
  obtain ⟨ws_1, cs_1, gs_1, hes_1, rcs_1, hgs_1⟩ := zL_rd z_18 z_10 (by omega)
  obtain ⟨gm_1, ze_1⟩ := z_10
  refine js_iload_n 1 dX1_account_0 rfl ?_
  refine js_iconst dX1_account_1 ?_
  refine js_bipush dX1_account_2 rfl ?_
  refine eX1_49 rfl dX1_account_4 (con_isBetween (by omega) (by omega) (by omega)) (Nat.le_of_ble_eq_true rfl) (Nat.le_of_ble_eq_true rfl) ?_
  refine vX1_206 (kc' := 4) (ks' := 14) rfl dX1_account_7 (con_chk) (Nat.le_of_ble_eq_true rfl) (by omega) (by omega) (Nat.le_of_ble_eq_true rfl) (fun v2 g2 q2 => ?_) (fun E2 g2 q2 => ?_)
  · obtain ⟨g0_2, ⟨p2, e2⟩ | ⟨_, e2⟩⟩ := q2
    rotate_left
    · cases e2
    cases e2
    rw [g0_2]
    show js_ok ρ mX1_account _ 10 4 14 10 [(0, .ref x), (1, .int (jI wh))] [] h
    refine js_iload_n 1 dX1_account_10 rfl ?_
    rcases (show ((wh : Int) < 0 ∨ 12 < (wh : Int)) ∨ (wh : Int) = 0 ∨ (wh : Int) = 1 ∨ (wh : Int) = 2 ∨ (wh : Int) = 3 ∨ (wh : Int) = 4 ∨ (wh : Int) = 5 ∨ (wh : Int) = 6 ∨ (wh : Int) = 7 ∨ (wh : Int) = 8 ∨ (wh : Int) = 9 ∨ (wh : Int) = 10 ∨ (wh : Int) = 11 ∨ (wh : Int) = 12 from by omega) with t3 | t3 | t3 | t3 | t3 | t3 | t3 | t3 | t3 | t3 | t3 | t3 | t3 | t3
    · refine js_tableOut (tgt := 177) dX1_account_11 (by omega) (by omega) (by decide) ?_
      refine js_aload_n 0 dX1_account_177 rfl ?_
      refine gX1_19 rfl dX1_account_178 hx rfl ?_
      refine eX1_85 rfl dX1_account_181 y1 (con_dsize y1 y2 y3 (by omega)) (Nat.le_of_ble_eq_true rfl) (Nat.le_of_ble_eq_true rfl) ?_
      exact js_iret rfl rfl dX1_account_184 ⟨zFr_refl, Or.inl ⟨by omega, js_reti (by rw [show wh = 13 by omega]; rfl)⟩⟩
    · refine js_top (b := 0) t3 ?_
      refine js_tableIn (off := 65) (tgt := 76) dX1_account_11 (by decide) (by decide) (by decide) rfl (by decide) ?_
      refine js_aload_n 0 dX1_account_76 rfl ?_
      refine gX1_10 rfl dX1_account_77 hx rfl ?_
      refine gX1_104 rfl dX1_account_80 z_11 rfl ?_
      refine eX1_108 rfl dX1_account_83 z_12 (con_lsize z_12 (by omega)) (Nat.le_of_ble_eq_true rfl) (Nat.le_of_ble_eq_true rfl) ?_
      exact js_iret rfl rfl dX1_account_86 ⟨zFr_refl, Or.inl ⟨by omega, js_reti (by rw [show wh = 0 by omega]; rfl)⟩⟩
    · refine js_top (b := 1) t3 ?_
      refine js_tableIn (off := 76) (tgt := 87) dX1_account_11 (by decide) (by decide) (by decide) rfl (by decide) ?_
      refine js_aload_n 0 dX1_account_87 rfl ?_
      refine gX1_10 rfl dX1_account_88 hx rfl ?_
      refine vX1_476 (kc' := 2) (ks' := 11) rfl dX1_account_91 z_11 (zc_flying hZ hI) (Nat.le_of_ble_eq_true rfl) (by omega) (by omega) (Nat.le_of_ble_eq_true rfl) (fun v4 g4 q4 => ?_) (fun E4 g4 q4 => by cases q4.1)
      obtain ⟨e4, yZ, yfr⟩ := q4
      cases e4
      obtain ⟨z_50, z_51, ⟨mb_5, rb_5, z_52⟩, ⟨ms_5, rs_5, z_53⟩, z_54, z_55, z_56, z_57, z_58, z_59, z_510, z_511, z_512⟩ := id yZ
      obtain ⟨sa_5, sb_5, sc_5, sd_5, se_5, sf_5, sg_5⟩ := z_511
      obtain ⟨wb_5, cb_5, gb_5, heb_5, rcb_5, hgb_5⟩ := zL_rd z_57 z_50 (by omega)
      obtain ⟨ws_5, cs_5, gs_5, hes_5, rcs_5, hgs_5⟩ := zL_rd z_58 z_50 (by omega)
      obtain ⟨gm_5, ze_5⟩ := z_50
      show js_ok ρ mX1_account _ 10 2 11 94 [(0, .ref x), (1, .int (jI wh))] [.int (jI (zall f 2 0 (f 0).toNat))] g4
      exact js_iret rfl rfl dX1_account_94 ⟨yfr, Or.inl ⟨by omega, js_reti (by rw [show wh = 1 by omega]; rfl)⟩⟩
    · refine js_top (b := 2) t3 ?_
      refine js_tableIn (off := 84) (tgt := 95) dX1_account_11 (by decide) (by decide) (by decide) rfl (by decide) ?_
      refine js_aload_n 0 dX1_account_95 rfl ?_
      refine gX1_10 rfl dX1_account_96 hx rfl ?_
      refine gX1_125 rfl dX1_account_99 z_11 rfl ?_
      refine eX1_108 rfl dX1_account_102 z_13 (con_lsize z_13 (by omega)) (Nat.le_of_ble_eq_true rfl) (Nat.le_of_ble_eq_true rfl) ?_
      exact js_iret rfl rfl dX1_account_105 ⟨zFr_refl, Or.inl ⟨by omega, js_reti (by rw [show wh = 2 by omega]; rfl)⟩⟩
    · refine js_top (b := 3) t3 ?_
      refine js_tableIn (off := 95) (tgt := 106) dX1_account_11 (by decide) (by decide) (by decide) rfl (by decide) ?_
      refine js_aload_n 0 dX1_account_106 rfl ?_
      refine gX1_10 rfl dX1_account_107 hx rfl ?_
      refine gX1_479 rfl dX1_account_110 z_11 rfl ?_
      exact js_iret rfl rfl dX1_account_113 ⟨zFr_refl, Or.inl ⟨by omega, js_reti (by rw [show wh = 3 by omega]; rfl)⟩⟩
    · refine js_top (b := 4) t3 ?_
      refine js_tableIn (off := 103) (tgt := 114) dX1_account_11 (by decide) (by decide) (by decide) rfl (by decide) ?_
      refine js_aload_n 0 dX1_account_114 rfl ?_
      refine gX1_10 rfl dX1_account_115 hx rfl ?_
      refine gX1_480 rfl dX1_account_118 z_11 rfl ?_
      exact js_iret rfl rfl dX1_account_121 ⟨zFr_refl, Or.inl ⟨by omega, js_reti (by rw [show wh = 4 by omega]; rfl)⟩⟩
    · refine js_top (b := 5) t3 ?_
      refine js_tableIn (off := 111) (tgt := 122) dX1_account_11 (by decide) (by decide) (by decide) rfl (by decide) ?_
      refine js_aload_n 0 dX1_account_122 rfl ?_
      refine gX1_10 rfl dX1_account_123 hx rfl ?_
      refine gX1_481 rfl dX1_account_126 z_11 rfl ?_
      exact js_iret rfl rfl dX1_account_129 ⟨zFr_refl, Or.inl ⟨by omega, js_reti (by rw [show wh = 5 by omega]; rfl)⟩⟩
    · refine js_top (b := 6) t3 ?_
      refine js_tableIn (off := 119) (tgt := 130) dX1_account_11 (by decide) (by decide) (by decide) rfl (by decide) ?_
      refine js_aload_n 0 dX1_account_130 rfl ?_
      refine gX1_10 rfl dX1_account_131 hx rfl ?_
      refine gX1_484 rfl dX1_account_134 z_11 rfl ?_
      exact js_iret rfl rfl dX1_account_137 ⟨zFr_refl, Or.inl ⟨by omega, js_reti (by rw [show wh = 6 by omega]; rfl)⟩⟩
    · refine js_top (b := 7) t3 ?_
      refine js_tableIn (off := 127) (tgt := 138) dX1_account_11 (by decide) (by decide) (by decide) rfl (by decide) ?_
      refine js_aload_n 0 dX1_account_138 rfl ?_
      refine vX1_485 (kc' := 2) (ks' := 9) rfl dX1_account_139 hx (xc_sacks hx hZ hI (by omega)) (Nat.le_of_ble_eq_true rfl) (by omega) (by omega) (Nat.le_of_ble_eq_true rfl) (fun v6 g6 q6 => ?_) (fun E6 g6 q6 => by cases q6.1)
      obtain ⟨e6, yfr⟩ := q6
      cases e6
      show js_ok ρ mX1_account _ 10 2 9 142 [(0, .ref x), (1, .int (jI wh))] [.int (jI (zall f 3 1 (f 0).toNat))] g6
      exact js_iret rfl rfl dX1_account_142 ⟨yfr, Or.inl ⟨by omega, js_reti (by rw [show wh = 7 by omega]; rfl)⟩⟩
    · refine js_top (b := 8) t3 ?_
      refine js_tableIn (off := 132) (tgt := 143) dX1_account_11 (by decide) (by decide) (by decide) rfl (by decide) ?_
      refine js_aload_n 0 dX1_account_143 rfl ?_
      refine gX1_10 rfl dX1_account_144 hx rfl ?_
      refine gX1_167 rfl dX1_account_147 z_11 rfl ?_
      exact js_iret rfl rfl dX1_account_150 ⟨zFr_refl, Or.inl ⟨by omega, js_reti (by rw [show wh = 8 by omega]; rfl)⟩⟩
    · refine js_top (b := 9) t3 ?_
      refine js_tableIn (off := 140) (tgt := 151) dX1_account_11 (by decide) (by decide) (by decide) rfl (by decide) ?_
      refine js_aload_n 0 dX1_account_151 rfl ?_
      refine gX1_10 rfl dX1_account_152 hx rfl ?_
      refine gX1_122 rfl dX1_account_155 z_11 rfl ?_
      exact js_iret rfl rfl dX1_account_158 ⟨zFr_refl, Or.inl ⟨by omega, js_reti (by rw [show wh = 9 by omega]; rfl)⟩⟩
    · refine js_top (b := 10) t3 ?_
      refine js_tableIn (off := 148) (tgt := 159) dX1_account_11 (by decide) (by decide) (by decide) rfl (by decide) ?_
      refine js_aload_n 0 dX1_account_159 rfl ?_
      refine vX1_487 (kc' := 2) (ks' := 9) rfl dX1_account_160 hx (xc_seals hx hZ hI (by omega)) (Nat.le_of_ble_eq_true rfl) (by omega) (by omega) (Nat.le_of_ble_eq_true rfl) (fun v7 g7 q7 => ?_) (fun E7 g7 q7 => by cases q7.1)
      obtain ⟨e7, yfr⟩ := q7
      cases e7
      show js_ok ρ mX1_account _ 10 2 9 163 [(0, .ref x), (1, .int (jI wh))] [.int (jI (zall f 8 0 (f 0).toNat))] g7
      exact js_iret rfl rfl dX1_account_163 ⟨yfr, Or.inl ⟨by omega, js_reti (by rw [show wh = 10 by omega]; rfl)⟩⟩
    · refine js_top (b := 11) t3 ?_
      refine js_tableIn (off := 153) (tgt := 164) dX1_account_11 (by decide) (by decide) (by decide) rfl (by decide) ?_
      refine js_aload_n 0 dX1_account_164 rfl ?_
      refine eX1_490 rfl dX1_account_165 hx (xc_farms hx hZ hI) (Nat.le_of_ble_eq_true rfl) (Nat.le_of_ble_eq_true rfl) ?_
      exact js_iret rfl rfl dX1_account_168 ⟨zFr_refl, Or.inl ⟨by omega, js_reti (by rw [show wh = 11 by omega]; rfl)⟩⟩
    · refine js_top (b := 12) t3 ?_
      refine js_tableIn (off := 158) (tgt := 169) dX1_account_11 (by decide) (by decide) (by decide) rfl (by decide) ?_
      refine js_aload_n 0 dX1_account_169 rfl ?_
      refine gX1_26 rfl dX1_account_170 hx rfl ?_
      refine eX1_401 rfl dX1_account_173 sk1 (con_sblen sk1) (Nat.le_of_ble_eq_true rfl) (Nat.le_of_ble_eq_true rfl) ?_
      exact js_iret rfl rfl dX1_account_176 ⟨zFr_refl, Or.inl ⟨by omega, js_reti (by rw [show wh = 12 by omega]; rfl)⟩⟩
  · obtain ⟨g0_2, ⟨_, e2⟩ | ⟨p2, e2⟩⟩ := q2
    · cases e2
    · cases e2
      rw [g0_2]
      exact js_out rfl ⟨zFr_refl, Or.inr (Or.inl ⟨by omega, rfl⟩)⟩
theorem xq_faultPosition {ρ : js_R} {h : js_H} {x : Nat} {u0 u1 u2 u3 u4 u5 u7 : Value} {n : Int} (hx : h x = some (js_ob true 0 [u0, u1, u2, u3, u4, u5, .int (jI n), u7])) : js_Con ρ mX1_faultPosition 0 0 0 [.ref x] h (js_ret (some (.int (jI n))) h) := by
  refine js_body [(0, .ref x)] rfl (by decide) (Nat.le_of_ble_eq_true rfl) rfl ?_
  refine js_aload_n 0 dX1_faultPosition_0 rfl ?_
  refine gX1_33 rfl dX1_faultPosition_1 hx rfl ?_
  exact js_iret rfl rfl dX1_faultPosition_4 ⟨rfl, rfl⟩
