set_option maxRecDepth 100000
/-! questions of the class: hours to come, partners, the dearest point -/
theorem zli_le (f : zF) (b : Int) : zli f b ≤ 60 := by
  have := zfst_le (fun j : Nat => 0 < zhrs f j (13 + 9 * b + 2)) 60 0
  rw [Nat.zero_add] at this
  exact this
theorem zFr_new2 {h g : js_H} {a b : Nat} {e1 e2 e3 : js_E} (ha : h a = none) (hb : h b = none) (k : zFr (fun z => z = a ∨ z = b) (js_up (js_up (js_up h a e1) b e2) a e3) g) : zFr (fun _ => False) h g := fun c x n hx => k c x (fun z => z.elim (fun y => by rw [y, ha] at hx; cases hx) (fun y => by rw [y, hb] at hx; cases hx)) (by
  rw [js_up_n (fun y : c = a => by rw [y, ha] at hx; cases hx), js_up_n (fun y : c = b => by rw [y, hb] at hx; cases hx), js_up_n (fun y : c = a => by rw [y, ha] at hx; cases hx)]
  exact hx)
theorem xq_drift {ρ : js_R} {h : js_H} {em : Nat} {T : Int} {P : Nat → Prop} {B : Nat → Nat} {Bb Bs : Int → Nat} {f : zF} {x : Nat} {u1 u2 u3 u4 u5 u6 u7 : Value} {b n : Int} (hx : h x = some (js_ob true 0 [.ref (B 0), u1, u2, u3, u4, u5, u6, u7])) (hZ : zSt em T P B Bb Bs f h) {T2 : Int} (hI : zI T2 f) (hT : T2 + 1000 ≤ 1000000) (rb : -2147483648 ≤ b ∧ b < 2147483648) (rn : -2147483648 ≤ n ∧ n < 2147483648) : js_Con ρ mX1_drift 11 4 23 [.ref x, .int (jI b), .int (jI n)] h (zAns (zt2 (0 ≤ b ∧ b ≤ f 0 - 1) (0 ≤ n ∧ n ≤ 60)) (.int (jI (zaft f b n 0))) "java/lang/IndexOutOfBoundsException" "java/lang/IllegalArgumentException" h) := by
  refine js_body [(0, .ref x), (1, .int (jI b)), (2, .int (jI n))] rfl (by decide) (Nat.le_of_ble_eq_true rfl) rfl ?_
  have h01 := zI_01 hI
  have z0 := zt2_c (0 ≤ b ∧ b ≤ f 0 - 1) (0 ≤ n ∧ n ≤ 60)
  obtain ⟨z_10, z_11, ⟨mb_1, rb_1, z_12⟩, ⟨ms_1, rs_1, z_13⟩, z_14, z_15, z_16, z_17, z_18, z_19, z_110, z_111, z_112⟩ := id hZ
  obtain ⟨sa_1, sb_1, sc_1, sd_1, se_1, sf_1, sg_1⟩ := z_111
  obtain ⟨wb_1, cb_1, gb_1, heb_1, rcb_1, hgb_1⟩ := zL_rd z_17 z_10 (by omega)
  obtain ⟨ws_1, cs_1, gs_1, hes_1, rcs_1, hgs_1⟩ := zL_rd z_18 z_10 (by omega)
  obtain ⟨gm_1, ze_1⟩ := z_10
  refine js_aload_n 0 dX1_drift_0 rfl ?_
  refine js_iload_n 1 dX1_drift_1 rfl ?_
  refine vX1_203 (kc' := 3) (ks' := 17) rfl dX1_drift_2 hx (xc_chkB hx hZ hI (by omega)) (Nat.le_of_ble_eq_true rfl) (by omega) (by omega) (Nat.le_of_ble_eq_true rfl) (fun v2 g2 q2 => ?_) (fun E2 g2 q2 => ?_)
  · obtain ⟨g0_2, ⟨p2, e2⟩ | ⟨_, e2⟩⟩ := q2
    rotate_left
    · cases e2
    cases e2
    rw [g0_2]
    show js_ok ρ mX1_drift _ 11 3 17 5 [(0, .ref x), (1, .int (jI b)), (2, .int (jI n))] [] h
    refine js_aload_n 0 dX1_drift_5 rfl ?_
    refine js_iload_n 2 dX1_drift_6 rfl ?_
    refine js_bipush dX1_drift_7 rfl ?_
    refine vX1_238 (kc' := 2) (ks' := 11) rfl dX1_drift_9 hx (xc_chkH (by omega) (by omega)) (Nat.le_of_ble_eq_true rfl) (by omega) (by omega) (Nat.le_of_ble_eq_true rfl) (fun v3 g3 q3 => ?_) (fun E3 g3 q3 => ?_)
    · obtain ⟨g0_3, ⟨p3, e3⟩ | ⟨_, e3⟩⟩ := q3
      rotate_left
      · cases e3
      cases e3
      rw [g0_3]
      show js_ok ρ mX1_drift _ 11 2 11 12 [(0, .ref x), (1, .int (jI b)), (2, .int (jI n))] [] h
      refine nX1_241 (kc' := 1) (ks' := 8) rfl dX1_drift_12 (by omega) (by omega) (fun a4 hf_a4 hB_a4 => ?_)
      refine js_dup dX1_drift_15 rfl ?_
      refine js_aload_n 0 dX1_drift_16 rfl ?_
      refine js_iload_n 1 dX1_drift_17 rfl ?_
      have nt := zSt_new2 hZ hf_a4
      have hb : 0 ≤ b ∧ b < f 0 := by omega
      have hxa : zNe x a4 := js_nef hx hf_a4
      refine vX1_243 (kc' := 0) (ks' := 0) rfl dX1_drift_18 (xc_tinit (b := b) ((js_up_n hxa).trans hx) (zSt_upO hZ nt.1 nt.2) hI js_up_s hb) (Nat.le_of_ble_eq_true rfl) (by omega) (by omega) (Nat.le_of_ble_eq_true rfl) (fun v5 g5 q5 => ?_) (fun E5 g5 q5 => by obtain ⟨_, q5, _⟩ := q5; cases q5)
      obtain ⟨th5, e5, hf_th5, rfl⟩ := q5
      cases e5
      have nth := zSt_new2 hZ (zup_none hf_th5)
      have hxt : zNe x th5 := js_nef hx (zup_none hf_th5)
      have htt : zNe th5 a4 := zup_ne hf_th5
      have z3 := zSt_upO (e := js_ob true 8 [.ref th5, .int (jI 0), .ref x]) (zSt_upO (e := zBt (zhrs f 0) b (f (13 + 9 * b + 7))) (zSt_upO (e := js_ob true 8 [.null, .int (jI 0), .null]) hZ nt.1 nt.2) nth.1 nth.2) nt.1 nt.2
      show js_ok ρ mX1_drift _ 11 0 0 21 [(0, .ref x), (1, .int (jI b)), (2, .int (jI n))] [.ref a4] (js_up (js_up (js_up h a4 (js_ob true 8 [.null, .int (jI 0), .null])) th5 (zBt (zhrs f 0) b (f (13 + 9 * b + 7)))) a4 (js_ob true 8 [.ref th5, .int (jI 0), .ref x]))
      refine js_iload_n 2 dX1_drift_21 rfl ?_
      obtain ⟨kk, ekk⟩ : ∃ kk : Nat, (kk : Int) = n := ⟨n.toNat, by omega⟩
      refine js_top (b := ((kk : Nat) : Int)) (by omega) ?_
      refine vX1_246 (kc' := 0) (ks' := 0) rfl dX1_drift_22 js_up_s (xc_tin (b := b) ((js_up_n hxa).trans ((js_up_n hxt).trans ((js_up_n hxa).trans hx))) z3 hI hT js_up_s ((js_up_n htt).trans js_up_s) nt nth hb (by omega)) (Nat.le_of_ble_eq_true rfl) (by omega) (by omega) (Nat.le_of_ble_eq_true rfl) (fun v6 g6 q6 => ?_) (fun E6 g6 q6 => by cases q6.1)
      obtain ⟨e6, yfr, yt, yth⟩ := q6
      cases e6
      have xfr : zFr (fun _ => False) h g6 := zFr_new2 hf_a4 (zup_none hf_th5) yfr
      have yZ := zSt_out hZ (Int.le_refl _) xfr (fun a p q => q) (fun q => q)
      have yx := xfr x _ (fun q => q) hx
      obtain ⟨iK, e0, e1⟩ := zhrs_I hI kk (by omega)
      have hBK := zI_B iK hb.1 (by omega)
      have hBp := zIB_p hBK
      unfold zIB at hBK
      obtain ⟨z_70, z_71, ⟨mb_7, rb_7, z_72⟩, ⟨ms_7, rs_7, z_73⟩, z_74, z_75, z_76, z_77, z_78, z_79, z_710, z_711, z_712⟩ := id yZ
      obtain ⟨sa_7, sb_7, sc_7, sd_7, se_7, sf_7, sg_7⟩ := z_711
      obtain ⟨wb_7, cb_7, gb_7, heb_7, rcb_7, hgb_7⟩ := zL_rd z_77 z_70 (by omega)
      obtain ⟨ws_7, cs_7, gs_7, hes_7, rcs_7, hgs_7⟩ := zL_rd z_78 z_70 (by omega)
      obtain ⟨gm_7, ze_7⟩ := z_70
      show js_ok ρ mX1_drift _ 11 0 0 25 [(0, .ref x), (1, .int (jI b)), (2, .int (jI n))] [.ref a4] g6
      refine gX1_250 rfl dX1_drift_25 yt rfl ?_
      refine gX1_209 rfl dX1_drift_28 yth rfl ?_
      exact js_iret rfl rfl dX1_drift_31 ⟨xfr, Or.inl ⟨by omega, js_reti (by unfold zaft; rw [if_pos rfl, show n.toNat = kk by omega])⟩⟩
    · obtain ⟨g0_3, ⟨_, e3⟩ | ⟨p3, e3⟩⟩ := q3
      · cases e3
      · cases e3
        rw [g0_3]
        exact js_out rfl ⟨zFr_refl, Or.inr (Or.inr ⟨by omega, rfl⟩)⟩
  · obtain ⟨g0_2, ⟨_, e2⟩ | ⟨p2, e2⟩⟩ := q2
    · cases e2
    · cases e2
      rw [g0_2]
      exact js_out rfl ⟨zFr_refl, Or.inr (Or.inl ⟨by omega, rfl⟩)⟩
theorem xq_heightIn {ρ : js_R} {h : js_H} {em : Nat} {T : Int} {P : Nat → Prop} {B : Nat → Nat} {Bb Bs : Int → Nat} {f : zF} {x : Nat} {u1 u2 u3 u4 u5 u6 u7 : Value} {b n : Int} (hx : h x = some (js_ob true 0 [.ref (B 0), u1, u2, u3, u4, u5, u6, u7])) (hZ : zSt em T P B Bb Bs f h) {T2 : Int} (hI : zI T2 f) (hT : T2 + 1000 ≤ 1000000) (rb : -2147483648 ≤ b ∧ b < 2147483648) (rn : -2147483648 ≤ n ∧ n < 2147483648) : js_Con ρ mX1_heightIn 11 4 23 [.ref x, .int (jI b), .int (jI n)] h (zAns (zt2 (0 ≤ b ∧ b ≤ f 0 - 1) (0 ≤ n ∧ n ≤ 60)) (.int (jI (zaft f b n 2))) "java/lang/IndexOutOfBoundsException" "java/lang/IllegalArgumentException" h) := by
  refine js_body [(0, .ref x), (1, .int (jI b)), (2, .int (jI n))] rfl (by decide) (Nat.le_of_ble_eq_true rfl) rfl ?_
  have h01 := zI_01 hI
  have z0 := zt2_c (0 ≤ b ∧ b ≤ f 0 - 1) (0 ≤ n ∧ n ≤ 60)
  obtain ⟨z_10, z_11, ⟨mb_1, rb_1, z_12⟩, ⟨ms_1, rs_1, z_13⟩, z_14, z_15, z_16, z_17, z_18, z_19, z_110, z_111, z_112⟩ := id hZ
  obtain ⟨sa_1, sb_1, sc_1, sd_1, se_1, sf_1, sg_1⟩ := z_111
  obtain ⟨wb_1, cb_1, gb_1, heb_1, rcb_1, hgb_1⟩ := zL_rd z_17 z_10 (by omega)
  obtain ⟨ws_1, cs_1, gs_1, hes_1, rcs_1, hgs_1⟩ := zL_rd z_18 z_10 (by omega)
  obtain ⟨gm_1, ze_1⟩ := z_10
  refine js_aload_n 0 dX1_heightIn_0 rfl ?_
  refine js_iload_n 1 dX1_heightIn_1 rfl ?_
  refine vX1_203 (kc' := 3) (ks' := 17) rfl dX1_heightIn_2 hx (xc_chkB hx hZ hI (by omega)) (Nat.le_of_ble_eq_true rfl) (by omega) (by omega) (Nat.le_of_ble_eq_true rfl) (fun v2 g2 q2 => ?_) (fun E2 g2 q2 => ?_)
  · obtain ⟨g0_2, ⟨p2, e2⟩ | ⟨_, e2⟩⟩ := q2
    rotate_left
    · cases e2
    cases e2
    rw [g0_2]
    show js_ok ρ mX1_heightIn _ 11 3 17 5 [(0, .ref x), (1, .int (jI b)), (2, .int (jI n))] [] h
    refine js_aload_n 0 dX1_heightIn_5 rfl ?_
    refine js_iload_n 2 dX1_heightIn_6 rfl ?_
    refine js_bipush dX1_heightIn_7 rfl ?_
    refine vX1_238 (kc' := 2) (ks' := 11) rfl dX1_heightIn_9 hx (xc_chkH (by omega) (by omega)) (Nat.le_of_ble_eq_true rfl) (by omega) (by omega) (Nat.le_of_ble_eq_true rfl) (fun v3 g3 q3 => ?_) (fun E3 g3 q3 => ?_)
    · obtain ⟨g0_3, ⟨p3, e3⟩ | ⟨_, e3⟩⟩ := q3
      rotate_left
      · cases e3
      cases e3
      rw [g0_3]
      show js_ok ρ mX1_heightIn _ 11 2 11 12 [(0, .ref x), (1, .int (jI b)), (2, .int (jI n))] [] h
      refine nX1_241 (kc' := 1) (ks' := 8) rfl dX1_heightIn_12 (by omega) (by omega) (fun a4 hf_a4 hB_a4 => ?_)
      refine js_dup dX1_heightIn_15 rfl ?_
      refine js_aload_n 0 dX1_heightIn_16 rfl ?_
      refine js_iload_n 1 dX1_heightIn_17 rfl ?_
      have nt := zSt_new2 hZ hf_a4
      have hb : 0 ≤ b ∧ b < f 0 := by omega
      have hxa : zNe x a4 := js_nef hx hf_a4
      refine vX1_243 (kc' := 0) (ks' := 0) rfl dX1_heightIn_18 (xc_tinit (b := b) ((js_up_n hxa).trans hx) (zSt_upO hZ nt.1 nt.2) hI js_up_s hb) (Nat.le_of_ble_eq_true rfl) (by omega) (by omega) (Nat.le_of_ble_eq_true rfl) (fun v5 g5 q5 => ?_) (fun E5 g5 q5 => by obtain ⟨_, q5, _⟩ := q5; cases q5)
      obtain ⟨th5, e5, hf_th5, rfl⟩ := q5
      cases e5
      have nth := zSt_new2 hZ (zup_none hf_th5)
      have hxt : zNe x th5 := js_nef hx (zup_none hf_th5)
      have htt : zNe th5 a4 := zup_ne hf_th5
      have z3 := zSt_upO (e := js_ob true 8 [.ref th5, .int (jI 0), .ref x]) (zSt_upO (e := zBt (zhrs f 0) b (f (13 + 9 * b + 7))) (zSt_upO (e := js_ob true 8 [.null, .int (jI 0), .null]) hZ nt.1 nt.2) nth.1 nth.2) nt.1 nt.2
      show js_ok ρ mX1_heightIn _ 11 0 0 21 [(0, .ref x), (1, .int (jI b)), (2, .int (jI n))] [.ref a4] (js_up (js_up (js_up h a4 (js_ob true 8 [.null, .int (jI 0), .null])) th5 (zBt (zhrs f 0) b (f (13 + 9 * b + 7)))) a4 (js_ob true 8 [.ref th5, .int (jI 0), .ref x]))
      refine js_iload_n 2 dX1_heightIn_21 rfl ?_
      obtain ⟨kk, ekk⟩ : ∃ kk : Nat, (kk : Int) = n := ⟨n.toNat, by omega⟩
      refine js_top (b := ((kk : Nat) : Int)) (by omega) ?_
      refine vX1_246 (kc' := 0) (ks' := 0) rfl dX1_heightIn_22 js_up_s (xc_tin (b := b) ((js_up_n hxa).trans ((js_up_n hxt).trans ((js_up_n hxa).trans hx))) z3 hI hT js_up_s ((js_up_n htt).trans js_up_s) nt nth hb (by omega)) (Nat.le_of_ble_eq_true rfl) (by omega) (by omega) (Nat.le_of_ble_eq_true rfl) (fun v6 g6 q6 => ?_) (fun E6 g6 q6 => by cases q6.1)
      obtain ⟨e6, yfr, yt, yth⟩ := q6
      cases e6
      have xfr : zFr (fun _ => False) h g6 := zFr_new2 hf_a4 (zup_none hf_th5) yfr
      have yZ := zSt_out hZ (Int.le_refl _) xfr (fun a p q => q) (fun q => q)
      have yx := xfr x _ (fun q => q) hx
      obtain ⟨iK, e0, e1⟩ := zhrs_I hI kk (by omega)
      have hBK := zI_B iK hb.1 (by omega)
      have hBp := zIB_p hBK
      unfold zIB at hBK
      obtain ⟨z_70, z_71, ⟨mb_7, rb_7, z_72⟩, ⟨ms_7, rs_7, z_73⟩, z_74, z_75, z_76, z_77, z_78, z_79, z_710, z_711, z_712⟩ := id yZ
      obtain ⟨sa_7, sb_7, sc_7, sd_7, se_7, sf_7, sg_7⟩ := z_711
      obtain ⟨wb_7, cb_7, gb_7, heb_7, rcb_7, hgb_7⟩ := zL_rd z_77 z_70 (by omega)
      obtain ⟨ws_7, cs_7, gs_7, hes_7, rcs_7, hgs_7⟩ := zL_rd z_78 z_70 (by omega)
      obtain ⟨gm_7, ze_7⟩ := z_70
      show js_ok ρ mX1_heightIn _ 11 0 0 25 [(0, .ref x), (1, .int (jI b)), (2, .int (jI n))] [.ref a4] g6
      refine gX1_250 rfl dX1_heightIn_25 yt rfl ?_
      refine gX1_161 rfl dX1_heightIn_28 yth rfl ?_
      exact js_iret rfl rfl dX1_heightIn_31 ⟨xfr, Or.inl ⟨by omega, js_reti (by unfold zaft; rw [if_neg (by decide), show n.toNat = kk by omega])⟩⟩
    · obtain ⟨g0_3, ⟨_, e3⟩ | ⟨p3, e3⟩⟩ := q3
      · cases e3
      · cases e3
        rw [g0_3]
        exact js_out rfl ⟨zFr_refl, Or.inr (Or.inr ⟨by omega, rfl⟩)⟩
  · obtain ⟨g0_2, ⟨_, e2⟩ | ⟨p2, e2⟩⟩ := q2
    · cases e2
    · cases e2
      rw [g0_2]
      exact js_out rfl ⟨zFr_refl, Or.inr (Or.inl ⟨by omega, rfl⟩)⟩
theorem xq_wouldScore {ρ : js_R} {h : js_H} {em : Nat} {T : Int} {P : Nat → Prop} {B : Nat → Nat} {Bb Bs : Int → Nat} {f : zF} {x : Nat} {u1 u2 u3 u4 u5 u6 u7 : Value} {b n : Int} (hx : h x = some (js_ob true 0 [.ref (B 0), u1, u2, u3, u4, u5, u6, u7])) (hZ : zSt em T P B Bb Bs f h) {T2 : Int} (hI : zI T2 f) (hT : T2 + 1000 ≤ 1000000) (rb : -2147483648 ≤ b ∧ b < 2147483648) (rn : -2147483648 ≤ n ∧ n < 2147483648) : js_Con ρ mX1_wouldScore 11 4 23 [.ref x, .int (jI b), .int (jI n)] h (zAns (zt2 (0 ≤ b ∧ b ≤ f 0 - 1) (0 ≤ n ∧ n ≤ 60)) (.int (jI (zaft f b n 6 - f (13 + 9 * b + 6)))) "java/lang/IndexOutOfBoundsException" "java/lang/IllegalArgumentException" h) := by
  refine js_body [(0, .ref x), (1, .int (jI b)), (2, .int (jI n))] rfl (by decide) (Nat.le_of_ble_eq_true rfl) rfl ?_
  have h01 := zI_01 hI
  have z0 := zt2_c (0 ≤ b ∧ b ≤ f 0 - 1) (0 ≤ n ∧ n ≤ 60)
  obtain ⟨z_10, z_11, ⟨mb_1, rb_1, z_12⟩, ⟨ms_1, rs_1, z_13⟩, z_14, z_15, z_16, z_17, z_18, z_19, z_110, z_111, z_112⟩ := id hZ
  obtain ⟨sa_1, sb_1, sc_1, sd_1, se_1, sf_1, sg_1⟩ := z_111
  obtain ⟨wb_1, cb_1, gb_1, heb_1, rcb_1, hgb_1⟩ := zL_rd z_17 z_10 (by omega)
  obtain ⟨ws_1, cs_1, gs_1, hes_1, rcs_1, hgs_1⟩ := zL_rd z_18 z_10 (by omega)
  obtain ⟨gm_1, ze_1⟩ := z_10
  refine js_aload_n 0 dX1_wouldScore_0 rfl ?_
  refine js_iload_n 1 dX1_wouldScore_1 rfl ?_
  refine vX1_203 (kc' := 3) (ks' := 17) rfl dX1_wouldScore_2 hx (xc_chkB hx hZ hI (by omega)) (Nat.le_of_ble_eq_true rfl) (by omega) (by omega) (Nat.le_of_ble_eq_true rfl) (fun v2 g2 q2 => ?_) (fun E2 g2 q2 => ?_)
  · obtain ⟨g0_2, ⟨p2, e2⟩ | ⟨_, e2⟩⟩ := q2
    rotate_left
    · cases e2
    cases e2
    rw [g0_2]
    show js_ok ρ mX1_wouldScore _ 11 3 17 5 [(0, .ref x), (1, .int (jI b)), (2, .int (jI n))] [] h
    refine js_aload_n 0 dX1_wouldScore_5 rfl ?_
    refine js_iload_n 2 dX1_wouldScore_6 rfl ?_
    refine js_bipush dX1_wouldScore_7 rfl ?_
    refine vX1_238 (kc' := 2) (ks' := 11) rfl dX1_wouldScore_9 hx (xc_chkH (by omega) (by omega)) (Nat.le_of_ble_eq_true rfl) (by omega) (by omega) (Nat.le_of_ble_eq_true rfl) (fun v3 g3 q3 => ?_) (fun E3 g3 q3 => ?_)
    · obtain ⟨g0_3, ⟨p3, e3⟩ | ⟨_, e3⟩⟩ := q3
      rotate_left
      · cases e3
      cases e3
      rw [g0_3]
      show js_ok ρ mX1_wouldScore _ 11 2 11 12 [(0, .ref x), (1, .int (jI b)), (2, .int (jI n))] [] h
      refine nX1_241 (kc' := 1) (ks' := 8) rfl dX1_wouldScore_12 (by omega) (by omega) (fun a4 hf_a4 hB_a4 => ?_)
      refine js_dup dX1_wouldScore_15 rfl ?_
      refine js_aload_n 0 dX1_wouldScore_16 rfl ?_
      refine js_iload_n 1 dX1_wouldScore_17 rfl ?_
      have nt := zSt_new2 hZ hf_a4
      have hb : 0 ≤ b ∧ b < f 0 := by omega
      have hxa : zNe x a4 := js_nef hx hf_a4
      refine vX1_243 (kc' := 0) (ks' := 0) rfl dX1_wouldScore_18 (xc_tinit (b := b) ((js_up_n hxa).trans hx) (zSt_upO hZ nt.1 nt.2) hI js_up_s hb) (Nat.le_of_ble_eq_true rfl) (by omega) (by omega) (Nat.le_of_ble_eq_true rfl) (fun v5 g5 q5 => ?_) (fun E5 g5 q5 => by obtain ⟨_, q5, _⟩ := q5; cases q5)
      obtain ⟨th5, e5, hf_th5, rfl⟩ := q5
      cases e5
      have nth := zSt_new2 hZ (zup_none hf_th5)
      have hxt : zNe x th5 := js_nef hx (zup_none hf_th5)
      have htt : zNe th5 a4 := zup_ne hf_th5
      have z3 := zSt_upO (e := js_ob true 8 [.ref th5, .int (jI 0), .ref x]) (zSt_upO (e := zBt (zhrs f 0) b (f (13 + 9 * b + 7))) (zSt_upO (e := js_ob true 8 [.null, .int (jI 0), .null]) hZ nt.1 nt.2) nth.1 nth.2) nt.1 nt.2
      show js_ok ρ mX1_wouldScore _ 11 0 0 21 [(0, .ref x), (1, .int (jI b)), (2, .int (jI n))] [.ref a4] (js_up (js_up (js_up h a4 (js_ob true 8 [.null, .int (jI 0), .null])) th5 (zBt (zhrs f 0) b (f (13 + 9 * b + 7)))) a4 (js_ob true 8 [.ref th5, .int (jI 0), .ref x]))
      refine js_iload_n 2 dX1_wouldScore_21 rfl ?_
      obtain ⟨kk, ekk⟩ : ∃ kk : Nat, (kk : Int) = n := ⟨n.toNat, by omega⟩
      refine js_top (b := ((kk : Nat) : Int)) (by omega) ?_
      refine vX1_246 (kc' := 0) (ks' := 0) rfl dX1_wouldScore_22 js_up_s (xc_tin (b := b) ((js_up_n hxa).trans ((js_up_n hxt).trans ((js_up_n hxa).trans hx))) z3 hI hT js_up_s ((js_up_n htt).trans js_up_s) nt nth hb (by omega)) (Nat.le_of_ble_eq_true rfl) (by omega) (by omega) (Nat.le_of_ble_eq_true rfl) (fun v6 g6 q6 => ?_) (fun E6 g6 q6 => by cases q6.1)
      obtain ⟨e6, yfr, yt, yth⟩ := q6
      cases e6
      have xfr : zFr (fun _ => False) h g6 := zFr_new2 hf_a4 (zup_none hf_th5) yfr
      have yZ := zSt_out hZ (Int.le_refl _) xfr (fun a p q => q) (fun q => q)
      have yx := xfr x _ (fun q => q) hx
      obtain ⟨iK, e0, e1⟩ := zhrs_I hI kk (by omega)
      have hBK := zI_B iK hb.1 (by omega)
      have hBp := zIB_p hBK
      unfold zIB at hBK
      obtain ⟨z_70, z_71, ⟨mb_7, rb_7, z_72⟩, ⟨ms_7, rs_7, z_73⟩, z_74, z_75, z_76, z_77, z_78, z_79, z_710, z_711, z_712⟩ := id yZ
      obtain ⟨sa_7, sb_7, sc_7, sd_7, se_7, sf_7, sg_7⟩ := z_711
      obtain ⟨wb_7, cb_7, gb_7, heb_7, rcb_7, hgb_7⟩ := zL_rd z_77 z_70 (by omega)
      obtain ⟨ws_7, cs_7, gs_7, hes_7, rcs_7, hgs_7⟩ := zL_rd z_78 z_70 (by omega)
      obtain ⟨gm_7, ze_7⟩ := z_70
      show js_ok ρ mX1_wouldScore _ 11 0 0 25 [(0, .ref x), (1, .int (jI b)), (2, .int (jI n))] [.ref a4] g6
      refine gX1_250 rfl dX1_wouldScore_25 yt rfl ?_
      refine gX1_213 rfl dX1_wouldScore_28 yth rfl ?_
      refine js_aload_n 0 dX1_wouldScore_31 rfl ?_
      refine gX1_10 rfl dX1_wouldScore_32 yx rfl ?_
      refine gX1_104 rfl dX1_wouldScore_35 z_71 rfl ?_
      refine js_iload_n 1 dX1_wouldScore_38 rfl ?_
      refine eX1_128 rfl dX1_wouldScore_39 z_72 (con_lget z_72 (by omega) heb_7 (by omega) (by omega)) (Nat.le_of_ble_eq_true rfl) (Nat.le_of_ble_eq_true rfl) ?_
      rw [show gb_7 b = some (Bb b) from hgb_7 _ (by omega) (by omega)]
      show js_ok ρ mX1_wouldScore _ 11 0 0 42 [(0, .ref x), (1, .int (jI b)), (2, .int (jI n))] [.ref (Bb b), .int (jI (((zhrs f kk)) (13 + 9 * b + 6)))] g6
      refine js_castS (r := (RX5, TX5, 8)) rfl q506 dX1_wouldScore_42 (z_79 b (by omega) (by omega)) ?_
      refine gX1_213 rfl dX1_wouldScore_45 (z_79 b (by omega) (by omega)) rfl ?_
      refine js_isub dX1_wouldScore_48 ?_
      exact js_iret rfl rfl dX1_wouldScore_49 ⟨xfr, Or.inl ⟨by omega, js_reti (by unfold zaft; rw [if_neg (by decide), show n.toNat = kk by omega])⟩⟩
    · obtain ⟨g0_3, ⟨_, e3⟩ | ⟨p3, e3⟩⟩ := q3
      · cases e3
      · cases e3
        rw [g0_3]
        exact js_out rfl ⟨zFr_refl, Or.inr (Or.inr ⟨by omega, rfl⟩)⟩
  · obtain ⟨g0_2, ⟨_, e2⟩ | ⟨p2, e2⟩⟩ := q2
    · cases e2
    · cases e2
      rw [g0_2]
      exact js_out rfl ⟨zFr_refl, Or.inr (Or.inl ⟨by omega, rfl⟩)⟩
/-- a trial that has come to the ground, or what is thrown -/
def zLnd (f : zF) (b : Int) (x : Nat) (h : js_H) : js_Q := fun r h' => zFr (fun _ => False) h h' ∧ ((zt2 (0 ≤ b ∧ b ≤ f 0 - 1) (f (13 + 9 * b + 2) ≠ 0) = 0 ∧ ∃ (t th : Nat) (pd : Int), r = .inl (some (.ref t)) ∧ h' t = some (js_ob true 8 [.ref th, .int (jI ((zli f b : Nat) : Int)), .ref x]) ∧ h' th = some (zBt (zhrs f (zli f b)) b pd)) ∨ (zt2 (0 ≤ b ∧ b ≤ f 0 - 1) (f (13 + 9 * b + 2) ≠ 0) = 1 ∧ r = .inr "java/lang/IndexOutOfBoundsException") ∨ (zt2 (0 ≤ b ∧ b ≤ f 0 - 1) (f (13 + 9 * b + 2) ≠ 0) = 2 ∧ r = .inr "java/util/NoSuchElementException"))
theorem xc_landing {ρ : js_R} {h : js_H} {em : Nat} {T : Int} {P : Nat → Prop} {B : Nat → Nat} {Bb Bs : Int → Nat} {f : zF} {x : Nat} {u1 u2 u3 u4 u5 u6 u7 : Value} {b : Int} (hx : h x = some (js_ob true 0 [.ref (B 0), u1, u2, u3, u4, u5, u6, u7])) (hZ : zSt em T P B Bb Bs f h) {T2 : Int} (hI : zI T2 f) (hT : T2 + 1000 ≤ 1000000) (rb : -2147483648 ≤ b ∧ b < 2147483648) : js_Con ρ mX1_landing 11 4 23 [.ref x, .int (jI b)] h (zLnd f b x h) := by
  refine js_body [(0, .ref x), (1, .int (jI b))] rfl (by decide) (Nat.le_of_ble_eq_true rfl) rfl ?_
  have h01 := zI_01 hI
  have z0 := zt2_c (0 ≤ b ∧ b ≤ f 0 - 1) (f (13 + 9 * b + 2) ≠ 0)
  obtain ⟨z_10, z_11, ⟨mb_1, rb_1, z_12⟩, ⟨ms_1, rs_1, z_13⟩, z_14, z_15, z_16, z_17, z_18, z_19, z_110, z_111, z_112⟩ := id hZ
  obtain ⟨sa_1, sb_1, sc_1, sd_1, se_1, sf_1, sg_1⟩ := z_111
  obtain ⟨wb_1, cb_1, gb_1, heb_1, rcb_1, hgb_1⟩ := zL_rd z_17 z_10 (by omega)
  obtain ⟨ws_1, cs_1, gs_1, hes_1, rcs_1, hgs_1⟩ := zL_rd z_18 z_10 (by omega)
  obtain ⟨gm_1, ze_1⟩ := z_10
  refine js_aload_n 0 dX1_landing_0 rfl ?_
  refine js_iload_n 1 dX1_landing_1 rfl ?_
  refine vX1_203 (kc' := 3) (ks' := 17) rfl dX1_landing_2 hx (xc_chkB hx hZ hI (by omega)) (Nat.le_of_ble_eq_true rfl) (by omega) (by omega) (Nat.le_of_ble_eq_true rfl) (fun v2 g2 q2 => ?_) (fun E2 g2 q2 => ?_)
  · obtain ⟨g0_2, ⟨p2, e2⟩ | ⟨_, e2⟩⟩ := q2
    rotate_left
    · cases e2
    cases e2
    rw [g0_2]
    show js_ok ρ mX1_landing _ 11 3 17 5 [(0, .ref x), (1, .int (jI b))] [] h
    have hB := zI_B hI (b := b) (by omega) (by omega)
    unfold zIB at hB
    refine js_aload_n 0 dX1_landing_5 rfl ?_
    refine gX1_10 rfl dX1_landing_6 hx rfl ?_
    refine gX1_104 rfl dX1_landing_9 z_11 rfl ?_
    refine js_iload_n 1 dX1_landing_12 rfl ?_
    refine eX1_128 rfl dX1_landing_13 z_12 (con_lget z_12 (by omega) heb_1 (by omega) (by omega)) (Nat.le_of_ble_eq_true rfl) (Nat.le_of_ble_eq_true rfl) ?_
    rw [show gb_1 b = some (Bb b) from hgb_1 _ (by omega) (by omega)]
    show js_ok ρ mX1_landing _ 11 3 17 16 [(0, .ref x), (1, .int (jI b))] [.ref (Bb b)] h
    refine js_castS (r := (RX5, TX5, 8)) rfl q506 dX1_landing_16 (z_19 b (by omega) (by omega)) ?_
    refine eX1_175 rfl dX1_landing_19 (z_19 b (by omega) (by omega)) (con_flies (z_19 b (by omega) (by omega)) (by omega)) (Nat.le_of_ble_eq_true rfl) (Nat.le_of_ble_eq_true rfl) ?_
    refine vX1_260 (kc' := 2) (ks' := 11) rfl dX1_landing_22 (con_chkE) (Nat.le_of_ble_eq_true rfl) (by omega) (by omega) (Nat.le_of_ble_eq_true rfl) (fun v3 g3 q3 => ?_) (fun E3 g3 q3 => ?_)
    · obtain ⟨g0_3, ⟨p3, e3⟩ | ⟨_, e3⟩⟩ := q3
      rotate_left
      · cases e3
      cases e3
      rw [g0_3]
      show js_ok ρ mX1_landing _ 11 2 11 25 [(0, .ref x), (1, .int (jI b))] [] h
      refine nX1_241 (kc' := 1) (ks' := 8) rfl dX1_landing_25 (by omega) (by omega) (fun a4 hf_a4 hB_a4 => ?_)
      refine js_dup dX1_landing_28 rfl ?_
      refine js_aload_n 0 dX1_landing_29 rfl ?_
      refine js_iload_n 1 dX1_landing_30 rfl ?_
      have nt := zSt_new2 hZ hf_a4
      have hb : 0 ≤ b ∧ b < f 0 := by omega
      have hxa : zNe x a4 := js_nef hx hf_a4
      refine vX1_243 (kc' := 0) (ks' := 0) rfl dX1_landing_31 (xc_tinit (b := b) ((js_up_n hxa).trans hx) (zSt_upO hZ nt.1 nt.2) hI js_up_s hb) (Nat.le_of_ble_eq_true rfl) (by omega) (by omega) (Nat.le_of_ble_eq_true rfl) (fun v5 g5 q5 => ?_) (fun E5 g5 q5 => by obtain ⟨_, q5, _⟩ := q5; cases q5)
      obtain ⟨th5, e5, hf_th5, rfl⟩ := q5
      cases e5
      have nth := zSt_new2 hZ (zup_none hf_th5)
      have hxt : zNe x th5 := js_nef hx (zup_none hf_th5)
      have htt : zNe th5 a4 := zup_ne hf_th5
      have z3 := zSt_upO (e := js_ob true 8 [.ref th5, .int (jI 0), .ref x]) (zSt_upO (e := zBt (zhrs f 0) b (f (13 + 9 * b + 7))) (zSt_upO (e := js_ob true 8 [.null, .int (jI 0), .null]) hZ nt.1 nt.2) nth.1 nth.2) nt.1 nt.2
      show js_ok ρ mX1_landing _ 11 0 0 34 [(0, .ref x), (1, .int (jI b))] [.ref a4] (js_up (js_up (js_up h a4 (js_ob true 8 [.null, .int (jI 0), .null])) th5 (zBt (zhrs f 0) b (f (13 + 9 * b + 7)))) a4 (js_ob true 8 [.ref th5, .int (jI 0), .ref x]))
      refine vX1_263 (kc' := 0) (ks' := 0) rfl dX1_landing_34 js_up_s (xc_ttg (b := b) ((js_up_n hxa).trans ((js_up_n hxt).trans ((js_up_n hxa).trans hx))) z3 hI hT js_up_s ((js_up_n htt).trans js_up_s) nt nth hb) (Nat.le_of_ble_eq_true rfl) (by omega) (by omega) (Nat.le_of_ble_eq_true rfl) (fun v6 g6 q6 => ?_) (fun E6 g6 q6 => by cases q6.1)
      obtain ⟨e6, yfr, yt, yth⟩ := q6
      cases e6
      have xfr : zFr (fun _ => False) h g6 := zFr_new2 hf_a4 (zup_none hf_th5) yfr
      have yZ := zSt_out hZ (Int.le_refl _) xfr (fun a p q => q) (fun q => q)
      have yx := xfr x _ (fun q => q) hx
      obtain ⟨kk, ekk⟩ : ∃ kk : Nat, kk = zli f b := ⟨_, rfl⟩
      rw [← ekk] at yt yth
      have l60 : kk ≤ 60 := by rw [ekk]; exact zli_le f b
      obtain ⟨iK, e0, e1⟩ := zhrs_I hI kk (by omega)
      have hBK := zI_B iK hb.1 (by omega)
      have hBp := zIB_p hBK
      unfold zIB at hBK
      obtain ⟨z_70, z_71, ⟨mb_7, rb_7, z_72⟩, ⟨ms_7, rs_7, z_73⟩, z_74, z_75, z_76, z_77, z_78, z_79, z_710, z_711, z_712⟩ := id yZ
      obtain ⟨sa_7, sb_7, sc_7, sd_7, se_7, sf_7, sg_7⟩ := z_711
      obtain ⟨wb_7, cb_7, gb_7, heb_7, rcb_7, hgb_7⟩ := zL_rd z_77 z_70 (by omega)
      obtain ⟨ws_7, cs_7, gs_7, hes_7, rcs_7, hgs_7⟩ := zL_rd z_78 z_70 (by omega)
      obtain ⟨gm_7, ze_7⟩ := z_70
      show js_ok ρ mX1_landing _ 11 0 0 37 [(0, .ref x), (1, .int (jI b))] [.ref a4] g6
      exact js_aret rfl (Or.inl ⟨_, rfl⟩) (Or.inr ⟨_, rfl⟩) dX1_landing_37 ⟨xfr, Or.inl ⟨by omega, _, _, _, rfl, by rw [← ekk]; exact yt, by rw [← ekk]; exact yth⟩⟩
    · obtain ⟨g0_3, ⟨_, e3⟩ | ⟨p3, e3⟩⟩ := q3
      · cases e3
      · cases e3
        rw [g0_3]
        exact js_out rfl ⟨zFr_refl, Or.inr (Or.inr ⟨by omega, rfl⟩)⟩
  · obtain ⟨g0_2, ⟨_, e2⟩ | ⟨p2, e2⟩⟩ := q2
    · cases e2
    · cases e2
      rw [g0_2]
      exact js_out rfl ⟨zFr_refl, Or.inr (Or.inl ⟨by omega, rfl⟩)⟩
theorem xq_landsIn {ρ : js_R} {h : js_H} {em : Nat} {T : Int} {P : Nat → Prop} {B : Nat → Nat} {Bb Bs : Int → Nat} {f : zF} {x : Nat} {u1 u2 u3 u4 u5 u6 u7 : Value} {b : Int} (hx : h x = some (js_ob true 0 [.ref (B 0), u1, u2, u3, u4, u5, u6, u7])) (hZ : zSt em T P B Bb Bs f h) {T2 : Int} (hI : zI T2 f) (hT : T2 + 1000 ≤ 1000000) (rb : -2147483648 ≤ b ∧ b < 2147483648) : js_Con ρ mX1_landsIn 12 4 23 [.ref x, .int (jI b)] h (zAns (zt2 (0 ≤ b ∧ b ≤ f 0 - 1) (f (13 + 9 * b + 2) ≠ 0)) (.int (jI (((zli f b : Nat) : Int)))) "java/lang/IndexOutOfBoundsException" "java/util/NoSuchElementException" h) := by
  refine js_body [(0, .ref x), (1, .int (jI b))] rfl (by decide) (Nat.le_of_ble_eq_true rfl) rfl ?_
  have h01 := zI_01 hI
  have z0 := zt2_c (0 ≤ b ∧ b ≤ f 0 - 1) (f (13 + 9 * b + 2) ≠ 0)
  obtain ⟨z_10, z_11, ⟨mb_1, rb_1, z_12⟩, ⟨ms_1, rs_1, z_13⟩, z_14, z_15, z_16, z_17, z_18, z_19, z_110, z_111, z_112⟩ := id hZ
  obtain ⟨sa_1, sb_1, sc_1, sd_1, se_1, sf_1, sg_1⟩ := z_111
  obtain ⟨wb_1, cb_1, gb_1, heb_1, rcb_1, hgb_1⟩ := zL_rd z_17 z_10 (by omega)
  obtain ⟨ws_1, cs_1, gs_1, hes_1, rcs_1, hgs_1⟩ := zL_rd z_18 z_10 (by omega)
  obtain ⟨gm_1, ze_1⟩ := z_10
  refine js_aload_n 0 dX1_landsIn_0 rfl ?_
  refine js_iload_n 1 dX1_landsIn_1 rfl ?_
  refine vX1_267 (kc' := 0) (ks' := 0) rfl dX1_landsIn_2 hx (xc_landing hx hZ hI hT (by omega)) (Nat.le_of_ble_eq_true rfl) (by omega) (by omega) (Nat.le_of_ble_eq_true rfl) (fun v2 g2 q2 => ?_) (fun E2 g2 q2 => ?_)
  · obtain ⟨yfr, ⟨z1, t, th, pd, e2, yt, yth⟩ | ⟨z1, e2⟩ | ⟨z1, e2⟩⟩ := q2
    rotate_left
    · cases e2
    · cases e2
    cases e2
    have hb : 0 ≤ b ∧ b < f 0 := by omega
    obtain ⟨kk, ekk⟩ : ∃ kk : Nat, kk = zli f b := ⟨_, rfl⟩
    rw [← ekk] at yt yth
    have l60 : kk ≤ 60 := by rw [ekk]; exact zli_le f b
    obtain ⟨iK, e0, e1⟩ := zhrs_I hI kk (by omega)
    have hBK := zI_B iK hb.1 (by omega)
    have hBp := zIB_p hBK
    unfold zIB at hBK
    show js_ok ρ mX1_landsIn _ 12 0 0 5 [(0, .ref x), (1, .int (jI b))] [.ref t] g2
    refine gX1_257 rfl dX1_landsIn_5 yt rfl ?_
    exact js_iret rfl rfl dX1_landsIn_8 ⟨yfr, Or.inl ⟨z1, js_reti (by rw [ekk])⟩⟩
  · obtain ⟨yfr, ⟨_, _, _, _, e2, _⟩ | ⟨z1, e2⟩ | ⟨z1, e2⟩⟩ := q2
    · cases e2
    · cases e2; exact js_out rfl ⟨yfr, Or.inr (Or.inl ⟨z1, rfl⟩)⟩
    · cases e2; exact js_out rfl ⟨yfr, Or.inr (Or.inr ⟨z1, rfl⟩)⟩
theorem xq_landsAt {ρ : js_R} {h : js_H} {em : Nat} {T : Int} {P : Nat → Prop} {B : Nat → Nat} {Bb Bs : Int → Nat} {f : zF} {x : Nat} {u1 u2 u3 u4 u5 u6 u7 : Value} {b : Int} (hx : h x = some (js_ob true 0 [.ref (B 0), u1, u2, u3, u4, u5, u6, u7])) (hZ : zSt em T P B Bb Bs f h) {T2 : Int} (hI : zI T2 f) (hT : T2 + 1000 ≤ 1000000) (rb : -2147483648 ≤ b ∧ b < 2147483648) : js_Con ρ mX1_landsAt 12 4 23 [.ref x, .int (jI b)] h (zAns (zt2 (0 ≤ b ∧ b ≤ f 0 - 1) (f (13 + 9 * b + 2) ≠ 0)) (.int (jI (zaft f b (zli f b) 0))) "java/lang/IndexOutOfBoundsException" "java/util/NoSuchElementException" h) := by
  refine js_body [(0, .ref x), (1, .int (jI b))] rfl (by decide) (Nat.le_of_ble_eq_true rfl) rfl ?_
  have h01 := zI_01 hI
  have z0 := zt2_c (0 ≤ b ∧ b ≤ f 0 - 1) (f (13 + 9 * b + 2) ≠ 0)
  obtain ⟨z_10, z_11, ⟨mb_1, rb_1, z_12⟩, ⟨ms_1, rs_1, z_13⟩, z_14, z_15, z_16, z_17, z_18, z_19, z_110, z_111, z_112⟩ := id hZ
  obtain ⟨sa_1, sb_1, sc_1, sd_1, se_1, sf_1, sg_1⟩ := z_111
  obtain ⟨wb_1, cb_1, gb_1, heb_1, rcb_1, hgb_1⟩ := zL_rd z_17 z_10 (by omega)
  obtain ⟨ws_1, cs_1, gs_1, hes_1, rcs_1, hgs_1⟩ := zL_rd z_18 z_10 (by omega)
  obtain ⟨gm_1, ze_1⟩ := z_10
  refine js_aload_n 0 dX1_landsAt_0 rfl ?_
  refine js_iload_n 1 dX1_landsAt_1 rfl ?_
  refine vX1_267 (kc' := 0) (ks' := 0) rfl dX1_landsAt_2 hx (xc_landing hx hZ hI hT (by omega)) (Nat.le_of_ble_eq_true rfl) (by omega) (by omega) (Nat.le_of_ble_eq_true rfl) (fun v2 g2 q2 => ?_) (fun E2 g2 q2 => ?_)
  · obtain ⟨yfr, ⟨z1, t, th, pd, e2, yt, yth⟩ | ⟨z1, e2⟩ | ⟨z1, e2⟩⟩ := q2
    rotate_left
    · cases e2
    · cases e2
    cases e2
    have hb : 0 ≤ b ∧ b < f 0 := by omega
    obtain ⟨kk, ekk⟩ : ∃ kk : Nat, kk = zli f b := ⟨_, rfl⟩
    rw [← ekk] at yt yth
    have l60 : kk ≤ 60 := by rw [ekk]; exact zli_le f b
    obtain ⟨iK, e0, e1⟩ := zhrs_I hI kk (by omega)
    have hBK := zI_B iK hb.1 (by omega)
    have hBp := zIB_p hBK
    unfold zIB at hBK
    show js_ok ρ mX1_landsAt _ 12 0 0 5 [(0, .ref x), (1, .int (jI b))] [.ref t] g2
    refine gX1_250 rfl dX1_landsAt_5 yt rfl ?_
    refine gX1_209 rfl dX1_landsAt_8 yth rfl ?_
    exact js_iret rfl rfl dX1_landsAt_11 ⟨yfr, Or.inl ⟨z1, js_reti (by unfold zaft; rw [if_pos rfl, ekk]; rfl)⟩⟩
  · obtain ⟨yfr, ⟨_, _, _, _, e2, _⟩ | ⟨z1, e2⟩ | ⟨z1, e2⟩⟩ := q2
    · cases e2
    · cases e2; exact js_out rfl ⟨yfr, Or.inr (Or.inl ⟨z1, rfl⟩)⟩
    · cases e2; exact js_out rfl ⟨yfr, Or.inr (Or.inr ⟨z1, rfl⟩)⟩
