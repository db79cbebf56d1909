set_option maxRecDepth 100000
/-! sums over the balloons -/
theorem xc_ofX14 {ρ : js_R} {h : js_H} {o a : Nat} {b : Int} {f : zF} (ha : h a = some (js_ob true 4 [.int (jI (zpt f b)), .int (jI (f (13 + 9 * b + 2))), .int (jI (f (13 + 9 * b + 3))), .int (jI (f (13 + 9 * b + 4))), .int (jI (f (13 + 9 * b + 5))), .int (jI (f (13 + 9 * b + 6))), .int (jI (f (13 + 9 * b + 7))), .int (jI (f (13 + 9 * b + 8)))])) (rv : -2147483648 ≤ f (13 + 9 * b + 3) ∧ f (13 + 9 * b + 3) < 2147483648) : js_Con ρ mX14_of 0 0 0 [.ref o, .ref a] h (js_ret (some (.int (jI (f (13 + 9 * b + 3))))) h) := by
  refine js_body [(0, .ref o), (1, .ref a)] rfl (by decide) (Nat.le_of_ble_eq_true rfl) rfl ?_
  refine js_aload_n 1 dX14_of_0 rfl ?_
  refine gX14_13 rfl dX14_of_1 ha rfl ?_
  exact js_iret rfl rfl dX14_of_4 ⟨js_reti (by first | rfl | (rw [if_pos (by omega)]) | (rw [if_neg (by omega)])), rfl⟩
theorem xc_ofX15 {ρ : js_R} {h : js_H} {o a : Nat} {b : Int} {f : zF} (ha : h a = some (js_ob true 4 [.int (jI (zpt f b)), .int (jI (f (13 + 9 * b + 2))), .int (jI (f (13 + 9 * b + 3))), .int (jI (f (13 + 9 * b + 4))), .int (jI (f (13 + 9 * b + 5))), .int (jI (f (13 + 9 * b + 6))), .int (jI (f (13 + 9 * b + 7))), .int (jI (f (13 + 9 * b + 8)))])) (rv : -2147483648 ≤ f (13 + 9 * b + 8) ∧ f (13 + 9 * b + 8) < 2147483648) : js_Con ρ mX15_of 0 0 0 [.ref o, .ref a] h (js_ret (some (.int (jI ((if 0 < f (13 + 9 * b + 8) then 1 else 0))))) h) := by
  refine js_body [(0, .ref o), (1, .ref a)] rfl (by decide) (Nat.le_of_ble_eq_true rfl) rfl ?_
  refine js_aload_n 1 dX15_of_0 rfl ?_
  refine gX15_13 rfl dX15_of_1 ha rfl ?_
  refine js_if_le (tgt := 11) dX15_of_4 (by decide) (by omega) (fun c1 => ?_) (fun c1 => ?_)
  · refine js_iconst dX15_of_11 ?_
    exact js_iret rfl rfl dX15_of_12 ⟨js_reti (by first | rfl | (rw [if_pos (by omega)]) | (rw [if_neg (by omega)])), rfl⟩
  · refine js_iconst dX15_of_7 ?_
    refine js_goto (tgt := 12) dX15_of_8 (by decide) ?_
    exact js_iret rfl rfl dX15_of_12 ⟨js_reti (by first | rfl | (rw [if_pos (by omega)]) | (rw [if_neg (by omega)])), rfl⟩
theorem xc_ofX16 {ρ : js_R} {h : js_H} {o a : Nat} {b : Int} {f : zF} (ha : h a = some (js_ob true 4 [.int (jI (zpt f b)), .int (jI (f (13 + 9 * b + 2))), .int (jI (f (13 + 9 * b + 3))), .int (jI (f (13 + 9 * b + 4))), .int (jI (f (13 + 9 * b + 5))), .int (jI (f (13 + 9 * b + 6))), .int (jI (f (13 + 9 * b + 7))), .int (jI (f (13 + 9 * b + 8)))])) (rv : -2147483648 ≤ f (13 + 9 * b + 4) ∧ f (13 + 9 * b + 4) < 2147483648) : js_Con ρ mX16_of 0 0 0 [.ref o, .ref a] h (js_ret (some (.int (jI (f (13 + 9 * b + 4))))) h) := by
  refine js_body [(0, .ref o), (1, .ref a)] rfl (by decide) (Nat.le_of_ble_eq_true rfl) rfl ?_
  refine js_aload_n 1 dX16_of_0 rfl ?_
  refine gX16_13 rfl dX16_of_1 ha rfl ?_
  exact js_iret rfl rfl dX16_of_4 ⟨js_reti (by first | rfl | (rw [if_pos (by omega)]) | (rw [if_neg (by omega)])), rfl⟩
theorem xc_overX14 {ρ : js_R} {h : js_H} {em : Nat} {T : Int} {P : Nat → Prop} {B : Nat → Nat} {Bb Bs : Int → Nat} {f : zF} {o : Nat} {wo : Bool} {ov : Value} (ho : h o = some (js_ob wo 12 [ov])) (hZ : zSt em T P B Bb Bs f h) {T2 : Int} (hI : zI T2 f) (hT : T ≤ 1000000) : js_Con ρ mX13_over 3 1 4 [.ref o, .ref (B 1)] h (fun r h' => r = .inl (some (.int (jI (zall f 3 1 (f 0).toNat)))) ∧ zFr (fun _ => False) h h') := by
  refine js_body [(0, .ref o), (1, .ref (B 1))] rfl (by decide) (Nat.le_of_ble_eq_true rfl) rfl ?_
  have h01 := zI_01 hI
  obtain ⟨z_10, z_11, ⟨mb_1, rb_1, z_12⟩, ⟨ms_1, rs_1, z_13⟩, z_14, z_15, z_16, z_17, z_18, z_19, z_110, z_111, z_112⟩ := id hZ
  obtain ⟨sa_1, sb_1, sc_1, sd_1, se_1, sf_1, sg_1⟩ := z_111
  obtain ⟨wb_1, cb_1, gb_1, heb_1, rcb_1, hgb_1⟩ := zL_rd z_17 z_10 (by omega)
  obtain ⟨ws_1, cs_1, gs_1, hes_1, rcs_1, hgs_1⟩ := zL_rd z_18 z_10 (by omega)
  obtain ⟨gm_1, ze_1⟩ := z_10
  refine js_iconst dX13_over_0 ?_
  refine js_top (b := zall f 3 1 0) (by rfl) ?_
  refine js_istore_n (L' := [(2, .int (jI (zall f 3 1 0))), (0, .ref o), (1, .ref (B 1))]) dX13_over_1 (by decide) rfl ?_
  refine js_aload_n 2 dX13_over_2 rfl ?_
  refine vX13_7_J2 (kc' := 0) (ks' := 0) rfl dX13_over_3 z_12 (con_liter z_12 (by omega)) (Nat.le_of_ble_eq_true rfl) (by omega) (by omega) (Nat.le_of_ble_eq_true rfl) (fun v2 g2 q2 => ?_) (fun E2 g2 q2 => by obtain ⟨_, q2, _⟩ := q2; cases q2)
  obtain ⟨it2, e2, hf_it2, rfl⟩ := q2
  cases e2
  show js_ok ρ mX13_over _ 3 0 0 8 [(2, .int (jI (zall f 3 1 0))), (0, .ref o), (1, .ref (B 1))] [.ref it2] (js_up h it2 (js_ob true 19 [.int (jI 0), .int (jI (-1)), .int (jI mb_1), .ref (B 1)]))
  refine js_astore_n (L' := [(3, .ref it2), (2, .int (jI (zall f 3 1 0))), (0, .ref o), (1, .ref (B 1))]) dX13_over_8 (by decide) rfl ?_
  have zn_it : h it2 = none := hf_it2
  refine js_sub (L' := [(0, .ref o), (1, .ref (B 1)), (2, .int (jI (zall f 3 1 0))), (3, .ref it2)]) [2, 3, 1, 0] rfl ?_
  refine js_loop (σ := Nat × js_H) (fun s => ((s.1 : Nat) : Int) ≤ f 0 ∧ zFr (fun _ => False) h s.2 ∧ ∃ lr : Int, s.2 it2 = some (js_ob true 19 [.int (jI ((s.1 : Nat) : Int)), .int (jI lr), .int (jI mb_1), .ref (B 1)])) (fun s => (f 0).toNat - s.1) (fun s => 0) (fun s => 0) 9 (fun s => [(0, .ref o), (1, .ref (B 1)), (2, .int (jI (zall f 3 1 s.1))), (3, .ref it2)]) (fun s => []) (fun s => s.2) (fun s hk IHs => ?_) (0, (js_up h it2 (js_ob true 19 [.int (jI 0), .int (jI (-1)), .int (jI mb_1), .ref (B 1)]))) (⟨by omega, zFr_new zFr_refl hf_it2, _, js_up_s⟩)
  obtain ⟨k, g⟩ := s
  have hk : ((k : Nat) : Int) ≤ f 0 ∧ zFr (fun _ => False) h g ∧ ∃ lr : Int, g it2 = some (js_ob true 19 [.int (jI ((k : Nat) : Int)), .int (jI lr), .int (jI mb_1), .ref (B 1)]) := hk
  show js_ok ρ mX13_over _ 3 0 0 9 [(0, .ref o), (1, .ref (B 1)), (2, .int (jI (zall f 3 1 k))), (3, .ref it2)] [] g
  obtain ⟨yk, yfr, lr, yit⟩ := hk
  have z9g := fun b b1 b2 => yfr _ _ (fun z => z) (z_19 b b1 b2)
  refine js_aload_n 3 dX13_over_9 rfl ?_
  refine eX13_13_J12 rfl dX13_over_10 yit (con_ithas yit (yfr _ _ (fun z => z) z_12) (by omega) (yfr _ _ (fun z => z) heb_1) (by omega) (by omega) (by omega)) (Nat.le_of_ble_eq_true rfl) (Nat.le_of_ble_eq_true rfl) ?_
  refine js_if_eqB (tgt := 41) dX13_over_15 (by decide) (fun c3 => ?_) (fun c3 => ?_)
  · refine js_iload_n 2 dX13_over_41 rfl ?_
    exact js_iret rfl rfl dX13_over_42 ⟨by rw [show (f 0).toNat = k by omega], yfr⟩
  · refine js_aload_n 3 dX13_over_18 rfl ?_
    refine eX13_19_J12 rfl dX13_over_19 yit (con_itnext yit (yfr _ _ (fun z => z) z_12) (by omega) (yfr _ _ (fun z => z) heb_1) (by omega) (by omega) (by omega) (by omega)) (Nat.le_of_ble_eq_true rfl) (Nat.le_of_ble_eq_true rfl) ?_
    show js_ok ρ mX13_over _ 3 0 0 24 [(0, .ref o), (1, .ref (B 1)), (2, .int (jI (zall f 3 1 k))), (3, .ref it2)] [va_rf (gb_1 (((k : Nat) : Int)))] (js_up g it2 (js_ob true 19 [.int (jI ((((k : Nat) : Int)) + 1)), .int (jI (((k : Nat) : Int))), .int (jI mb_1), .ref (B 1)]))
    rw [show gb_1 (((k : Nat) : Int)) = some (Bb (((k : Nat) : Int))) from hgb_1 _ (by omega) (by omega)]
    show js_ok ρ mX13_over _ 3 0 0 24 [(0, .ref o), (1, .ref (B 1)), (2, .int (jI (zall f 3 1 k))), (3, .ref it2)] [.ref (Bb (((k : Nat) : Int)))] (js_up g it2 (js_ob true 19 [.int (jI ((((k : Nat) : Int)) + 1)), .int (jI (((k : Nat) : Int))), .int (jI mb_1), .ref (B 1)]))
    refine js_castS (r := (RX5, TX5, 8)) rfl q2117 dX13_over_24 ((js_up_n (js_nek (z9g (((k : Nat) : Int)) (by omega) (by omega)) yit (js_kOO (by decide)))).trans (z9g (((k : Nat) : Int)) (by omega) (by omega))) ?_
    refine js_astore (L' := [(4, .ref (Bb (((k : Nat) : Int)))), (0, .ref o), (1, .ref (B 1)), (2, .int (jI (zall f 3 1 k))), (3, .ref it2)]) dX13_over_27 (by decide) rfl ?_
    refine js_iload_n 3 dX13_over_29 rfl ?_
    refine js_aload_n 1 dX13_over_30 rfl ?_
    refine js_aload 0 dX13_over_31 rfl ?_
    have hB := zI_B hI (b := (((k : Nat) : Int))) (by omega) (by omega)
    unfold zIB at hB
    refine eX13_25_X14 rfl dX13_over_33 ((js_up_n (js_nek (yfr _ _ (fun z => z) ho) yit (js_kOO (by decide)))).trans (yfr _ _ (fun z => z) ho)) (xc_ofX14 ((js_up_n (js_nek (z9g (((k : Nat) : Int)) (by omega) (by omega)) yit (js_kOO (by decide)))).trans (z9g (((k : Nat) : Int)) (by omega) (by omega))) (by omega)) (Nat.le_of_ble_eq_true rfl) (Nat.le_of_ble_eq_true rfl) ?_
    refine js_iadd dX13_over_36 ?_
    refine js_top (b := zall f 3 1 (k + 1)) (by show _ = zall f 3 1 k + (if (1 : Int) = 0 then (if 0 < f (13 + 9 * (k : Int) + 3) then 1 else 0) else f (13 + 9 * (k : Int) + 3)); rw [if_neg (by decide)]) ?_
    refine js_istore_n (L' := [(2, .int (jI (zall f 3 1 (k + 1)))), (4, .ref (Bb (((k : Nat) : Int)))), (0, .ref o), (1, .ref (B 1)), (3, .ref it2)]) dX13_over_37 (by decide) rfl ?_
    refine js_goto (tgt := 9) dX13_over_38 (by decide) ?_
    refine js_sub (L' := [(0, .ref o), (1, .ref (B 1)), (2, .int (jI (zall f 3 1 (k + 1)))), (3, .ref it2)]) [2, 3, 0, 4] rfl ?_
    exact IHs ((k + 1), (js_up g it2 (js_ob true 19 [.int (jI ((((k : Nat) : Int)) + 1)), .int (jI (((k : Nat) : Int))), .int (jI mb_1), .ref (B 1)]))) (show ((((k + 1)) : Nat) : Int) ≤ f 0 ∧ zFr (fun _ => False) h ((js_up g it2 (js_ob true 19 [.int (jI ((((k : Nat) : Int)) + 1)), .int (jI (((k : Nat) : Int))), .int (jI mb_1), .ref (B 1)]))) ∧ ∃ lr : Int, ((js_up g it2 (js_ob true 19 [.int (jI ((((k : Nat) : Int)) + 1)), .int (jI (((k : Nat) : Int))), .int (jI mb_1), .ref (B 1)]))) it2 = some (js_ob true 19 [.int (jI ((((k + 1)) : Nat) : Int)), .int (jI lr), .int (jI mb_1), .ref (B 1)]) from ⟨by omega, zFr_upN yfr zn_it, _, js_up_s⟩) (show (f 0).toNat - ((k + 1)) < (f 0).toNat - k by omega)
theorem xc_overX15 {ρ : js_R} {h : js_H} {em : Nat} {T : Int} {P : Nat → Prop} {B : Nat → Nat} {Bb Bs : Int → Nat} {f : zF} {o : Nat} {wo : Bool} {ov : Value} (ho : h o = some (js_ob wo 13 [ov])) (hZ : zSt em T P B Bb Bs f h) {T2 : Int} (hI : zI T2 f) (hT : T ≤ 1000000) : js_Con ρ mX13_over 3 1 4 [.ref o, .ref (B 1)] h (fun r h' => r = .inl (some (.int (jI (zall f 8 0 (f 0).toNat)))) ∧ zFr (fun _ => False) h h') := by
  refine js_body [(0, .ref o), (1, .ref (B 1))] rfl (by decide) (Nat.le_of_ble_eq_true rfl) rfl ?_
  have h01 := zI_01 hI
  obtain ⟨z_10, z_11, ⟨mb_1, rb_1, z_12⟩, ⟨ms_1, rs_1, z_13⟩, z_14, z_15, z_16, z_17, z_18, z_19, z_110, z_111, z_112⟩ := id hZ
  obtain ⟨sa_1, sb_1, sc_1, sd_1, se_1, sf_1, sg_1⟩ := z_111
  obtain ⟨wb_1, cb_1, gb_1, heb_1, rcb_1, hgb_1⟩ := zL_rd z_17 z_10 (by omega)
  obtain ⟨ws_1, cs_1, gs_1, hes_1, rcs_1, hgs_1⟩ := zL_rd z_18 z_10 (by omega)
  obtain ⟨gm_1, ze_1⟩ := z_10
  refine js_iconst dX13_over_0 ?_
  refine js_top (b := zall f 8 0 0) (by rfl) ?_
  refine js_istore_n (L' := [(2, .int (jI (zall f 8 0 0))), (0, .ref o), (1, .ref (B 1))]) dX13_over_1 (by decide) rfl ?_
  refine js_aload_n 2 dX13_over_2 rfl ?_
  refine vX13_7_J2 (kc' := 0) (ks' := 0) rfl dX13_over_3 z_12 (con_liter z_12 (by omega)) (Nat.le_of_ble_eq_true rfl) (by omega) (by omega) (Nat.le_of_ble_eq_true rfl) (fun v2 g2 q2 => ?_) (fun E2 g2 q2 => by obtain ⟨_, q2, _⟩ := q2; cases q2)
  obtain ⟨it2, e2, hf_it2, rfl⟩ := q2
  cases e2
  show js_ok ρ mX13_over _ 3 0 0 8 [(2, .int (jI (zall f 8 0 0))), (0, .ref o), (1, .ref (B 1))] [.ref it2] (js_up h it2 (js_ob true 19 [.int (jI 0), .int (jI (-1)), .int (jI mb_1), .ref (B 1)]))
  refine js_astore_n (L' := [(3, .ref it2), (2, .int (jI (zall f 8 0 0))), (0, .ref o), (1, .ref (B 1))]) dX13_over_8 (by decide) rfl ?_
  have zn_it : h it2 = none := hf_it2
  refine js_sub (L' := [(0, .ref o), (1, .ref (B 1)), (2, .int (jI (zall f 8 0 0))), (3, .ref it2)]) [2, 3, 1, 0] rfl ?_
  refine js_loop (σ := Nat × js_H) (fun s => ((s.1 : Nat) : Int) ≤ f 0 ∧ zFr (fun _ => False) h s.2 ∧ ∃ lr : Int, s.2 it2 = some (js_ob true 19 [.int (jI ((s.1 : Nat) : Int)), .int (jI lr), .int (jI mb_1), .ref (B 1)])) (fun s => (f 0).toNat - s.1) (fun s => 0) (fun s => 0) 9 (fun s => [(0, .ref o), (1, .ref (B 1)), (2, .int (jI (zall f 8 0 s.1))), (3, .ref it2)]) (fun s => []) (fun s => s.2) (fun s hk IHs => ?_) (0, (js_up h it2 (js_ob true 19 [.int (jI 0), .int (jI (-1)), .int (jI mb_1), .ref (B 1)]))) (⟨by omega, zFr_new zFr_refl hf_it2, _, js_up_s⟩)
  obtain ⟨k, g⟩ := s
  have hk : ((k : Nat) : Int) ≤ f 0 ∧ zFr (fun _ => False) h g ∧ ∃ lr : Int, g it2 = some (js_ob true 19 [.int (jI ((k : Nat) : Int)), .int (jI lr), .int (jI mb_1), .ref (B 1)]) := hk
  show js_ok ρ mX13_over _ 3 0 0 9 [(0, .ref o), (1, .ref (B 1)), (2, .int (jI (zall f 8 0 k))), (3, .ref it2)] [] g
  obtain ⟨yk, yfr, lr, yit⟩ := hk
  have z9g := fun b b1 b2 => yfr _ _ (fun z => z) (z_19 b b1 b2)
  refine js_aload_n 3 dX13_over_9 rfl ?_
  refine eX13_13_J12 rfl dX13_over_10 yit (con_ithas yit (yfr _ _ (fun z => z) z_12) (by omega) (yfr _ _ (fun z => z) heb_1) (by omega) (by omega) (by omega)) (Nat.le_of_ble_eq_true rfl) (Nat.le_of_ble_eq_true rfl) ?_
  refine js_if_eqB (tgt := 41) dX13_over_15 (by decide) (fun c3 => ?_) (fun c3 => ?_)
  · refine js_iload_n 2 dX13_over_41 rfl ?_
    exact js_iret rfl rfl dX13_over_42 ⟨by rw [show (f 0).toNat = k by omega], yfr⟩
  · refine js_aload_n 3 dX13_over_18 rfl ?_
    refine eX13_19_J12 rfl dX13_over_19 yit (con_itnext yit (yfr _ _ (fun z => z) z_12) (by omega) (yfr _ _ (fun z => z) heb_1) (by omega) (by omega) (by omega) (by omega)) (Nat.le_of_ble_eq_true rfl) (Nat.le_of_ble_eq_true rfl) ?_
    show js_ok ρ mX13_over _ 3 0 0 24 [(0, .ref o), (1, .ref (B 1)), (2, .int (jI (zall f 8 0 k))), (3, .ref it2)] [va_rf (gb_1 (((k : Nat) : Int)))] (js_up g it2 (js_ob true 19 [.int (jI ((((k : Nat) : Int)) + 1)), .int (jI (((k : Nat) : Int))), .int (jI mb_1), .ref (B 1)]))
    rw [show gb_1 (((k : Nat) : Int)) = some (Bb (((k : Nat) : Int))) from hgb_1 _ (by omega) (by omega)]
    show js_ok ρ mX13_over _ 3 0 0 24 [(0, .ref o), (1, .ref (B 1)), (2, .int (jI (zall f 8 0 k))), (3, .ref it2)] [.ref (Bb (((k : Nat) : Int)))] (js_up g it2 (js_ob true 19 [.int (jI ((((k : Nat) : Int)) + 1)), .int (jI (((k : Nat) : Int))), .int (jI mb_1), .ref (B 1)]))
    refine js_castS (r := (RX5, TX5, 8)) rfl q2117 dX13_over_24 ((js_up_n (js_nek (z9g (((k : Nat) : Int)) (by omega) (by omega)) yit (js_kOO (by decide)))).trans (z9g (((k : Nat) : Int)) (by omega) (by omega))) ?_
    refine js_astore (L' := [(4, .ref (Bb (((k : Nat) : Int)))), (0, .ref o), (1, .ref (B 1)), (2, .int (jI (zall f 8 0 k))), (3, .ref it2)]) dX13_over_27 (by decide) rfl ?_
    refine js_iload_n 3 dX13_over_29 rfl ?_
    refine js_aload_n 1 dX13_over_30 rfl ?_
    refine js_aload 0 dX13_over_31 rfl ?_
    have hB := zI_B hI (b := (((k : Nat) : Int))) (by omega) (by omega)
    unfold zIB at hB
    refine eX13_25_X15 rfl dX13_over_33 ((js_up_n (js_nek (yfr _ _ (fun z => z) ho) yit (js_kOO (by decide)))).trans (yfr _ _ (fun z => z) ho)) (xc_ofX15 ((js_up_n (js_nek (z9g (((k : Nat) : Int)) (by omega) (by omega)) yit (js_kOO (by decide)))).trans (z9g (((k : Nat) : Int)) (by omega) (by omega))) (by omega)) (Nat.le_of_ble_eq_true rfl) (Nat.le_of_ble_eq_true rfl) ?_
    refine js_iadd dX13_over_36 ?_
    refine js_top (b := zall f 8 0 (k + 1)) (by show _ = zall f 8 0 k + (if (0 : Int) = 0 then (if 0 < f (13 + 9 * (k : Int) + 8) then 1 else 0) else f (13 + 9 * (k : Int) + 8)); rw [if_pos rfl]) ?_
    refine js_istore_n (L' := [(2, .int (jI (zall f 8 0 (k + 1)))), (4, .ref (Bb (((k : Nat) : Int)))), (0, .ref o), (1, .ref (B 1)), (3, .ref it2)]) dX13_over_37 (by decide) rfl ?_
    refine js_goto (tgt := 9) dX13_over_38 (by decide) ?_
    refine js_sub (L' := [(0, .ref o), (1, .ref (B 1)), (2, .int (jI (zall f 8 0 (k + 1)))), (3, .ref it2)]) [2, 3, 0, 4] rfl ?_
    exact IHs ((k + 1), (js_up g it2 (js_ob true 19 [.int (jI ((((k : Nat) : Int)) + 1)), .int (jI (((k : Nat) : Int))), .int (jI mb_1), .ref (B 1)]))) (show ((((k + 1)) : Nat) : Int) ≤ f 0 ∧ zFr (fun _ => False) h ((js_up g it2 (js_ob true 19 [.int (jI ((((k : Nat) : Int)) + 1)), .int (jI (((k : Nat) : Int))), .int (jI mb_1), .ref (B 1)]))) ∧ ∃ lr : Int, ((js_up g it2 (js_ob true 19 [.int (jI ((((k : Nat) : Int)) + 1)), .int (jI (((k : Nat) : Int))), .int (jI mb_1), .ref (B 1)]))) it2 = some (js_ob true 19 [.int (jI ((((k + 1)) : Nat) : Int)), .int (jI lr), .int (jI mb_1), .ref (B 1)]) from ⟨by omega, zFr_upN yfr zn_it, _, js_up_s⟩) (show (f 0).toNat - ((k + 1)) < (f 0).toNat - k by omega)
theorem xc_overX16 {ρ : js_R} {h : js_H} {em : Nat} {T : Int} {P : Nat → Prop} {B : Nat → Nat} {Bb Bs : Int → Nat} {f : zF} {o : Nat} {wo : Bool} {ov : Value} (ho : h o = some (js_ob wo 14 [ov])) (hZ : zSt em T P B Bb Bs f h) {T2 : Int} (hI : zI T2 f) (hT : T ≤ 1000000) : js_Con ρ mX13_over 3 1 4 [.ref o, .ref (B 1)] h (fun r h' => r = .inl (some (.int (jI (zall f 4 1 (f 0).toNat)))) ∧ zFr (fun _ => False) h h') := by
  refine js_body [(0, .ref o), (1, .ref (B 1))] rfl (by decide) (Nat.le_of_ble_eq_true rfl) rfl ?_
  have h01 := zI_01 hI
  obtain ⟨z_10, z_11, ⟨mb_1, rb_1, z_12⟩, ⟨ms_1, rs_1, z_13⟩, z_14, z_15, z_16, z_17, z_18, z_19, z_110, z_111, z_112⟩ := id hZ
  obtain ⟨sa_1, sb_1, sc_1, sd_1, se_1, sf_1, sg_1⟩ := z_111
  obtain ⟨wb_1, cb_1, gb_1, heb_1, rcb_1, hgb_1⟩ := zL_rd z_17 z_10 (by omega)
  obtain ⟨ws_1, cs_1, gs_1, hes_1, rcs_1, hgs_1⟩ := zL_rd z_18 z_10 (by omega)
  obtain ⟨gm_1, ze_1⟩ := z_10
  refine js_iconst dX13_over_0 ?_
  refine js_top (b := zall f 4 1 0) (by rfl) ?_
  refine js_istore_n (L' := [(2, .int (jI (zall f 4 1 0))), (0, .ref o), (1, .ref (B 1))]) dX13_over_1 (by decide) rfl ?_
  refine js_aload_n 2 dX13_over_2 rfl ?_
  refine vX13_7_J2 (kc' := 0) (ks' := 0) rfl dX13_over_3 z_12 (con_liter z_12 (by omega)) (Nat.le_of_ble_eq_true rfl) (by omega) (by omega) (Nat.le_of_ble_eq_true rfl) (fun v2 g2 q2 => ?_) (fun E2 g2 q2 => by obtain ⟨_, q2, _⟩ := q2; cases q2)
  obtain ⟨it2, e2, hf_it2, rfl⟩ := q2
  cases e2
  show js_ok ρ mX13_over _ 3 0 0 8 [(2, .int (jI (zall f 4 1 0))), (0, .ref o), (1, .ref (B 1))] [.ref it2] (js_up h it2 (js_ob true 19 [.int (jI 0), .int (jI (-1)), .int (jI mb_1), .ref (B 1)]))
  refine js_astore_n (L' := [(3, .ref it2), (2, .int (jI (zall f 4 1 0))), (0, .ref o), (1, .ref (B 1))]) dX13_over_8 (by decide) rfl ?_
  have zn_it : h it2 = none := hf_it2
  refine js_sub (L' := [(0, .ref o), (1, .ref (B 1)), (2, .int (jI (zall f 4 1 0))), (3, .ref it2)]) [2, 3, 1, 0] rfl ?_
  refine js_loop (σ := Nat × js_H) (fun s => ((s.1 : Nat) : Int) ≤ f 0 ∧ zFr (fun _ => False) h s.2 ∧ ∃ lr : Int, s.2 it2 = some (js_ob true 19 [.int (jI ((s.1 : Nat) : Int)), .int (jI lr), .int (jI mb_1), .ref (B 1)])) (fun s => (f 0).toNat - s.1) (fun s => 0) (fun s => 0) 9 (fun s => [(0, .ref o), (1, .ref (B 1)), (2, .int (jI (zall f 4 1 s.1))), (3, .ref it2)]) (fun s => []) (fun s => s.2) (fun s hk IHs => ?_) (0, (js_up h it2 (js_ob true 19 [.int (jI 0), .int (jI (-1)), .int (jI mb_1), .ref (B 1)]))) (⟨by omega, zFr_new zFr_refl hf_it2, _, js_up_s⟩)
  obtain ⟨k, g⟩ := s
  have hk : ((k : Nat) : Int) ≤ f 0 ∧ zFr (fun _ => False) h g ∧ ∃ lr : Int, g it2 = some (js_ob true 19 [.int (jI ((k : Nat) : Int)), .int (jI lr), .int (jI mb_1), .ref (B 1)]) := hk
  show js_ok ρ mX13_over _ 3 0 0 9 [(0, .ref o), (1, .ref (B 1)), (2, .int (jI (zall f 4 1 k))), (3, .ref it2)] [] g
  obtain ⟨yk, yfr, lr, yit⟩ := hk
  have z9g := fun b b1 b2 => yfr _ _ (fun z => z) (z_19 b b1 b2)
  refine js_aload_n 3 dX13_over_9 rfl ?_
  refine eX13_13_J12 rfl dX13_over_10 yit (con_ithas yit (yfr _ _ (fun z => z) z_12) (by omega) (yfr _ _ (fun z => z) heb_1) (by omega) (by omega) (by omega)) (Nat.le_of_ble_eq_true rfl) (Nat.le_of_ble_eq_true rfl) ?_
  refine js_if_eqB (tgt := 41) dX13_over_15 (by decide) (fun c3 => ?_) (fun c3 => ?_)
  · refine js_iload_n 2 dX13_over_41 rfl ?_
    exact js_iret rfl rfl dX13_over_42 ⟨by rw [show (f 0).toNat = k by omega], yfr⟩
  · refine js_aload_n 3 dX13_over_18 rfl ?_
    refine eX13_19_J12 rfl dX13_over_19 yit (con_itnext yit (yfr _ _ (fun z => z) z_12) (by omega) (yfr _ _ (fun z => z) heb_1) (by omega) (by omega) (by omega) (by omega)) (Nat.le_of_ble_eq_true rfl) (Nat.le_of_ble_eq_true rfl) ?_
    show js_ok ρ mX13_over _ 3 0 0 24 [(0, .ref o), (1, .ref (B 1)), (2, .int (jI (zall f 4 1 k))), (3, .ref it2)] [va_rf (gb_1 (((k : Nat) : Int)))] (js_up g it2 (js_ob true 19 [.int (jI ((((k : Nat) : Int)) + 1)), .int (jI (((k : Nat) : Int))), .int (jI mb_1), .ref (B 1)]))
    rw [show gb_1 (((k : Nat) : Int)) = some (Bb (((k : Nat) : Int))) from hgb_1 _ (by omega) (by omega)]
    show js_ok ρ mX13_over _ 3 0 0 24 [(0, .ref o), (1, .ref (B 1)), (2, .int (jI (zall f 4 1 k))), (3, .ref it2)] [.ref (Bb (((k : Nat) : Int)))] (js_up g it2 (js_ob true 19 [.int (jI ((((k : Nat) : Int)) + 1)), .int (jI (((k : Nat) : Int))), .int (jI mb_1), .ref (B 1)]))
    refine js_castS (r := (RX5, TX5, 8)) rfl q2117 dX13_over_24 ((js_up_n (js_nek (z9g (((k : Nat) : Int)) (by omega) (by omega)) yit (js_kOO (by decide)))).trans (z9g (((k : Nat) : Int)) (by omega) (by omega))) ?_
    refine js_astore (L' := [(4, .ref (Bb (((k : Nat) : Int)))), (0, .ref o), (1, .ref (B 1)), (2, .int (jI (zall f 4 1 k))), (3, .ref it2)]) dX13_over_27 (by decide) rfl ?_
    refine js_iload_n 3 dX13_over_29 rfl ?_
    refine js_aload_n 1 dX13_over_30 rfl ?_
    refine js_aload 0 dX13_over_31 rfl ?_
    have hB := zI_B hI (b := (((k : Nat) : Int))) (by omega) (by omega)
    unfold zIB at hB
    refine eX13_25_X16 rfl dX13_over_33 ((js_up_n (js_nek (yfr _ _ (fun z => z) ho) yit (js_kOO (by decide)))).trans (yfr _ _ (fun z => z) ho)) (xc_ofX16 ((js_up_n (js_nek (z9g (((k : Nat) : Int)) (by omega) (by omega)) yit (js_kOO (by decide)))).trans (z9g (((k : Nat) : Int)) (by omega) (by omega))) (by omega)) (Nat.le_of_ble_eq_true rfl) (Nat.le_of_ble_eq_true rfl) ?_
    refine js_iadd dX13_over_36 ?_
    refine js_top (b := zall f 4 1 (k + 1)) (by show _ = zall f 4 1 k + (if (1 : Int) = 0 then (if 0 < f (13 + 9 * (k : Int) + 4) then 1 else 0) else f (13 + 9 * (k : Int) + 4)); rw [if_neg (by decide)]) ?_
    refine js_istore_n (L' := [(2, .int (jI (zall f 4 1 (k + 1)))), (4, .ref (Bb (((k : Nat) : Int)))), (0, .ref o), (1, .ref (B 1)), (3, .ref it2)]) dX13_over_37 (by decide) rfl ?_
    refine js_goto (tgt := 9) dX13_over_38 (by decide) ?_
    refine js_sub (L' := [(0, .ref o), (1, .ref (B 1)), (2, .int (jI (zall f 4 1 (k + 1)))), (3, .ref it2)]) [2, 3, 0, 4] rfl ?_
    exact IHs ((k + 1), (js_up g it2 (js_ob true 19 [.int (jI ((((k : Nat) : Int)) + 1)), .int (jI (((k : Nat) : Int))), .int (jI mb_1), .ref (B 1)]))) (show ((((k + 1)) : Nat) : Int) ≤ f 0 ∧ zFr (fun _ => False) h ((js_up g it2 (js_ob true 19 [.int (jI ((((k : Nat) : Int)) + 1)), .int (jI (((k : Nat) : Int))), .int (jI mb_1), .ref (B 1)]))) ∧ ∃ lr : Int, ((js_up g it2 (js_ob true 19 [.int (jI ((((k : Nat) : Int)) + 1)), .int (jI (((k : Nat) : Int))), .int (jI mb_1), .ref (B 1)]))) it2 = some (js_ob true 19 [.int (jI ((((k + 1)) : Nat) : Int)), .int (jI lr), .int (jI mb_1), .ref (B 1)]) from ⟨by omega, zFr_upN yfr zn_it, _, js_up_s⟩) (show (f 0).toNat - ((k + 1)) < (f 0).toNat - k by omega)
