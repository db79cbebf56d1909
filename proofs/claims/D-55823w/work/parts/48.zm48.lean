set_option maxRecDepth 100000
/-! State.flying, isBalloon; lists that grow; a new state -/
theorem zall_nx {T : Int} {f : zF} {a i : Int} (hI : zI T f) (ha : 0 ≤ a ∧ a < f 0) (h3 : 0 < f (13 + 9 * a + 2)) (hi : zFm f (a + 1) i) : zall f 2 0 i.toNat = zall f 2 0 a.toNat + 1 ∧ (i < f 0 → 0 < f (13 + 9 * i + 2)) := by
  obtain ⟨m1, m2, m3, m4⟩ := hi
  have es : zall f 2 0 (a.toNat + 1) = zall f 2 0 a.toNat + 1 := by
    show zall f 2 0 a.toNat + (if (0 : Int) = 0 then (if 0 < f (13 + 9 * (a.toNat : Int) + 2) then 1 else 0) else f (13 + 9 * (a.toNat : Int) + 2)) = _
    rw [show ((a.toNat : Nat) : Int) = a by omega, if_pos rfl, if_pos h3]
  have ei : i.toNat = (a.toNat + 1) + (i.toNat - (a.toNat + 1)) := by omega
  have sk := zall_sk (f := f) (a := a.toNat + 1) (i.toNat - (a.toNat + 1)) (fun k k1 k2 => m3 k (by omega) (by omega))
  rw [← ei] at sk
  exact ⟨sk.trans es, m4⟩
theorem zall_0 {f : zF} {i : Int} (hi : zFm f 0 i) : zall f 2 0 i.toNat = 0 := by
  have := zall_sk (f := f) (a := 0) i.toNat (fun k k1 k2 => hi.2.2.1 k (by omega) (by omega))
  rw [Nat.zero_add] at this
  exact this
theorem zc_flying {ρ : js_R} {h : js_H} {em : Nat} {T : Int} {P : Nat → Prop} {B : Nat → Nat} {Bb Bs : Int → Nat} {f : zF} (hZ : zSt em T P B Bb Bs f h) {T2 : Int} (hI : zI T2 f) : js_Con ρ mX2_flying 7 2 3 [.ref (B 0)] h (zOk (some (.int (jI (zall f 2 0 (f 0).toNat)))) (fun _ => False) (zSt em T P B Bb Bs f) h) := by
  refine js_body [(0, .ref (B 0))] rfl (by decide) (Nat.le_of_ble_eq_true rfl) rfl ?_
  have h01 := zI_01 hI
  obtain ⟨i, hi⟩ := zFm_ex (f := f) 6 (j := 0) (Int.le_refl 0) (by omega) (by omega)
  obtain ⟨z_10, z_11, ⟨mb_1, rb_1, z_12⟩, ⟨ms_1, rs_1, z_13⟩, z_14, z_15, z_16, z_17, z_18, z_19, z_110, z_111, z_112⟩ := id hZ
  obtain ⟨sa_1, sb_1, sc_1, sd_1, se_1, sf_1, sg_1⟩ := z_111
  obtain ⟨wb_1, cb_1, gb_1, heb_1, rcb_1, hgb_1⟩ := zL_rd z_17 z_10 (by omega)
  obtain ⟨ws_1, cs_1, gs_1, hes_1, rcs_1, hgs_1⟩ := zL_rd z_18 z_10 (by omega)
  obtain ⟨gm_1, ze_1⟩ := z_10
  refine js_iconst dX2_flying_0 ?_
  refine js_top (b := zall f 2 0 i.toNat) (by rw [zall_0 hi]) ?_
  refine js_istore_n (L' := [(1, .int (jI (zall f 2 0 i.toNat))), (0, .ref (B 0))]) dX2_flying_1 (by decide) rfl ?_
  refine nX2_80 (kc' := 1) (ks' := 2) rfl dX2_flying_2 (by omega) (by omega) (fun a2 hf_a2 hB_a2 => ?_)
  refine js_dup dX2_flying_5 rfl ?_
  refine js_aload_n 1 dX2_flying_6 rfl ?_
  refine eX2_82 rfl dX2_flying_7 (con_finit js_up_s) (Nat.le_of_ble_eq_true rfl) (Nat.le_of_ble_eq_true rfl) ?_
  rw [js_up_up]
  show js_ok ρ mX2_flying _ 7 1 2 10 [(1, .int (jI (zall f 2 0 i.toNat))), (0, .ref (B 0))] [.ref a2] (js_up h a2 (js_ob true 6 [.ref (B 0)]))
  refine vX2_85 (kc' := 0) (ks' := 0) rfl dX2_flying_10 js_up_s (con_fiter (zSt_upO hZ (zSt_dom hZ hf_a2) (fun z => by rw [z, ze_1] at hf_a2; cases hf_a2)) hI js_up_s hi) (Nat.le_of_ble_eq_true rfl) (by omega) (by omega) (Nat.le_of_ble_eq_true rfl) (fun v3 g3 q3 => ?_) (fun E3 g3 q3 => by obtain ⟨_, q3, _⟩ := q3; cases q3)
  obtain ⟨it, e3, hf_it, rfl⟩ := q3
  cases e3
  show js_ok ρ mX2_flying _ 7 0 0 13 [(1, .int (jI (zall f 2 0 i.toNat))), (0, .ref (B 0))] [.ref it] (js_up (js_up h a2 (js_ob true 6 [.ref (B 0)])) it (js_ob true 7 [.int (jI i), .ref a2]))
  refine js_astore_n (L' := [(2, .ref it), (1, .int (jI (zall f 2 0 i.toNat))), (0, .ref (B 0))]) dX2_flying_13 (by decide) rfl ?_
  have nf := zSt_new2 hZ hf_a2
  have nt := zSt_new2 hZ (zup_none hf_it)
  refine js_sub (L' := [(0, .ref (B 0)), (1, .int (jI (zall f 2 0 i.toNat))), (2, .ref it)]) [2, 1, 0] rfl ?_
  refine js_loop (σ := Int × js_H) (fun s => (0 ≤ s.1 ∧ s.1 ≤ f 0) ∧ (s.1 < f 0 → 0 < f (13 + 9 * s.1 + 2)) ∧ zSt em T P B Bb Bs (f) s.2 ∧ s.2 it = some (js_ob true 7 [.int (jI s.1), .ref a2]) ∧ s.2 a2 = some (js_ob true 6 [.ref (B 0)]) ∧ zFr (fun _ => False) h s.2) (fun s => (f 0 - s.1).toNat) (fun s => 0) (fun s => 0) 14 (fun s => [(0, .ref (B 0)), (1, .int (jI (zall f 2 0 s.1.toNat))), (2, .ref it)]) (fun s => []) (fun s => s.2) (fun s hk IHs => ?_) (i, (js_up (js_up h a2 (js_ob true 6 [.ref (B 0)])) it (js_ob true 7 [.int (jI i), .ref a2]))) (⟨⟨hi.1, hi.2.1⟩, fun z => by rw []; exact hi.2.2.2 z, (by rw []; exact zSt_upO (zSt_upO hZ nf.1 nf.2) nt.1 nt.2), js_up_s, ((js_up_n (js_nef js_up_s hf_it)).trans js_up_s), zFr_upN (zFr_upN zFr_refl hf_a2) (zup_none hf_it)⟩)
  obtain ⟨a, g⟩ := s
  have hk : (0 ≤ a ∧ a ≤ f 0) ∧ (a < f 0 → 0 < f (13 + 9 * a + 2)) ∧ zSt em T P B Bb Bs (f) g ∧ g it = some (js_ob true 7 [.int (jI a), .ref a2]) ∧ g a2 = some (js_ob true 6 [.ref (B 0)]) ∧ zFr (fun _ => False) h g := hk
  show js_ok ρ mX2_flying _ 7 0 0 14 [(0, .ref (B 0)), (1, .int (jI (zall f 2 0 a.toNat))), (2, .ref it)] [] g
  obtain ⟨ha, h3, yZ, yit, yfl, yfr⟩ := hk
  have iK := hI
  obtain ⟨i2, hi2⟩ : ∃ i2 : Int, a < f 0 → zFm f (a + 1) i2 := by
    by_cases q : a < f 0
    · obtain ⟨i2, k⟩ := zFm_ex (f := f) 6 (j := a + 1) (by omega) (by omega) (by omega)
      exact ⟨i2, fun _ => k⟩
    · exact ⟨0, fun z => absurd z q⟩
  have zr := zmany_r (f := f) (w := 2) a.toNat
  obtain ⟨z_40, z_41, ⟨mb_4, rb_4, z_42⟩, ⟨ms_4, rs_4, z_43⟩, z_44, z_45, z_46, z_47, z_48, z_49, z_410, z_411, z_412⟩ := id yZ
  obtain ⟨sa_4, sb_4, sc_4, sd_4, se_4, sf_4, sg_4⟩ := z_411
  obtain ⟨wb_4, cb_4, gb_4, heb_4, rcb_4, hgb_4⟩ := zL_rd z_47 z_40 (by omega)
  obtain ⟨ws_4, cs_4, gs_4, hes_4, rcs_4, hgs_4⟩ := zL_rd z_48 z_40 (by omega)
  obtain ⟨gm_4, ze_4⟩ := z_40
  refine js_aload_n 2 dX2_flying_14 rfl ?_
  refine eX2_36_X8 rfl dX2_flying_15 yit (con_fithas yZ iK yfl yit (by omega)) (Nat.le_of_ble_eq_true rfl) (Nat.le_of_ble_eq_true rfl) ?_
  refine js_if_eqB (tgt := 51) dX2_flying_20 (by decide) (fun c5 => ?_) (fun c5 => ?_)
  · refine js_iload_n 1 dX2_flying_51 rfl ?_
    exact js_iret rfl rfl dX2_flying_52 ⟨by rw [show a = f 0 by omega], yZ, yfr⟩
  · refine js_aload_n 2 dX2_flying_23 rfl ?_
    have haf : a < f 0 := by omega
    have hB := zI_B iK ha.1 (by omega)
    have hB' := hB
    unfold zIB at hB'
    have h3' := h3 haf
    refine eX2_42_X8 rfl dX2_flying_24 yit (con_fnx yZ iK yfl yit (by omega) nt.1 (hi2 haf)) (Nat.le_of_ble_eq_true rfl) (Nat.le_of_ble_eq_true rfl) ?_
    show js_ok ρ mX2_flying _ 7 0 0 29 [(0, .ref (B 0)), (1, .int (jI (zall f 2 0 a.toNat))), (2, .ref it)] [.ref (Bb a)] (js_up g it (js_ob true 7 [.int (jI i2), .ref a2]))
    refine js_castS (r := (RX5, TX5, 8)) rfl q1018 dX2_flying_29 ((js_up_n (js_nek (z_49 a ha.1 (by omega)) yit (js_kOO (by decide)))).trans (z_49 a ha.1 (by omega))) ?_
    refine js_astore_n (L' := [(3, .ref (Bb a)), (0, .ref (B 0)), (1, .int (jI (zall f 2 0 a.toNat))), (2, .ref it)]) dX2_flying_32 (by decide) rfl ?_
    refine js_iload_n 2 dX2_flying_33 rfl ?_
    refine js_aload_n 0 dX2_flying_34 rfl ?_
    refine eX2_86 rfl dX2_flying_35 ((js_up_n (js_nek (z_49 a ha.1 (by omega)) yit (js_kOO (by decide)))).trans (z_49 a ha.1 (by omega))) (con_flies ((js_up_n (js_nek (z_49 a ha.1 (by omega)) yit (js_kOO (by decide)))).trans (z_49 a ha.1 (by omega))) (by omega)) (Nat.le_of_ble_eq_true rfl) (Nat.le_of_ble_eq_true rfl) ?_
    refine js_if_eqB (tgt := 45) dX2_flying_38 (by decide) (fun c6 => ?_) (fun c6 => ?_)
    · exfalso; omega
    · obtain ⟨ei2, p3⟩ := zall_nx hI ⟨ha.1, haf⟩ h3' (hi2 haf)
      have j3 := (hi2 haf)
      obtain ⟨m1, m2, m3, m4⟩ := j3
      refine js_iconst dX2_flying_41 ?_
      refine js_goto (tgt := 46) dX2_flying_42 (by decide) ?_
      refine js_iadd dX2_flying_46 ?_
      refine js_top (b := zall f 2 0 i2.toNat) (by rw [ei2]) ?_
      refine js_istore_n (L' := [(1, .int (jI (zall f 2 0 i2.toNat))), (3, .ref (Bb a)), (0, .ref (B 0)), (2, .ref it)]) dX2_flying_47 (by decide) rfl ?_
      refine js_goto (tgt := 14) dX2_flying_48 (by decide) ?_
      refine js_sub (L' := [(0, .ref (B 0)), (1, .int (jI (zall f 2 0 i2.toNat))), (2, .ref it)]) [2, 0, 3] rfl ?_
      exact IHs (i2, (js_up g it (js_ob true 7 [.int (jI i2), .ref a2]))) (show (0 ≤ i2 ∧ i2 ≤ f 0) ∧ (i2 < f 0 → 0 < f (13 + 9 * i2 + 2)) ∧ zSt em T P B Bb Bs (f) ((js_up g it (js_ob true 7 [.int (jI i2), .ref a2]))) ∧ ((js_up g it (js_ob true 7 [.int (jI i2), .ref a2]))) it = some (js_ob true 7 [.int (jI i2), .ref a2]) ∧ ((js_up g it (js_ob true 7 [.int (jI i2), .ref a2]))) a2 = some (js_ob true 6 [.ref (B 0)]) ∧ zFr (fun _ => False) h ((js_up g it (js_ob true 7 [.int (jI i2), .ref a2]))) from ⟨by omega, p3, zSt_upO yZ nt.1 nt.2, js_up_s, ((js_up_n (js_nek yfl yit (js_kOO (by decide)))).trans yfl), zFr_upN yfr (zup_none hf_it)⟩) (show (f 0 - i2).toNat < (f 0 - a).toNat by omega)
theorem zc_isB {ρ : js_R} {h : js_H} {em : Nat} {T : Int} {P : Nat → Prop} {B : Nat → Nat} {Bb Bs : Int → Nat} {f : zF} {b : Int} (hZ : zSt em T P B Bb Bs f h) {T2 : Int} (hI : zI T2 f) (rb : -2147483648 ≤ b ∧ b < 2147483648) : js_Con ρ mX2_isBalloon 2 0 0 [.ref (B 0), .int (jI b)] h (js_ret (some (.int (jI (jb (0 ≤ b ∧ b ≤ f 0 - 1))))) h) := by
  refine js_body [(0, .ref (B 0)), (1, .int (jI b))] rfl (by decide) (Nat.le_of_ble_eq_true rfl) rfl ?_
  have h01 := zI_01 hI
  obtain ⟨z_10, z_11, ⟨mb_1, rb_1, z_12⟩, ⟨ms_1, rs_1, z_13⟩, z_14, z_15, z_16, z_17, z_18, z_19, z_110, z_111, z_112⟩ := id hZ
  obtain ⟨sa_1, sb_1, sc_1, sd_1, se_1, sf_1, sg_1⟩ := z_111
  obtain ⟨wb_1, cb_1, gb_1, heb_1, rcb_1, hgb_1⟩ := zL_rd z_17 z_10 (by omega)
  obtain ⟨ws_1, cs_1, gs_1, hes_1, rcs_1, hgs_1⟩ := zL_rd z_18 z_10 (by omega)
  obtain ⟨gm_1, ze_1⟩ := z_10
  refine js_iload_n 1 dX2_isBalloon_0 rfl ?_
  refine js_iconst dX2_isBalloon_1 ?_
  refine js_aload_n 0 dX2_isBalloon_2 rfl ?_
  refine gX2_12 rfl dX2_isBalloon_3 z_11 rfl ?_
  refine eX2_89 rfl dX2_isBalloon_6 z_12 (con_lsize z_12 (by omega)) (Nat.le_of_ble_eq_true rfl) (Nat.le_of_ble_eq_true rfl) ?_
  refine js_iconst dX2_isBalloon_9 ?_
  refine js_isub dX2_isBalloon_10 ?_
  refine eX2_93 rfl dX2_isBalloon_11 (con_isBetween (by omega) (by omega) (by omega)) (Nat.le_of_ble_eq_true rfl) (Nat.le_of_ble_eq_true rfl) ?_
  exact js_iret rfl (jb_nar _) dX2_isBalloon_14 ⟨rfl, rfl⟩
theorem con_lgrow2 {ρ : js_R} {h : js_H} {l em : Nat} {mc : Int} {gm : Int → Option Nat} (hl : h l = some (js_ob true 15 [.int (jI mc), .ref em, .int (jI 0)])) (he : h em = some (js_aQ false 6 0 gm)) (hE : js_sv ρ 1 = .ref em) : js_Con ρ mJ2_grow_2 2 1 10 [.ref l, .int (jI 1)] h (fun r h' => ∃ e : Nat, r = .inl (some (.ref e)) ∧ h e = none ∧ h' = js_up (js_up h e (js_aQ true 6 10 (fun _ => none))) l (js_ob true 15 [.int (jI mc), .ref e, .int (jI 0)])) := by
  refine js_body [(0, .ref l), (1, .int (jI 1))] rfl (by decide) (Nat.le_of_ble_eq_true rfl) rfl ?_
  refine js_aload_n 0 dJ2_grow_2_0 rfl ?_
  refine gJ2_9 rfl dJ2_grow_2_1 hl rfl ?_
  refine js_alenQ dJ2_grow_2_4 he (by decide) ?_
  refine js_istore_n (L' := [(2, .int (jI ((0 : Int)))), (0, .ref l), (1, .int (jI 1))]) dJ2_grow_2_5 (by decide) rfl ?_
  refine js_iload_n 0 dJ2_grow_2_6 rfl ?_
  refine js_if_gt (tgt := 20) dJ2_grow_2_7 (by decide) (by omega) (fun c1 => ?_) (fun c1 => ?_)
  · exfalso; first | omega | (revert c1; decide)
  · refine js_aload_n 1 dJ2_grow_2_10 rfl ?_
    refine gJ2_9 rfl dJ2_grow_2_11 hl rfl ?_
    refine js_gets 1 rfl q176 dJ2_grow_2_14 ?_
    rw [hE]
    show js_ok ρ mJ2_grow_2 _ 2 1 10 17 [(2, .int (jI ((0 : Int)))), (0, .ref l), (1, .int (jI 1))] [.ref em, .ref em] h
    refine js_acmp_eq (rx := (some em)) (ry := (some em)) (tgt := 45) dJ2_grow_2_17 (by decide) (fun c2 => ?_) (fun c2 => ?_)
    · refine js_aload_n 1 dJ2_grow_2_45 rfl ?_
      refine js_bipush dJ2_grow_2_46 rfl ?_
      refine js_iload_n 2 dJ2_grow_2_48 rfl ?_
      refine js_mmax q1089 dJ2_grow_2_49 (by omega) (Nat.le_of_ble_eq_true rfl) (Nat.le_of_ble_eq_true rfl) ?_
      refine js_top (b := 10) (by omega) ?_
      refine js_newq (t := 6) (n := 10) (kc' := 0) (ks' := 0) (by decide) rfl (fun k => k.2.2.2.2.2.2.1) q1090 dJ2_grow_2_52 (by omega) (by omega) (by omega) (fun a3 hf_a3 hB_a3 => ?_)
      show js_ok ρ mJ2_grow_2 _ 2 0 0 55 [(2, .int (jI ((0 : Int)))), (0, .ref l), (1, .int (jI 1))] [.ref a3, .ref l] (js_up h a3 (js_aQ true 6 10 ((fun _ => none))))
      refine js_dup_x1 dJ2_grow_2_55 rfl rfl ?_
      refine pJ2_9 rfl dJ2_grow_2_56 ((js_up_n (js_nef hl hf_a3)).trans hl) (Nat.le_of_ble_eq_true rfl) rfl rfl ?_
      show js_ok ρ mJ2_grow_2 _ 2 0 0 59 [(2, .int (jI ((0 : Int)))), (0, .ref l), (1, .int (jI 1))] [.ref a3] (js_up (js_up h a3 (js_aQ true 6 10 ((fun _ => none)))) l (js_ob true 15 [.int (jI mc), .ref a3, .int (jI 0)]))
      exact js_aret rfl (Or.inr ⟨_, rfl⟩) (Or.inr ⟨_, rfl⟩) dJ2_grow_2_59 ⟨a3, rfl, hf_a3, rfl⟩
    · exact absurd rfl c2
theorem con_lgrow {ρ : js_R} {h : js_H} {l em : Nat} {mc : Int} {gm : Int → Option Nat} (hl : h l = some (js_ob true 15 [.int (jI mc), .ref em, .int (jI 0)])) (he : h em = some (js_aQ false 6 0 gm)) (hE : js_sv ρ 1 = .ref em) : js_Con ρ mJ2_grow 3 1 10 [.ref l] h (fun r h' => ∃ e : Nat, r = .inl (some (.ref e)) ∧ h e = none ∧ h' = js_up (js_up h e (js_aQ true 6 10 (fun _ => none))) l (js_ob true 15 [.int (jI mc), .ref e, .int (jI 0)])) := by
  refine js_body [(0, .ref l)] rfl (by decide) (Nat.le_of_ble_eq_true rfl) rfl ?_
  refine js_aload_n 0 dJ2_grow_0 rfl ?_
  refine js_aload_n 0 dJ2_grow_1 rfl ?_
  refine gJ2_48 rfl dJ2_grow_2 hl rfl ?_
  refine js_iconst dJ2_grow_5 ?_
  refine js_iadd dJ2_grow_6 ?_
  refine vJ2_69 (kc' := 0) (ks' := 0) rfl dJ2_grow_7 hl (con_lgrow2 hl he hE) (Nat.le_of_ble_eq_true rfl) (by omega) (by omega) (Nat.le_of_ble_eq_true rfl) (fun v1 g1 q1 => ?_) (fun E1 g1 q1 => by obtain ⟨_, q1, _⟩ := q1; cases q1)
  obtain ⟨e1, x1, hf_e1, rfl⟩ := q1
  cases x1
  show js_ok ρ mJ2_grow _ 3 0 0 10 [(0, .ref l)] [.ref e1] (js_up (js_up h e1 (js_aQ true 6 10 ((fun _ => none)))) l (js_ob true 15 [.int (jI mc), .ref e1, .int (jI 0)]))
  exact js_aret rfl (Or.inr ⟨_, rfl⟩) (Or.inr ⟨_, rfl⟩) dJ2_grow_10 ⟨e1, rfl, hf_e1, rfl⟩
theorem con_laddg2 {ρ : js_R} {h : js_H} {l em : Nat} {mc : Int} {gm : Int → Option Nat} {v ci : Nat} {wv : Bool} {fs : List Value} {r : vw_C} (hl : h l = some (js_ob true 15 [.int (jI mc), .ref em, .int (jI 0)])) (he : h em = some (js_aQ false 6 0 gm)) (hE : js_sv ρ 1 = .ref em) (hv : h v = some (js_ob wv ci fs)) (hr9 : js_cl[ci]? = some r) (hca : Cond.castable r.1 "java/lang/Object" ∈ js_nw) (nv : v ≠ l) : js_Con ρ mJ2_add_2 4 1 10 [.ref l, .ref v, .ref em, .int (jI 0)] h (fun r' h' => ∃ e : Nat, r' = .inl none ∧ h e = none ∧ h' = js_up (js_up h e (js_aQ true 6 10 (js_uz (fun _ => none) 0 (some v)))) l (js_ob true 15 [.int (jI mc), .ref e, .int (jI 1)])) := by
  refine js_body [(0, .ref l), (1, .ref v), (2, .ref em), (3, .int (jI 0))] rfl (by decide) (Nat.le_of_ble_eq_true rfl) rfl ?_
  refine js_iload_n 3 dJ2_add_2_0 rfl ?_
  refine js_aload_n 2 dJ2_add_2_1 rfl ?_
  refine js_alenQ dJ2_add_2_2 he (by decide) ?_
  refine js_icmp_ne (tgt := 11) dJ2_add_2_3 (by decide) (by omega) (fun c1 => ?_) (fun c1 => ?_)
  · exfalso; first | omega | (revert c1; decide)
  · refine js_aload_n 0 dJ2_add_2_6 rfl ?_
    refine vJ2_129 (kc' := 0) (ks' := 0) rfl dJ2_add_2_7 hl (con_lgrow hl he hE) (Nat.le_of_ble_eq_true rfl) (by omega) (by omega) (Nat.le_of_ble_eq_true rfl) (fun v2 g2 q2 => ?_) (fun E2 g2 q2 => by obtain ⟨_, q2, _⟩ := q2; cases q2)
    obtain ⟨e2, x2, hf_e2, rfl⟩ := q2
    cases x2
    show js_ok ρ mJ2_add_2 _ 4 0 0 10 [(0, .ref l), (1, .ref v), (2, .ref em), (3, .int (jI 0))] [.ref e2] (js_up (js_up h e2 (js_aQ true 6 10 ((fun _ => none)))) l (js_ob true 15 [.int (jI mc), .ref e2, .int (jI 0)]))
    refine js_astore_n (L' := [(2, .ref e2), (0, .ref l), (1, .ref v), (3, .int (jI 0))]) dJ2_add_2_10 (by decide) rfl ?_
    refine js_aload_n 0 dJ2_add_2_11 rfl ?_
    refine js_iload_n 3 dJ2_add_2_12 rfl ?_
    refine js_aload_n 2 dJ2_add_2_13 rfl ?_
    refine js_aastore (by decide) rfl hr9 hca dJ2_add_2_14 ((js_up_n (Ne.symm (js_nef hl hf_e2))).trans js_up_s) ((js_up_n nv).trans ((js_up_n (js_nef hv hf_e2)).trans hv)) (by omega) ?_
    show js_ok ρ mJ2_add_2 _ 4 0 0 15 [(2, .ref e2), (0, .ref l), (1, .ref v), (3, .int (jI 0))] [] (js_up (js_up (js_up h e2 (js_aQ true 6 10 ((fun _ => none)))) l (js_ob true 15 [.int (jI mc), .ref e2, .int (jI 0)])) e2 (js_aQ true 6 10 (js_uz ((fun _ => none)) 0 ((some v)))))
    refine js_aload_n 1 dJ2_add_2_15 rfl ?_
    refine js_iload_n 3 dJ2_add_2_16 rfl ?_
    refine js_iconst dJ2_add_2_17 ?_
    refine js_iadd dJ2_add_2_18 ?_
    refine pJ2_48 rfl dJ2_add_2_19 ((js_up_n (js_nef hl hf_e2)).trans js_up_s) (Nat.le_of_ble_eq_true rfl) rfl rfl ?_
    show js_ok ρ mJ2_add_2 _ 4 0 0 22 [(2, .ref e2), (0, .ref l), (1, .ref v), (3, .int (jI 0))] [] (js_up (js_up (js_up (js_up h e2 (js_aQ true 6 10 ((fun _ => none)))) l (js_ob true 15 [.int (jI mc), .ref e2, .int (jI 0)])) e2 (js_aQ true 6 10 (js_uz ((fun _ => none)) 0 ((some v))))) l (js_ob true 15 [.int (jI mc), .ref e2, .int (jI (0 + 1))]))
    exact js_vret rfl dJ2_add_2_22 ⟨_, rfl, (by assumption), by first | rfl | (rw [js_up_comm (Ne.symm (js_nef hl (by assumption))), js_up_up, js_up_up]; rfl) | (rw [js_up_comm (js_nef hl (by assumption)), js_up_up, js_up_up]; rfl)⟩
theorem con_laddg {ρ : js_R} {h : js_H} {l em : Nat} {mc : Int} {gm : Int → Option Nat} {v ci : Nat} {wv : Bool} {fs : List Value} {r : vw_C} (hl : h l = some (js_ob true 15 [.int (jI mc), .ref em, .int (jI 0)])) (he : h em = some (js_aQ false 6 0 gm)) (hE : js_sv ρ 1 = .ref em) (hv : h v = some (js_ob wv ci fs)) (hr9 : js_cl[ci]? = some r) (hca : Cond.castable r.1 "java/lang/Object" ∈ js_nw) (nv : v ≠ l) : js_Con ρ mJ2_add 5 1 10 [.ref l, .ref v] h (fun r' h' => ∃ e : Nat, r' = .inl (some (.int (jI 1))) ∧ h e = none ∧ h' = js_up (js_up h e (js_aQ true 6 10 (js_uz (fun _ => none) 0 (some v)))) l (js_ob true 15 [.int (jI (mc + 1)), .ref e, .int (jI 1)])) := by
  refine js_body [(0, .ref l), (1, .ref v)] rfl (by decide) (Nat.le_of_ble_eq_true rfl) rfl ?_
  refine js_aload_n 0 dJ2_add_0 rfl ?_
  refine js_dup dJ2_add_1 rfl ?_
  refine gJ2_63 rfl dJ2_add_2 hl rfl ?_
  refine js_iconst dJ2_add_5 ?_
  refine js_iadd dJ2_add_6 ?_
  refine pJ2_63 rfl dJ2_add_7 hl (Nat.le_of_ble_eq_true rfl) rfl rfl ?_
  show js_ok ρ mJ2_add _ 5 1 10 10 [(0, .ref l), (1, .ref v)] [] (js_up h l (js_ob true 15 [.int (jI (mc + 1)), .ref em, .int (jI 0)]))
  refine js_aload_n 0 dJ2_add_10 rfl ?_
  refine js_aload_n 1 dJ2_add_11 rfl ?_
  refine js_aload_n 0 dJ2_add_12 rfl ?_
  refine gJ2_9 rfl dJ2_add_13 js_up_s rfl ?_
  refine js_aload_n 0 dJ2_add_16 rfl ?_
  refine gJ2_48 rfl dJ2_add_17 js_up_s rfl ?_
  refine vJ2_131 (kc' := 0) (ks' := 0) rfl dJ2_add_20 js_up_s (con_laddg2 js_up_s ((js_up_n (js_nek he hl js_kQO)).trans he) hE ((js_up_n nv).trans hv) hr9 hca nv) (Nat.le_of_ble_eq_true rfl) (by omega) (by omega) (Nat.le_of_ble_eq_true rfl) (fun v1 g1 q1 => ?_) (fun E1 g1 q1 => by obtain ⟨_, q1, _⟩ := q1; cases q1)
  obtain ⟨e1, x1, hf_e1, rfl⟩ := q1
  cases x1
  show js_ok ρ mJ2_add _ 5 0 0 23 [(0, .ref l), (1, .ref v)] [] (js_up (js_up (js_up h l (js_ob true 15 [.int (jI (mc + 1)), .ref em, .int (jI 0)])) e1 (js_aQ true 6 10 ((js_uz (fun _ => none) 0 (some v))))) l (js_ob true 15 [.int (jI (mc + 1)), .ref e1, .int (jI 1)]))
  refine js_iconst dJ2_add_23 ?_
  exact js_iret rfl (js_nar_boolean (by omega)) dJ2_add_24 ⟨e1, rfl, zup_none hf_e1, by rw [js_up_comm (js_nef js_up_s hf_e1), js_up_up]⟩
