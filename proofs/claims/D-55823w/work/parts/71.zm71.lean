set_option maxRecDepth 100000
/-! account, shares -/
theorem xc_sinit {ρ : js_R} {h : js_H} {o ci : Nat} {fs : List Value} (ho : h o = some (js_ob true ci fs)) : js_Con ρ mX13_init 1 0 0 [.ref o] h (js_ret none h) := by
  refine js_body [(0, .ref o)] rfl (by decide) (Nat.le_of_ble_eq_true rfl) rfl ?_
  refine js_aload_n 0 dX13_init_0 rfl ?_
  refine js_oinit q2064 q156 q157 (Nat.le_of_ble_eq_true rfl) (Nat.le_of_ble_eq_true rfl) dX13_init_1 ?_
  exact js_vret rfl dX13_init_4 ⟨rfl, rfl⟩
theorem xc_initX14 {ρ : js_R} {h : js_H} {o x : Nat} (ho : h o = some (js_ob true 12 [.null])) : js_Con ρ mX14_init 2 0 0 [.ref o, .ref x] h (js_ret none (js_up h o (js_ob true 12 [.ref x]))) := by
  refine js_body [(0, .ref o), (1, .ref x)] rfl (by decide) (Nat.le_of_ble_eq_true rfl) rfl ?_
  refine js_aload_n 0 dX14_init_0 rfl ?_
  refine js_aload_n 1 dX14_init_1 rfl ?_
  refine pX14_1 rfl rfl dX14_init_2 ho (Nat.le_of_ble_eq_true rfl) rfl rfl ?_
  show js_ok ρ mX14_init _ 2 0 0 5 [(0, .ref o), (1, .ref x)] [] (js_up h o (js_ob true 12 [.ref x]))
  refine js_aload_n 0 dX14_init_5 rfl ?_
  refine eX14_7 rfl dX14_init_6 (xc_sinit js_up_s) (Nat.le_of_ble_eq_true rfl) (Nat.le_of_ble_eq_true rfl) ?_
  exact js_vret rfl dX14_init_9 ⟨rfl, rfl⟩
theorem xc_sacks {ρ : js_R} {h : js_H} {em : Nat} {T : Int} {P : Nat → Prop} {B : Nat → Nat} {Bb Bs : Int → Nat} {f : zF} {x : Nat} {u1 u2 u3 u4 u5 u6 u7 : Value}  (hx : h x = some (js_ob true 0 [.ref (B 0), u1, u2, u3, u4, u5, u6, u7])) (hZ : zSt em T P B Bb Bs f h) {T2 : Int} (hI : zI T2 f) (hT : T ≤ 1000000) : js_Con ρ mX1_sacks 4 2 5 [.ref x] h (fun r h' => r = .inl (some (.int (jI (zall f 3 1 (f 0).toNat)))) ∧ zFr (fun _ => False) h h') := by
  refine js_body [(0, .ref x)] rfl (by decide) (Nat.le_of_ble_eq_true rfl) rfl ?_
  have h01 := zI_01 hI
  obtain ⟨z_10, z_11, ⟨mb_1, rb_1, z_12⟩, ⟨ms_1, rs_1, z_13⟩, z_14, z_15, z_16, z_17, z_18, z_19, z_110, z_111, z_112⟩ := id hZ
  obtain ⟨sa_1, sb_1, sc_1, sd_1, se_1, sf_1, sg_1⟩ := z_111
  obtain ⟨wb_1, cb_1, gb_1, heb_1, rcb_1, hgb_1⟩ := zL_rd z_17 z_10 (by omega)
  obtain ⟨ws_1, cs_1, gs_1, hes_1, rcs_1, hgs_1⟩ := zL_rd z_18 z_10 (by omega)
  obtain ⟨gm_1, ze_1⟩ := z_10
  refine nX1_461 (kc' := 1) (ks' := 4) rfl dX1_sacks_0 (by omega) (by omega) (fun a2 hf_a2 hB_a2 => ?_)
  refine js_dup dX1_sacks_3 rfl ?_
  refine js_aload_n 0 dX1_sacks_4 rfl ?_
  refine eX1_463 rfl dX1_sacks_5 (xc_initX14 js_up_s) (Nat.le_of_ble_eq_true rfl) (Nat.le_of_ble_eq_true rfl) ?_
  rw [js_up_up]
  show js_ok ρ mX1_sacks _ 4 1 4 8 [(0, .ref x)] [.ref a2] (js_up h a2 (js_ob true 12 [.ref x]))
  refine js_aload_n 0 dX1_sacks_8 rfl ?_
  refine gX1_10 rfl dX1_sacks_9 ((js_up_n (js_nef hx hf_a2)).trans hx) rfl ?_
  refine gX1_104 rfl dX1_sacks_12 ((js_up_n (js_nef z_11 hf_a2)).trans z_11) rfl ?_
  have no := zSt_new2 hZ hf_a2
  refine vX1_464 (kc' := 0) (ks' := 0) rfl dX1_sacks_15 js_up_s (xc_overX14 js_up_s (zSt_upO hZ no.1 no.2) hI (by omega)) (Nat.le_of_ble_eq_true rfl) (by omega) (by omega) (Nat.le_of_ble_eq_true rfl) (fun v3 g3 q3 => ?_) (fun E3 g3 q3 => by cases q3.1)
  obtain ⟨e3, fr3⟩ := q3
  cases e3
  have yfr := zFr_trans (zFr_new zFr_refl hf_a2) fr3
  show js_ok ρ mX1_sacks _ 4 0 0 18 [(0, .ref x)] [.int (jI (zall f 3 1 (f 0).toNat))] g3
  exact js_iret rfl rfl dX1_sacks_18 ⟨rfl, yfr⟩
theorem xc_initX15 {ρ : js_R} {h : js_H} {o x : Nat} (ho : h o = some (js_ob true 13 [.null])) : js_Con ρ mX15_init 2 0 0 [.ref o, .ref x] h (js_ret none (js_up h o (js_ob true 13 [.ref x]))) := by
  refine js_body [(0, .ref o), (1, .ref x)] rfl (by decide) (Nat.le_of_ble_eq_true rfl) rfl ?_
  refine js_aload_n 0 dX15_init_0 rfl ?_
  refine js_aload_n 1 dX15_init_1 rfl ?_
  refine pX15_1 rfl rfl dX15_init_2 ho (Nat.le_of_ble_eq_true rfl) rfl rfl ?_
  show js_ok ρ mX15_init _ 2 0 0 5 [(0, .ref o), (1, .ref x)] [] (js_up h o (js_ob true 13 [.ref x]))
  refine js_aload_n 0 dX15_init_5 rfl ?_
  refine eX15_7 rfl dX15_init_6 (xc_sinit js_up_s) (Nat.le_of_ble_eq_true rfl) (Nat.le_of_ble_eq_true rfl) ?_
  exact js_vret rfl dX15_init_9 ⟨rfl, rfl⟩
theorem xc_seals {ρ : js_R} {h : js_H} {em : Nat} {T : Int} {P : Nat → Prop} {B : Nat → Nat} {Bb Bs : Int → Nat} {f : zF} {x : Nat} {u1 u2 u3 u4 u5 u6 u7 : Value}  (hx : h x = some (js_ob true 0 [.ref (B 0), u1, u2, u3, u4, u5, u6, u7])) (hZ : zSt em T P B Bb Bs f h) {T2 : Int} (hI : zI T2 f) (hT : T ≤ 1000000) : js_Con ρ mX1_seals 4 2 5 [.ref x] h (fun r h' => r = .inl (some (.int (jI (zall f 8 0 (f 0).toNat)))) ∧ zFr (fun _ => False) h h') := by
  refine js_body [(0, .ref x)] rfl (by decide) (Nat.le_of_ble_eq_true rfl) rfl ?_
  have h01 := zI_01 hI
  obtain ⟨z_10, z_11, ⟨mb_1, rb_1, z_12⟩, ⟨ms_1, rs_1, z_13⟩, z_14, z_15, z_16, z_17, z_18, z_19, z_110, z_111, z_112⟩ := id hZ
  obtain ⟨sa_1, sb_1, sc_1, sd_1, se_1, sf_1, sg_1⟩ := z_111
  obtain ⟨wb_1, cb_1, gb_1, heb_1, rcb_1, hgb_1⟩ := zL_rd z_17 z_10 (by omega)
  obtain ⟨ws_1, cs_1, gs_1, hes_1, rcs_1, hgs_1⟩ := zL_rd z_18 z_10 (by omega)
  obtain ⟨gm_1, ze_1⟩ := z_10
  refine nX1_468 (kc' := 1) (ks' := 4) rfl dX1_seals_0 (by omega) (by omega) (fun a2 hf_a2 hB_a2 => ?_)
  refine js_dup dX1_seals_3 rfl ?_
  refine js_aload_n 0 dX1_seals_4 rfl ?_
  refine eX1_470 rfl dX1_seals_5 (xc_initX15 js_up_s) (Nat.le_of_ble_eq_true rfl) (Nat.le_of_ble_eq_true rfl) ?_
  rw [js_up_up]
  show js_ok ρ mX1_seals _ 4 1 4 8 [(0, .ref x)] [.ref a2] (js_up h a2 (js_ob true 13 [.ref x]))
  refine js_aload_n 0 dX1_seals_8 rfl ?_
  refine gX1_10 rfl dX1_seals_9 ((js_up_n (js_nef hx hf_a2)).trans hx) rfl ?_
  refine gX1_104 rfl dX1_seals_12 ((js_up_n (js_nef z_11 hf_a2)).trans z_11) rfl ?_
  have no := zSt_new2 hZ hf_a2
  refine vX1_471 (kc' := 0) (ks' := 0) rfl dX1_seals_15 js_up_s (xc_overX15 js_up_s (zSt_upO hZ no.1 no.2) hI (by omega)) (Nat.le_of_ble_eq_true rfl) (by omega) (by omega) (Nat.le_of_ble_eq_true rfl) (fun v3 g3 q3 => ?_) (fun E3 g3 q3 => by cases q3.1)
  obtain ⟨e3, fr3⟩ := q3
  cases e3
  have yfr := zFr_trans (zFr_new zFr_refl hf_a2) fr3
  show js_ok ρ mX1_seals _ 4 0 0 18 [(0, .ref x)] [.int (jI (zall f 8 0 (f 0).toNat))] g3
  exact js_iret rfl rfl dX1_seals_18 ⟨rfl, yfr⟩
theorem xc_initX16 {ρ : js_R} {h : js_H} {o x : Nat} (ho : h o = some (js_ob true 14 [.null])) : js_Con ρ mX16_init 2 0 0 [.ref o, .ref x] h (js_ret none (js_up h o (js_ob true 14 [.ref x]))) := by
  refine js_body [(0, .ref o), (1, .ref x)] rfl (by decide) (Nat.le_of_ble_eq_true rfl) rfl ?_
  refine js_aload_n 0 dX16_init_0 rfl ?_
  refine js_aload_n 1 dX16_init_1 rfl ?_
  refine pX16_1 rfl rfl dX16_init_2 ho (Nat.le_of_ble_eq_true rfl) rfl rfl ?_
  show js_ok ρ mX16_init _ 2 0 0 5 [(0, .ref o), (1, .ref x)] [] (js_up h o (js_ob true 14 [.ref x]))
  refine js_aload_n 0 dX16_init_5 rfl ?_
  refine eX16_7 rfl dX16_init_6 (xc_sinit js_up_s) (Nat.le_of_ble_eq_true rfl) (Nat.le_of_ble_eq_true rfl) ?_
  exact js_vret rfl dX16_init_9 ⟨rfl, rfl⟩
theorem xc_gas {ρ : js_R} {h : js_H} {em : Nat} {T : Int} {P : Nat → Prop} {B : Nat → Nat} {Bb Bs : Int → Nat} {f : zF} {x : Nat} {u1 u2 u3 u4 u5 u6 u7 : Value}  (hx : h x = some (js_ob true 0 [.ref (B 0), u1, u2, u3, u4, u5, u6, u7])) (hZ : zSt em T P B Bb Bs f h) {T2 : Int} (hI : zI T2 f) (hT : T ≤ 1000000) : js_Con ρ mX1_gas 4 2 5 [.ref x] h (fun r h' => r = .inl (some (.int (jI (zall f 4 1 (f 0).toNat)))) ∧ zFr (fun _ => False) h h') := by
  refine js_body [(0, .ref x)] rfl (by decide) (Nat.le_of_ble_eq_true rfl) rfl ?_
  have h01 := zI_01 hI
  obtain ⟨z_10, z_11, ⟨mb_1, rb_1, z_12⟩, ⟨ms_1, rs_1, z_13⟩, z_14, z_15, z_16, z_17, z_18, z_19, z_110, z_111, z_112⟩ := id hZ
  obtain ⟨sa_1, sb_1, sc_1, sd_1, se_1, sf_1, sg_1⟩ := z_111
  obtain ⟨wb_1, cb_1, gb_1, heb_1, rcb_1, hgb_1⟩ := zL_rd z_17 z_10 (by omega)
  obtain ⟨ws_1, cs_1, gs_1, hes_1, rcs_1, hgs_1⟩ := zL_rd z_18 z_10 (by omega)
  obtain ⟨gm_1, ze_1⟩ := z_10
  refine nX1_472 (kc' := 1) (ks' := 4) rfl dX1_gas_0 (by omega) (by omega) (fun a2 hf_a2 hB_a2 => ?_)
  refine js_dup dX1_gas_3 rfl ?_
  refine js_aload_n 0 dX1_gas_4 rfl ?_
  refine eX1_474 rfl dX1_gas_5 (xc_initX16 js_up_s) (Nat.le_of_ble_eq_true rfl) (Nat.le_of_ble_eq_true rfl) ?_
  rw [js_up_up]
  show js_ok ρ mX1_gas _ 4 1 4 8 [(0, .ref x)] [.ref a2] (js_up h a2 (js_ob true 14 [.ref x]))
  refine js_aload_n 0 dX1_gas_8 rfl ?_
  refine gX1_10 rfl dX1_gas_9 ((js_up_n (js_nef hx hf_a2)).trans hx) rfl ?_
  refine gX1_104 rfl dX1_gas_12 ((js_up_n (js_nef z_11 hf_a2)).trans z_11) rfl ?_
  have no := zSt_new2 hZ hf_a2
  refine vX1_475 (kc' := 0) (ks' := 0) rfl dX1_gas_15 js_up_s (xc_overX16 js_up_s (zSt_upO hZ no.1 no.2) hI (by omega)) (Nat.le_of_ble_eq_true rfl) (by omega) (by omega) (Nat.le_of_ble_eq_true rfl) (fun v3 g3 q3 => ?_) (fun E3 g3 q3 => by cases q3.1)
  obtain ⟨e3, fr3⟩ := q3
  cases e3
  have yfr := zFr_trans (zFr_new zFr_refl hf_a2) fr3
  show js_ok ρ mX1_gas _ 4 0 0 18 [(0, .ref x)] [.int (jI (zall f 4 1 (f 0).toNat))] g3
  exact js_iret rfl rfl dX1_gas_18 ⟨rfl, yfr⟩
theorem xc_farms {ρ : js_R} {h : js_H} {em : Nat} {T : Int} {P : Nat → Prop} {B : Nat → Nat} {Bb Bs : Int → Nat} {f : zF} {x : Nat} {u1 u2 u3 u4 u5 u6 u7 : Value}  (hx : h x = some (js_ob true 0 [.ref (B 0), u1, u2, u3, u4, u5, u6, u7])) (hZ : zSt em T P B Bb Bs f h) {T2 : Int} (hI : zI T2 f)  : js_Con ρ mX1_farms 1 0 0 [.ref x] h (js_ret (some (.int (jI (zfrm f 100)))) h) := by
  refine js_body [(0, .ref x)] rfl (by decide) (Nat.le_of_ble_eq_true rfl) rfl ?_
  have h01 := zI_01 hI
  obtain ⟨z_10, z_11, ⟨mb_1, rb_1, z_12⟩, ⟨ms_1, rs_1, z_13⟩, z_14, z_15, z_16, z_17, z_18, z_19, z_110, z_111, z_112⟩ := id hZ
  obtain ⟨sa_1, sb_1, sc_1, sd_1, se_1, sf_1, sg_1⟩ := z_111
  obtain ⟨wb_1, cb_1, gb_1, heb_1, rcb_1, hgb_1⟩ := zL_rd z_17 z_10 (by omega)
  obtain ⟨ws_1, cs_1, gs_1, hes_1, rcs_1, hgs_1⟩ := zL_rd z_18 z_10 (by omega)
  obtain ⟨gm_1, ze_1⟩ := z_10
  refine js_iconst dX1_farms_0 ?_
  refine js_top (b := zfrm f 0) (by rfl) ?_
  refine js_istore_n (L' := [(1, .int (jI (zfrm f 0))), (0, .ref x)]) dX1_farms_1 (by decide) rfl ?_
  refine js_aload_n 1 dX1_farms_2 rfl ?_
  refine gX1_10 rfl dX1_farms_3 hx rfl ?_
  refine gX1_147 rfl dX1_farms_6 z_11 rfl ?_
  refine js_astore_n (L' := [(2, .ref (B 3)), (1, .int (jI (zfrm f 0))), (0, .ref x)]) dX1_farms_9 (by decide) rfl ?_
  refine js_aload_n 0 dX1_farms_10 rfl ?_
  refine js_alenI dX1_farms_11 z_14 (by decide) ?_
  refine js_istore_n (L' := [(3, .int (jI ((100 : Int)))), (2, .ref (B 3)), (1, .int (jI (zfrm f 0))), (0, .ref x)]) dX1_farms_12 (by decide) rfl ?_
  refine js_iconst dX1_farms_13 ?_
  refine js_istore (L' := [(4, .int (jI 0)), (3, .int (jI ((100 : Int)))), (2, .ref (B 3)), (1, .int (jI (zfrm f 0))), (0, .ref x)]) dX1_farms_14 (by decide) rfl ?_
  refine js_sub (L' := [(0, .ref x), (1, .int (jI (zfrm f 0))), (2, .ref (B 3)), (3, .int (jI ((100 : Int)))), (4, .int (jI 0))]) [4, 3, 2, 1, 0] rfl ?_
  refine js_loop (σ := Nat) (fun k => (k : Int) ≤ 100) (fun k => 100 - k) (fun k => 0) (fun k => 0) 16 (fun k => [(0, .ref x), (1, .int (jI (zfrm f k))), (2, .ref (B 3)), (3, .int (jI ((100 : Int)))), (4, .int (jI ((k : Int))))]) (fun k => []) (fun k => h) (fun k hk IHk => ?_) 0 (by omega)
  show js_ok ρ mX1_farms _ 1 0 0 16 [(0, .ref x), (1, .int (jI (zfrm f k))), (2, .ref (B 3)), (3, .int (jI ((100 : Int)))), (4, .int (jI ((k : Int))))] [] h
  refine js_iload 4 dX1_farms_16 rfl ?_
  refine js_iload_n 3 dX1_farms_18 rfl ?_
  refine js_icmp_ge (tgt := 47) dX1_farms_19 (by decide) (by omega) (fun c3 => ?_) (fun c3 => ?_)
  · refine js_iload_n 1 dX1_farms_47 rfl ?_
    exact js_iret rfl rfl dX1_farms_48 ⟨by rw [show k = 100 by omega], rfl⟩
  · have gw : zfa f (k : Int) = f (87 + (k : Int)) := zfa_g (by omega)
    have rw8 := zI_f hI (k : Int) (by omega) (by omega)
    refine js_aload_n 2 dX1_farms_22 rfl ?_
    refine js_iload 4 dX1_farms_23 rfl ?_
    refine js_iaload dX1_farms_25 z_14 (by omega) ?_
    refine js_istore (L' := [(5, .int (jI ((zfa f) ((k : Int))))), (0, .ref x), (1, .int (jI (zfrm f k))), (2, .ref (B 3)), (3, .int (jI ((100 : Int)))), (4, .int (jI ((k : Int))))]) dX1_farms_26 (by decide) rfl ?_
    refine js_iload_n 2 dX1_farms_28 rfl ?_
    refine js_iload 0 dX1_farms_29 rfl ?_
    refine js_if_le (tgt := 38) dX1_farms_31 (by decide) (by omega) (fun c4 => ?_) (fun c4 => ?_)
    · refine js_iconst dX1_farms_38 ?_
      refine js_iadd dX1_farms_39 ?_
      refine js_top (b := zfrm f (k + 1)) (by show _ = zfrm f k + _; split <;> omega) ?_
      refine js_istore_n (L' := [(1, .int (jI (zfrm f (k + 1)))), (5, .int (jI ((zfa f) ((k : Int))))), (0, .ref x), (2, .ref (B 3)), (3, .int (jI ((100 : Int)))), (4, .int (jI ((k : Int))))]) dX1_farms_40 (by decide) rfl ?_
      refine js_iinc (L' := [(4, .int (jI (((k : Int)) + 1))), (1, .int (jI (zfrm f (k + 1)))), (5, .int (jI ((zfa f) ((k : Int))))), (0, .ref x), (2, .ref (B 3)), (3, .int (jI ((100 : Int))))]) 5 dX1_farms_41 rfl (by decide) rfl ?_
      refine js_goto (tgt := 16) dX1_farms_44 (by decide) ?_
      refine js_sub (L' := [(0, .ref x), (1, .int (jI (zfrm f (k + 1)))), (2, .ref (B 3)), (3, .int (jI ((100 : Int)))), (4, .int (jI (((k : Int)) + 1)))]) [3, 1, 4, 5, 0] rfl ?_
      exact IHk (k + 1) (by omega) (by omega)
    · refine js_iconst dX1_farms_34 ?_
      refine js_goto (tgt := 39) dX1_farms_35 (by decide) ?_
      refine js_iadd dX1_farms_39 ?_
      refine js_top (b := zfrm f (k + 1)) (by show _ = zfrm f k + _; split <;> omega) ?_
      refine js_istore_n (L' := [(1, .int (jI (zfrm f (k + 1)))), (5, .int (jI ((zfa f) ((k : Int))))), (0, .ref x), (2, .ref (B 3)), (3, .int (jI ((100 : Int)))), (4, .int (jI ((k : Int))))]) dX1_farms_40 (by decide) rfl ?_
      refine js_iinc (L' := [(4, .int (jI (((k : Int)) + 1))), (1, .int (jI (zfrm f (k + 1)))), (5, .int (jI ((zfa f) ((k : Int))))), (0, .ref x), (2, .ref (B 3)), (3, .int (jI ((100 : Int))))]) 5 dX1_farms_41 rfl (by decide) rfl ?_
      refine js_goto (tgt := 16) dX1_farms_44 (by decide) ?_
      refine js_sub (L' := [(0, .ref x), (1, .int (jI (zfrm f (k + 1)))), (2, .ref (B 3)), (3, .int (jI ((100 : Int)))), (4, .int (jI (((k : Int)) + 1)))]) [3, 1, 4, 5, 0] rfl ?_
      exact IHk (k + 1) (by omega) (by omega)
