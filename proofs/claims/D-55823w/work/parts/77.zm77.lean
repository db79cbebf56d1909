set_option maxRecDepth 100000
/-! reach -/
theorem xc_pointOf {ρ : js_R} {h : js_H} {em : Nat} {T : Int} {P : Nat → Prop} {B : Nat → Nat} {Bb Bs : Int → Nat} {f : zF} {x : Nat} {u1 u2 u3 u4 u5 u6 u7 : Value} {b : Int} (hx : h x = some (js_ob true 0 [.ref (B 0), u1, u2, u3, u4, u5, u6, u7])) (hZ : zSt em T P B Bb Bs f h) {T2 : Int} (hI : zI T2 f) (hb : 0 ≤ b ∧ b < f 0) : js_Con ρ mX1_pointOf 3 0 0 [.ref x, .int (jI b)] h (js_ret (some (.int (jI (zpt f b)))) h) := by
  refine js_body [(0, .ref x), (1, .int (jI b))] rfl (by decide) (Nat.le_of_ble_eq_true rfl) rfl ?_
  have h01 := zI_01 hI
  obtain ⟨z_10, z_11, ⟨mb_1, rb_1, z_12⟩, ⟨ms_1, rs_1, z_13⟩, z_14, z_15, z_16, z_17, z_18, z_19, z_110, z_111, z_112⟩ := id hZ
  obtain ⟨sa_1, sb_1, sc_1, sd_1, se_1, sf_1, sg_1⟩ := z_111
  obtain ⟨wb_1, cb_1, gb_1, heb_1, rcb_1, hgb_1⟩ := zL_rd z_17 z_10 (by omega)
  obtain ⟨ws_1, cs_1, gs_1, hes_1, rcs_1, hgs_1⟩ := zL_rd z_18 z_10 (by omega)
  obtain ⟨gm_1, ze_1⟩ := z_10
  refine js_aload_n 0 dX1_pointOf_0 rfl ?_
  refine gX1_10 rfl dX1_pointOf_1 hx rfl ?_
  refine gX1_104 rfl dX1_pointOf_4 z_11 rfl ?_
  refine js_iload_n 1 dX1_pointOf_7 rfl ?_
  refine eX1_128 rfl dX1_pointOf_8 z_12 (con_lget z_12 (by omega) heb_1 (by omega) (by omega)) (Nat.le_of_ble_eq_true rfl) (Nat.le_of_ble_eq_true rfl) ?_
  rw [show gb_1 b = some (Bb b) from hgb_1 _ (by omega) (by omega)]
  show js_ok ρ mX1_pointOf _ 3 0 0 11 [(0, .ref x), (1, .int (jI b))] [.ref (Bb b)] h
  refine js_castS (r := (RX5, TX5, 8)) rfl q506 dX1_pointOf_11 (z_19 b (by omega) (by omega)) ?_
  refine gX1_209 rfl dX1_pointOf_14 (z_19 b (by omega) (by omega)) rfl ?_
  exact js_iret rfl rfl dX1_pointOf_17 ⟨rfl, rfl⟩
theorem xc_pini {ρ : js_R} {h : js_H} {o x : Nat} (ho : h o = some (js_ob true 9 [.null, .null])) : js_Con ρ mX10_init 2 1 100 [.ref o, .ref x] h (fun r h' => ∃ v : Nat, r = .inl none ∧ h v = none ∧ h' = js_up (js_up h v (js_aI true 1 100 (fun _ => 0))) o (js_ob true 9 [.ref v, .ref x])) := by
  refine js_body [(0, .ref o), (1, .ref x)] rfl (by decide) (Nat.le_of_ble_eq_true rfl) rfl ?_
  refine js_aload_n 0 dX10_init_0 rfl ?_
  refine js_aload_n 1 dX10_init_1 rfl ?_
  refine pX10_3 rfl rfl dX10_init_2 ho (Nat.le_of_ble_eq_true rfl) rfl rfl ?_
  show js_ok ρ mX10_init _ 2 1 100 5 [(0, .ref o), (1, .ref x)] [] (js_up h o (js_ob true 9 [.null, .ref x]))
  refine js_aload_n 0 dX10_init_5 rfl ?_
  refine js_oinit q1572 q156 q157 (Nat.le_of_ble_eq_true rfl) (Nat.le_of_ble_eq_true rfl) dX10_init_6 ?_
  refine js_aload_n 0 dX10_init_9 rfl ?_
  refine js_bipush dX10_init_10 rfl ?_
  refine js_newaI (t := 1) (N := 100) (kc' := 0) (ks' := 0) (by decide) rfl q1581 dX10_init_12 (by omega) (by omega) (by omega) (by omega) (fun a1 hf_a1 hB_a1 => ?_)
  refine pX10_15 rfl dX10_init_14 ((js_up_n (js_nef js_up_s hf_a1)).trans js_up_s) (Nat.le_of_ble_eq_true rfl) rfl rfl ?_
  show js_ok ρ mX10_init _ 2 0 0 17 [(0, .ref o), (1, .ref x)] [] (js_up (js_up (js_up h o (js_ob true 9 [.null, .ref x])) a1 (js_aI true 1 100 (fun _ => 0))) o (js_ob true 9 [.ref a1, .ref x]))
  exact js_vret rfl dX10_init_17 ⟨a1, rfl, zup_none hf_a1, by rw [js_up_comm (js_nef js_up_s hf_a1), js_up_up]⟩
theorem xq_reach {ρ : js_R} {h : js_H} {em : Nat} {T : Int} {P : Nat → Prop} {B : Nat → Nat} {Bb Bs : Int → Nat} {f : zF} {x : Nat} {u1 u2 u3 u4 u5 u6 u7 : Value} {b n : Int} (hx : h x = some (js_ob true 0 [.ref (B 0), u1, u2, u3, u4, u5, u6, u7])) (hZ : zSt em T P B Bb Bs f h) {T2 : Int} (hI : zI T2 f) (rb : -2147483648 ≤ b ∧ b < 2147483648) (rn : -2147483648 ≤ n ∧ n < 2147483648) : js_Con ρ mX1_reach 11 26 2200 [.ref x, .int (jI b), .int (jI n)] h (zAns (zt2 (0 ≤ b ∧ b ≤ f 0 - 1) (0 ≤ n ∧ n ≤ 20)) (.int (jI (zcn (zrea f (zpt f b) n.toNat) 100))) "java/lang/IndexOutOfBoundsException" "java/lang/IllegalArgumentException" h) := by
  refine js_body [(0, .ref x), (1, .int (jI b)), (2, .int (jI n))] rfl (by decide) (Nat.le_of_ble_eq_true rfl) rfl ?_
  have h01 := zI_01 hI
  have z0 := zt2_c (0 ≤ b ∧ b ≤ f 0 - 1) (0 ≤ n ∧ n ≤ 20)
  obtain ⟨z_10, z_11, ⟨mb_1, rb_1, z_12⟩, ⟨ms_1, rs_1, z_13⟩, z_14, z_15, z_16, z_17, z_18, z_19, z_110, z_111, z_112⟩ := id hZ
  obtain ⟨sa_1, sb_1, sc_1, sd_1, se_1, sf_1, sg_1⟩ := z_111
  obtain ⟨wb_1, cb_1, gb_1, heb_1, rcb_1, hgb_1⟩ := zL_rd z_17 z_10 (by omega)
  obtain ⟨ws_1, cs_1, gs_1, hes_1, rcs_1, hgs_1⟩ := zL_rd z_18 z_10 (by omega)
  obtain ⟨gm_1, ze_1⟩ := z_10
  refine js_aload_n 0 dX1_reach_0 rfl ?_
  refine js_iload_n 1 dX1_reach_1 rfl ?_
  refine vX1_203 (kc' := 25) (ks' := 2194) rfl dX1_reach_2 hx (xc_chkB hx hZ hI (by omega)) (Nat.le_of_ble_eq_true rfl) (by omega) (by omega) (Nat.le_of_ble_eq_true rfl) (fun v2 g2 q2 => ?_) (fun E2 g2 q2 => ?_)
  · obtain ⟨g0_2, ⟨p2, e2⟩ | ⟨_, e2⟩⟩ := q2
    rotate_left
    · cases e2
    cases e2
    rw [g0_2]
    show js_ok ρ mX1_reach _ 11 25 2194 5 [(0, .ref x), (1, .int (jI b)), (2, .int (jI n))] [] h
    refine js_aload_n 0 dX1_reach_5 rfl ?_
    refine js_iload_n 2 dX1_reach_6 rfl ?_
    refine js_bipush dX1_reach_7 rfl ?_
    refine vX1_238 (kc' := 24) (ks' := 2188) rfl dX1_reach_9 hx (xc_chkH (by omega) (by omega)) (Nat.le_of_ble_eq_true rfl) (by omega) (by omega) (Nat.le_of_ble_eq_true rfl) (fun v3 g3 q3 => ?_) (fun E3 g3 q3 => ?_)
    · obtain ⟨g0_3, ⟨p3, e3⟩ | ⟨_, e3⟩⟩ := q3
      rotate_left
      · cases e3
      cases e3
      rw [g0_3]
      show js_ok ρ mX1_reach _ 11 24 2188 12 [(0, .ref x), (1, .int (jI b)), (2, .int (jI n))] [] h
      refine nX1_310 (kc' := 23) (ks' := 2186) rfl dX1_reach_12 (by omega) (by omega) (fun a4 hf_a4 hB_a4 => ?_)
      refine js_dup dX1_reach_15 rfl ?_
      refine js_aload_n 0 dX1_reach_16 rfl ?_
      have hb : 0 ≤ b ∧ b < f 0 := by omega
      have hBp := zIB_p (zI_B hI hb.1 hb.2)
      have no := zSt_new2 hZ hf_a4
      have hxo : zNe x a4 := js_nef hx hf_a4
      refine vX1_312 (kc' := 22) (ks' := 2086) rfl dX1_reach_17 (xc_pini js_up_s) (Nat.le_of_ble_eq_true rfl) (by omega) (by omega) (Nat.le_of_ble_eq_true rfl) (fun v5 g5 q5 => ?_) (fun E5 g5 q5 => by obtain ⟨_, q5, _⟩ := q5; cases q5)
      obtain ⟨aa, e5, hf_aa, rfl⟩ := q5
      cases e5
      have hao : zNe aa a4 := zup_ne hf_aa
      have hxa : zNe x aa := js_nef hx (zup_none hf_aa)
      have na := zSt_new2 hZ (zup_none hf_aa)
      have hz3 := zSt_upO (e := js_ob true 9 [.ref aa, .ref x]) (zSt_upO (e := js_aI true 1 100 (fun _ => 0)) (zSt_upO (e := js_ob true 9 [.null, .null]) hZ no.1 no.2) na.1 na.2) no.1 no.2
      show js_ok ρ mX1_reach _ 11 22 2086 20 [(0, .ref x), (1, .int (jI b)), (2, .int (jI n))] [.ref a4] (js_up (js_up (js_up h a4 (js_ob true 9 [.null, .null])) aa (js_aI true 1 100 (fun _ => 0))) a4 (js_ob true 9 [.ref aa, .ref x]))
      refine js_astore_n (L' := [(3, .ref a4), (0, .ref x), (1, .int (jI b)), (2, .int (jI n))]) dX1_reach_20 (by decide) rfl ?_
      refine js_aload_n 0 dX1_reach_21 rfl ?_
      refine gX1_315 rfl dX1_reach_22 js_up_s rfl ?_
      refine js_aload_n 1 dX1_reach_25 rfl ?_
      refine js_iload_n 2 dX1_reach_26 rfl ?_
      refine eX1_301 rfl dX1_reach_27 ((js_up_n hxo).trans ((js_up_n hxa).trans ((js_up_n hxo).trans hx))) (xc_pointOf ((js_up_n hxo).trans ((js_up_n hxa).trans ((js_up_n hxo).trans hx))) hz3 hI hb) (Nat.le_of_ble_eq_true rfl) (Nat.le_of_ble_eq_true rfl) ?_
      show js_ok ρ mX1_reach _ 11 22 2086 30 [(3, .ref a4), (0, .ref x), (1, .int (jI b)), (2, .int (jI n))] [.int (jI (zpt f b)), .ref aa] (js_up (js_up (js_up h a4 (js_ob true 9 [.null, .null])) aa (js_aI true 1 100 (fun _ => 0))) a4 (js_ob true 9 [.ref aa, .ref x]))
      refine js_iconst dX1_reach_30 ?_
      refine js_zastore dX1_reach_31 ((js_up_n hao).trans js_up_s) (by omega) (by omega) ?_
      show js_ok ρ mX1_reach _ 11 22 2086 32 [(3, .ref a4), (0, .ref x), (1, .int (jI b)), (2, .int (jI n))] [] (js_up (js_up (js_up (js_up h a4 (js_ob true 9 [.null, .null])) aa (js_aI true 1 100 (fun _ => 0))) a4 (js_ob true 9 [.ref aa, .ref x])) aa (js_aI true 1 100 (js_uz ((fun _ => 0)) (zpt f b) 1)))
      refine js_iconst dX1_reach_32 ?_
      refine js_top (b := ((0 : Nat) : Int)) (by omega) ?_
      refine js_istore (L' := [(4, .int (jI (((0 : Nat) : Int)))), (3, .ref a4), (0, .ref x), (1, .int (jI b)), (2, .int (jI n))]) dX1_reach_33 (by decide) rfl ?_
      refine js_sub (L' := [(0, .ref x), (1, .int (jI b)), (2, .int (jI n)), (3, .ref a4), (4, .int (jI (((0 : Nat) : Int))))]) [2, 3, 4, 1, 0] rfl ?_
      refine js_ok.more (js_loop (σ := Nat × Nat × js_H) (fun s => ((s.1 : Nat) : Int) ≤ n ∧ zFr (fun _ => False) h s.2.2 ∧ s.2.2 a4 = some (js_ob true 9 [.ref s.2.1, .ref x]) ∧ s.2.2 s.2.1 = some (js_aI true 1 100 (zrea f (zpt f b) s.1))) (fun s => n.toNat - s.1) (fun s => (20 - s.1)) (fun s => (100 * (20 - s.1))) 35 (fun s => [(0, .ref x), (1, .int (jI b)), (2, .int (jI n)), (3, .ref a4), (4, .int (jI (((s.1 : Nat) : Int))))]) (fun s => []) (fun s => s.2.2) (fun s hk IHs => ?_) (0, aa, (js_up (js_up (js_up (js_up h a4 (js_ob true 9 [.null, .null])) aa (js_aI true 1 100 (fun _ => 0))) a4 (js_ob true 9 [.ref aa, .ref x])) aa (js_aI true 1 100 (js_uz ((fun _ => 0)) (zpt f b) 1)))) (⟨by omega, zFr_upN (zFr_upN (zFr_upN (zFr_new zFr_refl hf_a4) (zup_none hf_aa)) hf_a4) (zup_none hf_aa), ((js_up_n (Ne.symm hao)).trans js_up_s), js_up_s⟩)) (Nat.le_refl _) (by omega) (by omega)
      obtain ⟨k, a0, g⟩ := s
      have hk : ((k : Nat) : Int) ≤ n ∧ zFr (fun _ => False) h g ∧ g a4 = some (js_ob true 9 [.ref a0, .ref x]) ∧ g a0 = some (js_aI true 1 100 (zrea f (zpt f b) k)) := hk
      show js_ok ρ mX1_reach _ 11 ((20 - k)) ((100 * (20 - k))) 35 [(0, .ref x), (1, .int (jI b)), (2, .int (jI n)), (3, .ref a4), (4, .int (jI (((k : Nat) : Int))))] [] g
      obtain ⟨yk, yfr, yo, ya⟩ := hk
      have yZ := zSt_out hZ (Int.le_refl _) yfr (fun a p q => q) (fun q => q)
      have yx := yfr x _ (fun q => q) hx
      refine js_iload 4 dX1_reach_35 rfl ?_
      refine js_iload_n 2 dX1_reach_37 rfl ?_
      refine js_icmp_ge (tgt := 51) dX1_reach_38 (by decide) (by omega) (fun c6 => ?_) (fun c6 => ?_)
      · refine js_aload_n 3 dX1_reach_51 rfl ?_
        refine eX1_320 rfl dX1_reach_52 yo (xc_pmany yo ya (zrea_01 k)) (Nat.le_of_ble_eq_true rfl) (Nat.le_of_ble_eq_true rfl) ?_
        exact js_iret rfl rfl dX1_reach_55 ⟨yfr, Or.inl ⟨by omega, js_reti (by rw [show n.toNat = k by omega])⟩⟩
      · refine js_aload_n 3 dX1_reach_41 rfl ?_
        refine vX1_319 (kc' := ((20 - k) - 1)) (ks' := ((100 * (20 - k)) - 100)) rfl dX1_reach_42 yo (xc_pgo yx yZ hI yo ya (zrea_01 k)) (Nat.le_of_ble_eq_true rfl) (by omega) (by omega) (Nat.le_of_ble_eq_true rfl) (fun v7 g7 q7 => ?_) (fun E7 g7 q7 => by obtain ⟨_, q7, _⟩ := q7; cases q7)
        obtain ⟨vn, e7, hf_vn, rfl⟩ := q7
        cases e7
        have nvo : zNe vn a4 := Ne.symm (js_nef yo hf_vn)
        show js_ok ρ mX1_reach _ 11 (((20 - k) - 1)) (((100 * (20 - k)) - 100)) 45 [(0, .ref x), (1, .int (jI b)), (2, .int (jI n)), (3, .ref a4), (4, .int (jI (((k : Nat) : Int))))] [] (js_up (js_up g vn (js_aI true 1 100 (zgo f (zrea f (zpt f b) k) 100))) a4 (js_ob true 9 [.ref vn, .ref x]))
        refine js_iinc (L' := [(4, .int (jI ((((k : Nat) : Int)) + 1))), (0, .ref x), (1, .int (jI b)), (2, .int (jI n)), (3, .ref a4)]) 4 dX1_reach_45 rfl (by decide) rfl ?_
        refine js_goto (tgt := 35) dX1_reach_48 (by decide) ?_
        refine js_sub (L' := [(0, .ref x), (1, .int (jI b)), (2, .int (jI n)), (3, .ref a4), (4, .int (jI ((((k : Nat) : Int)) + 1)))]) [1, 2, 3, 4, 0] rfl ?_
        exact js_ok.more (IHs ((k + 1), vn, (js_up (js_up g vn (js_aI true 1 100 (zgo f (zrea f (zpt f b) k) 100))) a4 (js_ob true 9 [.ref vn, .ref x]))) (show ((((k + 1)) : Nat) : Int) ≤ n ∧ zFr (fun _ => False) h ((js_up (js_up g vn (js_aI true 1 100 (zgo f (zrea f (zpt f b) k) 100))) a4 (js_ob true 9 [.ref vn, .ref x]))) ∧ ((js_up (js_up g vn (js_aI true 1 100 (zgo f (zrea f (zpt f b) k) 100))) a4 (js_ob true 9 [.ref vn, .ref x]))) a4 = some (js_ob true 9 [.ref vn, .ref x]) ∧ ((js_up (js_up g vn (js_aI true 1 100 (zgo f (zrea f (zpt f b) k) 100))) a4 (js_ob true 9 [.ref vn, .ref x]))) vn = some (js_aI true 1 100 (zrea f (zpt f b) ((k + 1)))) from ⟨by omega, zFr_upN (zFr_new yfr hf_vn) hf_a4, js_up_s, (js_up_n nvo).trans js_up_s⟩) (show n.toNat - ((k + 1)) < n.toNat - k by omega)) (Nat.le_refl _) (by omega) (by omega)
    · obtain ⟨g0_3, ⟨_, e3⟩ | ⟨p3, e3⟩⟩ := q3
      · cases e3
      · cases e3
        rw [g0_3]
        exact js_out rfl ⟨zFr_refl, Or.inr (Or.inr ⟨by omega, rfl⟩)⟩
  · obtain ⟨g0_2, ⟨_, e2⟩ | ⟨p2, e2⟩⟩ := q2
    · cases e2
    · cases e2
      rw [g0_2]
      exact js_out rfl ⟨zFr_refl, Or.inr (Or.inl ⟨by omega, rfl⟩)⟩
