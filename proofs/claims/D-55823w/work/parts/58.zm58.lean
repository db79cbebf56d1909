set_option maxRecDepth 100000
/-! partners, the dearest point, roundsIn -/
theorem zbes {f : zF} {b : Int} {k : Nat} : ((if zpt f b = zpt f (k : Int) then zabs (f (13 + 9 * b + 2) - f (13 + 9 * (k : Int) + 2)) else 9) ≤ 1) ↔ (zpt f k = zpt f b ∧ zabs (f (13 + 9 * k + 2) - f (13 + 9 * b + 2)) < 2) := by
  have a := zabs_c (f (13 + 9 * b + 2) - f (13 + 9 * (k : Int) + 2))
  have c := zabs_c (f (13 + 9 * (k : Int) + 2) - f (13 + 9 * b + 2))
  split <;> omega
theorem xq_partners {ρ : js_R} {h : js_H} {em : Nat} {T : Int} {P : Nat → Prop} {B : Nat → Nat} {Bb Bs : Int → Nat} {f : zF} {x : Nat} {u1 u2 u3 u4 u5 u6 u7 : Value} {b : Int} (hx : h x = some (js_ob true 0 [.ref (B 0), u1, u2, u3, u4, u5, u6, u7])) (hZ : zSt em T P B Bb Bs f h) {T2 : Int} (hI : zI T2 f) (rb : -2147483648 ≤ b ∧ b < 2147483648) : js_Con ρ mX1_partners 11 1 6 [.ref x, .int (jI b)] h (zAns (zt1 (0 ≤ b ∧ b ≤ f 0 - 1)) (.int (zpar f b (f 0).toNat)) "java/lang/IndexOutOfBoundsException" "java/lang/IllegalArgumentException" h) := by
  refine js_body [(0, .ref x), (1, .int (jI b))] rfl (by decide) (Nat.le_of_ble_eq_true rfl) rfl ?_
  have h01 := zI_01 hI
  have z0 := zt1_c (0 ≤ b ∧ b ≤ f 0 - 1)
  obtain ⟨z_10, z_11, ⟨mb_1, rb_1, z_12⟩, ⟨ms_1, rs_1, z_13⟩, z_14, z_15, z_16, z_17, z_18, z_19, z_110, z_111, z_112⟩ := id hZ
  obtain ⟨sa_1, sb_1, sc_1, sd_1, se_1, sf_1, sg_1⟩ := z_111
  obtain ⟨wb_1, cb_1, gb_1, heb_1, rcb_1, hgb_1⟩ := zL_rd z_17 z_10 (by omega)
  obtain ⟨ws_1, cs_1, gs_1, hes_1, rcs_1, hgs_1⟩ := zL_rd z_18 z_10 (by omega)
  obtain ⟨gm_1, ze_1⟩ := z_10
  refine js_aload_n 0 dX1_partners_0 rfl ?_
  refine js_iload_n 1 dX1_partners_1 rfl ?_
  refine vX1_203 (kc' := 0) (ks' := 0) rfl dX1_partners_2 hx (xc_chkB hx hZ hI (by omega)) (Nat.le_of_ble_eq_true rfl) (by omega) (by omega) (Nat.le_of_ble_eq_true rfl) (fun v2 g2 q2 => ?_) (fun E2 g2 q2 => ?_)
  · obtain ⟨g0_2, ⟨p2, e2⟩ | ⟨_, e2⟩⟩ := q2
    rotate_left
    · cases e2
    cases e2
    rw [g0_2]
    show js_ok ρ mX1_partners _ 11 0 0 5 [(0, .ref x), (1, .int (jI b))] [] h
    refine js_iconst dX1_partners_5 ?_
    refine js_istore_n (L' := [(2, .int (jI 0)), (0, .ref x), (1, .int (jI b))]) dX1_partners_6 (by decide) rfl ?_
    refine js_iconst dX1_partners_7 ?_
    refine js_istore_n (L' := [(3, .int (jI 0)), (2, .int (jI 0)), (0, .ref x), (1, .int (jI b))]) dX1_partners_8 (by decide) rfl ?_
    refine js_sub (L' := [(0, .ref x), (1, .int (jI b)), (2, .int (jI 0)), (3, .int (jI 0))]) [2, 3, 1, 0] rfl ?_
    refine js_loop (σ := Nat) (fun k => (k : Int) ≤ f 0) (fun k => (f 0).toNat - k) (fun k => 0) (fun k => 0) 9 (fun k => [(0, .ref x), (1, .int (jI b)), (2, .int (zpar f b k)), (3, .int (jI ((k : Int))))]) (fun k => []) (fun k => h) (fun k hk IHk => ?_) 0 (by omega)
    show js_ok ρ mX1_partners _ 11 0 0 9 [(0, .ref x), (1, .int (jI b)), (2, .int (zpar f b k)), (3, .int (jI ((k : Int))))] [] h
    refine js_iload_n 3 dX1_partners_9 rfl ?_
    refine js_aload_n 0 dX1_partners_10 rfl ?_
    refine gX1_10 rfl dX1_partners_11 hx rfl ?_
    refine gX1_104 rfl dX1_partners_14 z_11 rfl ?_
    refine eX1_108 rfl dX1_partners_17 z_12 (con_lsize z_12 (by omega)) (Nat.le_of_ble_eq_true rfl) (Nat.le_of_ble_eq_true rfl) ?_
    refine js_icmp_ge (tgt := 90) dX1_partners_20 (by decide) (by omega) (fun c4 => ?_) (fun c4 => ?_)
    · refine js_iload_n 2 dX1_partners_90 rfl ?_
      exact js_iret rfl rfl dX1_partners_91 ⟨zFr_refl, Or.inl ⟨by omega, js_retI (by rw [show (f 0).toNat = k by omega])⟩⟩
    · have hB := zI_B hI (b := (k : Int)) (by omega) (by omega)
      have hBp := zIB_p hB
      unfold zIB at hB
      have hB2 := zI_B hI (b := b) (by omega) (by omega)
      have hBp2 := zIB_p hB2
      unfold zIB at hB2
      refine js_iload_n 3 dX1_partners_23 rfl ?_
      refine js_iload_n 1 dX1_partners_24 rfl ?_
      refine js_icmp_eq (tgt := 66) dX1_partners_25 (by decide) (by omega) (fun c5 => ?_) (fun c5 => ?_)
      · refine js_iconst dX1_partners_66 ?_
        refine js_istore (L' := [(4, .int (jI 0)), (0, .ref x), (1, .int (jI b)), (2, .int (zpar f b k)), (3, .int (jI ((k : Int))))]) dX1_partners_67 (by decide) rfl ?_
        refine js_iload_n 3 dX1_partners_69 rfl ?_
        refine js_iload 0 dX1_partners_70 rfl ?_
        refine js_if_eq (tgt := 81) dX1_partners_72 (by decide) (by omega) (fun c6 => ?_) (fun c6 => ?_)
        · refine js_iconst dX1_partners_81 ?_
          refine js_ior dX1_partners_82 ?_
          rw [show ((zpar f b k) ||| (jI 0)) = zpar f b (k + 1) from by
            rw [zpar_s]
            first | rw [if_neg (fun z => absurd z.1.1 (by omega))] | rw [if_neg (fun z => absurd (zbes.mpr ⟨z.1.2, z.2⟩) (by assumption))]]
          show js_ok ρ mX1_partners _ 11 0 0 83 [(4, .int (jI 0)), (0, .ref x), (1, .int (jI b)), (2, .int (zpar f b k)), (3, .int (jI ((k : Int))))] [.int (zpar f b (k + 1))] h
          refine js_istore_n (L' := [(2, .int (zpar f b (k + 1))), (4, .int (jI 0)), (0, .ref x), (1, .int (jI b)), (3, .int (jI ((k : Int))))]) dX1_partners_83 (by decide) rfl ?_
          refine js_iinc (L' := [(3, .int (jI (((k : Int)) + 1))), (2, .int (zpar f b (k + 1))), (4, .int (jI 0)), (0, .ref x), (1, .int (jI b))]) 4 dX1_partners_84 rfl (by decide) rfl ?_
          refine js_goto (tgt := 9) dX1_partners_87 (by decide) ?_
          refine js_sub (L' := [(0, .ref x), (1, .int (jI b)), (2, .int (zpar f b (k + 1))), (3, .int (jI (((k : Int)) + 1)))]) [3, 4, 1, 0] rfl ?_
          exact IHk (k + 1) (by omega) (by omega)
        · exfalso; first | omega | (revert c6; decide)
      · refine js_aload_n 0 dX1_partners_28 rfl ?_
        refine gX1_10 rfl dX1_partners_29 hx rfl ?_
        refine gX1_104 rfl dX1_partners_32 z_11 rfl ?_
        refine js_iload_n 1 dX1_partners_35 rfl ?_
        refine eX1_128 rfl dX1_partners_36 z_12 (con_lget z_12 (by omega) heb_1 (by omega) (by omega)) (Nat.le_of_ble_eq_true rfl) (Nat.le_of_ble_eq_true rfl) ?_
        rw [show gb_1 b = some (Bb b) from hgb_1 _ (by omega) (by omega)]
        show js_ok ρ mX1_partners _ 11 0 0 39 [(0, .ref x), (1, .int (jI b)), (2, .int (zpar f b k)), (3, .int (jI ((k : Int))))] [.ref (Bb b)] h
        refine js_castS (r := (RX5, TX5, 8)) rfl q506 dX1_partners_39 (z_19 b (by omega) (by omega)) ?_
        refine js_aload_n 0 dX1_partners_42 rfl ?_
        refine gX1_10 rfl dX1_partners_43 hx rfl ?_
        refine gX1_104 rfl dX1_partners_46 z_11 rfl ?_
        refine js_iload_n 3 dX1_partners_49 rfl ?_
        refine eX1_128 rfl dX1_partners_50 z_12 (con_lget z_12 (by omega) heb_1 (by omega) (by omega)) (Nat.le_of_ble_eq_true rfl) (Nat.le_of_ble_eq_true rfl) ?_
        rw [show gb_1 ((k : Int)) = some (Bb ((k : Int))) from hgb_1 _ (by omega) (by omega)]
        show js_ok ρ mX1_partners _ 11 0 0 53 [(0, .ref x), (1, .int (jI b)), (2, .int (zpar f b k)), (3, .int (jI ((k : Int))))] [.ref (Bb ((k : Int))), .ref (Bb b)] h
        refine js_castS (r := (RX5, TX5, 8)) rfl q506 dX1_partners_53 (z_19 ((k : Int)) (by omega) (by omega)) ?_
        refine eX1_183 rfl dX1_partners_56 (z_19 b (by omega) (by omega)) (con_bbeside (z_19 b (by omega) (by omega)) (z_19 ((k : Int)) (by omega) (by omega)) (by omega) (by omega) (by omega) (by omega)) (Nat.le_of_ble_eq_true rfl) (Nat.le_of_ble_eq_true rfl) ?_
        refine js_if_eqB (tgt := 66) dX1_partners_59 (by decide) (fun c7 => ?_) (fun c7 => ?_)
        · refine js_iconst dX1_partners_66 ?_
          refine js_istore (L' := [(4, .int (jI 0)), (0, .ref x), (1, .int (jI b)), (2, .int (zpar f b k)), (3, .int (jI ((k : Int))))]) dX1_partners_67 (by decide) rfl ?_
          refine js_iload_n 3 dX1_partners_69 rfl ?_
          refine js_iload 0 dX1_partners_70 rfl ?_
          refine js_if_eq (tgt := 81) dX1_partners_72 (by decide) (by omega) (fun c8 => ?_) (fun c8 => ?_)
          · refine js_iconst dX1_partners_81 ?_
            refine js_ior dX1_partners_82 ?_
            rw [show ((zpar f b k) ||| (jI 0)) = zpar f b (k + 1) from by
              rw [zpar_s]
              first | rw [if_neg (fun z => absurd z.1.1 (by omega))] | rw [if_neg (fun z => absurd (zbes.mpr ⟨z.1.2, z.2⟩) (by assumption))]]
            show js_ok ρ mX1_partners _ 11 0 0 83 [(4, .int (jI 0)), (0, .ref x), (1, .int (jI b)), (2, .int (zpar f b k)), (3, .int (jI ((k : Int))))] [.int (zpar f b (k + 1))] h
            refine js_istore_n (L' := [(2, .int (zpar f b (k + 1))), (4, .int (jI 0)), (0, .ref x), (1, .int (jI b)), (3, .int (jI ((k : Int))))]) dX1_partners_83 (by decide) rfl ?_
            refine js_iinc (L' := [(3, .int (jI (((k : Int)) + 1))), (2, .int (zpar f b (k + 1))), (4, .int (jI 0)), (0, .ref x), (1, .int (jI b))]) 4 dX1_partners_84 rfl (by decide) rfl ?_
            refine js_goto (tgt := 9) dX1_partners_87 (by decide) ?_
            refine js_sub (L' := [(0, .ref x), (1, .int (jI b)), (2, .int (zpar f b (k + 1))), (3, .int (jI (((k : Int)) + 1)))]) [3, 4, 1, 0] rfl ?_
            exact IHk (k + 1) (by omega) (by omega)
          · exfalso; first | omega | (revert c8; decide)
        · refine js_iconst dX1_partners_62 ?_
          refine js_goto (tgt := 67) dX1_partners_63 (by decide) ?_
          refine js_istore (L' := [(4, .int (jI 1)), (0, .ref x), (1, .int (jI b)), (2, .int (zpar f b k)), (3, .int (jI ((k : Int))))]) dX1_partners_67 (by decide) rfl ?_
          refine js_iload_n 3 dX1_partners_69 rfl ?_
          refine js_iload 0 dX1_partners_70 rfl ?_
          refine js_if_eq (tgt := 81) dX1_partners_72 (by decide) (by omega) (fun c9 => ?_) (fun c9 => ?_)
          · exfalso; first | omega | (revert c9; decide)
          · refine js_iconst dX1_partners_75 ?_
            refine js_iload_n 4 dX1_partners_76 rfl ?_
            refine js_ishl dX1_partners_77 ?_
            refine js_goto (tgt := 82) dX1_partners_78 (by decide) ?_
            refine js_ior dX1_partners_82 ?_
            rw [show ((zpar f b k) ||| ((jI 1) <<< ((jI ((k : Int))) &&& 31))) = zpar f b (k + 1) from by
              rw [zpar_s]
              rw [if_pos ⟨⟨by omega, (zbes.mp (by assumption)).1⟩, (zbes.mp (by assumption)).2⟩]]
            show js_ok ρ mX1_partners _ 11 0 0 83 [(4, .int (jI 1)), (0, .ref x), (1, .int (jI b)), (2, .int (zpar f b k)), (3, .int (jI ((k : Int))))] [.int (zpar f b (k + 1))] h
            refine js_istore_n (L' := [(2, .int (zpar f b (k + 1))), (4, .int (jI 1)), (0, .ref x), (1, .int (jI b)), (3, .int (jI ((k : Int))))]) dX1_partners_83 (by decide) rfl ?_
            refine js_iinc (L' := [(3, .int (jI (((k : Int)) + 1))), (2, .int (zpar f b (k + 1))), (4, .int (jI 1)), (0, .ref x), (1, .int (jI b))]) 4 dX1_partners_84 rfl (by decide) rfl ?_
            refine js_goto (tgt := 9) dX1_partners_87 (by decide) ?_
            refine js_sub (L' := [(0, .ref x), (1, .int (jI b)), (2, .int (zpar f b (k + 1))), (3, .int (jI (((k : Int)) + 1)))]) [3, 4, 1, 0] rfl ?_
            exact IHk (k + 1) (by omega) (by omega)
  · obtain ⟨g0_2, ⟨_, e2⟩ | ⟨p2, e2⟩⟩ := q2
    · cases e2
    · cases e2
      rw [g0_2]
      exact js_out rfl ⟨zFr_refl, Or.inr (Or.inl ⟨by omega, rfl⟩)⟩
theorem xq_dearest {ρ : js_R} {h : js_H} {em : Nat} {T : Int} {P : Nat → Prop} {B : Nat → Nat} {Bb Bs : Int → Nat} {f : zF} {x : Nat} {u1 u2 u3 u4 u5 u6 u7 : Value}  (hx : h x = some (js_ob true 0 [.ref (B 0), u1, u2, u3, u4, u5, u6, u7])) (hZ : zSt em T P B Bb Bs f h) {T2 : Int} (hI : zI T2 f)  : js_Con ρ mX1_dearest 10 1 6 [.ref x] h (zAns (zt1 (f (187 + zdb f 99) ≠ 0)) (.int (jI (zdb f 99))) "java/util/NoSuchElementException" "java/lang/IllegalArgumentException" h) := by
  refine js_body [(0, .ref x)] rfl (by decide) (Nat.le_of_ble_eq_true rfl) rfl ?_
  have h01 := zI_01 hI
  obtain ⟨z_10, z_11, ⟨mb_1, rb_1, z_12⟩, ⟨ms_1, rs_1, z_13⟩, z_14, z_15, z_16, z_17, z_18, z_19, z_110, z_111, z_112⟩ := id hZ
  obtain ⟨sa_1, sb_1, sc_1, sd_1, se_1, sf_1, sg_1⟩ := z_111
  obtain ⟨wb_1, cb_1, gb_1, heb_1, rcb_1, hgb_1⟩ := zL_rd z_17 z_10 (by omega)
  obtain ⟨ws_1, cs_1, gs_1, hes_1, rcs_1, hgs_1⟩ := zL_rd z_18 z_10 (by omega)
  obtain ⟨gm_1, ze_1⟩ := z_10
  refine js_iconst dX1_dearest_0 ?_
  refine js_top (b := zdb f 0) (by rfl) ?_
  refine js_istore_n (L' := [(1, .int (jI (zdb f 0))), (0, .ref x)]) dX1_dearest_1 (by decide) rfl ?_
  refine js_iconst dX1_dearest_2 ?_
  refine js_top (b := ((0 : Nat) : Int) + 1) (by omega) ?_
  refine js_istore_n (L' := [(2, .int (jI (((0 : Nat) : Int) + 1))), (1, .int (jI (zdb f 0))), (0, .ref x)]) dX1_dearest_3 (by decide) rfl ?_
  refine js_sub (L' := [(0, .ref x), (1, .int (jI (zdb f 0))), (2, .int (jI (((0 : Nat) : Int) + 1)))]) [2, 1, 0] rfl ?_
  refine js_loop (σ := Nat) (fun k => (k : Int) ≤ 99) (fun k => 99 - k) (fun k => 1) (fun k => 6) 4 (fun k => [(0, .ref x), (1, .int (jI (zdb f k))), (2, .int (jI ((k : Int) + 1)))]) (fun k => []) (fun k => h) (fun k hk IHk => ?_) 0 (by omega)
  show js_ok ρ mX1_dearest _ 10 1 6 4 [(0, .ref x), (1, .int (jI (zdb f k))), (2, .int (jI ((k : Int) + 1)))] [] h
  refine js_iload_n 2 dX1_dearest_4 rfl ?_
  refine js_bipush dX1_dearest_5 rfl ?_
  refine js_icmp_ge (tgt := 43) dX1_dearest_7 (by decide) (by omega) (fun c3 => ?_) (fun c3 => ?_)
  · have ek : k = 99 := by omega
    have r1 := zdb_r (f := f) k
    have g1 : zca f (zdb f k) = f (187 + zdb f k) := zca_g (by omega)
    have q1 := zI_c hI (zdb f k) (by omega) (by omega)
    have tT := zI_T hI
    have z0 := zt1_c (f (187 + zdb f 99) ≠ 0)
    rw [← ek] at z0
    refine js_aload_n 0 dX1_dearest_43 rfl ?_
    refine gX1_10 rfl dX1_dearest_44 hx rfl ?_
    refine gX1_232 rfl dX1_dearest_47 z_11 rfl ?_
    refine js_iload_n 1 dX1_dearest_50 rfl ?_
    refine js_iaload dX1_dearest_51 z_15 (by omega) ?_
    refine js_if_le (tgt := 59) dX1_dearest_52 (by decide) (by omega) (fun c4 => ?_) (fun c4 => ?_)
    · refine js_iconst dX1_dearest_59 ?_
      refine js_top (b := jb False) (jb_f id).symm ?_
      refine vX1_260 (kc' := 0) (ks' := 0) rfl dX1_dearest_60 (con_chkE) (Nat.le_of_ble_eq_true rfl) (by omega) (by omega) (Nat.le_of_ble_eq_true rfl) (fun v5 g5 q5 => ?_) (fun E5 g5 q5 => ?_)
      · obtain ⟨g0_5, ⟨p5, e5⟩ | ⟨_, e5⟩⟩ := q5
        rotate_left
        · cases e5
        cases e5
        rw [g0_5]
        show js_ok ρ mX1_dearest _ 10 0 0 63 [(0, .ref x), (1, .int (jI (zdb f k))), (2, .int (jI ((k : Int) + 1)))] [] h
        refine js_iload_n 1 dX1_dearest_63 rfl ?_
        exact js_iret rfl rfl dX1_dearest_64 ⟨zFr_refl, Or.inl ⟨by rw [← ek]; first | omega | (exfalso; assumption), js_reti (by rw [ek])⟩⟩
      · obtain ⟨g0_5, ⟨_, e5⟩ | ⟨p5, e5⟩⟩ := q5
        · cases e5
        · cases e5
          rw [g0_5]
          exact js_out rfl ⟨zFr_refl, Or.inr (Or.inl ⟨by rw [← ek]; first | omega | exact absurd trivial p5, rfl⟩)⟩
    · refine js_iconst dX1_dearest_55 ?_
      refine js_goto (tgt := 60) dX1_dearest_56 (by decide) ?_
      refine js_top (b := jb True) (jb_t trivial).symm ?_
      refine vX1_260 (kc' := 0) (ks' := 0) rfl dX1_dearest_60 (con_chkE) (Nat.le_of_ble_eq_true rfl) (by omega) (by omega) (Nat.le_of_ble_eq_true rfl) (fun v6 g6 q6 => ?_) (fun E6 g6 q6 => ?_)
      · obtain ⟨g0_6, ⟨p6, e6⟩ | ⟨_, e6⟩⟩ := q6
        rotate_left
        · cases e6
        cases e6
        rw [g0_6]
        show js_ok ρ mX1_dearest _ 10 0 0 63 [(0, .ref x), (1, .int (jI (zdb f k))), (2, .int (jI ((k : Int) + 1)))] [] h
        refine js_iload_n 1 dX1_dearest_63 rfl ?_
        exact js_iret rfl rfl dX1_dearest_64 ⟨zFr_refl, Or.inl ⟨by rw [← ek]; first | omega | (exfalso; assumption), js_reti (by rw [ek])⟩⟩
      · obtain ⟨g0_6, ⟨_, e6⟩ | ⟨p6, e6⟩⟩ := q6
        · cases e6
        · cases e6
          rw [g0_6]
          exact js_out rfl ⟨zFr_refl, Or.inr (Or.inl ⟨by rw [← ek]; first | omega | exact absurd trivial p6, rfl⟩)⟩
  · have r1 := zdb_r (f := f) k
    have g1 : zca f (zdb f k) = f (187 + zdb f k) := zca_g (by omega)
    have g2 : zca f ((k : Int) + 1) = f (187 + ((k : Int) + 1)) := zca_g (by omega)
    have q1 := zI_c hI (zdb f k) (by omega) (by omega)
    have q2 := zI_c hI ((k : Int) + 1) (by omega) (by omega)
    have tT := zI_T hI
    refine js_aload_n 0 dX1_dearest_10 rfl ?_
    refine gX1_10 rfl dX1_dearest_11 hx rfl ?_
    refine gX1_232 rfl dX1_dearest_14 z_11 rfl ?_
    refine js_iload_n 2 dX1_dearest_17 rfl ?_
    refine js_iaload dX1_dearest_18 z_15 (by omega) ?_
    refine js_aload_n 0 dX1_dearest_19 rfl ?_
    refine gX1_10 rfl dX1_dearest_20 hx rfl ?_
    refine gX1_232 rfl dX1_dearest_23 z_11 rfl ?_
    refine js_iload_n 1 dX1_dearest_26 rfl ?_
    refine js_iaload dX1_dearest_27 z_15 (by omega) ?_
    refine js_icmp_le (tgt := 35) dX1_dearest_28 (by decide) (by omega) (fun c7 => ?_) (fun c7 => ?_)
    · refine js_iload_n 1 dX1_dearest_35 rfl ?_
      refine js_top (b := zdb f (k + 1)) (by show (zdb f k : Int) = if f (187 + zdb f k) < f (187 + ((k : Int) + 1)) then (k : Int) + 1 else zdb f k; split <;> omega) ?_
      refine js_istore_n (L' := [(1, .int (jI (zdb f (k + 1)))), (0, .ref x), (2, .int (jI ((k : Int) + 1)))]) dX1_dearest_36 (by decide) rfl ?_
      refine js_iinc (L' := [(2, .int (jI (((k : Int) + 1) + 1))), (1, .int (jI (zdb f (k + 1)))), (0, .ref x)]) 2 dX1_dearest_37 rfl (by decide) rfl ?_
      refine js_goto (tgt := 4) dX1_dearest_40 (by decide) ?_
      refine js_sub (L' := [(0, .ref x), (1, .int (jI (zdb f (k + 1)))), (2, .int (jI (((k : Int) + 1) + 1)))]) [2, 1, 0] rfl ?_
      exact IHk (k + 1) (by omega) (by omega)
    · refine js_iload_n 2 dX1_dearest_31 rfl ?_
      refine js_goto (tgt := 36) dX1_dearest_32 (by decide) ?_
      refine js_top (b := zdb f (k + 1)) (by show ((k : Int) + 1 : Int) = if f (187 + zdb f k) < f (187 + ((k : Int) + 1)) then (k : Int) + 1 else zdb f k; split <;> omega) ?_
      refine js_istore_n (L' := [(1, .int (jI (zdb f (k + 1)))), (0, .ref x), (2, .int (jI ((k : Int) + 1)))]) dX1_dearest_36 (by decide) rfl ?_
      refine js_iinc (L' := [(2, .int (jI (((k : Int) + 1) + 1))), (1, .int (jI (zdb f (k + 1)))), (0, .ref x)]) 2 dX1_dearest_37 rfl (by decide) rfl ?_
      refine js_goto (tgt := 4) dX1_dearest_40 (by decide) ?_
      refine js_sub (L' := [(0, .ref x), (1, .int (jI (zdb f (k + 1)))), (2, .int (jI (((k : Int) + 1) + 1)))]) [2, 1, 0] rfl ?_
      exact IHk (k + 1) (by omega) (by omega)
theorem zhr_5 {T : Int} {g : zF} {b : Int} (h : zI T g) (hb : 0 ≤ b ∧ b < g 0) (h3 : 1 ≤ g (13 + 9 * b + 2)) (hT : T + 13 ≤ 1000000) : g (13 + 9 * b + 5) ≤ zhr g (13 + 9 * b + 5) := by
  have a := (zAg_hr h hb hT).2.2.1 5 (by decide) (by decide)
  rw [show z1 g b = zfly g b from if_neg (by omega)] at a
  obtain ⟨v0, v2, v3, v4, v7, v5, vc, vq, vn, vG, vN⟩ := zfly_v h hb.1 hb.2 h3 rfl
  by_cases G : zgG g b (znext (zpt g b) (g (7 + g (13 + 9 * b + 2))))
  · have := (vG G).1; omega
  · have := (vN G).1; omega
theorem xq_roundsIn {ρ : js_R} {h : js_H} {em : Nat} {T : Int} {P : Nat → Prop} {B : Nat → Nat} {Bb Bs : Int → Nat} {f : zF} {x : Nat} {u1 u2 u3 u4 u5 u6 u7 : Value} {b : Int} (hx : h x = some (js_ob true 0 [.ref (B 0), u1, u2, u3, u4, u5, u6, u7])) (hZ : zSt em T P B Bb Bs f h) {T2 : Int} (hI : zI T2 f) (hT : T2 + 1000 ≤ 1000000) (rb : -2147483648 ≤ b ∧ b < 2147483648) : js_Con ρ mX1_roundsIn 11 6 40 [.ref x, .int (jI b)] h (zAns (zt2 (0 ≤ b ∧ b ≤ f 0 - 1) (zhrs f (zri f b) (13 + 9 * b + 5) ≠ f (13 + 9 * b + 5))) (.int (jI ((zri f b : Nat) : Int))) "java/lang/IndexOutOfBoundsException" "java/util/NoSuchElementException" h) := by
  refine js_body [(0, .ref x), (1, .int (jI b))] rfl (by decide) (Nat.le_of_ble_eq_true rfl) rfl ?_
  have h01 := zI_01 hI
  obtain ⟨z_10, z_11, ⟨mb_1, rb_1, z_12⟩, ⟨ms_1, rs_1, z_13⟩, z_14, z_15, z_16, z_17, z_18, z_19, z_110, z_111, z_112⟩ := id hZ
  obtain ⟨sa_1, sb_1, sc_1, sd_1, se_1, sf_1, sg_1⟩ := z_111
  obtain ⟨wb_1, cb_1, gb_1, heb_1, rcb_1, hgb_1⟩ := zL_rd z_17 z_10 (by omega)
  obtain ⟨ws_1, cs_1, gs_1, hes_1, rcs_1, hgs_1⟩ := zL_rd z_18 z_10 (by omega)
  obtain ⟨gm_1, ze_1⟩ := z_10
  refine js_aload_n 0 dX1_roundsIn_0 rfl ?_
  refine js_iload_n 1 dX1_roundsIn_1 rfl ?_
  refine vX1_203 (kc' := 5) (ks' := 34) rfl dX1_roundsIn_2 hx (xc_chkB hx hZ hI (by omega)) (Nat.le_of_ble_eq_true rfl) (by omega) (by omega) (Nat.le_of_ble_eq_true rfl) (fun v2 g2 q2 => ?_) (fun E2 g2 q2 => ?_)
  · obtain ⟨g0_2, ⟨p2, e2⟩ | ⟨_, e2⟩⟩ := q2
    rotate_left
    · cases e2
    cases e2
    rw [g0_2]
    show js_ok ρ mX1_roundsIn _ 11 5 34 5 [(0, .ref x), (1, .int (jI b))] [] h
    have hb0 : 0 ≤ b ∧ b < f 0 := by omega
    have hB := zI_B hI hb0.1 hb0.2
    unfold zIB at hB
    refine nX1_241 (kc' := 4) (ks' := 31) rfl dX1_roundsIn_5 (by omega) (by omega) (fun a3 hf_a3 hB_a3 => ?_)
    refine js_dup dX1_roundsIn_8 rfl ?_
    refine js_aload_n 0 dX1_roundsIn_9 rfl ?_
    refine js_iload_n 1 dX1_roundsIn_10 rfl ?_
    have nt := zSt_new2 hZ hf_a3
    have hb : 0 ≤ b ∧ b < f 0 := by omega
    have hxa : zNe x a3 := js_nef hx hf_a3
    refine vX1_243 (kc' := 3) (ks' := 23) rfl dX1_roundsIn_11 (xc_tinit (b := b) ((js_up_n hxa).trans hx) (zSt_upO hZ nt.1 nt.2) hI js_up_s hb) (Nat.le_of_ble_eq_true rfl) (by omega) (by omega) (Nat.le_of_ble_eq_true rfl) (fun v4 g4 q4 => ?_) (fun E4 g4 q4 => by obtain ⟨_, q4, _⟩ := q4; cases q4)
    obtain ⟨th4, e4, hf_th4, rfl⟩ := q4
    cases e4
    have nth := zSt_new2 hZ (zup_none hf_th4)
    have hxt : zNe x th4 := js_nef hx (zup_none hf_th4)
    have htt : zNe th4 a3 := zup_ne hf_th4
    have z3 := zSt_upO (e := js_ob true 8 [.ref th4, .int (jI 0), .ref x]) (zSt_upO (e := zBt (zhrs f 0) b (f (13 + 9 * b + 7))) (zSt_upO (e := js_ob true 8 [.null, .int (jI 0), .null]) hZ nt.1 nt.2) nth.1 nth.2) nt.1 nt.2
    show js_ok ρ mX1_roundsIn _ 11 3 23 14 [(0, .ref x), (1, .int (jI b))] [.ref a3] (js_up (js_up (js_up h a3 (js_ob true 8 [.null, .int (jI 0), .null])) th4 (zBt (zhrs f 0) b (f (13 + 9 * b + 7)))) a3 (js_ob true 8 [.ref th4, .int (jI 0), .ref x]))
    refine js_astore_n (L' := [(2, .ref a3), (0, .ref x), (1, .int (jI b))]) dX1_roundsIn_14 (by decide) rfl ?_
    refine js_aload_n 0 dX1_roundsIn_15 rfl ?_
    refine gX1_250 rfl dX1_roundsIn_16 js_up_s rfl ?_
    refine gX1_210 rfl dX1_roundsIn_19 ((js_up_n htt).trans js_up_s) rfl ?_
    refine js_top (b := f (13 + 9 * b + 5)) (by rfl) ?_
    refine js_istore_n (L' := [(3, .int (jI (f (13 + 9 * b + 5)))), (2, .ref a3), (0, .ref x), (1, .int (jI b))]) dX1_roundsIn_22 (by decide) rfl ?_
    refine js_sub (L' := [(0, .ref x), (1, .int (jI b)), (2, .ref a3), (3, .int (jI (f (13 + 9 * b + 5))))]) [2, 3, 1, 0] rfl ?_
    refine js_loop (σ := Nat × js_H) (fun s => ((s.1 : Nat) : Int) ≤ 60 ∧ zFr (fun a => a = a3 ∨ a = th4) (js_up (js_up (js_up h a3 (js_ob true 8 [.null, .int (jI 0), .null])) th4 (zBt (zhrs f 0) b (f (13 + 9 * b + 7)))) a3 (js_ob true 8 [.ref th4, .int (jI 0), .ref x])) s.2 ∧ s.2 a3 = some (js_ob true 8 [.ref th4, .int (jI ((s.1 : Nat) : Int)), .ref x]) ∧ s.2 th4 = some (zBt (zhrs f s.1) b (f (13 + 9 * b + 7))) ∧ (∀ j : Nat, j < s.1 → 0 < zhrs f j (13 + 9 * b + 2) ∧ zhrs f j (13 + 9 * b + 5) = f (13 + 9 * b + 5)) ∧ zhrs f s.1 (13 + 9 * b + 5) = f (13 + 9 * b + 5)) (fun s => 61 - s.1) (fun s => 3) (fun s => 23) 23 (fun s => [(0, .ref x), (1, .int (jI b)), (2, .ref a3), (3, .int (jI (f (13 + 9 * b + 5))))]) (fun s => []) (fun s => s.2) (fun s hk IHs => ?_) (0, (js_up (js_up (js_up h a3 (js_ob true 8 [.null, .int (jI 0), .null])) th4 (zBt (zhrs f 0) b (f (13 + 9 * b + 7)))) a3 (js_ob true 8 [.ref th4, .int (jI 0), .ref x]))) (⟨by omega, zFr_refl, js_up_s, ((js_up_n htt).trans js_up_s), fun j z => absurd z (Nat.not_lt_zero j), rfl⟩)
    obtain ⟨k, g⟩ := s
    have hk : ((k : Nat) : Int) ≤ 60 ∧ zFr (fun a => a = a3 ∨ a = th4) (js_up (js_up (js_up h a3 (js_ob true 8 [.null, .int (jI 0), .null])) th4 (zBt (zhrs f 0) b (f (13 + 9 * b + 7)))) a3 (js_ob true 8 [.ref th4, .int (jI 0), .ref x])) g ∧ g a3 = some (js_ob true 8 [.ref th4, .int (jI ((k : Nat) : Int)), .ref x]) ∧ g th4 = some (zBt (zhrs f k) b (f (13 + 9 * b + 7))) ∧ (∀ j : Nat, j < k → 0 < zhrs f j (13 + 9 * b + 2) ∧ zhrs f j (13 + 9 * b + 5) = f (13 + 9 * b + 5)) ∧ zhrs f k (13 + 9 * b + 5) = f (13 + 9 * b + 5) := hk
    show js_ok ρ mX1_roundsIn _ 11 3 23 23 [(0, .ref x), (1, .int (jI b)), (2, .ref a3), (3, .int (jI (f (13 + 9 * b + 5))))] [] g
    obtain ⟨yk, yfr, yt, yth, yP, y5⟩ := hk
    have xfr : zFr (fun _ => False) h g := zFr_new2 hf_a3 (zup_none hf_th4) yfr
    have yZ := zSt_out hZ (Int.le_refl _) xfr (fun a p q => q) (fun q => q)
    have yx := xfr x _ (fun q => q) hx
    obtain ⟨iK, e0, e1⟩ := zhrs_I hI k (by omega)
    have hBK := zI_B iK hb.1 (by omega)
    unfold zIB at hBK
    have pot := zpot hI hb k (by omega) (fun j z => (yP j z).1)
    have k58 : 0 < zhrs f k (13 + 9 * b + 2) → (k : Int) ≤ 44 := fun z => by omega
    obtain ⟨iN, n0, n1⟩ := zhrs_I hI (k + 1) (by omega)
    have hBN := zI_B iN hb.1 (by omega)
    unfold zIB at hBN
    refine js_aload_n 2 dX1_roundsIn_23 rfl ?_
    refine gX1_250 rfl dX1_roundsIn_24 yt rfl ?_
    refine eX1_175 rfl dX1_roundsIn_27 yth (con_flies yth (by omega)) (Nat.le_of_ble_eq_true rfl) (Nat.le_of_ble_eq_true rfl) ?_
    refine js_if_eqB (tgt := 53) dX1_roundsIn_30 (by decide) (fun c5 => ?_) (fun c5 => ?_)
    · have ri2 : zri f b = k := zfst_eq (P := fun j : Nat => 0 < zhrs f j (13 + 9 * b + 2) ∧ zhrs f j (13 + 9 * b + 5) = f (13 + 9 * b + 5)) yP (fun z => by have := z.1; omega) (by omega)
      have ri1 : zt2 (0 ≤ b ∧ b ≤ f 0 - 1) (zhrs f (zri f b) (13 + 9 * b + 5) ≠ f (13 + 9 * b + 5)) = 2 := by
        have z0 := zt2_c (0 ≤ b ∧ b ≤ f 0 - 1) (zhrs f (zri f b) (13 + 9 * b + 5) ≠ f (13 + 9 * b + 5))
        rw [ri2] at z0 ⊢
        omega
      exact js_throw (kc' := 0) (ks' := 0) thX1_65 q1497 q116 rfl (Nat.le_of_ble_eq_true rfl) (by omega) (by omega) (by omega) (by decide) dX1_roundsIn_53 dX1_roundsIn_56 dX1_roundsIn_57 dX1_roundsIn_60 ⟨xfr, Or.inr (Or.inr ⟨ri1, rfl⟩)⟩
    · refine js_aload_n 2 dX1_roundsIn_33 rfl ?_
      have k44 := k58 (by omega)
      have m5 : zhrs f k (13 + 9 * b + 5) ≤ zhrs f (k + 1) (13 + 9 * b + 5) := zhr_5 iK ⟨hb.1, by omega⟩ (by omega) (by omega)
      refine eX1_254 rfl dX1_roundsIn_34 yt (xc_tgo yx yZ hI hT yt yth nt nth hb (by omega)) (Nat.le_of_ble_eq_true rfl) (Nat.le_of_ble_eq_true rfl) ?_
      show js_ok ρ mX1_roundsIn _ 11 3 23 37 [(0, .ref x), (1, .int (jI b)), (2, .ref a3), (3, .int (jI (f (13 + 9 * b + 5))))] [] (js_up (js_up g th4 (js_ob true 4 [.int (jI (zpt ((zhrs f (k + 1))) b)), .int (jI (((zhrs f (k + 1))) (13 + 9 * b + 2))), .int (jI (((zhrs f (k + 1))) (13 + 9 * b + 3))), .int (jI (((zhrs f (k + 1))) (13 + 9 * b + 4))), .int (jI (((zhrs f (k + 1))) (13 + 9 * b + 5))), .int (jI (((zhrs f (k + 1))) (13 + 9 * b + 6))), .int (jI (f (13 + 9 * b + 7))), .int (jI (((zhrs f (k + 1))) (13 + 9 * b + 8)))])) a3 (js_ob true 8 [.ref th4, .int (jI ((k : Int) + 1)), .ref x]))
      refine js_aload_n 2 dX1_roundsIn_37 rfl ?_
      refine gX1_250 rfl dX1_roundsIn_38 js_up_s rfl ?_
      refine gX1_210 rfl dX1_roundsIn_41 ((js_up_n htt).trans js_up_s) rfl ?_
      refine js_iload_n 3 dX1_roundsIn_44 rfl ?_
      refine js_icmp_le (tgt := 23) dX1_roundsIn_45 (by decide) (by omega) (fun c6 => ?_) (fun c6 => ?_)
      · exact IHs ((k + 1), (js_up (js_up g th4 (js_ob true 4 [.int (jI (zpt ((zhrs f (k + 1))) b)), .int (jI (((zhrs f (k + 1))) (13 + 9 * b + 2))), .int (jI (((zhrs f (k + 1))) (13 + 9 * b + 3))), .int (jI (((zhrs f (k + 1))) (13 + 9 * b + 4))), .int (jI (((zhrs f (k + 1))) (13 + 9 * b + 5))), .int (jI (((zhrs f (k + 1))) (13 + 9 * b + 6))), .int (jI (f (13 + 9 * b + 7))), .int (jI (((zhrs f (k + 1))) (13 + 9 * b + 8)))])) a3 (js_ob true 8 [.ref th4, .int (jI ((k : Int) + 1)), .ref x]))) (show ((((k + 1)) : Nat) : Int) ≤ 60 ∧ zFr (fun a => a = a3 ∨ a = th4) (js_up (js_up (js_up h a3 (js_ob true 8 [.null, .int (jI 0), .null])) th4 (zBt (zhrs f 0) b (f (13 + 9 * b + 7)))) a3 (js_ob true 8 [.ref th4, .int (jI 0), .ref x])) ((js_up (js_up g th4 (js_ob true 4 [.int (jI (zpt ((zhrs f (k + 1))) b)), .int (jI (((zhrs f (k + 1))) (13 + 9 * b + 2))), .int (jI (((zhrs f (k + 1))) (13 + 9 * b + 3))), .int (jI (((zhrs f (k + 1))) (13 + 9 * b + 4))), .int (jI (((zhrs f (k + 1))) (13 + 9 * b + 5))), .int (jI (((zhrs f (k + 1))) (13 + 9 * b + 6))), .int (jI (f (13 + 9 * b + 7))), .int (jI (((zhrs f (k + 1))) (13 + 9 * b + 8)))])) a3 (js_ob true 8 [.ref th4, .int (jI ((k : Int) + 1)), .ref x]))) ∧ ((js_up (js_up g th4 (js_ob true 4 [.int (jI (zpt ((zhrs f (k + 1))) b)), .int (jI (((zhrs f (k + 1))) (13 + 9 * b + 2))), .int (jI (((zhrs f (k + 1))) (13 + 9 * b + 3))), .int (jI (((zhrs f (k + 1))) (13 + 9 * b + 4))), .int (jI (((zhrs f (k + 1))) (13 + 9 * b + 5))), .int (jI (((zhrs f (k + 1))) (13 + 9 * b + 6))), .int (jI (f (13 + 9 * b + 7))), .int (jI (((zhrs f (k + 1))) (13 + 9 * b + 8)))])) a3 (js_ob true 8 [.ref th4, .int (jI ((k : Int) + 1)), .ref x]))) a3 = some (js_ob true 8 [.ref th4, .int (jI ((((k + 1)) : Nat) : Int)), .ref x]) ∧ ((js_up (js_up g th4 (js_ob true 4 [.int (jI (zpt ((zhrs f (k + 1))) b)), .int (jI (((zhrs f (k + 1))) (13 + 9 * b + 2))), .int (jI (((zhrs f (k + 1))) (13 + 9 * b + 3))), .int (jI (((zhrs f (k + 1))) (13 + 9 * b + 4))), .int (jI (((zhrs f (k + 1))) (13 + 9 * b + 5))), .int (jI (((zhrs f (k + 1))) (13 + 9 * b + 6))), .int (jI (f (13 + 9 * b + 7))), .int (jI (((zhrs f (k + 1))) (13 + 9 * b + 8)))])) a3 (js_ob true 8 [.ref th4, .int (jI ((k : Int) + 1)), .ref x]))) th4 = some (zBt (zhrs f ((k + 1))) b (f (13 + 9 * b + 7))) ∧ (∀ j : Nat, j < ((k + 1)) → 0 < zhrs f j (13 + 9 * b + 2) ∧ zhrs f j (13 + 9 * b + 5) = f (13 + 9 * b + 5)) ∧ zhrs f ((k + 1)) (13 + 9 * b + 5) = f (13 + 9 * b + 5) from ⟨by omega, zFr_up (zFr_up yfr (Or.inr rfl)) (Or.inl rfl), js_up_s, ((js_up_n htt).trans js_up_s), fun j z => by
              by_cases q : j = k
              · subst q; exact ⟨by omega, by omega⟩
              · exact yP j (by omega), by omega⟩) (show 61 - ((k + 1)) < 61 - k by omega)
      · have ri2 : zri f b = k + 1 := zfst_eq (P := fun j : Nat => 0 < zhrs f j (13 + 9 * b + 2) ∧ zhrs f j (13 + 9 * b + 5) = f (13 + 9 * b + 5)) (fun j z => by
          by_cases q : j = k
          · subst q; exact ⟨by omega, by omega⟩
          · exact yP j (by omega)) (fun z => by have := z.2; omega) (by omega)
        have ri1 : zt2 (0 ≤ b ∧ b ≤ f 0 - 1) (zhrs f (zri f b) (13 + 9 * b + 5) ≠ f (13 + 9 * b + 5)) = 0 := by
          have z0 := zt2_c (0 ≤ b ∧ b ≤ f 0 - 1) (zhrs f (zri f b) (13 + 9 * b + 5) ≠ f (13 + 9 * b + 5))
          rw [ri2] at z0 ⊢
          omega
        refine js_aload_n 2 dX1_roundsIn_48 rfl ?_
        refine gX1_257 rfl dX1_roundsIn_49 js_up_s rfl ?_
        exact js_iret rfl rfl dX1_roundsIn_52 ⟨zFr_upN (zFr_upN xfr (zup_none hf_th4)) hf_a3, Or.inl ⟨ri1, js_reti (by rw [ri2]; rfl)⟩⟩
  · obtain ⟨g0_2, ⟨_, e2⟩ | ⟨p2, e2⟩⟩ := q2
    · cases e2
    · cases e2
      rw [g0_2]
      exact js_out rfl ⟨zFr_refl, Or.inr (Or.inl ⟨by rcases zt2_c (0 ≤ b ∧ b ≤ f 0 - 1) (zhrs f (zri f b) (13 + 9 * b + 5) ≠ f (13 + 9 * b + 5)) with z | z | z; exact z.1; exact absurd z.2.1 p2; exact absurd z.2.1 p2, rfl⟩)⟩
