set_option maxRecDepth 100000
/-! refusals; the past is kept before a change -/
theorem xc_refuse {ρ : js_R} {h : js_H} {x : Nat} {u0 u1 u2 u3 u4 u5 u6 u7 : Value} {p : Prop} {n d : Int} (hx : h x = some (js_ob true 0 [u0, u1, u2, u3, u4, u5, u6, u7]))  : js_Con ρ mX1_refuse 10 2 9 [.ref x, .int (jI (jb p)), .int (jI n), .int (jI d)] h (zRf x u0 u1 u2 u3 u4 u5 u6 p n d h) := by
  refine js_body [(0, .ref x), (1, .int (jI (jb p))), (2, .int (jI n)), (3, .int (jI d))] rfl (by decide) (Nat.le_of_ble_eq_true rfl) rfl ?_
  refine js_iload_n 1 dX1_refuse_0 rfl ?_
  refine js_if_eqB (tgt := 26) dX1_refuse_1 (by decide) (fun c1 => ?_) (fun c1 => ?_)
  · exact js_vret rfl dX1_refuse_26 (Or.inl ⟨by assumption, rfl, rfl⟩)
  · refine js_aload_n 0 dX1_refuse_4 rfl ?_
    refine nX1_37 (kc' := 1) (ks' := 6) rfl dX1_refuse_5 (by omega) (by omega) (fun a2 hf_a2 hB_a2 => ?_)
    refine js_dup dX1_refuse_8 rfl ?_
    refine js_iload_n 2 dX1_refuse_9 rfl ?_
    refine js_iload_n 3 dX1_refuse_10 rfl ?_
    refine js_null dX1_refuse_11 ?_
    refine eX1_39 rfl dX1_refuse_12 (con_rinit js_up_s) (Nat.le_of_ble_eq_true rfl) (Nat.le_of_ble_eq_true rfl) ?_
    rw [js_up_up]
    show js_ok ρ mX1_refuse _ 10 1 6 15 [(0, .ref x), (1, .int (jI (jb p))), (2, .int (jI n)), (3, .int (jI d))] [.ref a2, .ref x] (js_up h a2 (js_ob true 3 [.int (jI n), .int (jI d), .null]))
    refine pX1_42 rfl dX1_refuse_15 ((js_up_n (js_nef hx hf_a2)).trans hx) (Nat.le_of_ble_eq_true rfl) rfl rfl ?_
    show js_ok ρ mX1_refuse _ 10 1 6 18 [(0, .ref x), (1, .int (jI (jb p))), (2, .int (jI n)), (3, .int (jI d))] [] (js_up (js_up h a2 (js_ob true 3 [.int (jI n), .int (jI d), .null])) x (js_ob true 0 [u0, u1, u2, u3, u4, u5, u6, .ref a2]))
    exact js_throw (kc' := 0) (ks' := 0) thX1_48 q1155 q114 rfl (Nat.le_of_ble_eq_true rfl) (by omega) (by omega) (by omega) (by decide) dX1_refuse_18 dX1_refuse_21 dX1_refuse_22 dX1_refuse_25 (Or.inr ⟨by assumption, rfl, a2, by assumption, rfl⟩)
theorem xc_inRange {ρ : js_R} {h : js_H} {x : Nat} {u0 u1 u2 u3 u4 u5 u6 u7 : Value} {v lo hi : Int} (hx : h x = some (js_ob true 0 [u0, u1, u2, u3, u4, u5, u6, u7])) (rv : -2147483648 ≤ v ∧ v < 2147483648) (rlo : -2147483648 ≤ lo ∧ lo < 2147483648) (rhi : -2147483648 ≤ hi ∧ hi < 2147483648) : js_Con ρ mX1_inRange 11 2 9 [.ref x, .int (jI v), .int (jI lo), .int (jI hi)] h (zRf x u0 u1 u2 u3 u4 u5 u6 (¬ (lo ≤ v ∧ v ≤ hi)) 4 v h) := by
  refine js_body [(0, .ref x), (1, .int (jI v)), (2, .int (jI lo)), (3, .int (jI hi))] rfl (by decide) (Nat.le_of_ble_eq_true rfl) rfl ?_
  refine js_aload_n 0 dX1_inRange_0 rfl ?_
  refine js_iload_n 1 dX1_inRange_1 rfl ?_
  refine js_iload_n 2 dX1_inRange_2 rfl ?_
  refine js_iload_n 3 dX1_inRange_3 rfl ?_
  refine eX1_49 rfl dX1_inRange_4 (con_isBetween (by omega) (by omega) (by omega)) (Nat.le_of_ble_eq_true rfl) (Nat.le_of_ble_eq_true rfl) ?_
  refine js_if_neB (tgt := 14) dX1_inRange_7 (by decide) (fun c1 => ?_) (fun c1 => ?_)
  · refine js_iconst dX1_inRange_14 ?_
    refine js_top (b := jb False) (jb_f id).symm ?_
    refine js_iconst dX1_inRange_15 ?_
    refine js_iload_n 1 dX1_inRange_16 rfl ?_
    refine vX1_53 (kc' := 0) (ks' := 0) rfl dX1_inRange_17 hx (xc_refuse hx) (Nat.le_of_ble_eq_true rfl) (by omega) (by omega) (Nat.le_of_ble_eq_true rfl) (fun v2 g2 q2 => ?_) (fun E2 g2 q2 => ?_)
    · obtain ⟨p2, e2, g0_2⟩ | ⟨_, e2, _⟩ := q2
      rotate_left
      · cases e2
      cases e2
      rw [g0_2]
      show js_ok ρ mX1_inRange _ 11 0 0 20 [(0, .ref x), (1, .int (jI v)), (2, .int (jI lo)), (3, .int (jI hi))] [] h
      exact js_vret rfl dX1_inRange_20 (Or.inl ⟨by first | omega | (exfalso; exact absurd trivial (by assumption)), rfl, rfl⟩)
    · obtain ⟨_, e2, _⟩ | ⟨p2, e2, r2⟩ := q2
      · cases e2
      · cases e2
        exact js_out rfl (Or.inr ⟨by first | omega | exact absurd p2 id, rfl, r2⟩)
  · refine js_iconst dX1_inRange_10 ?_
    refine js_goto (tgt := 15) dX1_inRange_11 (by decide) ?_
    refine js_top (b := jb True) (jb_t trivial).symm ?_
    refine js_iconst dX1_inRange_15 ?_
    refine js_iload_n 1 dX1_inRange_16 rfl ?_
    refine vX1_53 (kc' := 0) (ks' := 0) rfl dX1_inRange_17 hx (xc_refuse hx) (Nat.le_of_ble_eq_true rfl) (by omega) (by omega) (Nat.le_of_ble_eq_true rfl) (fun v3 g3 q3 => ?_) (fun E3 g3 q3 => ?_)
    · obtain ⟨p3, e3, g0_3⟩ | ⟨_, e3, _⟩ := q3
      rotate_left
      · cases e3
      cases e3
      rw [g0_3]
      show js_ok ρ mX1_inRange _ 11 0 0 20 [(0, .ref x), (1, .int (jI v)), (2, .int (jI lo)), (3, .int (jI hi))] [] h
      exact js_vret rfl dX1_inRange_20 (Or.inl ⟨by first | omega | (exfalso; exact absurd trivial (by assumption)), rfl, rfl⟩)
    · obtain ⟨_, e3, _⟩ | ⟨p3, e3, r3⟩ := q3
      · cases e3
      · cases e3
        exact js_out rfl (Or.inr ⟨by first | omega | exact absurd p3 id, rfl, r3⟩)
theorem xc_mustB {ρ : js_R} {h : js_H} {em : Nat} {T : Int} {P : Nat → Prop} {B : Nat → Nat} {Bb Bs : Int → Nat} {f : zF} {x : Nat} {u1 u2 u3 u4 u5 u6 u7 : Value} {b : Int} (hx : h x = some (js_ob true 0 [.ref (B 0), u1, u2, u3, u4, u5, u6, u7])) (hZ : zSt em T P B Bb Bs f h) {T2 : Int} (hI : zI T2 f) (rb : -2147483648 ≤ b ∧ b < 2147483648) : js_Con ρ mX1_mustBeBalloon 11 2 9 [.ref x, .int (jI b)] h (zRf x (.ref (B 0)) u1 u2 u3 u4 u5 u6 (¬ (0 ≤ b ∧ b ≤ f 0 - 1)) 5 b h) := by
  refine js_body [(0, .ref x), (1, .int (jI b))] rfl (by decide) (Nat.le_of_ble_eq_true rfl) rfl ?_
  have h01 := zI_01 hI
  obtain ⟨z_10, z_11, ⟨mb_1, rb_1, z_12⟩, ⟨ms_1, rs_1, z_13⟩, z_14, z_15, z_16, z_17, z_18, z_19, z_110, z_111, z_112⟩ := id hZ
  obtain ⟨sa_1, sb_1, sc_1, sd_1, se_1, sf_1, sg_1⟩ := z_111
  obtain ⟨wb_1, cb_1, gb_1, heb_1, rcb_1, hgb_1⟩ := zL_rd z_17 z_10 (by omega)
  obtain ⟨ws_1, cs_1, gs_1, hes_1, rcs_1, hgs_1⟩ := zL_rd z_18 z_10 (by omega)
  obtain ⟨gm_1, ze_1⟩ := z_10
  refine js_aload_n 0 dX1_mustBeBalloon_0 rfl ?_
  refine js_aload_n 0 dX1_mustBeBalloon_1 rfl ?_
  refine gX1_10 rfl dX1_mustBeBalloon_2 hx rfl ?_
  refine js_iload_n 1 dX1_mustBeBalloon_5 rfl ?_
  refine eX1_93 rfl dX1_mustBeBalloon_6 z_11 (zc_isB hZ hI (by omega)) (Nat.le_of_ble_eq_true rfl) (Nat.le_of_ble_eq_true rfl) ?_
  refine js_if_neB (tgt := 16) dX1_mustBeBalloon_9 (by decide) (fun c2 => ?_) (fun c2 => ?_)
  · refine js_iconst dX1_mustBeBalloon_16 ?_
    refine js_top (b := jb False) (jb_f id).symm ?_
    refine js_iconst dX1_mustBeBalloon_17 ?_
    refine js_iload_n 1 dX1_mustBeBalloon_18 rfl ?_
    refine vX1_53 (kc' := 0) (ks' := 0) rfl dX1_mustBeBalloon_19 hx (xc_refuse hx) (Nat.le_of_ble_eq_true rfl) (by omega) (by omega) (Nat.le_of_ble_eq_true rfl) (fun v3 g3 q3 => ?_) (fun E3 g3 q3 => ?_)
    · obtain ⟨p3, e3, g0_3⟩ | ⟨_, e3, _⟩ := q3
      rotate_left
      · cases e3
      cases e3
      rw [g0_3]
      show js_ok ρ mX1_mustBeBalloon _ 11 0 0 22 [(0, .ref x), (1, .int (jI b))] [] h
      exact js_vret rfl dX1_mustBeBalloon_22 (Or.inl ⟨by first | omega | (exfalso; exact absurd trivial (by assumption)), rfl, rfl⟩)
    · obtain ⟨_, e3, _⟩ | ⟨p3, e3, r3⟩ := q3
      · cases e3
      · cases e3
        exact js_out rfl (Or.inr ⟨by first | omega | exact absurd p3 id, rfl, r3⟩)
  · refine js_iconst dX1_mustBeBalloon_12 ?_
    refine js_goto (tgt := 17) dX1_mustBeBalloon_13 (by decide) ?_
    refine js_top (b := jb True) (jb_t trivial).symm ?_
    refine js_iconst dX1_mustBeBalloon_17 ?_
    refine js_iload_n 1 dX1_mustBeBalloon_18 rfl ?_
    refine vX1_53 (kc' := 0) (ks' := 0) rfl dX1_mustBeBalloon_19 hx (xc_refuse hx) (Nat.le_of_ble_eq_true rfl) (by omega) (by omega) (Nat.le_of_ble_eq_true rfl) (fun v4 g4 q4 => ?_) (fun E4 g4 q4 => ?_)
    · obtain ⟨p4, e4, g0_4⟩ | ⟨_, e4, _⟩ := q4
      rotate_left
      · cases e4
      cases e4
      rw [g0_4]
      show js_ok ρ mX1_mustBeBalloon _ 11 0 0 22 [(0, .ref x), (1, .int (jI b))] [] h
      exact js_vret rfl dX1_mustBeBalloon_22 (Or.inl ⟨by first | omega | (exfalso; exact absurd trivial (by assumption)), rfl, rfl⟩)
    · obtain ⟨_, e4, _⟩ | ⟨p4, e4, r4⟩ := q4
      · cases e4
      · cases e4
        exact js_out rfl (Or.inr ⟨by first | omega | exact absurd p4 id, rfl, r4⟩)
def zRf2 (x : Nat) (st u1 u2 u3 u4 u5 u6 : Value) (a b : Int) (h : js_H) : js_Q := fun r h' => (((0 ≤ a ∧ a ≤ 9) ∧ 0 ≤ b ∧ b ≤ 9) ∧ r = .inl none ∧ h' = h) ∨ (¬ (0 ≤ a ∧ a ≤ 9) ∧ r = .inr "java/lang/UnsupportedOperationException" ∧ zRd x st u1 u2 u3 u4 u5 u6 4 a h h') ∨ (((0 ≤ a ∧ a ≤ 9) ∧ ¬ (0 ≤ b ∧ b ≤ 9)) ∧ r = .inr "java/lang/UnsupportedOperationException" ∧ zRd x st u1 u2 u3 u4 u5 u6 4 b h h')
theorem xc_mustOn {ρ : js_R} {h : js_H} {x : Nat} {u0 u1 u2 u3 u4 u5 u6 u7 : Value} {a b : Int} (hx : h x = some (js_ob true 0 [u0, u1, u2, u3, u4, u5, u6, u7])) (ra : -2147483648 ≤ a ∧ a < 2147483648) (rb : -2147483648 ≤ b ∧ b < 2147483648) : js_Con ρ mX1_mustBeOn 12 4 18 [.ref x, .int (jI a), .int (jI b)] h (zRf2 x u0 u1 u2 u3 u4 u5 u6 a b h) := by
  refine js_body [(0, .ref x), (1, .int (jI a)), (2, .int (jI b))] rfl (by decide) (Nat.le_of_ble_eq_true rfl) rfl ?_
  refine js_aload_n 0 dX1_mustBeOn_0 rfl ?_
  refine js_iload_n 1 dX1_mustBeOn_1 rfl ?_
  refine js_iconst dX1_mustBeOn_2 ?_
  refine js_bipush dX1_mustBeOn_3 rfl ?_
  refine vX1_96 (kc' := 2) (ks' := 9) rfl dX1_mustBeOn_5 hx (xc_inRange hx (by omega) (by omega) (by omega)) (Nat.le_of_ble_eq_true rfl) (by omega) (by omega) (Nat.le_of_ble_eq_true rfl) (fun v1 g1 q1 => ?_) (fun E1 g1 q1 => ?_)
  · obtain ⟨p1, e1, g0_1⟩ | ⟨_, e1, _⟩ := q1
    rotate_left
    · cases e1
    cases e1
    rw [g0_1]
    show js_ok ρ mX1_mustBeOn _ 12 2 9 8 [(0, .ref x), (1, .int (jI a)), (2, .int (jI b))] [] h
    refine js_aload_n 0 dX1_mustBeOn_8 rfl ?_
    refine js_iload_n 2 dX1_mustBeOn_9 rfl ?_
    refine js_iconst dX1_mustBeOn_10 ?_
    refine js_bipush dX1_mustBeOn_11 rfl ?_
    refine vX1_96 (kc' := 0) (ks' := 0) rfl dX1_mustBeOn_13 hx (xc_inRange hx (by omega) (by omega) (by omega)) (Nat.le_of_ble_eq_true rfl) (by omega) (by omega) (Nat.le_of_ble_eq_true rfl) (fun v2 g2 q2 => ?_) (fun E2 g2 q2 => ?_)
    · obtain ⟨p2, e2, g0_2⟩ | ⟨_, e2, _⟩ := q2
      rotate_left
      · cases e2
      cases e2
      rw [g0_2]
      show js_ok ρ mX1_mustBeOn _ 12 0 0 16 [(0, .ref x), (1, .int (jI a)), (2, .int (jI b))] [] h
      exact js_vret rfl dX1_mustBeOn_16 (Or.inl ⟨⟨by omega, by omega⟩, rfl, rfl⟩)
    · obtain ⟨_, e2, _⟩ | ⟨p2, e2, r2⟩ := q2
      · cases e2
      · cases e2
        exact js_out rfl (Or.inr (Or.inr ⟨⟨by omega, by omega⟩, rfl, r2⟩))
  · obtain ⟨_, e1, _⟩ | ⟨p1, e1, r1⟩ := q1
    · cases e1
    · cases e1
      exact js_out rfl (Or.inr (Or.inl ⟨by omega, rfl, r1⟩))
def zChg (em : Nat) (T : Int) (col : Nat → Nat) (c : Nat) (B : Nat → Nat) (Bb Bs : Int → Nat) (x : Nat) (f : zF) (Y : zY) (h : js_H) : js_Q := fun r h' => r = .inl none ∧ ∃ col' : Nat → Nat, zC em T col' c B Bb Bs x f (zpush Y f) h' ∧ zKe col col' h h'
theorem xc_change {ρ : js_R} {h : js_H} {em : Nat} {T : Int} {col : Nat → Nat} {c : Nat} {B : Nat → Nat} {Bb Bs : Int → Nat} {x : Nat} {f : zF} {Y : zY} (hC : zC em T col c B Bb Bs x f Y h) (hE : js_sv ρ 1 = .ref em) (hw : Y.2.2.2.2.1 = 0 ∨ Y.2.2.2.2.1 = 1)  : js_Con ρ mX1_change 8 31 404 [.ref x] h (zChg em T col c B Bb Bs x f Y h) := by
  refine js_body [(0, .ref x)] rfl (by decide) (Nat.le_of_ble_eq_true rfl) rfl ?_
  obtain ⟨cz1, cz2, cz3, ⟨c4a, hI⟩, hZ, sv, rv, hi, ib, lb, vi, vl, cs, hx, cz7, cz8, ⟨cz9, c9a, c9b⟩, cz10, cz11⟩ := id hC
  obtain ⟨tT1, tT2⟩ := zI_T hI
  have h01 := zI_01 hI
  obtain ⟨ed, hd, tl, q, ge, ch, y1, y2, y3, y4, y5, y6⟩ := cz9
  refine js_aload_n 0 dX1_change_0 rfl ?_
  refine gX1_73 rfl dX1_change_1 hx rfl ?_
  refine js_if_eq (tgt := 8) dX1_change_4 (by decide) (by omega) (fun c1 => ?_) (fun c1 => ?_)
  · refine js_aload_n 0 dX1_change_8 rfl ?_
    refine gX1_19 rfl dX1_change_9 hx rfl ?_
    refine js_aload_n 0 dX1_change_12 rfl ?_
    refine gX1_10 rfl dX1_change_13 hx rfl ?_
    refine vX1_77 (kc' := 0) (ks' := 0) rfl dX1_change_16 hZ.2.1 (zc_copy hZ hI hE (by omega)) (Nat.le_of_ble_eq_true rfl) (by omega) (by omega) (Nat.le_of_ble_eq_true rfl) (fun v2 g2 q2 => ?_) (fun E2 g2 q2 => by obtain ⟨_, q2, _⟩ := q2; cases q2)
    obtain ⟨cc, e2, ⟨C, Cb, Cs, P2, rfl, zC, hP2⟩, frc⟩ := q2
    cases e2
    show js_ok ρ mX1_change _ 8 0 0 19 [(0, .ref x)] [.ref (C 0), .ref hi] g2
    obtain ⟨tl2, ht2⟩ : ∃ tl2 : Int, tl2 = if tl + 1 < ((17 : Nat) : Int) then tl + 1 else 0 := ⟨_, rfl⟩
    have y3b := zDr_add (v := C 0) y3 (by omega) ht2
    refine eX1_81 rfl dX1_change_19 (frc _ _ (fun z => z) y1) (con_dadd (frc _ _ (fun z => z) y1) (frc _ _ (fun z => z) y2) y3 (by omega) zC.2.1 (r := (RX2, TX2, 11)) rfl (List.mem_filter.mpr ⟨q2811, rfl⟩) (js_nek zC.2.1 (frc _ _ (fun z => z) y1) (js_kOO (by decide))) (by omega) ht2) (Nat.le_of_ble_eq_true rfl) (Nat.le_of_ble_eq_true rfl) ?_
    show js_ok ρ mX1_change _ 8 0 0 22 [(0, .ref x)] [] (js_up (js_up g2 ed (js_aQ true 6 17 (js_uz ge tl ((some (C 0)))))) hi (js_ob true 16 [.ref ed, .int (jI hd), .int (jI tl2)]))
    refine js_aload_n 0 dX1_change_22 rfl ?_
    refine gX1_19 rfl dX1_change_23 ((js_up_n (js_nek (frc _ _ (fun z => z) hx) (frc _ _ (fun z => z) y1) (js_kOO (by decide)))).trans ((js_up_n (js_nek (frc _ _ (fun z => z) hx) (frc _ _ (fun z => z) y2) js_kOQ)).trans (frc _ _ (fun z => z) hx))) rfl ?_
    refine eX1_85 rfl dX1_change_26 js_up_s (con_dsize js_up_s ((js_up_n (Ne.symm (js_nek (frc _ _ (fun z => z) y1) (frc _ _ (fun z => z) y2) js_kOQ))).trans js_up_s) y3b (by omega)) (Nat.le_of_ble_eq_true rfl) (Nat.le_of_ble_eq_true rfl) ?_
    refine js_bipush dX1_change_29 rfl ?_
    refine js_icmp_le (tgt := 42) dX1_change_31 (by decide) (by omega) (fun c3 => ?_) (fun c3 => ?_)
    · exact js_vret rfl dX1_change_42 ⟨rfl, zC_push (hs' := fun _ => f) cz1 cz2 cz3 ⟨c4a, hI⟩ hZ hx cz7 cz8 y1 y2 y4 y5 y6 ⟨c9a, c9b⟩ cz10 cz11 zC hP2 frc rfl y3b (by omega) (Or.inl ⟨by omega, rfl, rfl⟩)⟩
    · refine js_aload_n 0 dX1_change_34 rfl ?_
      refine gX1_19 rfl dX1_change_35 ((js_up_n (js_nek (frc _ _ (fun z => z) hx) (frc _ _ (fun z => z) y1) (js_kOO (by decide)))).trans ((js_up_n (js_nek (frc _ _ (fun z => z) hx) (frc _ _ (fun z => z) y2) js_kOQ)).trans (frc _ _ (fun z => z) hx))) rfl ?_
      obtain ⟨hd2, hh2⟩ : ∃ hd2 : Int, hd2 = if hd + 1 < ((17 : Nat) : Int) then hd + 1 else 0 := ⟨_, rfl⟩
      have y3c := (zDr_first y3b (by omega) hh2).2
      refine eX1_89 rfl dX1_change_38 js_up_s (con_drmF js_up_s ((js_up_n (Ne.symm (js_nek (frc _ _ (fun z => z) y1) (frc _ _ (fun z => z) y2) js_kOQ))).trans js_up_s) y3b (by omega) (by omega) hh2) (Nat.le_of_ble_eq_true rfl) (Nat.le_of_ble_eq_true rfl) ?_
      rw [js_up_comm (js_nek (frc _ _ (fun z => z) y1) (frc _ _ (fun z => z) y2) js_kOQ), js_up_up, js_up_up]
      show js_ok ρ mX1_change _ 8 0 0 41 [(0, .ref x)] [.ref (((js_uz q Y.2.1.1 (C 0)) 0))] (js_up (js_up g2 ed (js_aQ true 6 17 (js_uz (js_uz ge tl ((some (C 0)))) hd none))) hi (js_ob true 16 [.ref ed, .int (jI hd2), .int (jI tl2)]))
      refine js_pop dX1_change_41 rfl ?_
      exact js_vret rfl dX1_change_42 ⟨rfl, zC_push (hs' := fun _ => f) cz1 cz2 cz3 ⟨c4a, hI⟩ hZ hx cz7 cz8 y1 y2 y4 y5 y6 ⟨c9a, c9b⟩ cz10 cz11 zC hP2 frc rfl (by rw [show Y.2.1.1 + 1 - 1 = Y.2.1.1 by omega] at y3c; exact y3c) (by omega) (Or.inr ⟨by omega, rfl, rfl⟩)⟩
  · exact js_vret rfl dX1_change_7 ⟨rfl, col, by rw [show zpush Y f = Y from if_neg (by omega)]; exact hC, zKe_refl⟩
