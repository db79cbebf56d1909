set_option maxRecDepth 100000
/-! BalloonSpiresModel: questions -/
theorem pm_balloonOf {ρ : js_R} {h : js_H} {A : Nat → Nat} {f bef asd svd pas rf it wt tx od ln : Int → Int} {isS pm th len at_ wr fa om lm : Int} {T : Int} {b w : Int} (hA : zA A) (hp : zMc A f bef asd svd pas rf it wt tx od ln isS pm th len at_ wr fa om lm h) (hI : zI T f) (rb : -2147483648 ≤ b ∧ b < 2147483648) (rw : -2147483648 ≤ w ∧ w < 2147483648) : js_Con ρ mX3_balloonOf 2 0 0 [.ref (A 0), .int (jI b), .int (jI w)] h (js_ret (some (.int (jI (zv (zt2 (0 ≤ b ∧ b ≤ f 0 - 1) (0 ≤ w ∧ w ≤ 8)) (f (13 + 9 * b + w)))))) (zH A f bef asd svd pas rf it wt tx od ln isS pm (zt2 (0 ≤ b ∧ b ≤ f 0 - 1) (0 ≤ w ∧ w ≤ 8)) len at_ wr fa om lm h)) := by
  refine js_body [(0, .ref (A 0)), (1, .int (jI b)), (2, .int (jI w))] rfl (by decide) (Nat.le_of_ble_eq_true rfl) rfl ?_
  obtain ⟨p0, p1, p2, p3, p4, p5, p6, p7, p8, p9, p10, p11⟩ := hp
  have h01 := zI_01 hI
  refine js_aload_n 0 dX3_balloonOf_0 rfl ?_
  refine js_join 28 [(0, .ref (A 0)), (1, .int (jI b)), (2, .int (jI w))] [.ref (A 0)] h (zt2 (0 ≤ b ∧ b ≤ f 0 - 1) (0 ≤ w ∧ w ≤ 8)) (fun z hz => ?_) (fun J1 => ?_)
  · subst hz
    have z0 := zt2_c (0 ≤ b ∧ b ≤ f 0 - 1) (0 ≤ w ∧ w ≤ 8)
    refine pX3_49 rfl dX3_balloonOf_28 p0 (Nat.le_of_ble_eq_true rfl) rfl rfl ?_
    show js_ok ρ mX3_balloonOf _ 2 0 0 31 [(0, .ref (A 0)), (1, .int (jI b)), (2, .int (jI w))] [] (js_up h (A 0) (js_ob true 2 [.ref (A 1), .ref (A 2), .ref (A 3), .ref (A 4), .int (jI isS), .ref (A 5), .int (jI pm), .int (jI (zt2 (0 ≤ b ∧ b ≤ f 0 - 1) (0 ≤ w ∧ w ≤ 8))), .ref (A 6), .ref (A 7), .ref (A 8), .ref (A 9), .int (jI len), .int (jI at_), .int (jI wr), .int (jI fa), .ref (A 10), .int (jI om), .ref (A 11), .int (jI lm)]))
    refine js_aload_n 0 dX3_balloonOf_31 rfl ?_
    refine gX3_49 rfl dX3_balloonOf_32 js_up_s rfl ?_
    refine js_if_le (tgt := 42) dX3_balloonOf_35 (by decide) (by omega) (fun c2 => ?_) (fun c2 => ?_)
    · refine js_aload_n 0 dX3_balloonOf_42 rfl ?_
      refine js_iload_n 1 dX3_balloonOf_43 rfl ?_
      refine js_iload_n 2 dX3_balloonOf_44 rfl ?_
      refine eX3_76 rfl dX3_balloonOf_45 js_up_s (com_of js_up_s ((js_up_n (js_nek p1 p0 js_kAO)).trans p1) (by omega) (by omega)) (Nat.le_of_ble_eq_true rfl) (Nat.le_of_ble_eq_true rfl) ?_
      exact js_iret rfl rfl dX3_balloonOf_48 ⟨js_reti (by first | (rw [zv_p (by omega)]) | (rw [zv_n (by omega)])), (zH_eq hA js_up_s ((js_up_n (js_nek p1 p0 js_kAO)).trans p1) ((js_up_n (js_nek p2 p0 js_kAO)).trans p2) ((js_up_n (js_nek p3 p0 js_kAO)).trans p3) ((js_up_n (js_nek p4 p0 js_kAO)).trans p4) ((js_up_n (js_nek p5 p0 js_kAO)).trans p5) ((js_up_n (js_nek p6 p0 js_kAO)).trans p6) ((js_up_n (js_nek p7 p0 js_kAO)).trans p7) ((js_up_n (js_nek p8 p0 js_kAO)).trans p8) ((js_up_n (js_nek p9 p0 js_kAO)).trans p9) ((js_up_n (js_nek p10 p0 js_kAO)).trans p10) ((js_up_n (js_nek p11 p0 js_kAO)).trans p11) (fun q hq => ((js_up_n (hq 0 (by decide))).trans rfl)))⟩
    · refine js_iconst dX3_balloonOf_38 ?_
      refine js_goto (tgt := 48) dX3_balloonOf_39 (by decide) ?_
      exact js_iret rfl rfl dX3_balloonOf_48 ⟨js_reti (by first | (rw [zv_p (by omega)]) | (rw [zv_n (by omega)])), (zH_eq hA js_up_s ((js_up_n (js_nek p1 p0 js_kAO)).trans p1) ((js_up_n (js_nek p2 p0 js_kAO)).trans p2) ((js_up_n (js_nek p3 p0 js_kAO)).trans p3) ((js_up_n (js_nek p4 p0 js_kAO)).trans p4) ((js_up_n (js_nek p5 p0 js_kAO)).trans p5) ((js_up_n (js_nek p6 p0 js_kAO)).trans p6) ((js_up_n (js_nek p7 p0 js_kAO)).trans p7) ((js_up_n (js_nek p8 p0 js_kAO)).trans p8) ((js_up_n (js_nek p9 p0 js_kAO)).trans p9) ((js_up_n (js_nek p10 p0 js_kAO)).trans p10) ((js_up_n (js_nek p11 p0 js_kAO)).trans p11) (fun q hq => ((js_up_n (hq 0 (by decide))).trans rfl)))⟩
  · refine js_aload_n 0 dX3_balloonOf_1 rfl ?_
    refine js_iload_n 1 dX3_balloonOf_2 rfl ?_
    refine eX3_113 rfl dX3_balloonOf_3 p0 (com_isBalloon p0 p1 (by omega) (by omega)) (Nat.le_of_ble_eq_true rfl) (Nat.le_of_ble_eq_true rfl) ?_
    refine js_if_neB (tgt := 13) dX3_balloonOf_6 (by decide) (fun c3 => ?_) (fun c3 => ?_)
    · refine js_iload_n 2 dX3_balloonOf_13 rfl ?_
      refine js_iconst dX3_balloonOf_14 ?_
      refine js_bipush dX3_balloonOf_15 rfl ?_
      refine eX3_61 rfl dX3_balloonOf_17 (com_in (by omega) (by omega) (by omega)) (Nat.le_of_ble_eq_true rfl) (Nat.le_of_ble_eq_true rfl) ?_
      refine js_if_neB (tgt := 27) dX3_balloonOf_20 (by decide) (fun c4 => ?_) (fun c4 => ?_)
      · refine js_iconst dX3_balloonOf_27 ?_
        exact J1 _ (by have z := zt2_c (0 ≤ b ∧ b ≤ f 0 - 1) (0 ≤ w ∧ w ≤ 8); omega)
      · refine js_iconst dX3_balloonOf_23 ?_
        refine js_goto (tgt := 28) dX3_balloonOf_24 (by decide) ?_
        exact J1 _ (by have z := zt2_c (0 ≤ b ∧ b ≤ f 0 - 1) (0 ≤ w ∧ w ≤ 8); omega)
    · refine js_iconst dX3_balloonOf_9 ?_
      refine js_goto (tgt := 28) dX3_balloonOf_10 (by decide) ?_
      exact J1 _ (by have z := zt2_c (0 ≤ b ∧ b ≤ f 0 - 1) (0 ≤ w ∧ w ≤ 8); omega)
theorem pm_fee {ρ : js_R} {h : js_H} {A : Nat → Nat} {f bef asd svd pas rf it wt tx od ln : Int → Int} {isS pm th len at_ wr fa om lm : Int} {T : Int} {x y : Int} (hA : zA A) (hp : zMc A f bef asd svd pas rf it wt tx od ln isS pm th len at_ wr fa om lm h) (hI : zI T f) (rx : -2147483648 ≤ x ∧ x < 2147483648) (ry : -2147483648 ≤ y ∧ y < 2147483648) : js_Con ρ mX3_fee 2 0 0 [.ref (A 0), .int (jI x), .int (jI y)] h (js_ret (some (.int (jI (zv (zt1 ((0 ≤ x ∧ x ≤ 9) ∧ 0 ≤ y ∧ y ≤ 9)) (f (87 + (10 * y + x))))))) (zH A f bef asd svd pas rf it wt tx od ln isS pm (zt1 ((0 ≤ x ∧ x ≤ 9) ∧ 0 ≤ y ∧ y ≤ 9)) len at_ wr fa om lm h)) := by
  refine js_body [(0, .ref (A 0)), (1, .int (jI x)), (2, .int (jI y))] rfl (by decide) (Nat.le_of_ble_eq_true rfl) rfl ?_
  obtain ⟨p0, p1, p2, p3, p4, p5, p6, p7, p8, p9, p10, p11⟩ := hp
  have h01 := zI_01 hI
  refine js_aload_n 0 dX3_fee_0 rfl ?_
  refine js_join 14 [(0, .ref (A 0)), (1, .int (jI x)), (2, .int (jI y))] [.ref (A 0)] h (zt1 ((0 ≤ x ∧ x ≤ 9) ∧ 0 ≤ y ∧ y ≤ 9)) (fun z hz => ?_) (fun J1 => ?_)
  · subst hz
    have z0 := zt1_c ((0 ≤ x ∧ x ≤ 9) ∧ 0 ≤ y ∧ y ≤ 9)
    refine pX3_49 rfl dX3_fee_14 p0 (Nat.le_of_ble_eq_true rfl) rfl rfl ?_
    show js_ok ρ mX3_fee _ 2 0 0 17 [(0, .ref (A 0)), (1, .int (jI x)), (2, .int (jI y))] [] (js_up h (A 0) (js_ob true 2 [.ref (A 1), .ref (A 2), .ref (A 3), .ref (A 4), .int (jI isS), .ref (A 5), .int (jI pm), .int (jI (zt1 ((0 ≤ x ∧ x ≤ 9) ∧ 0 ≤ y ∧ y ≤ 9))), .ref (A 6), .ref (A 7), .ref (A 8), .ref (A 9), .int (jI len), .int (jI at_), .int (jI wr), .int (jI fa), .ref (A 10), .int (jI om), .ref (A 11), .int (jI lm)]))
    refine js_aload_n 0 dX3_fee_17 rfl ?_
    refine gX3_49 rfl dX3_fee_18 js_up_s rfl ?_
    refine js_if_le (tgt := 28) dX3_fee_21 (by decide) (by omega) (fun c2 => ?_) (fun c2 => ?_)
    · refine js_aload_n 0 dX3_fee_28 rfl ?_
      refine gX3_9 rfl dX3_fee_29 js_up_s rfl ?_
      refine js_bipush dX3_fee_32 rfl ?_
      refine js_iload_n 1 dX3_fee_34 rfl ?_
      refine js_iload_n 2 dX3_fee_35 rfl ?_
      refine eX3_69 rfl dX3_fee_36 com_code (Nat.le_of_ble_eq_true rfl) (Nat.le_of_ble_eq_true rfl) ?_
      refine js_iadd dX3_fee_39 ?_
      refine js_iaload dX3_fee_40 ((js_up_n (js_nek p1 p0 js_kAO)).trans p1) (by omega) ?_
      exact js_iret rfl rfl dX3_fee_41 ⟨js_reti (by first | (rw [zv_p (by omega)]) | (rw [zv_n (by omega)])), (zH_eq hA js_up_s ((js_up_n (js_nek p1 p0 js_kAO)).trans p1) ((js_up_n (js_nek p2 p0 js_kAO)).trans p2) ((js_up_n (js_nek p3 p0 js_kAO)).trans p3) ((js_up_n (js_nek p4 p0 js_kAO)).trans p4) ((js_up_n (js_nek p5 p0 js_kAO)).trans p5) ((js_up_n (js_nek p6 p0 js_kAO)).trans p6) ((js_up_n (js_nek p7 p0 js_kAO)).trans p7) ((js_up_n (js_nek p8 p0 js_kAO)).trans p8) ((js_up_n (js_nek p9 p0 js_kAO)).trans p9) ((js_up_n (js_nek p10 p0 js_kAO)).trans p10) ((js_up_n (js_nek p11 p0 js_kAO)).trans p11) (fun q hq => ((js_up_n (hq 0 (by decide))).trans rfl)))⟩
    · refine js_iconst dX3_fee_24 ?_
      refine js_goto (tgt := 41) dX3_fee_25 (by decide) ?_
      exact js_iret rfl rfl dX3_fee_41 ⟨js_reti (by first | (rw [zv_p (by omega)]) | (rw [zv_n (by omega)])), (zH_eq hA js_up_s ((js_up_n (js_nek p1 p0 js_kAO)).trans p1) ((js_up_n (js_nek p2 p0 js_kAO)).trans p2) ((js_up_n (js_nek p3 p0 js_kAO)).trans p3) ((js_up_n (js_nek p4 p0 js_kAO)).trans p4) ((js_up_n (js_nek p5 p0 js_kAO)).trans p5) ((js_up_n (js_nek p6 p0 js_kAO)).trans p6) ((js_up_n (js_nek p7 p0 js_kAO)).trans p7) ((js_up_n (js_nek p8 p0 js_kAO)).trans p8) ((js_up_n (js_nek p9 p0 js_kAO)).trans p9) ((js_up_n (js_nek p10 p0 js_kAO)).trans p10) ((js_up_n (js_nek p11 p0 js_kAO)).trans p11) (fun q hq => ((js_up_n (hq 0 (by decide))).trans rfl)))⟩
  · refine js_iload_n 1 dX3_fee_1 rfl ?_
    refine js_iload_n 2 dX3_fee_2 rfl ?_
    refine eX3_65 rfl dX3_fee_3 (com_isPoint (by omega) (by omega)) (Nat.le_of_ble_eq_true rfl) (Nat.le_of_ble_eq_true rfl) ?_
    refine js_if_eqB (tgt := 13) dX3_fee_6 (by decide) (fun c3 => ?_) (fun c3 => ?_)
    · refine js_iconst dX3_fee_13 ?_
      exact J1 _ (by have z := zt1_c ((0 ≤ x ∧ x ≤ 9) ∧ 0 ≤ y ∧ y ≤ 9); omega)
    · refine js_iconst dX3_fee_9 ?_
      refine js_goto (tgt := 14) dX3_fee_10 (by decide) ?_
      exact J1 _ (by have z := zt1_c ((0 ≤ x ∧ x ≤ 9) ∧ 0 ≤ y ∧ y ≤ 9); omega)
theorem pm_claims {ρ : js_R} {h : js_H} {A : Nat → Nat} {f bef asd svd pas rf it wt tx od ln : Int → Int} {isS pm th len at_ wr fa om lm : Int} {T : Int} {x y : Int} (hA : zA A) (hp : zMc A f bef asd svd pas rf it wt tx od ln isS pm th len at_ wr fa om lm h) (hI : zI T f) (rx : -2147483648 ≤ x ∧ x < 2147483648) (ry : -2147483648 ≤ y ∧ y < 2147483648) : js_Con ρ mX3_claims 2 0 0 [.ref (A 0), .int (jI x), .int (jI y)] h (js_ret (some (.int (jI (zv (zt1 ((0 ≤ x ∧ x ≤ 9) ∧ 0 ≤ y ∧ y ≤ 9)) (f (187 + (10 * y + x))))))) (zH A f bef asd svd pas rf it wt tx od ln isS pm (zt1 ((0 ≤ x ∧ x ≤ 9) ∧ 0 ≤ y ∧ y ≤ 9)) len at_ wr fa om lm h)) := by
  refine js_body [(0, .ref (A 0)), (1, .int (jI x)), (2, .int (jI y))] rfl (by decide) (Nat.le_of_ble_eq_true rfl) rfl ?_
  obtain ⟨p0, p1, p2, p3, p4, p5, p6, p7, p8, p9, p10, p11⟩ := hp
  have h01 := zI_01 hI
  refine js_aload_n 0 dX3_claims_0 rfl ?_
  refine js_join 14 [(0, .ref (A 0)), (1, .int (jI x)), (2, .int (jI y))] [.ref (A 0)] h (zt1 ((0 ≤ x ∧ x ≤ 9) ∧ 0 ≤ y ∧ y ≤ 9)) (fun z hz => ?_) (fun J1 => ?_)
  · subst hz
    have z0 := zt1_c ((0 ≤ x ∧ x ≤ 9) ∧ 0 ≤ y ∧ y ≤ 9)
    refine pX3_49 rfl dX3_claims_14 p0 (Nat.le_of_ble_eq_true rfl) rfl rfl ?_
    show js_ok ρ mX3_claims _ 2 0 0 17 [(0, .ref (A 0)), (1, .int (jI x)), (2, .int (jI y))] [] (js_up h (A 0) (js_ob true 2 [.ref (A 1), .ref (A 2), .ref (A 3), .ref (A 4), .int (jI isS), .ref (A 5), .int (jI pm), .int (jI (zt1 ((0 ≤ x ∧ x ≤ 9) ∧ 0 ≤ y ∧ y ≤ 9))), .ref (A 6), .ref (A 7), .ref (A 8), .ref (A 9), .int (jI len), .int (jI at_), .int (jI wr), .int (jI fa), .ref (A 10), .int (jI om), .ref (A 11), .int (jI lm)]))
    refine js_aload_n 0 dX3_claims_17 rfl ?_
    refine gX3_49 rfl dX3_claims_18 js_up_s rfl ?_
    refine js_if_le (tgt := 28) dX3_claims_21 (by decide) (by omega) (fun c2 => ?_) (fun c2 => ?_)
    · refine js_aload_n 0 dX3_claims_28 rfl ?_
      refine gX3_9 rfl dX3_claims_29 js_up_s rfl ?_
      refine js_sipush dX3_claims_32 rfl ?_
      refine js_iload_n 1 dX3_claims_35 rfl ?_
      refine js_iload_n 2 dX3_claims_36 rfl ?_
      refine eX3_69 rfl dX3_claims_37 com_code (Nat.le_of_ble_eq_true rfl) (Nat.le_of_ble_eq_true rfl) ?_
      refine js_iadd dX3_claims_40 ?_
      refine js_iaload dX3_claims_41 ((js_up_n (js_nek p1 p0 js_kAO)).trans p1) (by omega) ?_
      exact js_iret rfl rfl dX3_claims_42 ⟨js_reti (by first | (rw [zv_p (by omega)]) | (rw [zv_n (by omega)])), (zH_eq hA js_up_s ((js_up_n (js_nek p1 p0 js_kAO)).trans p1) ((js_up_n (js_nek p2 p0 js_kAO)).trans p2) ((js_up_n (js_nek p3 p0 js_kAO)).trans p3) ((js_up_n (js_nek p4 p0 js_kAO)).trans p4) ((js_up_n (js_nek p5 p0 js_kAO)).trans p5) ((js_up_n (js_nek p6 p0 js_kAO)).trans p6) ((js_up_n (js_nek p7 p0 js_kAO)).trans p7) ((js_up_n (js_nek p8 p0 js_kAO)).trans p8) ((js_up_n (js_nek p9 p0 js_kAO)).trans p9) ((js_up_n (js_nek p10 p0 js_kAO)).trans p10) ((js_up_n (js_nek p11 p0 js_kAO)).trans p11) (fun q hq => ((js_up_n (hq 0 (by decide))).trans rfl)))⟩
    · refine js_iconst dX3_claims_24 ?_
      refine js_goto (tgt := 42) dX3_claims_25 (by decide) ?_
      exact js_iret rfl rfl dX3_claims_42 ⟨js_reti (by first | (rw [zv_p (by omega)]) | (rw [zv_n (by omega)])), (zH_eq hA js_up_s ((js_up_n (js_nek p1 p0 js_kAO)).trans p1) ((js_up_n (js_nek p2 p0 js_kAO)).trans p2) ((js_up_n (js_nek p3 p0 js_kAO)).trans p3) ((js_up_n (js_nek p4 p0 js_kAO)).trans p4) ((js_up_n (js_nek p5 p0 js_kAO)).trans p5) ((js_up_n (js_nek p6 p0 js_kAO)).trans p6) ((js_up_n (js_nek p7 p0 js_kAO)).trans p7) ((js_up_n (js_nek p8 p0 js_kAO)).trans p8) ((js_up_n (js_nek p9 p0 js_kAO)).trans p9) ((js_up_n (js_nek p10 p0 js_kAO)).trans p10) ((js_up_n (js_nek p11 p0 js_kAO)).trans p11) (fun q hq => ((js_up_n (hq 0 (by decide))).trans rfl)))⟩
  · refine js_iload_n 1 dX3_claims_1 rfl ?_
    refine js_iload_n 2 dX3_claims_2 rfl ?_
    refine eX3_65 rfl dX3_claims_3 (com_isPoint (by omega) (by omega)) (Nat.le_of_ble_eq_true rfl) (Nat.le_of_ble_eq_true rfl) ?_
    refine js_if_eqB (tgt := 13) dX3_claims_6 (by decide) (fun c3 => ?_) (fun c3 => ?_)
    · refine js_iconst dX3_claims_13 ?_
      exact J1 _ (by have z := zt1_c ((0 ≤ x ∧ x ≤ 9) ∧ 0 ≤ y ∧ y ≤ 9); omega)
    · refine js_iconst dX3_claims_9 ?_
      refine js_goto (tgt := 14) dX3_claims_10 (by decide) ?_
      exact J1 _ (by have z := zt1_c ((0 ≤ x ∧ x ≤ 9) ∧ 0 ≤ y ∧ y ≤ 9); omega)
theorem pm_windAt {ρ : js_R} {h : js_H} {A : Nat → Nat} {f bef asd svd pas rf it wt tx od ln : Int → Int} {isS pm th len at_ wr fa om lm : Int} {T : Int} {ht : Int} (hA : zA A) (hp : zMc A f bef asd svd pas rf it wt tx od ln isS pm th len at_ wr fa om lm h) (hI : zI T f) (rht : -2147483648 ≤ ht ∧ ht < 2147483648) : js_Con ρ mX3_windAt 2 0 0 [.ref (A 0), .int (jI ht)] h (js_ret (some (.int (jI (zv (zt1 (1 ≤ ht ∧ ht ≤ 5)) (f (8 + ht - 1)))))) (zH A f bef asd svd pas rf it wt tx od ln isS pm (zt1 (1 ≤ ht ∧ ht ≤ 5)) len at_ wr fa om lm h)) := by
  refine js_body [(0, .ref (A 0)), (1, .int (jI ht))] rfl (by decide) (Nat.le_of_ble_eq_true rfl) rfl ?_
  obtain ⟨p0, p1, p2, p3, p4, p5, p6, p7, p8, p9, p10, p11⟩ := hp
  have h01 := zI_01 hI
  refine js_aload_n 0 dX3_windAt_0 rfl ?_
  refine js_join 15 [(0, .ref (A 0)), (1, .int (jI ht))] [.ref (A 0)] h (zt1 (1 ≤ ht ∧ ht ≤ 5)) (fun z hz => ?_) (fun J1 => ?_)
  · subst hz
    have z0 := zt1_c (1 ≤ ht ∧ ht ≤ 5)
    refine pX3_49 rfl dX3_windAt_15 p0 (Nat.le_of_ble_eq_true rfl) rfl rfl ?_
    show js_ok ρ mX3_windAt _ 2 0 0 18 [(0, .ref (A 0)), (1, .int (jI ht))] [] (js_up h (A 0) (js_ob true 2 [.ref (A 1), .ref (A 2), .ref (A 3), .ref (A 4), .int (jI isS), .ref (A 5), .int (jI pm), .int (jI (zt1 (1 ≤ ht ∧ ht ≤ 5))), .ref (A 6), .ref (A 7), .ref (A 8), .ref (A 9), .int (jI len), .int (jI at_), .int (jI wr), .int (jI fa), .ref (A 10), .int (jI om), .ref (A 11), .int (jI lm)]))
    refine js_aload_n 0 dX3_windAt_18 rfl ?_
    refine gX3_49 rfl dX3_windAt_19 js_up_s rfl ?_
    refine js_if_le (tgt := 29) dX3_windAt_22 (by decide) (by omega) (fun c2 => ?_) (fun c2 => ?_)
    · refine js_aload_n 0 dX3_windAt_29 rfl ?_
      refine gX3_9 rfl dX3_windAt_30 js_up_s rfl ?_
      refine js_bipush dX3_windAt_33 rfl ?_
      refine js_iload_n 1 dX3_windAt_35 rfl ?_
      refine js_iadd dX3_windAt_36 ?_
      refine js_iconst dX3_windAt_37 ?_
      refine js_isub dX3_windAt_38 ?_
      refine js_iaload dX3_windAt_39 ((js_up_n (js_nek p1 p0 js_kAO)).trans p1) (by omega) ?_
      exact js_iret rfl rfl dX3_windAt_40 ⟨js_reti (by first | (rw [zv_p (by omega)]) | (rw [zv_n (by omega)])), (zH_eq hA js_up_s ((js_up_n (js_nek p1 p0 js_kAO)).trans p1) ((js_up_n (js_nek p2 p0 js_kAO)).trans p2) ((js_up_n (js_nek p3 p0 js_kAO)).trans p3) ((js_up_n (js_nek p4 p0 js_kAO)).trans p4) ((js_up_n (js_nek p5 p0 js_kAO)).trans p5) ((js_up_n (js_nek p6 p0 js_kAO)).trans p6) ((js_up_n (js_nek p7 p0 js_kAO)).trans p7) ((js_up_n (js_nek p8 p0 js_kAO)).trans p8) ((js_up_n (js_nek p9 p0 js_kAO)).trans p9) ((js_up_n (js_nek p10 p0 js_kAO)).trans p10) ((js_up_n (js_nek p11 p0 js_kAO)).trans p11) (fun q hq => ((js_up_n (hq 0 (by decide))).trans rfl)))⟩
    · refine js_iconst dX3_windAt_25 ?_
      refine js_goto (tgt := 40) dX3_windAt_26 (by decide) ?_
      exact js_iret rfl rfl dX3_windAt_40 ⟨js_reti (by first | (rw [zv_p (by omega)]) | (rw [zv_n (by omega)])), (zH_eq hA js_up_s ((js_up_n (js_nek p1 p0 js_kAO)).trans p1) ((js_up_n (js_nek p2 p0 js_kAO)).trans p2) ((js_up_n (js_nek p3 p0 js_kAO)).trans p3) ((js_up_n (js_nek p4 p0 js_kAO)).trans p4) ((js_up_n (js_nek p5 p0 js_kAO)).trans p5) ((js_up_n (js_nek p6 p0 js_kAO)).trans p6) ((js_up_n (js_nek p7 p0 js_kAO)).trans p7) ((js_up_n (js_nek p8 p0 js_kAO)).trans p8) ((js_up_n (js_nek p9 p0 js_kAO)).trans p9) ((js_up_n (js_nek p10 p0 js_kAO)).trans p10) ((js_up_n (js_nek p11 p0 js_kAO)).trans p11) (fun q hq => ((js_up_n (hq 0 (by decide))).trans rfl)))⟩
  · refine js_iload_n 1 dX3_windAt_1 rfl ?_
    refine js_iconst dX3_windAt_2 ?_
    refine js_iconst dX3_windAt_3 ?_
    refine eX3_61 rfl dX3_windAt_4 (com_in (by omega) (by omega) (by omega)) (Nat.le_of_ble_eq_true rfl) (Nat.le_of_ble_eq_true rfl) ?_
    refine js_if_eqB (tgt := 14) dX3_windAt_7 (by decide) (fun c3 => ?_) (fun c3 => ?_)
    · refine js_iconst dX3_windAt_14 ?_
      exact J1 _ (by have z := zt1_c (1 ≤ ht ∧ ht ≤ 5); omega)
    · refine js_iconst dX3_windAt_10 ?_
      refine js_goto (tgt := 15) dX3_windAt_11 (by decide) ?_
      exact J1 _ (by have z := zt1_c (1 ≤ ht ∧ ht ≤ 5); omega)
theorem pm_spireOf {ρ : js_R} {h : js_H} {A : Nat → Nat} {f bef asd svd pas rf it wt tx od ln : Int → Int} {isS pm th len at_ wr fa om lm : Int} {T : Int} {sp w : Int} (hA : zA A) (hp : zMc A f bef asd svd pas rf it wt tx od ln isS pm th len at_ wr fa om lm h) (hI : zI T f) (rsp : -2147483648 ≤ sp ∧ sp < 2147483648) (rw : -2147483648 ≤ w ∧ w < 2147483648) : js_Con ρ mX3_spireOf 4 0 0 [.ref (A 0), .int (jI sp), .int (jI w)] h (js_ret (some (.int (jI (zv (zt2 (0 ≤ sp ∧ sp ≤ f 1 - 1) (0 ≤ w ∧ w ≤ 4)) (zvSpireOf f sp w))))) (zH A f bef asd svd pas rf it wt tx od ln isS pm (zt2 (0 ≤ sp ∧ sp ≤ f 1 - 1) (0 ≤ w ∧ w ≤ 4)) len at_ wr fa om lm h)) := by
  refine js_body [(0, .ref (A 0)), (1, .int (jI sp)), (2, .int (jI w))] rfl (by decide) (Nat.le_of_ble_eq_true rfl) rfl ?_
  obtain ⟨p0, p1, p2, p3, p4, p5, p6, p7, p8, p9, p10, p11⟩ := hp
  have h01 := zI_01 hI
  refine js_aload_n 0 dX3_spireOf_0 rfl ?_
  refine js_join 35 [(0, .ref (A 0)), (1, .int (jI sp)), (2, .int (jI w))] [.ref (A 0)] h (zt2 (0 ≤ sp ∧ sp ≤ f 1 - 1) (0 ≤ w ∧ w ≤ 4)) (fun z hz => ?_) (fun J1 => ?_)
  · subst hz
    have z0 := zt2_c (0 ≤ sp ∧ sp ≤ f 1 - 1) (0 ≤ w ∧ w ≤ 4)
    refine pX3_49 rfl dX3_spireOf_35 p0 (Nat.le_of_ble_eq_true rfl) rfl rfl ?_
    show js_ok ρ mX3_spireOf _ 4 0 0 38 [(0, .ref (A 0)), (1, .int (jI sp)), (2, .int (jI w))] [] (js_up h (A 0) (js_ob true 2 [.ref (A 1), .ref (A 2), .ref (A 3), .ref (A 4), .int (jI isS), .ref (A 5), .int (jI pm), .int (jI (zt2 (0 ≤ sp ∧ sp ≤ f 1 - 1) (0 ≤ w ∧ w ≤ 4))), .ref (A 6), .ref (A 7), .ref (A 8), .ref (A 9), .int (jI len), .int (jI at_), .int (jI wr), .int (jI fa), .ref (A 10), .int (jI om), .ref (A 11), .int (jI lm)]))
    refine js_aload_n 0 dX3_spireOf_38 rfl ?_
    refine gX3_49 rfl dX3_spireOf_39 js_up_s rfl ?_
    refine js_if_le (tgt := 47) dX3_spireOf_42 (by decide) (by omega) (fun c2 => ?_) (fun c2 => ?_)
    · have hP := zI_P hI (i := sp) (by omega) (by omega)
      have hs := zIP_p hP
      unfold zIP at hP
      refine js_iload_n 2 dX3_spireOf_47 rfl ?_
      refine js_iconst dX3_spireOf_48 ?_
      refine js_icmp_ne (tgt := 60) dX3_spireOf_49 (by decide) (by omega) (fun c3 => ?_) (fun c3 => ?_)
      · refine js_aload_n 0 dX3_spireOf_60 rfl ?_
        refine gX3_9 rfl dX3_spireOf_61 js_up_s rfl ?_
        refine js_bipush dX3_spireOf_64 rfl ?_
        refine js_iconst dX3_spireOf_66 ?_
        refine js_iload_n 1 dX3_spireOf_67 rfl ?_
        refine js_imul dX3_spireOf_68 ?_
        refine js_iadd dX3_spireOf_69 ?_
        refine js_join 80 [(0, .ref (A 0)), (1, .int (jI sp)), (2, .int (jI w))] [.int (jI (67 + (4 * sp))), .ref (A 1)] (js_up h (A 0) (js_ob true 2 [.ref (A 1), .ref (A 2), .ref (A 3), .ref (A 4), .int (jI isS), .ref (A 5), .int (jI pm), .int (jI (zt2 (0 ≤ sp ∧ sp ≤ f 1 - 1) (0 ≤ w ∧ w ≤ 4))), .ref (A 6), .ref (A 7), .ref (A 8), .ref (A 9), .int (jI len), .int (jI at_), .int (jI wr), .int (jI fa), .ref (A 10), .int (jI om), .ref (A 11), .int (jI lm)])) (if w = 4 then 3 else w) (fun z hz => ?_) (fun J4 => ?_)
        · subst hz
          refine js_iadd dX3_spireOf_80 ?_
          have hw : (if w = 4 then (3 : Int) else w) = 3 ∨ ((if w = 4 then (3 : Int) else w) = w ∧ w < 4) := by split <;> omega
          generalize hq : (if w = 4 then (3 : Int) else w) = q at hw ⊢
          refine js_iaload dX3_spireOf_81 ((js_up_n (js_nek p1 p0 js_kAO)).trans p1) (by omega) ?_
          exact js_iret rfl rfl dX3_spireOf_82 ⟨js_reti (by first | (rw [zv_p (by omega)]; done) | (rw [zv_n (by omega)]; unfold zvSpireOf; first | (rw [if_pos (by omega)]; done) | (rw [if_neg (by omega)]; rw [hq]; done))), (zH_eq hA js_up_s ((js_up_n (js_nek p1 p0 js_kAO)).trans p1) ((js_up_n (js_nek p2 p0 js_kAO)).trans p2) ((js_up_n (js_nek p3 p0 js_kAO)).trans p3) ((js_up_n (js_nek p4 p0 js_kAO)).trans p4) ((js_up_n (js_nek p5 p0 js_kAO)).trans p5) ((js_up_n (js_nek p6 p0 js_kAO)).trans p6) ((js_up_n (js_nek p7 p0 js_kAO)).trans p7) ((js_up_n (js_nek p8 p0 js_kAO)).trans p8) ((js_up_n (js_nek p9 p0 js_kAO)).trans p9) ((js_up_n (js_nek p10 p0 js_kAO)).trans p10) ((js_up_n (js_nek p11 p0 js_kAO)).trans p11) (fun q hq => ((js_up_n (hq 0 (by decide))).trans rfl)))⟩
        · refine js_iload_n 2 dX3_spireOf_70 rfl ?_
          refine js_iconst dX3_spireOf_71 ?_
          refine js_icmp_ne (tgt := 79) dX3_spireOf_72 (by decide) (by omega) (fun c5 => ?_) (fun c5 => ?_)
          · refine js_iload_n 2 dX3_spireOf_79 rfl ?_
            exact J4 _ (by (repeat' split) <;> omega)
          · refine js_iconst dX3_spireOf_75 ?_
            refine js_goto (tgt := 80) dX3_spireOf_76 (by decide) ?_
            exact J4 _ (by (repeat' split) <;> omega)
      · refine js_aload_n 0 dX3_spireOf_52 rfl ?_
        refine js_iload_n 1 dX3_spireOf_53 rfl ?_
        refine eX3_146 rfl dX3_spireOf_54 js_up_s (com_gate js_up_s ((js_up_n (js_nek p1 p0 js_kAO)).trans p1) (by omega) (by omega) (by omega)) (Nat.le_of_ble_eq_true rfl) (Nat.le_of_ble_eq_true rfl) ?_
        refine js_goto (tgt := 82) dX3_spireOf_57 (by decide) ?_
        exact js_iret rfl rfl dX3_spireOf_82 ⟨js_reti (by first | (rw [zv_p (by omega)]; done) | (rw [zv_n (by omega)]; unfold zvSpireOf; first | (rw [if_pos (by omega)]; done) | (rw [if_neg (by omega)]; rw [hq]; done))), (zH_eq hA js_up_s ((js_up_n (js_nek p1 p0 js_kAO)).trans p1) ((js_up_n (js_nek p2 p0 js_kAO)).trans p2) ((js_up_n (js_nek p3 p0 js_kAO)).trans p3) ((js_up_n (js_nek p4 p0 js_kAO)).trans p4) ((js_up_n (js_nek p5 p0 js_kAO)).trans p5) ((js_up_n (js_nek p6 p0 js_kAO)).trans p6) ((js_up_n (js_nek p7 p0 js_kAO)).trans p7) ((js_up_n (js_nek p8 p0 js_kAO)).trans p8) ((js_up_n (js_nek p9 p0 js_kAO)).trans p9) ((js_up_n (js_nek p10 p0 js_kAO)).trans p10) ((js_up_n (js_nek p11 p0 js_kAO)).trans p11) (fun q hq => ((js_up_n (hq 0 (by decide))).trans rfl)))⟩
    · refine js_iconst dX3_spireOf_45 ?_
      exact js_iret rfl rfl dX3_spireOf_46 ⟨js_reti (by first | (rw [zv_p (by omega)]; done) | (rw [zv_n (by omega)]; unfold zvSpireOf; first | (rw [if_pos (by omega)]; done) | (rw [if_neg (by omega)]; rw [hq]; done))), (zH_eq hA js_up_s ((js_up_n (js_nek p1 p0 js_kAO)).trans p1) ((js_up_n (js_nek p2 p0 js_kAO)).trans p2) ((js_up_n (js_nek p3 p0 js_kAO)).trans p3) ((js_up_n (js_nek p4 p0 js_kAO)).trans p4) ((js_up_n (js_nek p5 p0 js_kAO)).trans p5) ((js_up_n (js_nek p6 p0 js_kAO)).trans p6) ((js_up_n (js_nek p7 p0 js_kAO)).trans p7) ((js_up_n (js_nek p8 p0 js_kAO)).trans p8) ((js_up_n (js_nek p9 p0 js_kAO)).trans p9) ((js_up_n (js_nek p10 p0 js_kAO)).trans p10) ((js_up_n (js_nek p11 p0 js_kAO)).trans p11) (fun q hq => ((js_up_n (hq 0 (by decide))).trans rfl)))⟩
  · refine js_iload_n 1 dX3_spireOf_1 rfl ?_
    refine js_iconst dX3_spireOf_2 ?_
    refine js_aload_n 0 dX3_spireOf_3 rfl ?_
    refine gX3_9 rfl dX3_spireOf_4 p0 rfl ?_
    refine js_iconst dX3_spireOf_7 ?_
    refine js_iaload dX3_spireOf_8 p1 (by omega) ?_
    refine js_iconst dX3_spireOf_9 ?_
    refine js_isub dX3_spireOf_10 ?_
    refine eX3_61 rfl dX3_spireOf_11 (com_in (by omega) (by omega) (by omega)) (Nat.le_of_ble_eq_true rfl) (Nat.le_of_ble_eq_true rfl) ?_
    refine js_if_neB (tgt := 21) dX3_spireOf_14 (by decide) (fun c6 => ?_) (fun c6 => ?_)
    · refine js_iload_n 2 dX3_spireOf_21 rfl ?_
      refine js_iconst dX3_spireOf_22 ?_
      refine js_iconst dX3_spireOf_23 ?_
      refine eX3_61 rfl dX3_spireOf_24 (com_in (by omega) (by omega) (by omega)) (Nat.le_of_ble_eq_true rfl) (Nat.le_of_ble_eq_true rfl) ?_
      refine js_if_neB (tgt := 34) dX3_spireOf_27 (by decide) (fun c7 => ?_) (fun c7 => ?_)
      · refine js_iconst dX3_spireOf_34 ?_
        exact J1 _ (by have z := zt2_c (0 ≤ sp ∧ sp ≤ f 1 - 1) (0 ≤ w ∧ w ≤ 4); omega)
      · refine js_iconst dX3_spireOf_30 ?_
        refine js_goto (tgt := 35) dX3_spireOf_31 (by decide) ?_
        exact J1 _ (by have z := zt2_c (0 ≤ sp ∧ sp ≤ f 1 - 1) (0 ≤ w ∧ w ≤ 4); omega)
    · refine js_iconst dX3_spireOf_17 ?_
      refine js_goto (tgt := 35) dX3_spireOf_18 (by decide) ?_
      exact J1 _ (by have z := zt2_c (0 ≤ sp ∧ sp ≤ f 1 - 1) (0 ≤ w ∧ w ≤ 4); omega)
theorem com_balloonsOn {ρ : js_R} {h : js_H} {m s : Nat} {v1 v2 v3 v4 v5 v6 v7 v8 v9 v10 v11 v12 v13 v14 v15 v16 v17 v18 v19 : Value} {f : Int → Int} {T p : Int} (hm : h m = some (js_ob true 2 [.ref s, v1, v2, v3, v4, v5, v6, v7, v8, v9, v10, v11, v12, v13, v14, v15, v16, v17, v18, v19])) (hs : h s = some (js_aI true 0 287 f)) (hI : zI T f) (rp : -1000 ≤ p ∧ p ≤ 1000) : js_Con ρ mX3_balloonsOn 2 0 0 [.ref m, .int (jI p)] h (js_ret (some (.int (zbon f p (f 0).toNat))) h) := by
  refine js_body [(0, .ref m), (1, .int (jI p))] rfl (by decide) (Nat.le_of_ble_eq_true rfl) rfl ?_
  have h01 := zI_01 hI
  refine js_iconst dX3_balloonsOn_0 ?_
  refine js_istore_n (L' := [(2, .int (jI 0)), (0, .ref m), (1, .int (jI p))]) dX3_balloonsOn_1 (by decide) rfl ?_
  refine js_iconst dX3_balloonsOn_2 ?_
  refine js_istore_n (L' := [(3, .int (jI 0)), (2, .int (jI 0)), (0, .ref m), (1, .int (jI p))]) dX3_balloonsOn_3 (by decide) rfl ?_
  refine js_sub (L' := [(0, .ref m), (1, .int (jI p)), (2, .int (jI 0)), (3, .int (jI 0))]) [2, 3, 1, 0] rfl ?_
  refine js_loop (σ := Nat) (fun k => (k : Int) ≤ f 0) (fun k => (f 0).toNat - k) (fun k => 0) (fun k => 0) 4 (fun k => [(0, .ref m), (1, .int (jI p)), (2, .int (zbon f p k)), (3, .int (jI ((k : Int))))]) (fun k => []) (fun k => h) (fun k hk IHk => ?_) 0 h01.1.1
  show js_ok ρ mX3_balloonsOn _ 2 0 0 4 [(0, .ref m), (1, .int (jI p)), (2, .int (zbon f p k)), (3, .int (jI ((k : Int))))] [] h
  refine js_iload_n 3 dX3_balloonsOn_4 rfl ?_
  refine js_aload_n 0 dX3_balloonsOn_5 rfl ?_
  refine gX3_9 rfl dX3_balloonsOn_6 hm rfl ?_
  refine js_iconst dX3_balloonsOn_9 ?_
  refine js_iaload dX3_balloonsOn_10 hs (by omega) ?_
  refine js_icmp_ge (tgt := 39) dX3_balloonsOn_11 (by decide) (by omega) (fun c2 => ?_) (fun c2 => ?_)
  · refine js_iload_n 2 dX3_balloonsOn_39 rfl ?_
    exact js_iret rfl rfl dX3_balloonsOn_40 ⟨js_retI (by rw [show (f 0).toNat = k by omega]), rfl⟩
  · have hp := zIB_p (zI_B hI (b := (k : Int)) (by omega) (by omega))
    refine js_iload_n 2 dX3_balloonsOn_14 rfl ?_
    refine js_cut (kc' := 0) (ks' := 0) 31 [(0, .ref m), (1, .int (jI p)), (2, .int (zbon f p k)), (3, .int (jI ((k : Int))))] [.int (if zpt f (k : Int) = p then jI 1 <<< (jI (k : Int) &&& 31) else jI 0), .int (zbon f p k)] h ?_ (fun J3 => ?_)
    · refine js_ior dX3_balloonsOn_31 ?_
      refine js_istore_n (L' := [(2, .int ((zbon f p k) ||| (if zpt f (k : Int) = p then jI 1 <<< (jI (k : Int) &&& 31) else jI 0))), (0, .ref m), (1, .int (jI p)), (3, .int (jI ((k : Int))))]) dX3_balloonsOn_32 (by decide) rfl ?_
      refine js_iinc (L' := [(3, .int (jI (((k : Int)) + 1))), (2, .int ((zbon f p k) ||| (if zpt f (k : Int) = p then jI 1 <<< (jI (k : Int) &&& 31) else jI 0))), (0, .ref m), (1, .int (jI p))]) 3 dX3_balloonsOn_33 rfl (by decide) rfl ?_
      refine js_goto (tgt := 4) dX3_balloonsOn_36 (by decide) ?_
      refine js_sub (L' := [(0, .ref m), (1, .int (jI p)), (2, .int ((zbon f p k) ||| (if zpt f (k : Int) = p then jI 1 <<< (jI (k : Int) &&& 31) else jI 0))), (3, .int (jI (((k : Int)) + 1)))]) [2, 3, 1, 0] rfl ?_
      exact IHk (k + 1) (by omega) (by omega)
    · refine js_aload_n 0 dX3_balloonsOn_15 rfl ?_
      refine js_iload_n 3 dX3_balloonsOn_16 rfl ?_
      refine eX3_120 rfl dX3_balloonsOn_17 hm (com_pointOf hm hs (by omega)) (Nat.le_of_ble_eq_true rfl) (Nat.le_of_ble_eq_true rfl) ?_
      refine js_iload_n 1 dX3_balloonsOn_20 rfl ?_
      refine js_icmp_ne (tgt := 30) dX3_balloonsOn_21 (by decide) (by omega) (fun c4 => ?_) (fun c4 => ?_)
      · refine js_iconst dX3_balloonsOn_30 ?_
        first | (rw [if_pos (show zpt f (k : Int) = p from by omega)] at J3; exact J3) | (rw [if_neg (show ¬ (zpt f (k : Int) = p) from by omega)] at J3; exact J3)
      · refine js_iconst dX3_balloonsOn_24 ?_
        refine js_iload_n 3 dX3_balloonsOn_25 rfl ?_
        refine js_ishl dX3_balloonsOn_26 ?_
        refine js_goto (tgt := 31) dX3_balloonsOn_27 (by decide) ?_
        first | (rw [if_pos (show zpt f (k : Int) = p from by omega)] at J3; exact J3) | (rw [if_neg (show ¬ (zpt f (k : Int) = p) from by omega)] at J3; exact J3)
theorem pm_at {ρ : js_R} {h : js_H} {A : Nat → Nat} {f bef asd svd pas rf it wt tx od ln : Int → Int} {isS pm th len at_ wr fa om lm : Int} {T : Int} {x y : Int} (hA : zA A) (hp : zMc A f bef asd svd pas rf it wt tx od ln isS pm th len at_ wr fa om lm h) (hI : zI T f) (rx : -2147483648 ≤ x ∧ x < 2147483648) (ry : -2147483648 ≤ y ∧ y < 2147483648) : js_Con ρ mX3_at 3 0 0 [.ref (A 0), .int (jI x), .int (jI y)] h (js_ret (some (.int (zvI (zt1 ((0 ≤ x ∧ x ≤ 9) ∧ 0 ≤ y ∧ y ≤ 9)) (zbon f (10 * y + x) (f 0).toNat)))) (zH A f bef asd svd pas rf it wt tx od ln isS pm (zt1 ((0 ≤ x ∧ x ≤ 9) ∧ 0 ≤ y ∧ y ≤ 9)) len at_ wr fa om lm h)) := by
  refine js_body [(0, .ref (A 0)), (1, .int (jI x)), (2, .int (jI y))] rfl (by decide) (Nat.le_of_ble_eq_true rfl) rfl ?_
  obtain ⟨p0, p1, p2, p3, p4, p5, p6, p7, p8, p9, p10, p11⟩ := hp
  have h01 := zI_01 hI
  refine js_aload_n 0 dX3_at_0 rfl ?_
  refine js_join 14 [(0, .ref (A 0)), (1, .int (jI x)), (2, .int (jI y))] [.ref (A 0)] h (zt1 ((0 ≤ x ∧ x ≤ 9) ∧ 0 ≤ y ∧ y ≤ 9)) (fun z hz => ?_) (fun J1 => ?_)
  · subst hz
    have z0 := zt1_c ((0 ≤ x ∧ x ≤ 9) ∧ 0 ≤ y ∧ y ≤ 9)
    refine pX3_49 rfl dX3_at_14 p0 (Nat.le_of_ble_eq_true rfl) rfl rfl ?_
    show js_ok ρ mX3_at _ 3 0 0 17 [(0, .ref (A 0)), (1, .int (jI x)), (2, .int (jI y))] [] (js_up h (A 0) (js_ob true 2 [.ref (A 1), .ref (A 2), .ref (A 3), .ref (A 4), .int (jI isS), .ref (A 5), .int (jI pm), .int (jI (zt1 ((0 ≤ x ∧ x ≤ 9) ∧ 0 ≤ y ∧ y ≤ 9))), .ref (A 6), .ref (A 7), .ref (A 8), .ref (A 9), .int (jI len), .int (jI at_), .int (jI wr), .int (jI fa), .ref (A 10), .int (jI om), .ref (A 11), .int (jI lm)]))
    refine js_aload_n 0 dX3_at_17 rfl ?_
    refine gX3_49 rfl dX3_at_18 js_up_s rfl ?_
    refine js_if_le (tgt := 28) dX3_at_21 (by decide) (by omega) (fun c2 => ?_) (fun c2 => ?_)
    · refine js_aload_n 0 dX3_at_28 rfl ?_
      refine js_iload_n 1 dX3_at_29 rfl ?_
      refine js_iload_n 2 dX3_at_30 rfl ?_
      refine eX3_69 rfl dX3_at_31 com_code (Nat.le_of_ble_eq_true rfl) (Nat.le_of_ble_eq_true rfl) ?_
      refine eX3_171 rfl dX3_at_34 js_up_s (com_balloonsOn js_up_s ((js_up_n (js_nek p1 p0 js_kAO)).trans p1) hI (by omega)) (Nat.le_of_ble_eq_true rfl) (Nat.le_of_ble_eq_true rfl) ?_
      exact js_iret rfl rfl dX3_at_37 ⟨js_retI (by first | (rw [zvI_p (by omega)]) | (rw [zvI_n (by omega)])), (zH_eq hA js_up_s ((js_up_n (js_nek p1 p0 js_kAO)).trans p1) ((js_up_n (js_nek p2 p0 js_kAO)).trans p2) ((js_up_n (js_nek p3 p0 js_kAO)).trans p3) ((js_up_n (js_nek p4 p0 js_kAO)).trans p4) ((js_up_n (js_nek p5 p0 js_kAO)).trans p5) ((js_up_n (js_nek p6 p0 js_kAO)).trans p6) ((js_up_n (js_nek p7 p0 js_kAO)).trans p7) ((js_up_n (js_nek p8 p0 js_kAO)).trans p8) ((js_up_n (js_nek p9 p0 js_kAO)).trans p9) ((js_up_n (js_nek p10 p0 js_kAO)).trans p10) ((js_up_n (js_nek p11 p0 js_kAO)).trans p11) (fun q hq => ((js_up_n (hq 0 (by decide))).trans rfl)))⟩
    · refine js_iconst dX3_at_24 ?_
      refine js_goto (tgt := 37) dX3_at_25 (by decide) ?_
      exact js_iret rfl rfl dX3_at_37 ⟨js_retI (by first | (rw [zvI_p (by omega)]) | (rw [zvI_n (by omega)])), (zH_eq hA js_up_s ((js_up_n (js_nek p1 p0 js_kAO)).trans p1) ((js_up_n (js_nek p2 p0 js_kAO)).trans p2) ((js_up_n (js_nek p3 p0 js_kAO)).trans p3) ((js_up_n (js_nek p4 p0 js_kAO)).trans p4) ((js_up_n (js_nek p5 p0 js_kAO)).trans p5) ((js_up_n (js_nek p6 p0 js_kAO)).trans p6) ((js_up_n (js_nek p7 p0 js_kAO)).trans p7) ((js_up_n (js_nek p8 p0 js_kAO)).trans p8) ((js_up_n (js_nek p9 p0 js_kAO)).trans p9) ((js_up_n (js_nek p10 p0 js_kAO)).trans p10) ((js_up_n (js_nek p11 p0 js_kAO)).trans p11) (fun q hq => ((js_up_n (hq 0 (by decide))).trans rfl)))⟩
  · refine js_iload_n 1 dX3_at_1 rfl ?_
    refine js_iload_n 2 dX3_at_2 rfl ?_
    refine eX3_65 rfl dX3_at_3 (com_isPoint (by omega) (by omega)) (Nat.le_of_ble_eq_true rfl) (Nat.le_of_ble_eq_true rfl) ?_
    refine js_if_eqB (tgt := 13) dX3_at_6 (by decide) (fun c3 => ?_) (fun c3 => ?_)
    · refine js_iconst dX3_at_13 ?_
      exact J1 _ (by have z := zt1_c ((0 ≤ x ∧ x ≤ 9) ∧ 0 ≤ y ∧ y ≤ 9); omega)
    · refine js_iconst dX3_at_9 ?_
      refine js_goto (tgt := 14) dX3_at_10 (by decide) ?_
      exact J1 _ (by have z := zt1_c ((0 ≤ x ∧ x ≤ 9) ∧ 0 ≤ y ∧ y ≤ 9); omega)
theorem pm_isAtGate {ρ : js_R} {h : js_H} {A : Nat → Nat} {f bef asd svd pas rf it wt tx od ln : Int → Int} {isS pm th len at_ wr fa om lm : Int} {T b : Int} (hA : zA A) (hp : zMc A f bef asd svd pas rf it wt tx od ln isS pm th len at_ wr fa om lm h) (hI : zI T f) (rb : -2147483648 ≤ b ∧ b < 2147483648) : js_Con ρ mX3_isAtGate 5 0 0 [.ref (A 0), .int (jI b)] h (js_ret (some (.int (jI (jb (zt1 (0 ≤ b ∧ b ≤ f 0 - 1) = 0 ∧ zatg f b))))) (zH A f bef asd svd pas rf it wt tx od ln isS pm (zt1 (0 ≤ b ∧ b ≤ f 0 - 1)) len at_ wr fa om lm h)) := by
  refine js_body [(0, .ref (A 0)), (1, .int (jI b))] rfl (by decide) (Nat.le_of_ble_eq_true rfl) rfl ?_
  obtain ⟨p0, p1, p2, p3, p4, p5, p6, p7, p8, p9, p10, p11⟩ := hp
  have h01 := zI_01 hI
  refine js_aload_n 0 dX3_isAtGate_0 rfl ?_
  refine js_join 14 [(0, .ref (A 0)), (1, .int (jI b))] [.ref (A 0)] h (zt1 (0 ≤ b ∧ b ≤ f 0 - 1)) (fun z hz => ?_) (fun J1 => ?_)
  · subst hz
    have z0 := zt1_c (0 ≤ b ∧ b ≤ f 0 - 1)
    refine pX3_49 rfl dX3_isAtGate_14 p0 (Nat.le_of_ble_eq_true rfl) rfl rfl ?_
    show js_ok ρ mX3_isAtGate _ 5 0 0 17 [(0, .ref (A 0)), (1, .int (jI b))] [] (js_up h (A 0) (js_ob true 2 [.ref (A 1), .ref (A 2), .ref (A 3), .ref (A 4), .int (jI isS), .ref (A 5), .int (jI pm), .int (jI (zt1 (0 ≤ b ∧ b ≤ f 0 - 1))), .ref (A 6), .ref (A 7), .ref (A 8), .ref (A 9), .int (jI len), .int (jI at_), .int (jI wr), .int (jI fa), .ref (A 10), .int (jI om), .ref (A 11), .int (jI lm)]))
    refine js_aload_n 0 dX3_isAtGate_17 rfl ?_
    refine gX3_49 rfl dX3_isAtGate_18 js_up_s rfl ?_
    refine js_if_ne (tgt := 36) dX3_isAtGate_21 (by decide) (by omega) (fun c2 => ?_) (fun c2 => ?_)
    · refine js_iconst dX3_isAtGate_36 ?_
      exact js_iret rfl (js_nar_boolean (by omega)) dX3_isAtGate_37 ⟨js_reti (jb_f (fun z => by rcases z with ⟨za, zb⟩; first | omega | (exact absurd zb (by assumption)))).symm, (zH_eq hA js_up_s ((js_up_n (js_nek p1 p0 js_kAO)).trans p1) ((js_up_n (js_nek p2 p0 js_kAO)).trans p2) ((js_up_n (js_nek p3 p0 js_kAO)).trans p3) ((js_up_n (js_nek p4 p0 js_kAO)).trans p4) ((js_up_n (js_nek p5 p0 js_kAO)).trans p5) ((js_up_n (js_nek p6 p0 js_kAO)).trans p6) ((js_up_n (js_nek p7 p0 js_kAO)).trans p7) ((js_up_n (js_nek p8 p0 js_kAO)).trans p8) ((js_up_n (js_nek p9 p0 js_kAO)).trans p9) ((js_up_n (js_nek p10 p0 js_kAO)).trans p10) ((js_up_n (js_nek p11 p0 js_kAO)).trans p11) (fun q hq => ((js_up_n (hq 0 (by decide))).trans rfl)))⟩
    · have hb : 0 ≤ b ∧ b < f 0 := by omega
      refine js_aload_n 0 dX3_isAtGate_24 rfl ?_
      refine js_iload_n 1 dX3_isAtGate_25 rfl ?_
      refine eX3_152 rfl dX3_isAtGate_26 js_up_s (com_atGate js_up_s ((js_up_n (js_nek p1 p0 js_kAO)).trans p1) hI hb) (Nat.le_of_ble_eq_true rfl) (Nat.le_of_ble_eq_true rfl) ?_
      refine js_if_eqB (tgt := 36) dX3_isAtGate_29 (by decide) (fun c3 => ?_) (fun c3 => ?_)
      · refine js_iconst dX3_isAtGate_36 ?_
        exact js_iret rfl (js_nar_boolean (by omega)) dX3_isAtGate_37 ⟨js_reti (jb_f (fun z => by rcases z with ⟨za, zb⟩; first | omega | (exact absurd zb (by assumption)))).symm, (zH_eq hA js_up_s ((js_up_n (js_nek p1 p0 js_kAO)).trans p1) ((js_up_n (js_nek p2 p0 js_kAO)).trans p2) ((js_up_n (js_nek p3 p0 js_kAO)).trans p3) ((js_up_n (js_nek p4 p0 js_kAO)).trans p4) ((js_up_n (js_nek p5 p0 js_kAO)).trans p5) ((js_up_n (js_nek p6 p0 js_kAO)).trans p6) ((js_up_n (js_nek p7 p0 js_kAO)).trans p7) ((js_up_n (js_nek p8 p0 js_kAO)).trans p8) ((js_up_n (js_nek p9 p0 js_kAO)).trans p9) ((js_up_n (js_nek p10 p0 js_kAO)).trans p10) ((js_up_n (js_nek p11 p0 js_kAO)).trans p11) (fun q hq => ((js_up_n (hq 0 (by decide))).trans rfl)))⟩
      · refine js_iconst dX3_isAtGate_32 ?_
        refine js_goto (tgt := 37) dX3_isAtGate_33 (by decide) ?_
        exact js_iret rfl (js_nar_boolean (by omega)) dX3_isAtGate_37 ⟨js_reti (jb_t ⟨by omega, by assumption⟩).symm, (zH_eq hA js_up_s ((js_up_n (js_nek p1 p0 js_kAO)).trans p1) ((js_up_n (js_nek p2 p0 js_kAO)).trans p2) ((js_up_n (js_nek p3 p0 js_kAO)).trans p3) ((js_up_n (js_nek p4 p0 js_kAO)).trans p4) ((js_up_n (js_nek p5 p0 js_kAO)).trans p5) ((js_up_n (js_nek p6 p0 js_kAO)).trans p6) ((js_up_n (js_nek p7 p0 js_kAO)).trans p7) ((js_up_n (js_nek p8 p0 js_kAO)).trans p8) ((js_up_n (js_nek p9 p0 js_kAO)).trans p9) ((js_up_n (js_nek p10 p0 js_kAO)).trans p10) ((js_up_n (js_nek p11 p0 js_kAO)).trans p11) (fun q hq => ((js_up_n (hq 0 (by decide))).trans rfl)))⟩
  · refine js_aload_n 0 dX3_isAtGate_1 rfl ?_
    refine js_iload_n 1 dX3_isAtGate_2 rfl ?_
    refine eX3_113 rfl dX3_isAtGate_3 p0 (com_isBalloon p0 p1 (by omega) (by omega)) (Nat.le_of_ble_eq_true rfl) (Nat.le_of_ble_eq_true rfl) ?_
    refine js_if_eqB (tgt := 13) dX3_isAtGate_6 (by decide) (fun c4 => ?_) (fun c4 => ?_)
    · refine js_iconst dX3_isAtGate_13 ?_
      exact J1 _ (by have z := zt1_c (0 ≤ b ∧ b ≤ f 0 - 1); omega)
    · refine js_iconst dX3_isAtGate_9 ?_
      refine js_goto (tgt := 14) dX3_isAtGate_10 (by decide) ?_
      exact J1 _ (by have z := zt1_c (0 ≤ b ∧ b ≤ f 0 - 1); omega)
theorem com_thinks {ρ : js_R} {h : js_H} {A : Nat → Nat} {f bef asd svd pas rf it wt tx od ln : Int → Int} {isS pm th len at_ wr fa om lm : Int}  (hA : zA A) (hp : zMc A f bef asd svd pas rf it wt tx od ln isS pm th len at_ wr fa om lm h)  : js_Con ρ mX3_thinks 2 0 0 [.ref (A 0)] h (js_ret none (zH A f bef f svd pas rf it wt tx od ln isS pm th len at_ wr fa om lm h)) := by
  refine js_body [(0, .ref (A 0))] rfl (by decide) (Nat.le_of_ble_eq_true rfl) rfl ?_
  obtain ⟨p0, p1, p2, p3, p4, p5, p6, p7, p8, p9, p10, p11⟩ := hp
  refine js_aload_n 0 dX3_thinks_0 rfl ?_
  refine gX3_9 rfl dX3_thinks_1 p0 rfl ?_
  refine js_iconst dX3_thinks_4 ?_
  refine js_aload_n 0 dX3_thinks_5 rfl ?_
  refine gX3_16 rfl dX3_thinks_6 p0 rfl ?_
  refine js_iconst dX3_thinks_9 ?_
  refine js_sipush dX3_thinks_10 rfl ?_
  refine js_copyI (by decide) q2328 dX3_thinks_13 p1 p3 (by omega) (Nat.le_of_ble_eq_true rfl) (Nat.le_of_ble_eq_true rfl) (fun _ _ _ => rfl) ?_
  show js_ok ρ mX3_thinks _ 2 0 0 16 [(0, .ref (A 0))] [] (js_up h (A 3) (js_aI true 0 287 (js_cp f asd 0 0 287)))
  refine js_norm (g' := f) js_up_s (fun j j1 j2 => (by rw [show js_cp f asd 0 0 287 j = f (0 + (j - 0)) from if_pos (by omega)]; congr 1; omega)) ?_
  rw [js_up_up]
  show js_ok ρ mX3_thinks _ 2 0 0 16 [(0, .ref (A 0))] [] (js_up h (A 3) (js_aI true 0 287 f))
  exact js_vret rfl dX3_thinks_16 ⟨rfl, (zH_eq hA ((js_up_n (js_nek p0 p3 js_kOA)).trans p0) ((js_up_n (hA 1 3 (by decide) (by decide) (by decide))).trans p1) ((js_up_n (hA 2 3 (by decide) (by decide) (by decide))).trans p2) js_up_s ((js_up_n (Ne.symm (hA 3 4 (by decide) (by decide) (by decide)))).trans p4) ((js_up_n (Ne.symm (hA 3 5 (by decide) (by decide) (by decide)))).trans p5) ((js_up_n (Ne.symm (hA 3 6 (by decide) (by decide) (by decide)))).trans p6) ((js_up_n (Ne.symm (hA 3 7 (by decide) (by decide) (by decide)))).trans p7) ((js_up_n (Ne.symm (hA 3 8 (by decide) (by decide) (by decide)))).trans p8) ((js_up_n (Ne.symm (hA 3 9 (by decide) (by decide) (by decide)))).trans p9) ((js_up_n (Ne.symm (hA 3 10 (by decide) (by decide) (by decide)))).trans p10) ((js_up_n (Ne.symm (hA 3 11 (by decide) (by decide) (by decide)))).trans p11) (fun q hq => ((js_up_n (hq 3 (by decide))).trans rfl)))⟩
theorem com_forgets {ρ : js_R} {h : js_H} {A : Nat → Nat} {f bef asd svd pas rf it wt tx od ln : Int → Int} {isS pm th len at_ wr fa om lm : Int}  (hA : zA A) (hp : zMc A f bef asd svd pas rf it wt tx od ln isS pm th len at_ wr fa om lm h)  : js_Con ρ mX3_forgets 2 0 0 [.ref (A 0)] h (js_ret none (zH A asd bef asd svd pas rf it wt tx od ln isS pm th len at_ wr fa om lm h)) := by
  refine js_body [(0, .ref (A 0))] rfl (by decide) (Nat.le_of_ble_eq_true rfl) rfl ?_
  obtain ⟨p0, p1, p2, p3, p4, p5, p6, p7, p8, p9, p10, p11⟩ := hp
  refine js_aload_n 0 dX3_forgets_0 rfl ?_
  refine gX3_16 rfl dX3_forgets_1 p0 rfl ?_
  refine js_iconst dX3_forgets_4 ?_
  refine js_aload_n 0 dX3_forgets_5 rfl ?_
  refine gX3_9 rfl dX3_forgets_6 p0 rfl ?_
  refine js_iconst dX3_forgets_9 ?_
  refine js_sipush dX3_forgets_10 rfl ?_
  refine js_copyI (by decide) q2328 dX3_forgets_13 p3 p1 (by omega) (Nat.le_of_ble_eq_true rfl) (Nat.le_of_ble_eq_true rfl) (fun _ _ _ => rfl) ?_
  show js_ok ρ mX3_forgets _ 2 0 0 16 [(0, .ref (A 0))] [] (js_up h (A 1) (js_aI true 0 287 (js_cp asd f 0 0 287)))
  refine js_norm (g' := asd) js_up_s (fun j j1 j2 => (by rw [show js_cp asd f 0 0 287 j = asd (0 + (j - 0)) from if_pos (by omega)]; congr 1; omega)) ?_
  rw [js_up_up]
  show js_ok ρ mX3_forgets _ 2 0 0 16 [(0, .ref (A 0))] [] (js_up h (A 1) (js_aI true 0 287 asd))
  exact js_vret rfl dX3_forgets_16 ⟨rfl, (zH_eq hA ((js_up_n (js_nek p0 p1 js_kOA)).trans p0) js_up_s ((js_up_n (Ne.symm (hA 1 2 (by decide) (by decide) (by decide)))).trans p2) ((js_up_n (Ne.symm (hA 1 3 (by decide) (by decide) (by decide)))).trans p3) ((js_up_n (Ne.symm (hA 1 4 (by decide) (by decide) (by decide)))).trans p4) ((js_up_n (Ne.symm (hA 1 5 (by decide) (by decide) (by decide)))).trans p5) ((js_up_n (Ne.symm (hA 1 6 (by decide) (by decide) (by decide)))).trans p6) ((js_up_n (Ne.symm (hA 1 7 (by decide) (by decide) (by decide)))).trans p7) ((js_up_n (Ne.symm (hA 1 8 (by decide) (by decide) (by decide)))).trans p8) ((js_up_n (Ne.symm (hA 1 9 (by decide) (by decide) (by decide)))).trans p9) ((js_up_n (Ne.symm (hA 1 10 (by decide) (by decide) (by decide)))).trans p10) ((js_up_n (Ne.symm (hA 1 11 (by decide) (by decide) (by decide)))).trans p11) (fun q hq => ((js_up_n (hq 1 (by decide))).trans rfl)))⟩
