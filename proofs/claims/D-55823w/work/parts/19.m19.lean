set_option maxRecDepth 100000
/-! BalloonSpiresModel: hours to come -/
theorem com_cannot {ρ : js_R} {h : js_H} {A : Nat → Nat} {f bef asd svd pas rf it wt tx od ln : Int → Int} {isS pm th len at_ wr fa om lm : Int} {T b n mx : Int} (hA : zA A) (hp : zMc A f bef asd svd pas rf it wt tx od ln isS pm th len at_ wr fa om lm h) (hI : zI T f) (rb : -2147483648 ≤ b ∧ b < 2147483648) (rn : -2147483648 ≤ n ∧ n < 2147483648) (rmx : -2147483648 ≤ mx ∧ mx < 2147483648) : js_Con ρ mX3_cannot 2 0 0 [.ref (A 0), .int (jI b), .int (jI n), .int (jI mx)] h (js_ret (some (.int (jI (zt2 (0 ≤ b ∧ b ≤ f 0 - 1) (0 ≤ n ∧ n ≤ mx))))) (h)) := by
  refine js_body [(0, .ref (A 0)), (1, .int (jI b)), (2, .int (jI n)), (3, .int (jI mx))] rfl (by decide) (Nat.le_of_ble_eq_true rfl) rfl ?_
  obtain ⟨p0, p1, p2, p3, p4, p5, p6, p7, p8, p9, p10, p11⟩ := hp
  have h01 := zI_01 hI
  refine js_aload_n 0 dX3_cannot_0 rfl ?_
  refine js_iload_n 1 dX3_cannot_1 rfl ?_
  refine eX3_113 rfl dX3_cannot_2 p0 (com_isBalloon p0 p1 (by omega) (by omega)) (Nat.le_of_ble_eq_true rfl) (Nat.le_of_ble_eq_true rfl) ?_
  refine js_if_neB (tgt := 12) dX3_cannot_5 (by decide) (fun c1 => ?_) (fun c1 => ?_)
  · refine js_iload_n 2 dX3_cannot_12 rfl ?_
    refine js_iconst dX3_cannot_13 ?_
    refine js_iload_n 3 dX3_cannot_14 rfl ?_
    refine eX3_61 rfl dX3_cannot_15 (com_in (by omega) (by omega) (by omega)) (Nat.le_of_ble_eq_true rfl) (Nat.le_of_ble_eq_true rfl) ?_
    refine js_if_neB (tgt := 25) dX3_cannot_18 (by decide) (fun c2 => ?_) (fun c2 => ?_)
    · refine js_iconst dX3_cannot_25 ?_
      exact js_iret rfl rfl dX3_cannot_26 ⟨js_reti (by have z := zt2_c (0 ≤ b ∧ b ≤ f 0 - 1) (0 ≤ n ∧ n ≤ mx); omega), rfl⟩
    · refine js_iconst dX3_cannot_21 ?_
      refine js_goto (tgt := 26) dX3_cannot_22 (by decide) ?_
      exact js_iret rfl rfl dX3_cannot_26 ⟨js_reti (by have z := zt2_c (0 ≤ b ∧ b ≤ f 0 - 1) (0 ≤ n ∧ n ≤ mx); omega), rfl⟩
  · refine js_iconst dX3_cannot_8 ?_
    refine js_goto (tgt := 26) dX3_cannot_9 (by decide) ?_
    exact js_iret rfl rfl dX3_cannot_26 ⟨js_reti (by have z := zt2_c (0 ≤ b ∧ b ≤ f 0 - 1) (0 ≤ n ∧ n ≤ mx); omega), rfl⟩
theorem com_after {ρ : js_R} {h : js_H} {A : Nat → Nat} {f bef asd svd pas rf it wt tx od ln : Int → Int} {isS pm th len at_ wr fa om lm : Int} {T b n wh : Int} (hA : zA A) (hp : zMc A f bef asd svd pas rf it wt tx od ln isS pm th len at_ wr fa om lm h) (hI : zI T f) (hT : T + 1000 ≤ 1000000) (hb : 0 ≤ b ∧ b < f 0) (hn : 0 ≤ n ∧ n ≤ 70) (hw : 0 ≤ wh ∧ wh ≤ 8) : js_Con ρ mX3_after 7 0 0 [.ref (A 0), .int (jI b), .int (jI n), .int (jI wh)] h (js_ret (some (.int (jI (zaft f b n wh)))) (zH A f bef f svd pas rf it wt tx od ln isS pm th len at_ wr fa om lm h)) := by
  refine js_body [(0, .ref (A 0)), (1, .int (jI b)), (2, .int (jI n)), (3, .int (jI wh))] rfl (by decide) (Nat.le_of_ble_eq_true rfl) rfl ?_
  obtain ⟨p0, p1, p2, p3, p4, p5, p6, p7, p8, p9, p10, p11⟩ := hp
  have h01 := zI_01 hI
  refine js_aload_n 0 dX3_after_0 rfl ?_
  refine eX3_174 rfl dX3_after_1 p0 (com_thinks hA ⟨p0, p1, p2, p3, p4, p5, p6, p7, p8, p9, p10, p11⟩) (Nat.le_of_ble_eq_true rfl) (Nat.le_of_ble_eq_true rfl) ?_
  rw [zH_fr (fun q hq => rfl)]
  obtain ⟨p1_0, p1_1, p1_2, p1_3, p1_4, p1_5, p1_6, p1_7, p1_8, p1_9, p1_10, p1_11⟩ := zH_Mc (h := h) (f := f) (bef := bef) (asd := f) (svd := svd) (pas := pas) (rf := rf) (it := it) (wt := wt) (tx := tx) (od := od) (ln := ln) (isS := isS) (pm := pm) (th := th) (len := len) (at_ := at_) (wr := wr) (fa := fa) (om := om) (lm := lm) hA
  show js_ok ρ mX3_after _ 7 0 0 4 [(0, .ref (A 0)), (1, .int (jI b)), (2, .int (jI n)), (3, .int (jI wh))] [] (zH A f bef f svd pas rf it wt tx od ln isS pm th len at_ wr fa om lm h)
  refine js_iconst dX3_after_4 ?_
  refine js_istore (L' := [(4, .int (jI 0)), (0, .ref (A 0)), (1, .int (jI b)), (2, .int (jI n)), (3, .int (jI wh))]) dX3_after_5 (by decide) rfl ?_
  refine js_sub (L' := [(0, .ref (A 0)), (1, .int (jI b)), (2, .int (jI n)), (3, .int (jI wh)), (4, .int (jI 0))]) [1, 2, 3, 4, 0] rfl ?_
  refine js_heq (js_selfU p1_1) ?_
  refine js_loop (σ := Nat) (fun k => (k : Int) ≤ n) (fun k => n.toNat - k) (fun k => 0) (fun k => 0) 7 (fun k => [(0, .ref (A 0)), (1, .int (jI b)), (2, .int (jI n)), (3, .int (jI wh)), (4, .int (jI ((k : Int))))]) (fun k => []) (fun k => (js_up (zH A f bef f svd pas rf it wt tx od ln isS pm th len at_ wr fa om lm h) (A 1) (js_aI true 0 287 (zhrs f k)))) (fun k hk IHk => ?_) 0 (by omega)
  show js_ok ρ mX3_after _ 7 0 0 7 [(0, .ref (A 0)), (1, .int (jI b)), (2, .int (jI n)), (3, .int (jI wh)), (4, .int (jI ((k : Int))))] [] (js_up (zH A f bef f svd pas rf it wt tx od ln isS pm th len at_ wr fa om lm h) (A 1) (js_aI true 0 287 (zhrs f k)))
  obtain ⟨iK, e0, e1⟩ := zhrs_I hI k (by omega)
  refine js_iload 4 dX3_after_7 rfl ?_
  refine js_iload_n 2 dX3_after_9 rfl ?_
  refine js_icmp_ge (tgt := 23) dX3_after_10 (by decide) (by omega) (fun c3 => ?_) (fun c3 => ?_)
  · have ek : n.toNat = k := by omega
    rw [← ek] at iK e0 e1
    refine js_heq (h' := (js_up (zH A f bef f svd pas rf it wt tx od ln isS pm th len at_ wr fa om lm h) (A 1) (js_aI true 0 287 (zhrs f n.toNat)))) (by rw [show (zhrs f n.toNat) = (zhrs f k) from (by rw [ek])]) ?_
    have bK := zIB_p (zI_B iK hb.1 (by omega))
    unfold zaft
    refine js_iload_n 3 dX3_after_23 rfl ?_
    refine js_if_ne (tgt := 35) dX3_after_24 (by decide) (by omega) (fun c4 => ?_) (fun c4 => ?_)
    · refine js_aload_n 0 dX3_after_35 rfl ?_
      refine js_iload_n 1 dX3_after_36 rfl ?_
      refine js_iload_n 3 dX3_after_37 rfl ?_
      refine eX3_76 rfl dX3_after_38 ((js_up_n (js_nek p1_0 p1_1 js_kOA)).trans p1_0) (com_of ((js_up_n (js_nek p1_0 p1_1 js_kOA)).trans p1_0) js_up_s (by omega) (by omega)) (Nat.le_of_ble_eq_true rfl) (Nat.le_of_ble_eq_true rfl) ?_
      refine js_istore (L' := [(4, .int (jI ((zhrs f n.toNat) (13 + 9 * b + wh)))), (0, .ref (A 0)), (1, .int (jI b)), (2, .int (jI n)), (3, .int (jI wh))]) dX3_after_41 (by decide) rfl ?_
      refine js_aload_n 1 dX3_after_43 rfl ?_
      refine eX3_177 rfl dX3_after_44 ((js_up_n (js_nek p1_0 p1_1 js_kOA)).trans p1_0) (com_forgets hA ⟨((js_up_n (js_nek p1_0 p1_1 js_kOA)).trans p1_0), js_up_s, ((js_up_n (Ne.symm (hA 1 2 (by decide) (by decide) (by decide)))).trans p1_2), ((js_up_n (Ne.symm (hA 1 3 (by decide) (by decide) (by decide)))).trans p1_3), ((js_up_n (Ne.symm (hA 1 4 (by decide) (by decide) (by decide)))).trans p1_4), ((js_up_n (Ne.symm (hA 1 5 (by decide) (by decide) (by decide)))).trans p1_5), ((js_up_n (Ne.symm (hA 1 6 (by decide) (by decide) (by decide)))).trans p1_6), ((js_up_n (Ne.symm (hA 1 7 (by decide) (by decide) (by decide)))).trans p1_7), ((js_up_n (Ne.symm (hA 1 8 (by decide) (by decide) (by decide)))).trans p1_8), ((js_up_n (Ne.symm (hA 1 9 (by decide) (by decide) (by decide)))).trans p1_9), ((js_up_n (Ne.symm (hA 1 10 (by decide) (by decide) (by decide)))).trans p1_10), ((js_up_n (Ne.symm (hA 1 11 (by decide) (by decide) (by decide)))).trans p1_11)⟩) (Nat.le_of_ble_eq_true rfl) (Nat.le_of_ble_eq_true rfl) ?_
      rw [zH_fr (fun q hq => ((js_up_n (hq 1 (by decide))).trans (zH_n hq)))]
      obtain ⟨p5_0, p5_1, p5_2, p5_3, p5_4, p5_5, p5_6, p5_7, p5_8, p5_9, p5_10, p5_11⟩ := zH_Mc (h := h) (f := f) (bef := bef) (asd := f) (svd := svd) (pas := pas) (rf := rf) (it := it) (wt := wt) (tx := tx) (od := od) (ln := ln) (isS := isS) (pm := pm) (th := th) (len := len) (at_ := at_) (wr := wr) (fa := fa) (om := om) (lm := lm) hA
      show js_ok ρ mX3_after _ 7 0 0 47 [(4, .int (jI ((zhrs f n.toNat) (13 + 9 * b + wh)))), (0, .ref (A 0)), (1, .int (jI b)), (2, .int (jI n)), (3, .int (jI wh))] [] (zH A f bef f svd pas rf it wt tx od ln isS pm th len at_ wr fa om lm h)
      refine js_iload 0 dX3_after_47 rfl ?_
      exact js_iret rfl rfl dX3_after_49 ⟨js_reti (by first | (rw [if_pos (by omega)]) | (rw [if_neg (by omega)])), (zH_eq hA p5_0 p5_1 p5_2 p5_3 p5_4 p5_5 p5_6 p5_7 p5_8 p5_9 p5_10 p5_11 (fun q hq => (zH_n hq)))⟩
    · refine js_aload_n 0 dX3_after_27 rfl ?_
      refine js_iload_n 1 dX3_after_28 rfl ?_
      refine eX3_120 rfl dX3_after_29 ((js_up_n (js_nek p1_0 p1_1 js_kOA)).trans p1_0) (com_pointOf ((js_up_n (js_nek p1_0 p1_1 js_kOA)).trans p1_0) js_up_s (by omega)) (Nat.le_of_ble_eq_true rfl) (Nat.le_of_ble_eq_true rfl) ?_
      refine js_goto (tgt := 41) dX3_after_32 (by decide) ?_
      refine js_istore (L' := [(4, .int (jI (zpt (zhrs f n.toNat) b))), (0, .ref (A 0)), (1, .int (jI b)), (2, .int (jI n)), (3, .int (jI wh))]) dX3_after_41 (by decide) rfl ?_
      refine js_aload_n 1 dX3_after_43 rfl ?_
      refine eX3_177 rfl dX3_after_44 ((js_up_n (js_nek p1_0 p1_1 js_kOA)).trans p1_0) (com_forgets hA ⟨((js_up_n (js_nek p1_0 p1_1 js_kOA)).trans p1_0), js_up_s, ((js_up_n (Ne.symm (hA 1 2 (by decide) (by decide) (by decide)))).trans p1_2), ((js_up_n (Ne.symm (hA 1 3 (by decide) (by decide) (by decide)))).trans p1_3), ((js_up_n (Ne.symm (hA 1 4 (by decide) (by decide) (by decide)))).trans p1_4), ((js_up_n (Ne.symm (hA 1 5 (by decide) (by decide) (by decide)))).trans p1_5), ((js_up_n (Ne.symm (hA 1 6 (by decide) (by decide) (by decide)))).trans p1_6), ((js_up_n (Ne.symm (hA 1 7 (by decide) (by decide) (by decide)))).trans p1_7), ((js_up_n (Ne.symm (hA 1 8 (by decide) (by decide) (by decide)))).trans p1_8), ((js_up_n (Ne.symm (hA 1 9 (by decide) (by decide) (by decide)))).trans p1_9), ((js_up_n (Ne.symm (hA 1 10 (by decide) (by decide) (by decide)))).trans p1_10), ((js_up_n (Ne.symm (hA 1 11 (by decide) (by decide) (by decide)))).trans p1_11)⟩) (Nat.le_of_ble_eq_true rfl) (Nat.le_of_ble_eq_true rfl) ?_
      rw [zH_fr (fun q hq => ((js_up_n (hq 1 (by decide))).trans (zH_n hq)))]
      obtain ⟨p6_0, p6_1, p6_2, p6_3, p6_4, p6_5, p6_6, p6_7, p6_8, p6_9, p6_10, p6_11⟩ := zH_Mc (h := h) (f := f) (bef := bef) (asd := f) (svd := svd) (pas := pas) (rf := rf) (it := it) (wt := wt) (tx := tx) (od := od) (ln := ln) (isS := isS) (pm := pm) (th := th) (len := len) (at_ := at_) (wr := wr) (fa := fa) (om := om) (lm := lm) hA
      show js_ok ρ mX3_after _ 7 0 0 47 [(4, .int (jI (zpt (zhrs f n.toNat) b))), (0, .ref (A 0)), (1, .int (jI b)), (2, .int (jI n)), (3, .int (jI wh))] [] (zH A f bef f svd pas rf it wt tx od ln isS pm th len at_ wr fa om lm h)
      refine js_iload 0 dX3_after_47 rfl ?_
      exact js_iret rfl rfl dX3_after_49 ⟨js_reti (by first | (rw [if_pos (by omega)]) | (rw [if_neg (by omega)])), (zH_eq hA p6_0 p6_1 p6_2 p6_3 p6_4 p6_5 p6_6 p6_7 p6_8 p6_9 p6_10 p6_11 (fun q hq => (zH_n hq)))⟩
  · refine js_aload_n 0 dX3_after_13 rfl ?_
    refine eX3_162 rfl dX3_after_14 ((js_up_n (js_nek p1_0 p1_1 js_kOA)).trans p1_0) (com_goesHour ((js_up_n (js_nek p1_0 p1_1 js_kOA)).trans p1_0) js_up_s iK (by omega)) (Nat.le_of_ble_eq_true rfl) (Nat.le_of_ble_eq_true rfl) ?_
    rw [js_up_up]
    show js_ok ρ mX3_after _ 7 0 0 17 [(0, .ref (A 0)), (1, .int (jI b)), (2, .int (jI n)), (3, .int (jI wh)), (4, .int (jI ((k : Int))))] [] (js_up (zH A f bef f svd pas rf it wt tx od ln isS pm th len at_ wr fa om lm h) (A 1) (js_aI true 0 287 (zhr (zhrs f k))))
    refine js_iinc (L' := [(4, .int (jI (((k : Int)) + 1))), (0, .ref (A 0)), (1, .int (jI b)), (2, .int (jI n)), (3, .int (jI wh))]) 4 dX3_after_17 rfl (by decide) rfl ?_
    refine js_goto (tgt := 7) dX3_after_20 (by decide) ?_
    show js_ok ρ mX3_after _ 7 0 0 7 [(4, .int (jI (((k : Int)) + 1))), (0, .ref (A 0)), (1, .int (jI b)), (2, .int (jI n)), (3, .int (jI wh))] [] (js_up (zH A f bef f svd pas rf it wt tx od ln isS pm th len at_ wr fa om lm h) (A 1) (js_aI true 0 287 (zhrs f (k + 1))))
    refine js_sub (L' := [(0, .ref (A 0)), (1, .int (jI b)), (2, .int (jI n)), (3, .int (jI wh)), (4, .int (jI (((k : Int)) + 1)))]) [1, 2, 3, 4, 0] rfl ?_
    exact IHk (k + 1) (by omega) (by omega)
theorem pm_drift {ρ : js_R} {h : js_H} {A : Nat → Nat} {f bef asd svd pas rf it wt tx od ln : Int → Int} {isS pm th len at_ wr fa om lm : Int} {T b n : Int} (hA : zA A) (hp : zMc A f bef asd svd pas rf it wt tx od ln isS pm th len at_ wr fa om lm h) (hI : zI T f) (hT : T + 1000 ≤ 1000000) (rb : -2147483648 ≤ b ∧ b < 2147483648) (rn : -2147483648 ≤ n ∧ n < 2147483648) : js_Con ρ mX3_drift 8 0 0 [.ref (A 0), .int (jI b), .int (jI n)] h (js_ret (some (.int (jI (zv (zt2 (0 ≤ b ∧ b ≤ f 0 - 1) (0 ≤ n ∧ n ≤ 60)) (zaft f b n 0))))) (zH A f bef (@ite (Int → Int) (0 < zt2 (0 ≤ b ∧ b ≤ f 0 - 1) (0 ≤ n ∧ n ≤ 60)) (Int.decLt _ _) asd f) svd pas rf it wt tx od ln isS pm (zt2 (0 ≤ b ∧ b ≤ f 0 - 1) (0 ≤ n ∧ n ≤ 60)) len at_ wr fa om lm h)) := by
  refine js_body [(0, .ref (A 0)), (1, .int (jI b)), (2, .int (jI n))] rfl (by decide) (Nat.le_of_ble_eq_true rfl) rfl ?_
  obtain ⟨p0, p1, p2, p3, p4, p5, p6, p7, p8, p9, p10, p11⟩ := hp
  have h01 := zI_01 hI
  have z0 := zt2_c (0 ≤ b ∧ b ≤ f 0 - 1) (0 ≤ n ∧ n ≤ 60)
  refine js_aload_n 0 dX3_drift_0 rfl ?_
  refine js_aload_n 0 dX3_drift_1 rfl ?_
  refine js_iload_n 1 dX3_drift_2 rfl ?_
  refine js_iload_n 2 dX3_drift_3 rfl ?_
  refine js_bipush dX3_drift_4 rfl ?_
  refine eX3_180 rfl dX3_drift_6 p0 (com_cannot hA ⟨p0, p1, p2, p3, p4, p5, p6, p7, p8, p9, p10, p11⟩ hI (by omega) (by omega) (by omega)) (Nat.le_of_ble_eq_true rfl) (Nat.le_of_ble_eq_true rfl) ?_
  refine pX3_49 rfl dX3_drift_9 p0 (Nat.le_of_ble_eq_true rfl) rfl rfl ?_
  show js_ok ρ mX3_drift _ 8 0 0 12 [(0, .ref (A 0)), (1, .int (jI b)), (2, .int (jI n))] [] (js_up h (A 0) (js_ob true 2 [.ref (A 1), .ref (A 2), .ref (A 3), .ref (A 4), .int (jI isS), .ref (A 5), .int (jI pm), .int (jI (zt2 (0 ≤ b ∧ b ≤ f 0 - 1) (0 ≤ n ∧ n ≤ 60))), .ref (A 6), .ref (A 7), .ref (A 8), .ref (A 9), .int (jI len), .int (jI at_), .int (jI wr), .int (jI fa), .ref (A 10), .int (jI om), .ref (A 11), .int (jI lm)]))
  refine js_aload_n 0 dX3_drift_12 rfl ?_
  refine gX3_49 rfl dX3_drift_13 js_up_s rfl ?_
  refine js_if_le (tgt := 23) dX3_drift_16 (by decide) (by omega) (fun c1 => ?_) (fun c1 => ?_)
  · refine js_aload_n 0 dX3_drift_23 rfl ?_
    refine js_iload_n 1 dX3_drift_24 rfl ?_
    refine js_iload_n 2 dX3_drift_25 rfl ?_
    refine js_iconst dX3_drift_26 ?_
    refine eX3_183 rfl dX3_drift_27 js_up_s (com_after hA ⟨js_up_s, ((js_up_n (js_nek p1 p0 js_kAO)).trans p1), ((js_up_n (js_nek p2 p0 js_kAO)).trans p2), ((js_up_n (js_nek p3 p0 js_kAO)).trans p3), ((js_up_n (js_nek p4 p0 js_kAO)).trans p4), ((js_up_n (js_nek p5 p0 js_kAO)).trans p5), ((js_up_n (js_nek p6 p0 js_kAO)).trans p6), ((js_up_n (js_nek p7 p0 js_kAO)).trans p7), ((js_up_n (js_nek p8 p0 js_kAO)).trans p8), ((js_up_n (js_nek p9 p0 js_kAO)).trans p9), ((js_up_n (js_nek p10 p0 js_kAO)).trans p10), ((js_up_n (js_nek p11 p0 js_kAO)).trans p11)⟩ hI (by omega) (by omega) (by omega) (by omega)) (Nat.le_of_ble_eq_true rfl) (Nat.le_of_ble_eq_true rfl) ?_
    rw [zH_fr (fun q hq => ((js_up_n (hq 0 (by decide))).trans rfl))]
    obtain ⟨p2_0, p2_1, p2_2, p2_3, p2_4, p2_5, p2_6, p2_7, p2_8, p2_9, p2_10, p2_11⟩ := zH_Mc (h := h) (f := f) (bef := bef) (asd := f) (svd := svd) (pas := pas) (rf := rf) (it := it) (wt := wt) (tx := tx) (od := od) (ln := ln) (isS := isS) (pm := pm) (th := zt2 (0 ≤ b ∧ b ≤ f 0 - 1) (0 ≤ n ∧ n ≤ 60)) (len := len) (at_ := at_) (wr := wr) (fa := fa) (om := om) (lm := lm) hA
    show js_ok ρ mX3_drift _ 8 0 0 30 [(0, .ref (A 0)), (1, .int (jI b)), (2, .int (jI n))] [.int (jI (zaft f b n 0))] (zH A f bef f svd pas rf it wt tx od ln isS pm (zt2 (0 ≤ b ∧ b ≤ f 0 - 1) (0 ≤ n ∧ n ≤ 60)) len at_ wr fa om lm h)
    exact js_iret rfl rfl dX3_drift_30 ⟨js_reti (by first | (rw [zv_p (by omega)]) | (rw [zv_n (by omega)])), (by first | (rw [if_pos (by omega)]; done) | (rw [if_neg (by omega)]; done) | (rw [if_pos (by omega)]; exact (zH_eq hA p2_0 p2_1 p2_2 p2_3 p2_4 p2_5 p2_6 p2_7 p2_8 p2_9 p2_10 p2_11 (fun q hq => (zH_n hq)))) | (rw [if_neg (by omega)]; exact (zH_eq hA p2_0 p2_1 p2_2 p2_3 p2_4 p2_5 p2_6 p2_7 p2_8 p2_9 p2_10 p2_11 (fun q hq => (zH_n hq)))))⟩
  · refine js_iconst dX3_drift_19 ?_
    refine js_goto (tgt := 30) dX3_drift_20 (by decide) ?_
    exact js_iret rfl rfl dX3_drift_30 ⟨js_reti (by first | (rw [zv_p (by omega)]) | (rw [zv_n (by omega)])), (by first | (rw [if_pos (by omega)]; done) | (rw [if_neg (by omega)]; done) | (rw [if_pos (by omega)]; exact (zH_eq hA js_up_s ((js_up_n (js_nek p1 p0 js_kAO)).trans p1) ((js_up_n (js_nek p2 p0 js_kAO)).trans p2) ((js_up_n (js_nek p3 p0 js_kAO)).trans p3) ((js_up_n (js_nek p4 p0 js_kAO)).trans p4) ((js_up_n (js_nek p5 p0 js_kAO)).trans p5) ((js_up_n (js_nek p6 p0 js_kAO)).trans p6) ((js_up_n (js_nek p7 p0 js_kAO)).trans p7) ((js_up_n (js_nek p8 p0 js_kAO)).trans p8) ((js_up_n (js_nek p9 p0 js_kAO)).trans p9) ((js_up_n (js_nek p10 p0 js_kAO)).trans p10) ((js_up_n (js_nek p11 p0 js_kAO)).trans p11) (fun q hq => ((js_up_n (hq 0 (by decide))).trans rfl)))) | (rw [if_neg (by omega)]; exact (zH_eq hA js_up_s ((js_up_n (js_nek p1 p0 js_kAO)).trans p1) ((js_up_n (js_nek p2 p0 js_kAO)).trans p2) ((js_up_n (js_nek p3 p0 js_kAO)).trans p3) ((js_up_n (js_nek p4 p0 js_kAO)).trans p4) ((js_up_n (js_nek p5 p0 js_kAO)).trans p5) ((js_up_n (js_nek p6 p0 js_kAO)).trans p6) ((js_up_n (js_nek p7 p0 js_kAO)).trans p7) ((js_up_n (js_nek p8 p0 js_kAO)).trans p8) ((js_up_n (js_nek p9 p0 js_kAO)).trans p9) ((js_up_n (js_nek p10 p0 js_kAO)).trans p10) ((js_up_n (js_nek p11 p0 js_kAO)).trans p11) (fun q hq => ((js_up_n (hq 0 (by decide))).trans rfl)))))⟩
theorem pm_heightIn {ρ : js_R} {h : js_H} {A : Nat → Nat} {f bef asd svd pas rf it wt tx od ln : Int → Int} {isS pm th len at_ wr fa om lm : Int} {T b n : Int} (hA : zA A) (hp : zMc A f bef asd svd pas rf it wt tx od ln isS pm th len at_ wr fa om lm h) (hI : zI T f) (hT : T + 1000 ≤ 1000000) (rb : -2147483648 ≤ b ∧ b < 2147483648) (rn : -2147483648 ≤ n ∧ n < 2147483648) : js_Con ρ mX3_heightIn 8 0 0 [.ref (A 0), .int (jI b), .int (jI n)] h (js_ret (some (.int (jI (zv (zt2 (0 ≤ b ∧ b ≤ f 0 - 1) (0 ≤ n ∧ n ≤ 60)) (zaft f b n 2))))) (zH A f bef (@ite (Int → Int) (0 < zt2 (0 ≤ b ∧ b ≤ f 0 - 1) (0 ≤ n ∧ n ≤ 60)) (Int.decLt _ _) asd f) svd pas rf it wt tx od ln isS pm (zt2 (0 ≤ b ∧ b ≤ f 0 - 1) (0 ≤ n ∧ n ≤ 60)) len at_ wr fa om lm h)) := by
  refine js_body [(0, .ref (A 0)), (1, .int (jI b)), (2, .int (jI n))] rfl (by decide) (Nat.le_of_ble_eq_true rfl) rfl ?_
  obtain ⟨p0, p1, p2, p3, p4, p5, p6, p7, p8, p9, p10, p11⟩ := hp
  have h01 := zI_01 hI
  have z0 := zt2_c (0 ≤ b ∧ b ≤ f 0 - 1) (0 ≤ n ∧ n ≤ 60)
  refine js_aload_n 0 dX3_heightIn_0 rfl ?_
  refine js_aload_n 0 dX3_heightIn_1 rfl ?_
  refine js_iload_n 1 dX3_heightIn_2 rfl ?_
  refine js_iload_n 2 dX3_heightIn_3 rfl ?_
  refine js_bipush dX3_heightIn_4 rfl ?_
  refine eX3_180 rfl dX3_heightIn_6 p0 (com_cannot hA ⟨p0, p1, p2, p3, p4, p5, p6, p7, p8, p9, p10, p11⟩ hI (by omega) (by omega) (by omega)) (Nat.le_of_ble_eq_true rfl) (Nat.le_of_ble_eq_true rfl) ?_
  refine pX3_49 rfl dX3_heightIn_9 p0 (Nat.le_of_ble_eq_true rfl) rfl rfl ?_
  show js_ok ρ mX3_heightIn _ 8 0 0 12 [(0, .ref (A 0)), (1, .int (jI b)), (2, .int (jI n))] [] (js_up h (A 0) (js_ob true 2 [.ref (A 1), .ref (A 2), .ref (A 3), .ref (A 4), .int (jI isS), .ref (A 5), .int (jI pm), .int (jI (zt2 (0 ≤ b ∧ b ≤ f 0 - 1) (0 ≤ n ∧ n ≤ 60))), .ref (A 6), .ref (A 7), .ref (A 8), .ref (A 9), .int (jI len), .int (jI at_), .int (jI wr), .int (jI fa), .ref (A 10), .int (jI om), .ref (A 11), .int (jI lm)]))
  refine js_aload_n 0 dX3_heightIn_12 rfl ?_
  refine gX3_49 rfl dX3_heightIn_13 js_up_s rfl ?_
  refine js_if_le (tgt := 23) dX3_heightIn_16 (by decide) (by omega) (fun c1 => ?_) (fun c1 => ?_)
  · refine js_aload_n 0 dX3_heightIn_23 rfl ?_
    refine js_iload_n 1 dX3_heightIn_24 rfl ?_
    refine js_iload_n 2 dX3_heightIn_25 rfl ?_
    refine js_iconst dX3_heightIn_26 ?_
    refine eX3_183 rfl dX3_heightIn_27 js_up_s (com_after hA ⟨js_up_s, ((js_up_n (js_nek p1 p0 js_kAO)).trans p1), ((js_up_n (js_nek p2 p0 js_kAO)).trans p2), ((js_up_n (js_nek p3 p0 js_kAO)).trans p3), ((js_up_n (js_nek p4 p0 js_kAO)).trans p4), ((js_up_n (js_nek p5 p0 js_kAO)).trans p5), ((js_up_n (js_nek p6 p0 js_kAO)).trans p6), ((js_up_n (js_nek p7 p0 js_kAO)).trans p7), ((js_up_n (js_nek p8 p0 js_kAO)).trans p8), ((js_up_n (js_nek p9 p0 js_kAO)).trans p9), ((js_up_n (js_nek p10 p0 js_kAO)).trans p10), ((js_up_n (js_nek p11 p0 js_kAO)).trans p11)⟩ hI (by omega) (by omega) (by omega) (by omega)) (Nat.le_of_ble_eq_true rfl) (Nat.le_of_ble_eq_true rfl) ?_
    rw [zH_fr (fun q hq => ((js_up_n (hq 0 (by decide))).trans rfl))]
    obtain ⟨p2_0, p2_1, p2_2, p2_3, p2_4, p2_5, p2_6, p2_7, p2_8, p2_9, p2_10, p2_11⟩ := zH_Mc (h := h) (f := f) (bef := bef) (asd := f) (svd := svd) (pas := pas) (rf := rf) (it := it) (wt := wt) (tx := tx) (od := od) (ln := ln) (isS := isS) (pm := pm) (th := zt2 (0 ≤ b ∧ b ≤ f 0 - 1) (0 ≤ n ∧ n ≤ 60)) (len := len) (at_ := at_) (wr := wr) (fa := fa) (om := om) (lm := lm) hA
    show js_ok ρ mX3_heightIn _ 8 0 0 30 [(0, .ref (A 0)), (1, .int (jI b)), (2, .int (jI n))] [.int (jI (zaft f b n 2))] (zH A f bef f svd pas rf it wt tx od ln isS pm (zt2 (0 ≤ b ∧ b ≤ f 0 - 1) (0 ≤ n ∧ n ≤ 60)) len at_ wr fa om lm h)
    exact js_iret rfl rfl dX3_heightIn_30 ⟨js_reti (by first | (rw [zv_p (by omega)]) | (rw [zv_n (by omega)])), (by first | (rw [if_pos (by omega)]; done) | (rw [if_neg (by omega)]; done) | (rw [if_pos (by omega)]; exact (zH_eq hA p2_0 p2_1 p2_2 p2_3 p2_4 p2_5 p2_6 p2_7 p2_8 p2_9 p2_10 p2_11 (fun q hq => (zH_n hq)))) | (rw [if_neg (by omega)]; exact (zH_eq hA p2_0 p2_1 p2_2 p2_3 p2_4 p2_5 p2_6 p2_7 p2_8 p2_9 p2_10 p2_11 (fun q hq => (zH_n hq)))))⟩
  · refine js_iconst dX3_heightIn_19 ?_
    refine js_goto (tgt := 30) dX3_heightIn_20 (by decide) ?_
    exact js_iret rfl rfl dX3_heightIn_30 ⟨js_reti (by first | (rw [zv_p (by omega)]) | (rw [zv_n (by omega)])), (by first | (rw [if_pos (by omega)]; done) | (rw [if_neg (by omega)]; done) | (rw [if_pos (by omega)]; exact (zH_eq hA js_up_s ((js_up_n (js_nek p1 p0 js_kAO)).trans p1) ((js_up_n (js_nek p2 p0 js_kAO)).trans p2) ((js_up_n (js_nek p3 p0 js_kAO)).trans p3) ((js_up_n (js_nek p4 p0 js_kAO)).trans p4) ((js_up_n (js_nek p5 p0 js_kAO)).trans p5) ((js_up_n (js_nek p6 p0 js_kAO)).trans p6) ((js_up_n (js_nek p7 p0 js_kAO)).trans p7) ((js_up_n (js_nek p8 p0 js_kAO)).trans p8) ((js_up_n (js_nek p9 p0 js_kAO)).trans p9) ((js_up_n (js_nek p10 p0 js_kAO)).trans p10) ((js_up_n (js_nek p11 p0 js_kAO)).trans p11) (fun q hq => ((js_up_n (hq 0 (by decide))).trans rfl)))) | (rw [if_neg (by omega)]; exact (zH_eq hA js_up_s ((js_up_n (js_nek p1 p0 js_kAO)).trans p1) ((js_up_n (js_nek p2 p0 js_kAO)).trans p2) ((js_up_n (js_nek p3 p0 js_kAO)).trans p3) ((js_up_n (js_nek p4 p0 js_kAO)).trans p4) ((js_up_n (js_nek p5 p0 js_kAO)).trans p5) ((js_up_n (js_nek p6 p0 js_kAO)).trans p6) ((js_up_n (js_nek p7 p0 js_kAO)).trans p7) ((js_up_n (js_nek p8 p0 js_kAO)).trans p8) ((js_up_n (js_nek p9 p0 js_kAO)).trans p9) ((js_up_n (js_nek p10 p0 js_kAO)).trans p10) ((js_up_n (js_nek p11 p0 js_kAO)).trans p11) (fun q hq => ((js_up_n (hq 0 (by decide))).trans rfl)))))⟩
theorem pm_wouldScore {ρ : js_R} {h : js_H} {A : Nat → Nat} {f bef asd svd pas rf it wt tx od ln : Int → Int} {isS pm th len at_ wr fa om lm : Int} {T b n : Int} (hA : zA A) (hp : zMc A f bef asd svd pas rf it wt tx od ln isS pm th len at_ wr fa om lm h) (hI : zI T f) (hT : T + 1000 ≤ 1000000) (rb : -2147483648 ≤ b ∧ b < 2147483648) (rn : -2147483648 ≤ n ∧ n < 2147483648) : js_Con ρ mX3_wouldScore 8 0 0 [.ref (A 0), .int (jI b), .int (jI n)] h (js_ret (some (.int (jI (zv (zt2 (0 ≤ b ∧ b ≤ f 0 - 1) (0 ≤ n ∧ n ≤ 60)) (zaft f b n 6 - f (13 + 9 * b + 6)))))) (zH A f bef (@ite (Int → Int) (0 < zt2 (0 ≤ b ∧ b ≤ f 0 - 1) (0 ≤ n ∧ n ≤ 60)) (Int.decLt _ _) asd f) svd pas rf it wt tx od ln isS pm (zt2 (0 ≤ b ∧ b ≤ f 0 - 1) (0 ≤ n ∧ n ≤ 60)) len at_ wr fa om lm h)) := by
  refine js_body [(0, .ref (A 0)), (1, .int (jI b)), (2, .int (jI n))] rfl (by decide) (Nat.le_of_ble_eq_true rfl) rfl ?_
  obtain ⟨p0, p1, p2, p3, p4, p5, p6, p7, p8, p9, p10, p11⟩ := hp
  have h01 := zI_01 hI
  have z0 := zt2_c (0 ≤ b ∧ b ≤ f 0 - 1) (0 ≤ n ∧ n ≤ 60)
  refine js_aload_n 0 dX3_wouldScore_0 rfl ?_
  refine js_aload_n 0 dX3_wouldScore_1 rfl ?_
  refine js_iload_n 1 dX3_wouldScore_2 rfl ?_
  refine js_iload_n 2 dX3_wouldScore_3 rfl ?_
  refine js_bipush dX3_wouldScore_4 rfl ?_
  refine eX3_180 rfl dX3_wouldScore_6 p0 (com_cannot hA ⟨p0, p1, p2, p3, p4, p5, p6, p7, p8, p9, p10, p11⟩ hI (by omega) (by omega) (by omega)) (Nat.le_of_ble_eq_true rfl) (Nat.le_of_ble_eq_true rfl) ?_
  refine pX3_49 rfl dX3_wouldScore_9 p0 (Nat.le_of_ble_eq_true rfl) rfl rfl ?_
  show js_ok ρ mX3_wouldScore _ 8 0 0 12 [(0, .ref (A 0)), (1, .int (jI b)), (2, .int (jI n))] [] (js_up h (A 0) (js_ob true 2 [.ref (A 1), .ref (A 2), .ref (A 3), .ref (A 4), .int (jI isS), .ref (A 5), .int (jI pm), .int (jI (zt2 (0 ≤ b ∧ b ≤ f 0 - 1) (0 ≤ n ∧ n ≤ 60))), .ref (A 6), .ref (A 7), .ref (A 8), .ref (A 9), .int (jI len), .int (jI at_), .int (jI wr), .int (jI fa), .ref (A 10), .int (jI om), .ref (A 11), .int (jI lm)]))
  refine js_aload_n 0 dX3_wouldScore_12 rfl ?_
  refine gX3_49 rfl dX3_wouldScore_13 js_up_s rfl ?_
  refine js_if_le (tgt := 23) dX3_wouldScore_16 (by decide) (by omega) (fun c1 => ?_) (fun c1 => ?_)
  · refine js_aload_n 0 dX3_wouldScore_23 rfl ?_
    refine js_iload_n 1 dX3_wouldScore_24 rfl ?_
    refine js_iload_n 2 dX3_wouldScore_25 rfl ?_
    refine js_bipush dX3_wouldScore_26 rfl ?_
    refine eX3_183 rfl dX3_wouldScore_28 js_up_s (com_after hA ⟨js_up_s, ((js_up_n (js_nek p1 p0 js_kAO)).trans p1), ((js_up_n (js_nek p2 p0 js_kAO)).trans p2), ((js_up_n (js_nek p3 p0 js_kAO)).trans p3), ((js_up_n (js_nek p4 p0 js_kAO)).trans p4), ((js_up_n (js_nek p5 p0 js_kAO)).trans p5), ((js_up_n (js_nek p6 p0 js_kAO)).trans p6), ((js_up_n (js_nek p7 p0 js_kAO)).trans p7), ((js_up_n (js_nek p8 p0 js_kAO)).trans p8), ((js_up_n (js_nek p9 p0 js_kAO)).trans p9), ((js_up_n (js_nek p10 p0 js_kAO)).trans p10), ((js_up_n (js_nek p11 p0 js_kAO)).trans p11)⟩ hI (by omega) (by omega) (by omega) (by omega)) (Nat.le_of_ble_eq_true rfl) (Nat.le_of_ble_eq_true rfl) ?_
    rw [zH_fr (fun q hq => ((js_up_n (hq 0 (by decide))).trans rfl))]
    obtain ⟨p2_0, p2_1, p2_2, p2_3, p2_4, p2_5, p2_6, p2_7, p2_8, p2_9, p2_10, p2_11⟩ := zH_Mc (h := h) (f := f) (bef := bef) (asd := f) (svd := svd) (pas := pas) (rf := rf) (it := it) (wt := wt) (tx := tx) (od := od) (ln := ln) (isS := isS) (pm := pm) (th := zt2 (0 ≤ b ∧ b ≤ f 0 - 1) (0 ≤ n ∧ n ≤ 60)) (len := len) (at_ := at_) (wr := wr) (fa := fa) (om := om) (lm := lm) hA
    show js_ok ρ mX3_wouldScore _ 8 0 0 31 [(0, .ref (A 0)), (1, .int (jI b)), (2, .int (jI n))] [.int (jI (zaft f b n 6))] (zH A f bef f svd pas rf it wt tx od ln isS pm (zt2 (0 ≤ b ∧ b ≤ f 0 - 1) (0 ≤ n ∧ n ≤ 60)) len at_ wr fa om lm h)
    refine js_aload_n 0 dX3_wouldScore_31 rfl ?_
    refine js_iload_n 1 dX3_wouldScore_32 rfl ?_
    refine js_bipush dX3_wouldScore_33 rfl ?_
    refine eX3_76 rfl dX3_wouldScore_35 p2_0 (com_of p2_0 p2_1 (by omega) (by omega)) (Nat.le_of_ble_eq_true rfl) (Nat.le_of_ble_eq_true rfl) ?_
    refine js_isub dX3_wouldScore_38 ?_
    exact js_iret rfl rfl dX3_wouldScore_39 ⟨js_reti (by first | (rw [zv_p (by omega)]) | (rw [zv_n (by omega)])), (by first | (rw [if_pos (by omega)]; done) | (rw [if_neg (by omega)]; done) | (rw [if_pos (by omega)]; exact (zH_eq hA p2_0 p2_1 p2_2 p2_3 p2_4 p2_5 p2_6 p2_7 p2_8 p2_9 p2_10 p2_11 (fun q hq => (zH_n hq)))) | (rw [if_neg (by omega)]; exact (zH_eq hA p2_0 p2_1 p2_2 p2_3 p2_4 p2_5 p2_6 p2_7 p2_8 p2_9 p2_10 p2_11 (fun q hq => (zH_n hq)))))⟩
  · refine js_iconst dX3_wouldScore_19 ?_
    refine js_goto (tgt := 39) dX3_wouldScore_20 (by decide) ?_
    exact js_iret rfl rfl dX3_wouldScore_39 ⟨js_reti (by first | (rw [zv_p (by omega)]) | (rw [zv_n (by omega)])), (by first | (rw [if_pos (by omega)]; done) | (rw [if_neg (by omega)]; done) | (rw [if_pos (by omega)]; exact (zH_eq hA js_up_s ((js_up_n (js_nek p1 p0 js_kAO)).trans p1) ((js_up_n (js_nek p2 p0 js_kAO)).trans p2) ((js_up_n (js_nek p3 p0 js_kAO)).trans p3) ((js_up_n (js_nek p4 p0 js_kAO)).trans p4) ((js_up_n (js_nek p5 p0 js_kAO)).trans p5) ((js_up_n (js_nek p6 p0 js_kAO)).trans p6) ((js_up_n (js_nek p7 p0 js_kAO)).trans p7) ((js_up_n (js_nek p8 p0 js_kAO)).trans p8) ((js_up_n (js_nek p9 p0 js_kAO)).trans p9) ((js_up_n (js_nek p10 p0 js_kAO)).trans p10) ((js_up_n (js_nek p11 p0 js_kAO)).trans p11) (fun q hq => ((js_up_n (hq 0 (by decide))).trans rfl)))) | (rw [if_neg (by omega)]; exact (zH_eq hA js_up_s ((js_up_n (js_nek p1 p0 js_kAO)).trans p1) ((js_up_n (js_nek p2 p0 js_kAO)).trans p2) ((js_up_n (js_nek p3 p0 js_kAO)).trans p3) ((js_up_n (js_nek p4 p0 js_kAO)).trans p4) ((js_up_n (js_nek p5 p0 js_kAO)).trans p5) ((js_up_n (js_nek p6 p0 js_kAO)).trans p6) ((js_up_n (js_nek p7 p0 js_kAO)).trans p7) ((js_up_n (js_nek p8 p0 js_kAO)).trans p8) ((js_up_n (js_nek p9 p0 js_kAO)).trans p9) ((js_up_n (js_nek p10 p0 js_kAO)).trans p10) ((js_up_n (js_nek p11 p0 js_kAO)).trans p11) (fun q hq => ((js_up_n (hq 0 (by decide))).trans rfl)))))⟩
theorem com_fails {ρ : js_R} {h : js_H} {A : Nat → Nat} {f bef asd svd pas rf it wt tx od ln : Int → Int} {isS pm th len at_ wr fa om lm : Int} {v : Int} (hA : zA A) (hp : zMc A f bef asd svd pas rf it wt tx od ln isS pm th len at_ wr fa om lm h)  : js_Con ρ mX3_fails 0 0 0 [.ref (A 0), .int (jI v)] h (js_ret (some (.int (jI 0))) (zH A f bef asd svd pas rf it wt tx od ln isS pm v len at_ wr fa om lm h)) := by
  refine js_body [(0, .ref (A 0)), (1, .int (jI v))] rfl (by decide) (Nat.le_of_ble_eq_true rfl) rfl ?_
  obtain ⟨p0, p1, p2, p3, p4, p5, p6, p7, p8, p9, p10, p11⟩ := hp
  refine js_aload_n 0 dX3_fails_0 rfl ?_
  refine js_iload_n 1 dX3_fails_1 rfl ?_
  refine pX3_49 rfl dX3_fails_2 p0 (Nat.le_of_ble_eq_true rfl) rfl rfl ?_
  show js_ok ρ mX3_fails _ 0 0 0 5 [(0, .ref (A 0)), (1, .int (jI v))] [] (js_up h (A 0) (js_ob true 2 [.ref (A 1), .ref (A 2), .ref (A 3), .ref (A 4), .int (jI isS), .ref (A 5), .int (jI pm), .int (jI v), .ref (A 6), .ref (A 7), .ref (A 8), .ref (A 9), .int (jI len), .int (jI at_), .int (jI wr), .int (jI fa), .ref (A 10), .int (jI om), .ref (A 11), .int (jI lm)]))
  refine js_iconst dX3_fails_5 ?_
  exact js_iret rfl rfl dX3_fails_6 ⟨js_reti (by rfl), (zH_eq hA js_up_s ((js_up_n (js_nek p1 p0 js_kAO)).trans p1) ((js_up_n (js_nek p2 p0 js_kAO)).trans p2) ((js_up_n (js_nek p3 p0 js_kAO)).trans p3) ((js_up_n (js_nek p4 p0 js_kAO)).trans p4) ((js_up_n (js_nek p5 p0 js_kAO)).trans p5) ((js_up_n (js_nek p6 p0 js_kAO)).trans p6) ((js_up_n (js_nek p7 p0 js_kAO)).trans p7) ((js_up_n (js_nek p8 p0 js_kAO)).trans p8) ((js_up_n (js_nek p9 p0 js_kAO)).trans p9) ((js_up_n (js_nek p10 p0 js_kAO)).trans p10) ((js_up_n (js_nek p11 p0 js_kAO)).trans p11) (fun q hq => ((js_up_n (hq 0 (by decide))).trans rfl)))⟩
/-- the hours after which b's next spire is rounded, or b lies on the ground -/
noncomputable def zri (f : zF) (b : Int) : Nat := zfst (fun j : Nat => 0 < zhrs f j (13 + 9 * b + 2) ∧ zhrs f j (13 + 9 * b + 5) = f (13 + 9 * b + 5)) 60 0
/-- the hours after which b lies on the ground -/
noncomputable def zli (f : zF) (b : Int) : Nat := zfst (fun j : Nat => 0 < zhrs f j (13 + 9 * b + 2)) 60 0
theorem pm_roundsIn {ρ : js_R} {h : js_H} {A : Nat → Nat} {f bef asd svd pas rf it wt tx od ln : Int → Int} {isS pm th len at_ wr fa om lm : Int} {T b : Int} (hA : zA A) (hp : zMc A f bef asd svd pas rf it wt tx od ln isS pm th len at_ wr fa om lm h) (hI : zI T f) (hT : T + 1000 ≤ 1000000) (rb : -2147483648 ≤ b ∧ b < 2147483648) : js_Con ρ mX3_roundsIn 7 0 0 [.ref (A 0), .int (jI b)] h (zPost A (.int (jI (zv (zt2 (0 ≤ b ∧ b ≤ f 0 - 1) (zhrs f (zri f b) (13 + 9 * b + 5) ≠ f (13 + 9 * b + 5))) (zri f b)))) f svd pas rf tx ln isS pm (zt2 (0 ≤ b ∧ b ≤ f 0 - 1) (zhrs f (zri f b) (13 + 9 * b + 5) ≠ f (13 + 9 * b + 5))) len fa lm h) := by
  refine js_body [(0, .ref (A 0)), (1, .int (jI b))] rfl (by decide) (Nat.le_of_ble_eq_true rfl) rfl ?_
  obtain ⟨p0, p1, p2, p3, p4, p5, p6, p7, p8, p9, p10, p11⟩ := hp
  have h01 := zI_01 hI
  refine js_aload_n 0 dX3_roundsIn_0 rfl ?_
  refine js_iload_n 1 dX3_roundsIn_1 rfl ?_
  refine eX3_113 rfl dX3_roundsIn_2 p0 (com_isBalloon p0 p1 (by omega) (by omega)) (Nat.le_of_ble_eq_true rfl) (Nat.le_of_ble_eq_true rfl) ?_
  refine js_if_neB (tgt := 14) dX3_roundsIn_5 (by decide) (fun c1 => ?_) (fun c1 => ?_)
  · have hb : 0 ≤ b ∧ b < f 0 := by omega
    have hB := zI_B hI hb.1 hb.2
    unfold zIB at hB
    refine js_aload_n 0 dX3_roundsIn_14 rfl ?_
    refine eX3_174 rfl dX3_roundsIn_15 p0 (com_thinks hA ⟨p0, p1, p2, p3, p4, p5, p6, p7, p8, p9, p10, p11⟩) (Nat.le_of_ble_eq_true rfl) (Nat.le_of_ble_eq_true rfl) ?_
    rw [zH_fr (fun q hq => rfl)]
    obtain ⟨p2_0, p2_1, p2_2, p2_3, p2_4, p2_5, p2_6, p2_7, p2_8, p2_9, p2_10, p2_11⟩ := zH_Mc (h := h) (f := f) (bef := bef) (asd := f) (svd := svd) (pas := pas) (rf := rf) (it := it) (wt := wt) (tx := tx) (od := od) (ln := ln) (isS := isS) (pm := pm) (th := th) (len := len) (at_ := at_) (wr := wr) (fa := fa) (om := om) (lm := lm) hA
    show js_ok ρ mX3_roundsIn _ 7 0 0 18 [(0, .ref (A 0)), (1, .int (jI b))] [] (zH A f bef f svd pas rf it wt tx od ln isS pm th len at_ wr fa om lm h)
    refine js_aload_n 0 dX3_roundsIn_18 rfl ?_
    refine js_iload_n 1 dX3_roundsIn_19 rfl ?_
    refine js_iconst dX3_roundsIn_20 ?_
    refine eX3_76 rfl dX3_roundsIn_21 p2_0 (com_of p2_0 p2_1 (by omega) (by omega)) (Nat.le_of_ble_eq_true rfl) (Nat.le_of_ble_eq_true rfl) ?_
    refine js_istore_n (L' := [(2, .int (jI (f (13 + 9 * b + 5)))), (0, .ref (A 0)), (1, .int (jI b))]) dX3_roundsIn_24 (by decide) rfl ?_
    refine js_iconst dX3_roundsIn_25 ?_
    refine js_istore_n (L' := [(3, .int (jI 0)), (2, .int (jI (f (13 + 9 * b + 5)))), (0, .ref (A 0)), (1, .int (jI b))]) dX3_roundsIn_26 (by decide) rfl ?_
    refine js_sub (L' := [(0, .ref (A 0)), (1, .int (jI b)), (2, .int (jI (f (13 + 9 * b + 5)))), (3, .int (jI 0))]) [2, 3, 1, 0] rfl ?_
    refine js_heq (js_selfU p2_1) ?_
    refine js_loop (σ := Nat) (fun k => k ≤ 60 ∧ ∀ j : Nat, j < k → 0 < zhrs f j (13 + 9 * b + 2) ∧ zhrs f j (13 + 9 * b + 5) = f (13 + 9 * b + 5)) (fun k => 60 - k) (fun k => 0) (fun k => 0) 27 (fun k => [(0, .ref (A 0)), (1, .int (jI b)), (2, .int (jI (f (13 + 9 * b + 5)))), (3, .int (jI ((k : Int))))]) (fun k => []) (fun k => (js_up (zH A f bef f svd pas rf it wt tx od ln isS pm th len at_ wr fa om lm h) (A 1) (js_aI true 0 287 (zhrs f k)))) (fun k hk IHk => ?_) 0 ⟨by decide, fun j z => absurd z (Nat.not_lt_zero j)⟩
    show js_ok ρ mX3_roundsIn _ 7 0 0 27 [(0, .ref (A 0)), (1, .int (jI b)), (2, .int (jI (f (13 + 9 * b + 5)))), (3, .int (jI ((k : Int))))] [] (js_up (zH A f bef f svd pas rf it wt tx od ln isS pm th len at_ wr fa om lm h) (A 1) (js_aI true 0 287 (zhrs f k)))
    obtain ⟨k60, kP⟩ := hk
    obtain ⟨iK, e0, e1⟩ := zhrs_I hI k (by omega)
    have bK := zI_B iK hb.1 (by omega)
    unfold zIB at bK
    have pot := zpot hI hb k (by omega) (fun j z => (kP j z).1)
    refine js_aload_n 0 dX3_roundsIn_27 rfl ?_
    refine js_iload_n 1 dX3_roundsIn_28 rfl ?_
    refine js_iconst dX3_roundsIn_29 ?_
    refine eX3_76 rfl dX3_roundsIn_30 ((js_up_n (js_nek p2_0 p2_1 js_kOA)).trans p2_0) (com_of ((js_up_n (js_nek p2_0 p2_1 js_kOA)).trans p2_0) js_up_s (by omega) (by omega)) (Nat.le_of_ble_eq_true rfl) (Nat.le_of_ble_eq_true rfl) ?_
    refine js_if_le (tgt := 56) dX3_roundsIn_33 (by decide) (by omega) (fun c4 => ?_) (fun c4 => ?_)
    · refine js_aload_n 0 dX3_roundsIn_56 rfl ?_
      have ek : zri f b = k := zfst_eq (P := fun j : Nat => 0 < zhrs f j (13 + 9 * b + 2) ∧ zhrs f j (13 + 9 * b + 5) = f (13 + 9 * b + 5)) kP (fun z => by have z1 := z.1; have z2 := z.2; omega) (by omega)
      have z0 := zt2_c (0 ≤ b ∧ b ≤ f 0 - 1) (zhrs f (zri f b) (13 + 9 * b + 5) ≠ f (13 + 9 * b + 5))
      rw [ek] at z0
      refine js_join 72 [(0, .ref (A 0)), (1, .int (jI b)), (2, .int (jI (f (13 + 9 * b + 5)))), (3, .int (jI ((k : Int))))] [.ref (A 0)] (js_up (zH A f bef f svd pas rf it wt tx od ln isS pm th len at_ wr fa om lm h) (A 1) (js_aI true 0 287 (zhrs f k))) (zt2 (0 ≤ b ∧ b ≤ f 0 - 1) (zhrs f (zri f b) (13 + 9 * b + 5) ≠ f (13 + 9 * b + 5))) (fun z hz => ?_) (fun J5 => ?_)
      · subst hz
        rw [← ek] at z0
        refine pX3_49 rfl dX3_roundsIn_72 ((js_up_n (js_nek p2_0 p2_1 js_kOA)).trans p2_0) (Nat.le_of_ble_eq_true rfl) rfl rfl ?_
        show js_ok ρ mX3_roundsIn _ 7 0 0 75 [(0, .ref (A 0)), (1, .int (jI b)), (2, .int (jI (f (13 + 9 * b + 5)))), (3, .int (jI ((k : Int))))] [] (js_up (js_up (zH A f bef f svd pas rf it wt tx od ln isS pm th len at_ wr fa om lm h) (A 1) (js_aI true 0 287 (zhrs f k))) (A 0) (js_ob true 2 [.ref (A 1), .ref (A 2), .ref (A 3), .ref (A 4), .int (jI isS), .ref (A 5), .int (jI pm), .int (jI (zt2 (0 ≤ b ∧ b ≤ f 0 - 1) (zhrs f (zri f b) (13 + 9 * b + 5) ≠ f (13 + 9 * b + 5)))), .ref (A 6), .ref (A 7), .ref (A 8), .ref (A 9), .int (jI len), .int (jI at_), .int (jI wr), .int (jI fa), .ref (A 10), .int (jI om), .ref (A 11), .int (jI lm)]))
        refine js_aload_n 0 dX3_roundsIn_75 rfl ?_
        refine eX3_177 rfl dX3_roundsIn_76 js_up_s (com_forgets hA ⟨js_up_s, ((js_up_n (Ne.symm (js_nek p2_0 p2_1 js_kOA))).trans js_up_s), ((js_up_n (Ne.symm (js_nek p2_0 p2_2 js_kOA))).trans ((js_up_n (Ne.symm (hA 1 2 (by decide) (by decide) (by decide)))).trans p2_2)), ((js_up_n (Ne.symm (js_nek p2_0 p2_3 js_kOA))).trans ((js_up_n (Ne.symm (hA 1 3 (by decide) (by decide) (by decide)))).trans p2_3)), ((js_up_n (Ne.symm (js_nek p2_0 p2_4 js_kOA))).trans ((js_up_n (Ne.symm (hA 1 4 (by decide) (by decide) (by decide)))).trans p2_4)), ((js_up_n (Ne.symm (js_nek p2_0 p2_5 js_kOA))).trans ((js_up_n (Ne.symm (hA 1 5 (by decide) (by decide) (by decide)))).trans p2_5)), ((js_up_n (Ne.symm (js_nek p2_0 p2_6 js_kOA))).trans ((js_up_n (Ne.symm (hA 1 6 (by decide) (by decide) (by decide)))).trans p2_6)), ((js_up_n (Ne.symm (js_nek p2_0 p2_7 js_kOA))).trans ((js_up_n (Ne.symm (hA 1 7 (by decide) (by decide) (by decide)))).trans p2_7)), ((js_up_n (Ne.symm (js_nek p2_0 p2_8 js_kOA))).trans ((js_up_n (Ne.symm (hA 1 8 (by decide) (by decide) (by decide)))).trans p2_8)), ((js_up_n (Ne.symm (js_nek p2_0 p2_9 js_kOA))).trans ((js_up_n (Ne.symm (hA 1 9 (by decide) (by decide) (by decide)))).trans p2_9)), ((js_up_n (Ne.symm (js_nek p2_0 p2_10 js_kOA))).trans ((js_up_n (Ne.symm (hA 1 10 (by decide) (by decide) (by decide)))).trans p2_10)), ((js_up_n (Ne.symm (js_nek p2_0 p2_11 js_kOA))).trans ((js_up_n (Ne.symm (hA 1 11 (by decide) (by decide) (by decide)))).trans p2_11))⟩) (Nat.le_of_ble_eq_true rfl) (Nat.le_of_ble_eq_true rfl) ?_
        rw [zH_fr (fun q hq => ((js_up_n (hq 0 (by decide))).trans ((js_up_n (hq 1 (by decide))).trans (zH_n hq))))]
        obtain ⟨p6_0, p6_1, p6_2, p6_3, p6_4, p6_5, p6_6, p6_7, p6_8, p6_9, p6_10, p6_11⟩ := zH_Mc (h := h) (f := f) (bef := bef) (asd := f) (svd := svd) (pas := pas) (rf := rf) (it := it) (wt := wt) (tx := tx) (od := od) (ln := ln) (isS := isS) (pm := pm) (th := zt2 (0 ≤ b ∧ b ≤ f 0 - 1) (zhrs f (zri f b) (13 + 9 * b + 5) ≠ f (13 + 9 * b + 5))) (len := len) (at_ := at_) (wr := wr) (fa := fa) (om := om) (lm := lm) hA
        show js_ok ρ mX3_roundsIn _ 7 0 0 79 [(0, .ref (A 0)), (1, .int (jI b)), (2, .int (jI (f (13 + 9 * b + 5)))), (3, .int (jI ((k : Int))))] [] (zH A f bef f svd pas rf it wt tx od ln isS pm (zt2 (0 ≤ b ∧ b ≤ f 0 - 1) (zhrs f (zri f b) (13 + 9 * b + 5) ≠ f (13 + 9 * b + 5))) len at_ wr fa om lm h)
        refine js_aload_n 0 dX3_roundsIn_79 rfl ?_
        refine gX3_49 rfl dX3_roundsIn_80 p6_0 rfl ?_
        refine js_if_le (tgt := 90) dX3_roundsIn_83 (by decide) (by omega) (fun c7 => ?_) (fun c7 => ?_)
        · refine js_iload_n 3 dX3_roundsIn_90 rfl ?_
          exact js_iret rfl rfl dX3_roundsIn_91 ⟨js_reti (by first | (rw [zv_p (by omega)]; done) | (rw [zv_n (by omega), ek]; done)), _, _, _, _, _, _, _, _, (zH_eq hA p6_0 p6_1 p6_2 p6_3 p6_4 p6_5 p6_6 p6_7 p6_8 p6_9 p6_10 p6_11 (fun q hq => (zH_n hq)))⟩
        · refine js_iconst dX3_roundsIn_86 ?_
          refine js_goto (tgt := 91) dX3_roundsIn_87 (by decide) ?_
          exact js_iret rfl rfl dX3_roundsIn_91 ⟨js_reti (by first | (rw [zv_p (by omega)]; done) | (rw [zv_n (by omega), ek]; done)), _, _, _, _, _, _, _, _, (zH_eq hA p6_0 p6_1 p6_2 p6_3 p6_4 p6_5 p6_6 p6_7 p6_8 p6_9 p6_10 p6_11 (fun q hq => (zH_n hq)))⟩
      · refine js_aload_n 0 dX3_roundsIn_57 rfl ?_
        refine js_iload_n 1 dX3_roundsIn_58 rfl ?_
        refine js_iconst dX3_roundsIn_59 ?_
        refine eX3_76 rfl dX3_roundsIn_60 ((js_up_n (js_nek p2_0 p2_1 js_kOA)).trans p2_0) (com_of ((js_up_n (js_nek p2_0 p2_1 js_kOA)).trans p2_0) js_up_s (by omega) (by omega)) (Nat.le_of_ble_eq_true rfl) (Nat.le_of_ble_eq_true rfl) ?_
        refine js_iload_n 2 dX3_roundsIn_63 rfl ?_
        refine js_icmp_ne (tgt := 71) dX3_roundsIn_64 (by decide) (by omega) (fun c8 => ?_) (fun c8 => ?_)
        · refine js_iconst dX3_roundsIn_71 ?_
          exact J5 _ (by rw [ek]; omega)
        · refine js_iconst dX3_roundsIn_67 ?_
          refine js_goto (tgt := 72) dX3_roundsIn_68 (by decide) ?_
          exact J5 _ (by rw [ek]; omega)
    · refine js_aload_n 0 dX3_roundsIn_36 rfl ?_
      refine js_iload_n 1 dX3_roundsIn_37 rfl ?_
      refine js_iconst dX3_roundsIn_38 ?_
      refine eX3_76 rfl dX3_roundsIn_39 ((js_up_n (js_nek p2_0 p2_1 js_kOA)).trans p2_0) (com_of ((js_up_n (js_nek p2_0 p2_1 js_kOA)).trans p2_0) js_up_s (by omega) (by omega)) (Nat.le_of_ble_eq_true rfl) (Nat.le_of_ble_eq_true rfl) ?_
      refine js_iload_n 2 dX3_roundsIn_42 rfl ?_
      refine js_icmp_ne (tgt := 56) dX3_roundsIn_43 (by decide) (by omega) (fun c9 => ?_) (fun c9 => ?_)
      · refine js_aload_n 0 dX3_roundsIn_56 rfl ?_
        have ek : zri f b = k := zfst_eq (P := fun j : Nat => 0 < zhrs f j (13 + 9 * b + 2) ∧ zhrs f j (13 + 9 * b + 5) = f (13 + 9 * b + 5)) kP (fun z => by have z1 := z.1; have z2 := z.2; omega) (by omega)
        have z0 := zt2_c (0 ≤ b ∧ b ≤ f 0 - 1) (zhrs f (zri f b) (13 + 9 * b + 5) ≠ f (13 + 9 * b + 5))
        rw [ek] at z0
        refine js_join 72 [(0, .ref (A 0)), (1, .int (jI b)), (2, .int (jI (f (13 + 9 * b + 5)))), (3, .int (jI ((k : Int))))] [.ref (A 0)] (js_up (zH A f bef f svd pas rf it wt tx od ln isS pm th len at_ wr fa om lm h) (A 1) (js_aI true 0 287 (zhrs f k))) (zt2 (0 ≤ b ∧ b ≤ f 0 - 1) (zhrs f (zri f b) (13 + 9 * b + 5) ≠ f (13 + 9 * b + 5))) (fun z hz => ?_) (fun J10 => ?_)
        · subst hz
          rw [← ek] at z0
          refine pX3_49 rfl dX3_roundsIn_72 ((js_up_n (js_nek p2_0 p2_1 js_kOA)).trans p2_0) (Nat.le_of_ble_eq_true rfl) rfl rfl ?_
          show js_ok ρ mX3_roundsIn _ 7 0 0 75 [(0, .ref (A 0)), (1, .int (jI b)), (2, .int (jI (f (13 + 9 * b + 5)))), (3, .int (jI ((k : Int))))] [] (js_up (js_up (zH A f bef f svd pas rf it wt tx od ln isS pm th len at_ wr fa om lm h) (A 1) (js_aI true 0 287 (zhrs f k))) (A 0) (js_ob true 2 [.ref (A 1), .ref (A 2), .ref (A 3), .ref (A 4), .int (jI isS), .ref (A 5), .int (jI pm), .int (jI (zt2 (0 ≤ b ∧ b ≤ f 0 - 1) (zhrs f (zri f b) (13 + 9 * b + 5) ≠ f (13 + 9 * b + 5)))), .ref (A 6), .ref (A 7), .ref (A 8), .ref (A 9), .int (jI len), .int (jI at_), .int (jI wr), .int (jI fa), .ref (A 10), .int (jI om), .ref (A 11), .int (jI lm)]))
          refine js_aload_n 0 dX3_roundsIn_75 rfl ?_
          refine eX3_177 rfl dX3_roundsIn_76 js_up_s (com_forgets hA ⟨js_up_s, ((js_up_n (Ne.symm (js_nek p2_0 p2_1 js_kOA))).trans js_up_s), ((js_up_n (Ne.symm (js_nek p2_0 p2_2 js_kOA))).trans ((js_up_n (Ne.symm (hA 1 2 (by decide) (by decide) (by decide)))).trans p2_2)), ((js_up_n (Ne.symm (js_nek p2_0 p2_3 js_kOA))).trans ((js_up_n (Ne.symm (hA 1 3 (by decide) (by decide) (by decide)))).trans p2_3)), ((js_up_n (Ne.symm (js_nek p2_0 p2_4 js_kOA))).trans ((js_up_n (Ne.symm (hA 1 4 (by decide) (by decide) (by decide)))).trans p2_4)), ((js_up_n (Ne.symm (js_nek p2_0 p2_5 js_kOA))).trans ((js_up_n (Ne.symm (hA 1 5 (by decide) (by decide) (by decide)))).trans p2_5)), ((js_up_n (Ne.symm (js_nek p2_0 p2_6 js_kOA))).trans ((js_up_n (Ne.symm (hA 1 6 (by decide) (by decide) (by decide)))).trans p2_6)), ((js_up_n (Ne.symm (js_nek p2_0 p2_7 js_kOA))).trans ((js_up_n (Ne.symm (hA 1 7 (by decide) (by decide) (by decide)))).trans p2_7)), ((js_up_n (Ne.symm (js_nek p2_0 p2_8 js_kOA))).trans ((js_up_n (Ne.symm (hA 1 8 (by decide) (by decide) (by decide)))).trans p2_8)), ((js_up_n (Ne.symm (js_nek p2_0 p2_9 js_kOA))).trans ((js_up_n (Ne.symm (hA 1 9 (by decide) (by decide) (by decide)))).trans p2_9)), ((js_up_n (Ne.symm (js_nek p2_0 p2_10 js_kOA))).trans ((js_up_n (Ne.symm (hA 1 10 (by decide) (by decide) (by decide)))).trans p2_10)), ((js_up_n (Ne.symm (js_nek p2_0 p2_11 js_kOA))).trans ((js_up_n (Ne.symm (hA 1 11 (by decide) (by decide) (by decide)))).trans p2_11))⟩) (Nat.le_of_ble_eq_true rfl) (Nat.le_of_ble_eq_true rfl) ?_
          rw [zH_fr (fun q hq => ((js_up_n (hq 0 (by decide))).trans ((js_up_n (hq 1 (by decide))).trans (zH_n hq))))]
          obtain ⟨p11_0, p11_1, p11_2, p11_3, p11_4, p11_5, p11_6, p11_7, p11_8, p11_9, p11_10, p11_11⟩ := zH_Mc (h := h) (f := f) (bef := bef) (asd := f) (svd := svd) (pas := pas) (rf := rf) (it := it) (wt := wt) (tx := tx) (od := od) (ln := ln) (isS := isS) (pm := pm) (th := zt2 (0 ≤ b ∧ b ≤ f 0 - 1) (zhrs f (zri f b) (13 + 9 * b + 5) ≠ f (13 + 9 * b + 5))) (len := len) (at_ := at_) (wr := wr) (fa := fa) (om := om) (lm := lm) hA
          show js_ok ρ mX3_roundsIn _ 7 0 0 79 [(0, .ref (A 0)), (1, .int (jI b)), (2, .int (jI (f (13 + 9 * b + 5)))), (3, .int (jI ((k : Int))))] [] (zH A f bef f svd pas rf it wt tx od ln isS pm (zt2 (0 ≤ b ∧ b ≤ f 0 - 1) (zhrs f (zri f b) (13 + 9 * b + 5) ≠ f (13 + 9 * b + 5))) len at_ wr fa om lm h)
          refine js_aload_n 0 dX3_roundsIn_79 rfl ?_
          refine gX3_49 rfl dX3_roundsIn_80 p11_0 rfl ?_
          refine js_if_le (tgt := 90) dX3_roundsIn_83 (by decide) (by omega) (fun c12 => ?_) (fun c12 => ?_)
          · refine js_iload_n 3 dX3_roundsIn_90 rfl ?_
            exact js_iret rfl rfl dX3_roundsIn_91 ⟨js_reti (by first | (rw [zv_p (by omega)]; done) | (rw [zv_n (by omega), ek]; done)), _, _, _, _, _, _, _, _, (zH_eq hA p11_0 p11_1 p11_2 p11_3 p11_4 p11_5 p11_6 p11_7 p11_8 p11_9 p11_10 p11_11 (fun q hq => (zH_n hq)))⟩
          · refine js_iconst dX3_roundsIn_86 ?_
            refine js_goto (tgt := 91) dX3_roundsIn_87 (by decide) ?_
            exact js_iret rfl rfl dX3_roundsIn_91 ⟨js_reti (by first | (rw [zv_p (by omega)]; done) | (rw [zv_n (by omega), ek]; done)), _, _, _, _, _, _, _, _, (zH_eq hA p11_0 p11_1 p11_2 p11_3 p11_4 p11_5 p11_6 p11_7 p11_8 p11_9 p11_10 p11_11 (fun q hq => (zH_n hq)))⟩
        · refine js_aload_n 0 dX3_roundsIn_57 rfl ?_
          refine js_iload_n 1 dX3_roundsIn_58 rfl ?_
          refine js_iconst dX3_roundsIn_59 ?_
          refine eX3_76 rfl dX3_roundsIn_60 ((js_up_n (js_nek p2_0 p2_1 js_kOA)).trans p2_0) (com_of ((js_up_n (js_nek p2_0 p2_1 js_kOA)).trans p2_0) js_up_s (by omega) (by omega)) (Nat.le_of_ble_eq_true rfl) (Nat.le_of_ble_eq_true rfl) ?_
          refine js_iload_n 2 dX3_roundsIn_63 rfl ?_
          refine js_icmp_ne (tgt := 71) dX3_roundsIn_64 (by decide) (by omega) (fun c13 => ?_) (fun c13 => ?_)
          · refine js_iconst dX3_roundsIn_71 ?_
            exact J10 _ (by rw [ek]; omega)
          · refine js_iconst dX3_roundsIn_67 ?_
            refine js_goto (tgt := 72) dX3_roundsIn_68 (by decide) ?_
            exact J10 _ (by rw [ek]; omega)
      · refine js_aload_n 0 dX3_roundsIn_46 rfl ?_
        refine eX3_162 rfl dX3_roundsIn_47 ((js_up_n (js_nek p2_0 p2_1 js_kOA)).trans p2_0) (com_goesHour ((js_up_n (js_nek p2_0 p2_1 js_kOA)).trans p2_0) js_up_s iK (by omega)) (Nat.le_of_ble_eq_true rfl) (Nat.le_of_ble_eq_true rfl) ?_
        rw [js_up_up]
        show js_ok ρ mX3_roundsIn _ 7 0 0 50 [(0, .ref (A 0)), (1, .int (jI b)), (2, .int (jI (f (13 + 9 * b + 5)))), (3, .int (jI ((k : Int))))] [] (js_up (zH A f bef f svd pas rf it wt tx od ln isS pm th len at_ wr fa om lm h) (A 1) (js_aI true 0 287 (zhr (zhrs f k))))
        refine js_iinc (L' := [(3, .int (jI (((k : Int)) + 1))), (0, .ref (A 0)), (1, .int (jI b)), (2, .int (jI (f (13 + 9 * b + 5))))]) 3 dX3_roundsIn_50 rfl (by decide) rfl ?_
        refine js_goto (tgt := 27) dX3_roundsIn_53 (by decide) ?_
        show js_ok ρ mX3_roundsIn _ 7 0 0 27 [(3, .int (jI (((k : Int)) + 1))), (0, .ref (A 0)), (1, .int (jI b)), (2, .int (jI (f (13 + 9 * b + 5))))] [] (js_up (zH A f bef f svd pas rf it wt tx od ln isS pm th len at_ wr fa om lm h) (A 1) (js_aI true 0 287 (zhrs f (k + 1))))
        have kP2 : ∀ j : Nat, j < k + 1 → 0 < zhrs f j (13 + 9 * b + 2) ∧ zhrs f j (13 + 9 * b + 5) = f (13 + 9 * b + 5) := fun j z => by
          by_cases q : j = k
          · subst q; exact ⟨by omega, by omega⟩
          · exact kP j (by omega)
        refine js_sub (L' := [(0, .ref (A 0)), (1, .int (jI b)), (2, .int (jI (f (13 + 9 * b + 5)))), (3, .int (jI (((k : Int)) + 1)))]) [1, 2, 3, 0] rfl ?_
        exact IHk (k + 1) ⟨by omega, kP2⟩ (by omega)
  · refine js_aload_n 0 dX3_roundsIn_8 rfl ?_
    refine js_iconst dX3_roundsIn_9 ?_
    have z0 := zt2_c (0 ≤ b ∧ b ≤ f 0 - 1) (zhrs f (zri f b) (13 + 9 * b + 5) ≠ f (13 + 9 * b + 5))
    refine js_top (b := zt2 (0 ≤ b ∧ b ≤ f 0 - 1) (zhrs f (zri f b) (13 + 9 * b + 5) ≠ f (13 + 9 * b + 5))) (by omega) ?_
    refine eX3_186 rfl dX3_roundsIn_10 p0 (com_fails hA ⟨p0, p1, p2, p3, p4, p5, p6, p7, p8, p9, p10, p11⟩) (Nat.le_of_ble_eq_true rfl) (Nat.le_of_ble_eq_true rfl) ?_
    rw [zH_fr (fun q hq => rfl)]
    obtain ⟨p14_0, p14_1, p14_2, p14_3, p14_4, p14_5, p14_6, p14_7, p14_8, p14_9, p14_10, p14_11⟩ := zH_Mc (h := h) (f := f) (bef := bef) (asd := asd) (svd := svd) (pas := pas) (rf := rf) (it := it) (wt := wt) (tx := tx) (od := od) (ln := ln) (isS := isS) (pm := pm) (th := zt2 (0 ≤ b ∧ b ≤ f 0 - 1) (zhrs f (zri f b) (13 + 9 * b + 5) ≠ f (13 + 9 * b + 5))) (len := len) (at_ := at_) (wr := wr) (fa := fa) (om := om) (lm := lm) hA
    show js_ok ρ mX3_roundsIn _ 7 0 0 13 [(0, .ref (A 0)), (1, .int (jI b))] [.int (jI 0)] (zH A f bef asd svd pas rf it wt tx od ln isS pm (zt2 (0 ≤ b ∧ b ≤ f 0 - 1) (zhrs f (zri f b) (13 + 9 * b + 5) ≠ f (13 + 9 * b + 5))) len at_ wr fa om lm h)
    exact js_iret rfl rfl dX3_roundsIn_13 ⟨js_reti (by first | (rw [zv_p (by omega)]; done) | (rw [zv_n (by omega), ek]; done)), _, _, _, _, _, _, _, _, (zH_eq hA p14_0 p14_1 p14_2 p14_3 p14_4 p14_5 p14_6 p14_7 p14_8 p14_9 p14_10 p14_11 (fun q hq => (zH_n hq)))⟩
theorem pm_landsIn {ρ : js_R} {h : js_H} {A : Nat → Nat} {f bef asd svd pas rf it wt tx od ln : Int → Int} {isS pm th len at_ wr fa om lm : Int} {T b : Int} (hA : zA A) (hp : zMc A f bef asd svd pas rf it wt tx od ln isS pm th len at_ wr fa om lm h) (hI : zI T f) (hT : T + 1000 ≤ 1000000) (rb : -2147483648 ≤ b ∧ b < 2147483648) : js_Con ρ mX3_landsIn 8 0 0 [.ref (A 0), .int (jI b)] h (zPost A (.int (jI (zv (zt2 (0 ≤ b ∧ b ≤ f 0 - 1) (f (13 + 9 * b + 2) ≠ 0)) (zli f b)))) f svd pas rf tx ln isS pm (zt2 (0 ≤ b ∧ b ≤ f 0 - 1) (f (13 + 9 * b + 2) ≠ 0)) len fa lm h) := by
  refine js_body [(0, .ref (A 0)), (1, .int (jI b))] rfl (by decide) (Nat.le_of_ble_eq_true rfl) rfl ?_
  obtain ⟨p0, p1, p2, p3, p4, p5, p6, p7, p8, p9, p10, p11⟩ := hp
  have h01 := zI_01 hI
  have z0 := zt2_c (0 ≤ b ∧ b ≤ f 0 - 1) (f (13 + 9 * b + 2) ≠ 0)
  refine js_aload_n 0 dX3_landsIn_0 rfl ?_
  refine js_join 27 [(0, .ref (A 0)), (1, .int (jI b))] [.ref (A 0)] h (zt2 (0 ≤ b ∧ b ≤ f 0 - 1) (f (13 + 9 * b + 2) ≠ 0)) (fun z hz => ?_) (fun J1 => ?_)
  · subst hz
    refine pX3_49 rfl dX3_landsIn_27 p0 (Nat.le_of_ble_eq_true rfl) rfl rfl ?_
    show js_ok ρ mX3_landsIn _ 8 0 0 30 [(0, .ref (A 0)), (1, .int (jI b))] [] (js_up h (A 0) (js_ob true 2 [.ref (A 1), .ref (A 2), .ref (A 3), .ref (A 4), .int (jI isS), .ref (A 5), .int (jI pm), .int (jI (zt2 (0 ≤ b ∧ b ≤ f 0 - 1) (f (13 + 9 * b + 2) ≠ 0))), .ref (A 6), .ref (A 7), .ref (A 8), .ref (A 9), .int (jI len), .int (jI at_), .int (jI wr), .int (jI fa), .ref (A 10), .int (jI om), .ref (A 11), .int (jI lm)]))
    refine js_iconst dX3_landsIn_30 ?_
    refine js_istore_n (L' := [(2, .int (jI 0)), (0, .ref (A 0)), (1, .int (jI b))]) dX3_landsIn_31 (by decide) rfl ?_
    refine js_sub (L' := [(0, .ref (A 0)), (1, .int (jI b)), (2, .int (jI 0))]) [1, 2, 0] rfl ?_
    refine js_heq (h' := (zH A f bef asd svd pas rf it wt tx od ln isS pm (zt2 (0 ≤ b ∧ b ≤ f 0 - 1) (f (13 + 9 * b + 2) ≠ 0)) len at_ wr fa om lm h)) (zH_eq hA js_up_s ((js_up_n (js_nek p1 p0 js_kAO)).trans p1) ((js_up_n (js_nek p2 p0 js_kAO)).trans p2) ((js_up_n (js_nek p3 p0 js_kAO)).trans p3) ((js_up_n (js_nek p4 p0 js_kAO)).trans p4) ((js_up_n (js_nek p5 p0 js_kAO)).trans p5) ((js_up_n (js_nek p6 p0 js_kAO)).trans p6) ((js_up_n (js_nek p7 p0 js_kAO)).trans p7) ((js_up_n (js_nek p8 p0 js_kAO)).trans p8) ((js_up_n (js_nek p9 p0 js_kAO)).trans p9) ((js_up_n (js_nek p10 p0 js_kAO)).trans p10) ((js_up_n (js_nek p11 p0 js_kAO)).trans p11) (fun q hq => ((js_up_n (hq 0 (by decide))).trans rfl))).symm ?_
    refine js_loop (σ := Nat × (Int → Int)) (fun s => s.1 ≤ 60 ∧ (∀ j : Nat, j < s.1 → 0 < zhrs f j (13 + 9 * b + 2)) ∧ (0 < s.1 → zt2 (0 ≤ b ∧ b ≤ f 0 - 1) (f (13 + 9 * b + 2) ≠ 0) = 0)) (fun s => 60 - s.1) (fun s => 0) (fun s => 0) 32 (fun s => [(0, .ref (A 0)), (1, .int (jI b)), (2, .int (jI (((s.1 : Nat) : Int))))]) (fun s => []) (fun s => (zH A f bef s.2 svd pas rf it wt tx od ln isS pm (zt2 (0 ≤ b ∧ b ≤ f 0 - 1) (f (13 + 9 * b + 2) ≠ 0)) len at_ wr fa om lm h)) (fun s hk IHs => ?_) (0, asd) (⟨Nat.zero_le _, fun j z => absurd z (Nat.not_lt_zero j), fun z => absurd z (Nat.lt_irrefl 0)⟩)
    obtain ⟨k, asdk⟩ := s
    have hk : k ≤ 60 ∧ (∀ j : Nat, j < k → 0 < zhrs f j (13 + 9 * b + 2)) ∧ (0 < k → zt2 (0 ≤ b ∧ b ≤ f 0 - 1) (f (13 + 9 * b + 2) ≠ 0) = 0) := hk
    obtain ⟨p3_0, p3_1, p3_2, p3_3, p3_4, p3_5, p3_6, p3_7, p3_8, p3_9, p3_10, p3_11⟩ := zH_Mc (h := h) (f := f) (bef := bef) (asd := asdk) (svd := svd) (pas := pas) (rf := rf) (it := it) (wt := wt) (tx := tx) (od := od) (ln := ln) (isS := isS) (pm := pm) (th := zt2 (0 ≤ b ∧ b ≤ f 0 - 1) (f (13 + 9 * b + 2) ≠ 0)) (len := len) (at_ := at_) (wr := wr) (fa := fa) (om := om) (lm := lm) hA
    show js_ok ρ mX3_landsIn _ 8 0 0 32 [(0, .ref (A 0)), (1, .int (jI b)), (2, .int (jI (((k : Nat) : Int))))] [] (zH A f bef asdk svd pas rf it wt tx od ln isS pm (zt2 (0 ≤ b ∧ b ≤ f 0 - 1) (f (13 + 9 * b + 2) ≠ 0)) len at_ wr fa om lm h)
    obtain ⟨k60, kP, kth⟩ := hk
    refine js_aload_n 0 dX3_landsIn_32 rfl ?_
    refine gX3_49 rfl dX3_landsIn_33 p3_0 rfl ?_
    refine js_if_ne (tgt := 55) dX3_landsIn_36 (by decide) (by omega) (fun c4 => ?_) (fun c4 => ?_)
    · refine js_iload_n 2 dX3_landsIn_55 rfl ?_
      exact js_iret rfl rfl dX3_landsIn_56 ⟨js_reti (by first | (rw [zv_p (by omega)]; omega) | (rw [zv_n (by omega)]; rw [show zli f b = k from zfst_eq (P := fun j : Nat => 0 < zhrs f j (13 + 9 * b + 2)) kP (fun z => by omega) (by omega)])), _, _, _, _, _, _, _, _, (zH_eq hA p3_0 p3_1 p3_2 p3_3 p3_4 p3_5 p3_6 p3_7 p3_8 p3_9 p3_10 p3_11 (fun q hq => (zH_n hq)))⟩
    · have hb : 0 ≤ b ∧ b < f 0 := by omega
      obtain ⟨iK, e0, e1⟩ := zhrs_I hI k (by omega)
      have bK := zI_B iK hb.1 (by omega)
      unfold zIB at bK
      have pot := zpot hI hb k (by omega) kP
      have ea : zaft f b (k : Int) 2 = zhrs f k (13 + 9 * b + 2) := by unfold zaft; rw [if_neg (by decide)]; rfl
      refine js_aload_n 0 dX3_landsIn_39 rfl ?_
      refine js_iload_n 1 dX3_landsIn_40 rfl ?_
      refine js_iload_n 2 dX3_landsIn_41 rfl ?_
      refine js_iconst dX3_landsIn_42 ?_
      refine eX3_183 rfl dX3_landsIn_43 p3_0 (com_after hA ⟨p3_0, p3_1, p3_2, p3_3, p3_4, p3_5, p3_6, p3_7, p3_8, p3_9, p3_10, p3_11⟩ hI (by omega) (by omega) (by omega) (by omega)) (Nat.le_of_ble_eq_true rfl) (Nat.le_of_ble_eq_true rfl) ?_
      rw [zH_fr (fun q hq => (zH_n hq))]
      obtain ⟨p5_0, p5_1, p5_2, p5_3, p5_4, p5_5, p5_6, p5_7, p5_8, p5_9, p5_10, p5_11⟩ := zH_Mc (h := h) (f := f) (bef := bef) (asd := f) (svd := svd) (pas := pas) (rf := rf) (it := it) (wt := wt) (tx := tx) (od := od) (ln := ln) (isS := isS) (pm := pm) (th := zt2 (0 ≤ b ∧ b ≤ f 0 - 1) (f (13 + 9 * b + 2) ≠ 0)) (len := len) (at_ := at_) (wr := wr) (fa := fa) (om := om) (lm := lm) hA
      show js_ok ρ mX3_landsIn _ 8 0 0 46 [(0, .ref (A 0)), (1, .int (jI b)), (2, .int (jI (((k : Nat) : Int))))] [.int (jI (zaft f b (((k : Nat) : Int)) 2))] (zH A f bef f svd pas rf it wt tx od ln isS pm (zt2 (0 ≤ b ∧ b ≤ f 0 - 1) (f (13 + 9 * b + 2) ≠ 0)) len at_ wr fa om lm h)
      refine js_if_le (tgt := 55) dX3_landsIn_46 (by decide) (by omega) (fun c6 => ?_) (fun c6 => ?_)
      · refine js_iload_n 2 dX3_landsIn_55 rfl ?_
        exact js_iret rfl rfl dX3_landsIn_56 ⟨js_reti (by first | (rw [zv_p (by omega)]; omega) | (rw [zv_n (by omega)]; rw [show zli f b = k from zfst_eq (P := fun j : Nat => 0 < zhrs f j (13 + 9 * b + 2)) kP (fun z => by omega) (by omega)])), _, _, _, _, _, _, _, _, (zH_eq hA p5_0 p5_1 p5_2 p5_3 p5_4 p5_5 p5_6 p5_7 p5_8 p5_9 p5_10 p5_11 (fun q hq => (zH_n hq)))⟩
      · refine js_iinc (L' := [(2, .int (jI ((((k : Nat) : Int)) + 1))), (0, .ref (A 0)), (1, .int (jI b))]) 2 dX3_landsIn_49 rfl (by decide) rfl ?_
        refine js_goto (tgt := 32) dX3_landsIn_52 (by decide) ?_
        refine js_sub (L' := [(0, .ref (A 0)), (1, .int (jI b)), (2, .int (jI ((((k : Nat) : Int)) + 1)))]) [1, 2, 0] rfl ?_
        have kP2 : ∀ j : Nat, j < k + 1 → 0 < zhrs f j (13 + 9 * b + 2) := fun j z => by
          by_cases q : j = k
          · subst q; omega
          · exact kP j (by omega)
        refine js_heq (h' := (zH A f bef f svd pas rf it wt tx od ln isS pm (zt2 (0 ≤ b ∧ b ≤ f 0 - 1) (f (13 + 9 * b + 2) ≠ 0)) len at_ wr fa om lm h)) (zH_eq hA p5_0 p5_1 p5_2 p5_3 p5_4 p5_5 p5_6 p5_7 p5_8 p5_9 p5_10 p5_11 (fun q hq => (zH_n hq))).symm ?_
        exact IHs (k + 1, f) (show k + 1 ≤ 60 ∧ (∀ j : Nat, j < k + 1 → 0 < zhrs f j (13 + 9 * b + 2)) ∧ (0 < k + 1 → zt2 (0 ≤ b ∧ b ≤ f 0 - 1) (f (13 + 9 * b + 2) ≠ 0) = 0) from ⟨by omega, kP2, fun _ => by omega⟩) (show 60 - (k + 1) < 60 - k by omega)
  · refine js_aload_n 0 dX3_landsIn_1 rfl ?_
    refine js_iload_n 1 dX3_landsIn_2 rfl ?_
    refine eX3_113 rfl dX3_landsIn_3 p0 (com_isBalloon p0 p1 (by omega) (by omega)) (Nat.le_of_ble_eq_true rfl) (Nat.le_of_ble_eq_true rfl) ?_
    refine js_if_neB (tgt := 13) dX3_landsIn_6 (by decide) (fun c7 => ?_) (fun c7 => ?_)
    · have hb : 0 ≤ b ∧ b < f 0 := by omega
      have hB := zI_B hI hb.1 hb.2
      unfold zIB at hB
      refine js_aload_n 0 dX3_landsIn_13 rfl ?_
      refine js_iload_n 1 dX3_landsIn_14 rfl ?_
      refine js_iconst dX3_landsIn_15 ?_
      refine eX3_76 rfl dX3_landsIn_16 p0 (com_of p0 p1 (by omega) (by omega)) (Nat.le_of_ble_eq_true rfl) (Nat.le_of_ble_eq_true rfl) ?_
      refine js_if_ne (tgt := 26) dX3_landsIn_19 (by decide) (by omega) (fun c8 => ?_) (fun c8 => ?_)
      · refine js_iconst dX3_landsIn_26 ?_
        exact J1 _ (by omega)
      · refine js_iconst dX3_landsIn_22 ?_
        refine js_goto (tgt := 27) dX3_landsIn_23 (by decide) ?_
        exact J1 _ (by omega)
    · refine js_iconst dX3_landsIn_9 ?_
      refine js_goto (tgt := 27) dX3_landsIn_10 (by decide) ?_
      exact J1 _ (by omega)
theorem pm_landsAt {ρ : js_R} {h : js_H} {A : Nat → Nat} {f bef asd svd pas rf it wt tx od ln : Int → Int} {isS pm th len at_ wr fa om lm : Int} {T b : Int} (hA : zA A) (hp : zMc A f bef asd svd pas rf it wt tx od ln isS pm th len at_ wr fa om lm h) (hI : zI T f) (hT : T + 1000 ≤ 1000000) (rb : -2147483648 ≤ b ∧ b < 2147483648) : js_Con ρ mX3_landsAt 9 0 0 [.ref (A 0), .int (jI b)] h (zPost A (.int (jI (zv (zt2 (0 ≤ b ∧ b ≤ f 0 - 1) (f (13 + 9 * b + 2) ≠ 0)) (zaft f b (zli f b) 0)))) f svd pas rf tx ln isS pm (zt2 (0 ≤ b ∧ b ≤ f 0 - 1) (f (13 + 9 * b + 2) ≠ 0)) len fa lm h) := by
  refine js_body [(0, .ref (A 0)), (1, .int (jI b))] rfl (by decide) (Nat.le_of_ble_eq_true rfl) rfl ?_
  obtain ⟨p0, p1, p2, p3, p4, p5, p6, p7, p8, p9, p10, p11⟩ := hp
  have h01 := zI_01 hI
  have z0 := zt2_c (0 ≤ b ∧ b ≤ f 0 - 1) (f (13 + 9 * b + 2) ≠ 0)
  refine js_aload_n 0 dX3_landsAt_0 rfl ?_
  refine js_iload_n 1 dX3_landsAt_1 rfl ?_
  refine vX3_189 (kc' := 0) (ks' := 0) rfl dX3_landsAt_2 p0 (pm_landsIn hA ⟨p0, p1, p2, p3, p4, p5, p6, p7, p8, p9, p10, p11⟩ hI hT (by omega)) (Nat.le_of_ble_eq_true rfl) (by omega) (by omega) (Nat.le_of_ble_eq_true rfl) (fun v1 g1 q1 => ?_) (fun E1 g1 q1 => by cases q1.1)
  obtain ⟨e1, bef1, asd1, it1, wt1, od1, at_1, wr1, om1, rfl⟩ := q1
  cases e1
  rw [zH_fr (fun q hq => rfl)]
  obtain ⟨p2_0, p2_1, p2_2, p2_3, p2_4, p2_5, p2_6, p2_7, p2_8, p2_9, p2_10, p2_11⟩ := zH_Mc (h := h) (f := f) (bef := bef1) (asd := asd1) (svd := svd) (pas := pas) (rf := rf) (it := it1) (wt := wt1) (tx := tx) (od := od1) (ln := ln) (isS := isS) (pm := pm) (th := zt2 (0 ≤ b ∧ b ≤ f 0 - 1) (f (13 + 9 * b + 2) ≠ 0)) (len := len) (at_ := at_1) (wr := wr1) (fa := fa) (om := om1) (lm := lm) hA
  show js_ok ρ mX3_landsAt _ 9 0 0 5 [(0, .ref (A 0)), (1, .int (jI b))] [.int (jI (zv (zt2 (0 ≤ b ∧ b ≤ f 0 - 1) (f (13 + 9 * b + 2) ≠ 0)) (zli f b)))] (zH A f bef1 asd1 svd pas rf it1 wt1 tx od1 ln isS pm (zt2 (0 ≤ b ∧ b ≤ f 0 - 1) (f (13 + 9 * b + 2) ≠ 0)) len at_1 wr1 fa om1 lm h)
  refine js_istore_n (L' := [(2, .int (jI (zv (zt2 (0 ≤ b ∧ b ≤ f 0 - 1) (f (13 + 9 * b + 2) ≠ 0)) (zli f b)))), (0, .ref (A 0)), (1, .int (jI b))]) dX3_landsAt_5 (by decide) rfl ?_
  refine js_aload_n 1 dX3_landsAt_6 rfl ?_
  refine gX3_49 rfl dX3_landsAt_7 p2_0 rfl ?_
  refine js_if_le (tgt := 17) dX3_landsAt_10 (by decide) (by omega) (fun c3 => ?_) (fun c3 => ?_)
  · have hb : 0 ≤ b ∧ b < f 0 := by omega
    have el : zv (zt2 (0 ≤ b ∧ b ≤ f 0 - 1) (f (13 + 9 * b + 2) ≠ 0)) (zli f b) = zli f b := zv_n (by omega)
    have l60 : zli f b ≤ 60 := by have := zfst_le (fun j : Nat => 0 < zhrs f j (13 + 9 * b + 2)) 60 0; unfold zli; omega
    refine js_aload_n 1 dX3_landsAt_17 rfl ?_
    refine js_iload_n 2 dX3_landsAt_18 rfl ?_
    refine js_iload_n 0 dX3_landsAt_19 rfl ?_
    refine js_iconst dX3_landsAt_20 ?_
    refine eX3_183 rfl dX3_landsAt_21 p2_0 (com_after hA ⟨p2_0, p2_1, p2_2, p2_3, p2_4, p2_5, p2_6, p2_7, p2_8, p2_9, p2_10, p2_11⟩ hI (by omega) (by omega) (by omega) (by omega)) (Nat.le_of_ble_eq_true rfl) (Nat.le_of_ble_eq_true rfl) ?_
    rw [zH_fr (fun q hq => (zH_n hq))]
    obtain ⟨p4_0, p4_1, p4_2, p4_3, p4_4, p4_5, p4_6, p4_7, p4_8, p4_9, p4_10, p4_11⟩ := zH_Mc (h := h) (f := f) (bef := bef1) (asd := f) (svd := svd) (pas := pas) (rf := rf) (it := it1) (wt := wt1) (tx := tx) (od := od1) (ln := ln) (isS := isS) (pm := pm) (th := zt2 (0 ≤ b ∧ b ≤ f 0 - 1) (f (13 + 9 * b + 2) ≠ 0)) (len := len) (at_ := at_1) (wr := wr1) (fa := fa) (om := om1) (lm := lm) hA
    show js_ok ρ mX3_landsAt _ 9 0 0 24 [(2, .int (jI (zv (zt2 (0 ≤ b ∧ b ≤ f 0 - 1) (f (13 + 9 * b + 2) ≠ 0)) (zli f b)))), (0, .ref (A 0)), (1, .int (jI b))] [.int (jI (zaft f b (zv (zt2 (0 ≤ b ∧ b ≤ f 0 - 1) (f (13 + 9 * b + 2) ≠ 0)) (zli f b)) 0))] (zH A f bef1 f svd pas rf it1 wt1 tx od1 ln isS pm (zt2 (0 ≤ b ∧ b ≤ f 0 - 1) (f (13 + 9 * b + 2) ≠ 0)) len at_1 wr1 fa om1 lm h)
    exact js_iret rfl rfl dX3_landsAt_24 ⟨js_reti (by first | (rw [zv_p (by omega)]; done) | (rw [zv_n (t := zt2 (0 ≤ b ∧ b ≤ f 0 - 1) (f (13 + 9 * b + 2) ≠ 0)) (v := zaft f b (zli f b) 0) (by omega), el]; done)), _, _, _, _, _, _, _, _, (zH_eq hA p4_0 p4_1 p4_2 p4_3 p4_4 p4_5 p4_6 p4_7 p4_8 p4_9 p4_10 p4_11 (fun q hq => (zH_n hq)))⟩
  · refine js_iconst dX3_landsAt_13 ?_
    refine js_goto (tgt := 24) dX3_landsAt_14 (by decide) ?_
    exact js_iret rfl rfl dX3_landsAt_24 ⟨js_reti (by first | (rw [zv_p (by omega)]; done) | (rw [zv_n (t := zt2 (0 ≤ b ∧ b ≤ f 0 - 1) (f (13 + 9 * b + 2) ≠ 0)) (v := zaft f b (zli f b) 0) (by omega), el]; done)), _, _, _, _, _, _, _, _, (zH_eq hA p2_0 p2_1 p2_2 p2_3 p2_4 p2_5 p2_6 p2_7 p2_8 p2_9 p2_10 p2_11 (fun q hq => (zH_n hq)))⟩
