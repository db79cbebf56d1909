set_option maxRecDepth 100000
/-! BalloonSpiresModel: ranks, accounts, undo and saving -/
theorem pm_thrown {ρ : js_R} {h : js_H} {A : Nat → Nat} {f bef asd svd pas rf it wt tx od ln : Int → Int} {isS pm th len at_ wr fa om lm : Int}  (hA : zA A) (hp : zMc A f bef asd svd pas rf it wt tx od ln isS pm th len at_ wr fa om lm h)  : js_Con ρ mX3_thrown 0 0 0 [.ref (A 0)] h (js_ret (some (.int (jI th))) (h)) := by
  refine js_body [(0, .ref (A 0))] rfl (by decide) (Nat.le_of_ble_eq_true rfl) rfl ?_
  obtain ⟨p0, p1, p2, p3, p4, p5, p6, p7, p8, p9, p10, p11⟩ := hp
  refine js_aload_n 0 dX3_thrown_0 rfl ?_
  refine gX3_49 rfl dX3_thrown_1 p0 rfl ?_
  exact js_iret rfl rfl dX3_thrown_4 ⟨rfl, rfl⟩
theorem pm_isTold {ρ : js_R} {h : js_H} {A : Nat → Nat} {f bef asd svd pas rf it wt tx od ln : Int → Int} {isS pm th len at_ wr fa om lm : Int}  (hA : zA A) (hp : zMc A f bef asd svd pas rf it wt tx od ln isS pm th len at_ wr fa om lm h)  : js_Con ρ mX3_isTold 0 0 0 [.ref (A 0)] h (js_ret (some (.int (jI 1))) (zH A f bef asd svd pas rf it wt tx od ln isS pm 0 len at_ wr fa om lm h)) := by
  refine js_body [(0, .ref (A 0))] rfl (by decide) (Nat.le_of_ble_eq_true rfl) rfl ?_
  obtain ⟨p0, p1, p2, p3, p4, p5, p6, p7, p8, p9, p10, p11⟩ := hp
  refine js_aload_n 0 dX3_isTold_0 rfl ?_
  refine js_iconst dX3_isTold_1 ?_
  refine pX3_49 rfl dX3_isTold_2 p0 (Nat.le_of_ble_eq_true rfl) rfl rfl ?_
  show js_ok ρ mX3_isTold _ 0 0 0 5 [(0, .ref (A 0))] [] (js_up h (A 0) (js_ob true 2 [.ref (A 1), .ref (A 2), .ref (A 3), .ref (A 4), .int (jI isS), .ref (A 5), .int (jI pm), .int (jI 0), .ref (A 6), .ref (A 7), .ref (A 8), .ref (A 9), .int (jI len), .int (jI at_), .int (jI wr), .int (jI fa), .ref (A 10), .int (jI om), .ref (A 11), .int (jI lm)]))
  refine js_iconst dX3_isTold_5 ?_
  exact js_iret rfl (js_nar_boolean (by omega)) dX3_isTold_6 ⟨js_reti (by rfl), (zH_eq hA js_up_s ((js_up_n (js_nek p1 p0 js_kAO)).trans p1) ((js_up_n (js_nek p2 p0 js_kAO)).trans p2) ((js_up_n (js_nek p3 p0 js_kAO)).trans p3) ((js_up_n (js_nek p4 p0 js_kAO)).trans p4) ((js_up_n (js_nek p5 p0 js_kAO)).trans p5) ((js_up_n (js_nek p6 p0 js_kAO)).trans p6) ((js_up_n (js_nek p7 p0 js_kAO)).trans p7) ((js_up_n (js_nek p8 p0 js_kAO)).trans p8) ((js_up_n (js_nek p9 p0 js_kAO)).trans p9) ((js_up_n (js_nek p10 p0 js_kAO)).trans p10) ((js_up_n (js_nek p11 p0 js_kAO)).trans p11) (fun q hq => ((js_up_n (hq 0 (by decide))).trans rfl)))⟩
theorem pm_faultPosition {ρ : js_R} {h : js_H} {A : Nat → Nat} {f bef asd svd pas rf it wt tx od ln : Int → Int} {isS pm th len at_ wr fa om lm : Int}  (hA : zA A) (hp : zMc A f bef asd svd pas rf it wt tx od ln isS pm th len at_ wr fa om lm h)  : js_Con ρ mX3_faultPosition 0 0 0 [.ref (A 0)] h (js_ret (some (.int (jI fa))) (zH A f bef asd svd pas rf it wt tx od ln isS pm 0 len at_ wr fa om lm h)) := by
  refine js_body [(0, .ref (A 0))] rfl (by decide) (Nat.le_of_ble_eq_true rfl) rfl ?_
  obtain ⟨p0, p1, p2, p3, p4, p5, p6, p7, p8, p9, p10, p11⟩ := hp
  refine js_aload_n 0 dX3_faultPosition_0 rfl ?_
  refine js_iconst dX3_faultPosition_1 ?_
  refine pX3_49 rfl dX3_faultPosition_2 p0 (Nat.le_of_ble_eq_true rfl) rfl rfl ?_
  show js_ok ρ mX3_faultPosition _ 0 0 0 5 [(0, .ref (A 0))] [] (js_up h (A 0) (js_ob true 2 [.ref (A 1), .ref (A 2), .ref (A 3), .ref (A 4), .int (jI isS), .ref (A 5), .int (jI pm), .int (jI 0), .ref (A 6), .ref (A 7), .ref (A 8), .ref (A 9), .int (jI len), .int (jI at_), .int (jI wr), .int (jI fa), .ref (A 10), .int (jI om), .ref (A 11), .int (jI lm)]))
  refine js_aload_n 0 dX3_faultPosition_5 rfl ?_
  refine gX3_39 rfl dX3_faultPosition_6 js_up_s rfl ?_
  exact js_iret rfl rfl dX3_faultPosition_9 ⟨js_reti (by rfl), (zH_eq hA js_up_s ((js_up_n (js_nek p1 p0 js_kAO)).trans p1) ((js_up_n (js_nek p2 p0 js_kAO)).trans p2) ((js_up_n (js_nek p3 p0 js_kAO)).trans p3) ((js_up_n (js_nek p4 p0 js_kAO)).trans p4) ((js_up_n (js_nek p5 p0 js_kAO)).trans p5) ((js_up_n (js_nek p6 p0 js_kAO)).trans p6) ((js_up_n (js_nek p7 p0 js_kAO)).trans p7) ((js_up_n (js_nek p8 p0 js_kAO)).trans p8) ((js_up_n (js_nek p9 p0 js_kAO)).trans p9) ((js_up_n (js_nek p10 p0 js_kAO)).trans p10) ((js_up_n (js_nek p11 p0 js_kAO)).trans p11) (fun q hq => ((js_up_n (hq 0 (by decide))).trans rfl)))⟩
theorem com_isAhead {ρ : js_R} {h : js_H} {m s : Nat} {v1 v2 v3 v4 v5 v6 v7 v8 v9 v10 v11 v12 v13 v14 v15 v16 v17 v18 v19 : Value} {f : Int → Int} {T a b : Int} (hm : h m = some (js_ob true 2 [.ref s, v1, v2, v3, v4, v5, v6, v7, v8, v9, v10, v11, v12, v13, v14, v15, v16, v17, v18, v19])) (hs : h s = some (js_aI true 0 287 f)) (hI : zI T f) (ra : 0 ≤ a ∧ a < f 0) (rb : 0 ≤ b ∧ b < f 0) : js_Con ρ mX3_isAhead 1 0 0 [.ref m, .int (jI a), .int (jI b)] h (js_ret (some (.int (jI (jb (zah f a b))))) h) := by
  refine js_body [(0, .ref m), (1, .int (jI a)), (2, .int (jI b))] rfl (by decide) (Nat.le_of_ble_eq_true rfl) rfl ?_
  have h01 := zI_01 hI
  have ha : 0 ≤ a ∧ a < f 0 := ra
  have hc : 0 ≤ b ∧ b < f 0 := rb
  have hA2 := zI_B hI ha.1 ha.2
  have hB2 := zI_B hI hc.1 hc.2
  have hT0 := zI_T hI
  unfold zIB at hA2 hB2
  refine js_aload_n 0 dX3_isAhead_0 rfl ?_
  refine js_iload_n 1 dX3_isAhead_1 rfl ?_
  refine js_bipush dX3_isAhead_2 rfl ?_
  refine eX3_76 rfl dX3_isAhead_4 hm (com_of hm hs (by omega) (by omega)) (Nat.le_of_ble_eq_true rfl) (Nat.le_of_ble_eq_true rfl) ?_
  refine js_aload_n 0 dX3_isAhead_7 rfl ?_
  refine js_iload_n 2 dX3_isAhead_8 rfl ?_
  refine js_bipush dX3_isAhead_9 rfl ?_
  refine eX3_76 rfl dX3_isAhead_11 hm (com_of hm hs (by omega) (by omega)) (Nat.le_of_ble_eq_true rfl) (Nat.le_of_ble_eq_true rfl) ?_
  refine js_isub dX3_isAhead_14 ?_
  refine js_istore_n (L' := [(3, .int (jI ((f (13 + 9 * a + 6)) - (f (13 + 9 * b + 6))))), (0, .ref m), (1, .int (jI a)), (2, .int (jI b))]) dX3_isAhead_15 (by decide) rfl ?_
  refine js_iload_n 0 dX3_isAhead_16 rfl ?_
  refine js_if_eq (tgt := 24) dX3_isAhead_17 (by decide) (by omega) (fun c1 => ?_) (fun c1 => ?_)
  · refine js_aload_n 1 dX3_isAhead_24 rfl ?_
    refine js_iload_n 2 dX3_isAhead_25 rfl ?_
    refine js_iconst dX3_isAhead_26 ?_
    refine eX3_76 rfl dX3_isAhead_27 hm (com_of hm hs (by omega) (by omega)) (Nat.le_of_ble_eq_true rfl) (Nat.le_of_ble_eq_true rfl) ?_
    refine js_aload_n 1 dX3_isAhead_30 rfl ?_
    refine js_iload_n 3 dX3_isAhead_31 rfl ?_
    refine js_iconst dX3_isAhead_32 ?_
    refine eX3_76 rfl dX3_isAhead_33 hm (com_of hm hs (by omega) (by omega)) (Nat.le_of_ble_eq_true rfl) (Nat.le_of_ble_eq_true rfl) ?_
    refine js_isub dX3_isAhead_36 ?_
    refine js_istore_n (L' := [(3, .int (jI ((f (13 + 9 * a + 5)) - (f (13 + 9 * b + 5))))), (0, .ref m), (1, .int (jI a)), (2, .int (jI b))]) dX3_isAhead_37 (by decide) rfl ?_
    refine js_iload_n 0 dX3_isAhead_38 rfl ?_
    refine js_if_eq (tgt := 46) dX3_isAhead_39 (by decide) (by omega) (fun c2 => ?_) (fun c2 => ?_)
    · refine js_aload_n 1 dX3_isAhead_46 rfl ?_
      refine js_iload_n 3 dX3_isAhead_47 rfl ?_
      refine js_bipush dX3_isAhead_48 rfl ?_
      refine eX3_76 rfl dX3_isAhead_50 hm (com_of hm hs (by omega) (by omega)) (Nat.le_of_ble_eq_true rfl) (Nat.le_of_ble_eq_true rfl) ?_
      refine js_aload_n 1 dX3_isAhead_53 rfl ?_
      refine js_iload_n 2 dX3_isAhead_54 rfl ?_
      refine js_bipush dX3_isAhead_55 rfl ?_
      refine eX3_76 rfl dX3_isAhead_57 hm (com_of hm hs (by omega) (by omega)) (Nat.le_of_ble_eq_true rfl) (Nat.le_of_ble_eq_true rfl) ?_
      refine js_isub dX3_isAhead_60 ?_
      refine js_istore_n (L' := [(3, .int (jI ((f (13 + 9 * b + 7)) - (f (13 + 9 * a + 7))))), (0, .ref m), (1, .int (jI a)), (2, .int (jI b))]) dX3_isAhead_61 (by decide) rfl ?_
      refine js_iload_n 0 dX3_isAhead_62 rfl ?_
      refine js_if_gt (tgt := 75) dX3_isAhead_63 (by decide) (by omega) (fun c3 => ?_) (fun c3 => ?_)
      · refine js_iconst dX3_isAhead_75 ?_
        refine js_goto (tgt := 80) dX3_isAhead_76 (by decide) ?_
        exact js_iret rfl (js_nar_boolean (by omega)) dX3_isAhead_80 ⟨js_reti (jb_t (by unfold zah; omega)).symm, rfl⟩
      · refine js_iload_n 0 dX3_isAhead_66 rfl ?_
        refine js_if_ne (tgt := 79) dX3_isAhead_67 (by decide) (by omega) (fun c4 => ?_) (fun c4 => ?_)
        · refine js_iconst dX3_isAhead_79 ?_
          exact js_iret rfl (js_nar_boolean (by omega)) dX3_isAhead_80 ⟨js_reti (jb_f (by unfold zah; omega)).symm, rfl⟩
        · refine js_iload_n 2 dX3_isAhead_70 rfl ?_
          refine js_iload_n 3 dX3_isAhead_71 rfl ?_
          refine js_icmp_ge (tgt := 79) dX3_isAhead_72 (by decide) (by omega) (fun c5 => ?_) (fun c5 => ?_)
          · refine js_iconst dX3_isAhead_79 ?_
            exact js_iret rfl (js_nar_boolean (by omega)) dX3_isAhead_80 ⟨js_reti (jb_f (by unfold zah; omega)).symm, rfl⟩
          · refine js_iconst dX3_isAhead_75 ?_
            refine js_goto (tgt := 80) dX3_isAhead_76 (by decide) ?_
            exact js_iret rfl (js_nar_boolean (by omega)) dX3_isAhead_80 ⟨js_reti (jb_t (by unfold zah; omega)).symm, rfl⟩
    · refine js_iload_n 0 dX3_isAhead_42 rfl ?_
      refine js_goto (tgt := 61) dX3_isAhead_43 (by decide) ?_
      refine js_istore_n (L' := [(3, .int (jI ((f (13 + 9 * a + 5)) - (f (13 + 9 * b + 5))))), (0, .ref m), (1, .int (jI a)), (2, .int (jI b))]) dX3_isAhead_61 (by decide) rfl ?_
      refine js_iload_n 0 dX3_isAhead_62 rfl ?_
      refine js_if_gt (tgt := 75) dX3_isAhead_63 (by decide) (by omega) (fun c6 => ?_) (fun c6 => ?_)
      · refine js_iconst dX3_isAhead_75 ?_
        refine js_goto (tgt := 80) dX3_isAhead_76 (by decide) ?_
        exact js_iret rfl (js_nar_boolean (by omega)) dX3_isAhead_80 ⟨js_reti (jb_t (by unfold zah; omega)).symm, rfl⟩
      · refine js_iload_n 0 dX3_isAhead_66 rfl ?_
        refine js_if_ne (tgt := 79) dX3_isAhead_67 (by decide) (by omega) (fun c7 => ?_) (fun c7 => ?_)
        · refine js_iconst dX3_isAhead_79 ?_
          exact js_iret rfl (js_nar_boolean (by omega)) dX3_isAhead_80 ⟨js_reti (jb_f (by unfold zah; omega)).symm, rfl⟩
        · refine js_iload_n 2 dX3_isAhead_70 rfl ?_
          refine js_iload_n 3 dX3_isAhead_71 rfl ?_
          refine js_icmp_ge (tgt := 79) dX3_isAhead_72 (by decide) (by omega) (fun c8 => ?_) (fun c8 => ?_)
          · refine js_iconst dX3_isAhead_79 ?_
            exact js_iret rfl (js_nar_boolean (by omega)) dX3_isAhead_80 ⟨js_reti (jb_f (by unfold zah; omega)).symm, rfl⟩
          · refine js_iconst dX3_isAhead_75 ?_
            refine js_goto (tgt := 80) dX3_isAhead_76 (by decide) ?_
            exact js_iret rfl (js_nar_boolean (by omega)) dX3_isAhead_80 ⟨js_reti (jb_t (by unfold zah; omega)).symm, rfl⟩
  · refine js_iload_n 0 dX3_isAhead_20 rfl ?_
    refine js_goto (tgt := 37) dX3_isAhead_21 (by decide) ?_
    refine js_istore_n (L' := [(3, .int (jI ((f (13 + 9 * a + 6)) - (f (13 + 9 * b + 6))))), (0, .ref m), (1, .int (jI a)), (2, .int (jI b))]) dX3_isAhead_37 (by decide) rfl ?_
    refine js_iload_n 0 dX3_isAhead_38 rfl ?_
    refine js_if_eq (tgt := 46) dX3_isAhead_39 (by decide) (by omega) (fun c9 => ?_) (fun c9 => ?_)
    · refine js_aload_n 1 dX3_isAhead_46 rfl ?_
      refine js_iload_n 3 dX3_isAhead_47 rfl ?_
      refine js_bipush dX3_isAhead_48 rfl ?_
      refine eX3_76 rfl dX3_isAhead_50 hm (com_of hm hs (by omega) (by omega)) (Nat.le_of_ble_eq_true rfl) (Nat.le_of_ble_eq_true rfl) ?_
      refine js_aload_n 1 dX3_isAhead_53 rfl ?_
      refine js_iload_n 2 dX3_isAhead_54 rfl ?_
      refine js_bipush dX3_isAhead_55 rfl ?_
      refine eX3_76 rfl dX3_isAhead_57 hm (com_of hm hs (by omega) (by omega)) (Nat.le_of_ble_eq_true rfl) (Nat.le_of_ble_eq_true rfl) ?_
      refine js_isub dX3_isAhead_60 ?_
      refine js_istore_n (L' := [(3, .int (jI ((f (13 + 9 * b + 7)) - (f (13 + 9 * a + 7))))), (0, .ref m), (1, .int (jI a)), (2, .int (jI b))]) dX3_isAhead_61 (by decide) rfl ?_
      refine js_iload_n 0 dX3_isAhead_62 rfl ?_
      refine js_if_gt (tgt := 75) dX3_isAhead_63 (by decide) (by omega) (fun c10 => ?_) (fun c10 => ?_)
      · refine js_iconst dX3_isAhead_75 ?_
        refine js_goto (tgt := 80) dX3_isAhead_76 (by decide) ?_
        exact js_iret rfl (js_nar_boolean (by omega)) dX3_isAhead_80 ⟨js_reti (jb_t (by unfold zah; omega)).symm, rfl⟩
      · refine js_iload_n 0 dX3_isAhead_66 rfl ?_
        refine js_if_ne (tgt := 79) dX3_isAhead_67 (by decide) (by omega) (fun c11 => ?_) (fun c11 => ?_)
        · refine js_iconst dX3_isAhead_79 ?_
          exact js_iret rfl (js_nar_boolean (by omega)) dX3_isAhead_80 ⟨js_reti (jb_f (by unfold zah; omega)).symm, rfl⟩
        · refine js_iload_n 2 dX3_isAhead_70 rfl ?_
          refine js_iload_n 3 dX3_isAhead_71 rfl ?_
          refine js_icmp_ge (tgt := 79) dX3_isAhead_72 (by decide) (by omega) (fun c12 => ?_) (fun c12 => ?_)
          · refine js_iconst dX3_isAhead_79 ?_
            exact js_iret rfl (js_nar_boolean (by omega)) dX3_isAhead_80 ⟨js_reti (jb_f (by unfold zah; omega)).symm, rfl⟩
          · refine js_iconst dX3_isAhead_75 ?_
            refine js_goto (tgt := 80) dX3_isAhead_76 (by decide) ?_
            exact js_iret rfl (js_nar_boolean (by omega)) dX3_isAhead_80 ⟨js_reti (jb_t (by unfold zah; omega)).symm, rfl⟩
    · refine js_iload_n 0 dX3_isAhead_42 rfl ?_
      refine js_goto (tgt := 61) dX3_isAhead_43 (by decide) ?_
      refine js_istore_n (L' := [(3, .int (jI ((f (13 + 9 * a + 6)) - (f (13 + 9 * b + 6))))), (0, .ref m), (1, .int (jI a)), (2, .int (jI b))]) dX3_isAhead_61 (by decide) rfl ?_
      refine js_iload_n 0 dX3_isAhead_62 rfl ?_
      refine js_if_gt (tgt := 75) dX3_isAhead_63 (by decide) (by omega) (fun c13 => ?_) (fun c13 => ?_)
      · refine js_iconst dX3_isAhead_75 ?_
        refine js_goto (tgt := 80) dX3_isAhead_76 (by decide) ?_
        exact js_iret rfl (js_nar_boolean (by omega)) dX3_isAhead_80 ⟨js_reti (jb_t (by unfold zah; omega)).symm, rfl⟩
      · refine js_iload_n 0 dX3_isAhead_66 rfl ?_
        refine js_if_ne (tgt := 79) dX3_isAhead_67 (by decide) (by omega) (fun c14 => ?_) (fun c14 => ?_)
        · refine js_iconst dX3_isAhead_79 ?_
          exact js_iret rfl (js_nar_boolean (by omega)) dX3_isAhead_80 ⟨js_reti (jb_f (by unfold zah; omega)).symm, rfl⟩
        · refine js_iload_n 2 dX3_isAhead_70 rfl ?_
          refine js_iload_n 3 dX3_isAhead_71 rfl ?_
          refine js_icmp_ge (tgt := 79) dX3_isAhead_72 (by decide) (by omega) (fun c15 => ?_) (fun c15 => ?_)
          · refine js_iconst dX3_isAhead_79 ?_
            exact js_iret rfl (js_nar_boolean (by omega)) dX3_isAhead_80 ⟨js_reti (jb_f (by unfold zah; omega)).symm, rfl⟩
          · refine js_iconst dX3_isAhead_75 ?_
            refine js_goto (tgt := 80) dX3_isAhead_76 (by decide) ?_
            exact js_iret rfl (js_nar_boolean (by omega)) dX3_isAhead_80 ⟨js_reti (jb_t (by unfold zah; omega)).symm, rfl⟩
theorem pm_ranked {ρ : js_R} {h : js_H} {A : Nat → Nat} {f bef asd svd pas rf it wt tx od ln : Int → Int} {isS pm th len at_ wr fa om lm : Int} {T pl : Int} (hA : zA A) (hp : zMc A f bef asd svd pas rf it wt tx od ln isS pm th len at_ wr fa om lm h) (hI : zI T f) (rpl : -2147483648 ≤ pl ∧ pl < 2147483648) : js_Con ρ mX3_ranked 3 0 0 [.ref (A 0), .int (jI pl)] h (js_ret (some (.int (jI (zv (zt1 (0 ≤ pl ∧ pl ≤ f 0 - 1)) (zrk f pl (f 0).toNat))))) (zH A f bef asd svd pas rf it wt tx od ln isS pm (zt1 (0 ≤ pl ∧ pl ≤ f 0 - 1)) len at_ wr fa om lm h)) := by
  refine js_body [(0, .ref (A 0)), (1, .int (jI pl))] rfl (by decide) (Nat.le_of_ble_eq_true rfl) rfl ?_
  obtain ⟨p0, p1, p2, p3, p4, p5, p6, p7, p8, p9, p10, p11⟩ := hp
  have h01 := zI_01 hI
  have z0 := zt1_c (0 ≤ pl ∧ pl ≤ f 0 - 1)
  refine js_aload_n 0 dX3_ranked_0 rfl ?_
  refine js_join 14 [(0, .ref (A 0)), (1, .int (jI pl))] [.ref (A 0)] h (zt1 (0 ≤ pl ∧ pl ≤ f 0 - 1)) (fun z hz => ?_) (fun J1 => ?_)
  · subst hz
    refine pX3_49 rfl dX3_ranked_14 p0 (Nat.le_of_ble_eq_true rfl) rfl rfl ?_
    show js_ok ρ mX3_ranked _ 3 0 0 17 [(0, .ref (A 0)), (1, .int (jI pl))] [] (js_up h (A 0) (js_ob true 2 [.ref (A 1), .ref (A 2), .ref (A 3), .ref (A 4), .int (jI isS), .ref (A 5), .int (jI pm), .int (jI (zt1 (0 ≤ pl ∧ pl ≤ f 0 - 1))), .ref (A 6), .ref (A 7), .ref (A 8), .ref (A 9), .int (jI len), .int (jI at_), .int (jI wr), .int (jI fa), .ref (A 10), .int (jI om), .ref (A 11), .int (jI lm)]))
    refine js_iconst dX3_ranked_17 ?_
    refine js_istore_n (L' := [(2, .int (jI 0)), (0, .ref (A 0)), (1, .int (jI pl))]) dX3_ranked_18 (by decide) rfl ?_
    refine js_iconst dX3_ranked_19 ?_
    refine js_istore_n (L' := [(3, .int (jI 0)), (2, .int (jI 0)), (0, .ref (A 0)), (1, .int (jI pl))]) dX3_ranked_20 (by decide) rfl ?_
    refine js_sub (L' := [(0, .ref (A 0)), (1, .int (jI pl)), (2, .int (jI 0)), (3, .int (jI 0))]) [2, 3, 1, 0] rfl ?_
    refine js_loop (σ := Nat) (fun k => (k : Int) ≤ f 0 ∧ (0 < k → zt1 (0 ≤ pl ∧ pl ≤ f 0 - 1) = 0)) (fun k => (f 0).toNat - k) (fun k => 0) (fun k => 0) 21 (fun k => [(0, .ref (A 0)), (1, .int (jI pl)), (2, .int (jI (zrk f pl k))), (3, .int (jI ((k : Int))))]) (fun k => []) (fun k => (js_up h (A 0) (js_ob true 2 [.ref (A 1), .ref (A 2), .ref (A 3), .ref (A 4), .int (jI isS), .ref (A 5), .int (jI pm), .int (jI (zt1 (0 ≤ pl ∧ pl ≤ f 0 - 1))), .ref (A 6), .ref (A 7), .ref (A 8), .ref (A 9), .int (jI len), .int (jI at_), .int (jI wr), .int (jI fa), .ref (A 10), .int (jI om), .ref (A 11), .int (jI lm)]))) (fun k hk IHk => ?_) 0 ⟨h01.1.1, fun z => absurd z (Nat.lt_irrefl 0)⟩
    show js_ok ρ mX3_ranked _ 3 0 0 21 [(0, .ref (A 0)), (1, .int (jI pl)), (2, .int (jI (zrk f pl k))), (3, .int (jI ((k : Int))))] [] (js_up h (A 0) (js_ob true 2 [.ref (A 1), .ref (A 2), .ref (A 3), .ref (A 4), .int (jI isS), .ref (A 5), .int (jI pm), .int (jI (zt1 (0 ≤ pl ∧ pl ≤ f 0 - 1))), .ref (A 6), .ref (A 7), .ref (A 8), .ref (A 9), .int (jI len), .int (jI at_), .int (jI wr), .int (jI fa), .ref (A 10), .int (jI om), .ref (A 11), .int (jI lm)]))
    obtain ⟨hk, hkt⟩ := hk
    refine js_iload_n 3 dX3_ranked_21 rfl ?_
    refine js_aload_n 0 dX3_ranked_22 rfl ?_
    refine gX3_9 rfl dX3_ranked_23 js_up_s rfl ?_
    refine js_iconst dX3_ranked_26 ?_
    refine js_iaload dX3_ranked_27 ((js_up_n (js_nek p1 p0 js_kAO)).trans p1) (by omega) ?_
    refine js_icmp_ge (tgt := 99) dX3_ranked_28 (by decide) (by omega) (fun c3 => ?_) (fun c3 => ?_)
    · refine js_iload_n 2 dX3_ranked_99 rfl ?_
      exact js_iret rfl rfl dX3_ranked_100 ⟨js_reti (by rcases z0 with z | z <;> first | (rw [zv_p (by omega)]; rw [show k = 0 by omega]; rfl) | (rw [zv_n (by omega), show (f 0).toNat = k by omega])), (zH_eq hA js_up_s ((js_up_n (js_nek p1 p0 js_kAO)).trans p1) ((js_up_n (js_nek p2 p0 js_kAO)).trans p2) ((js_up_n (js_nek p3 p0 js_kAO)).trans p3) ((js_up_n (js_nek p4 p0 js_kAO)).trans p4) ((js_up_n (js_nek p5 p0 js_kAO)).trans p5) ((js_up_n (js_nek p6 p0 js_kAO)).trans p6) ((js_up_n (js_nek p7 p0 js_kAO)).trans p7) ((js_up_n (js_nek p8 p0 js_kAO)).trans p8) ((js_up_n (js_nek p9 p0 js_kAO)).trans p9) ((js_up_n (js_nek p10 p0 js_kAO)).trans p10) ((js_up_n (js_nek p11 p0 js_kAO)).trans p11) (fun q hq => ((js_up_n (hq 0 (by decide))).trans rfl)))⟩
    · refine js_aload_n 0 dX3_ranked_31 rfl ?_
      refine gX3_49 rfl dX3_ranked_32 js_up_s rfl ?_
      refine js_if_ne (tgt := 99) dX3_ranked_35 (by decide) (by omega) (fun c4 => ?_) (fun c4 => ?_)
      · refine js_iload_n 2 dX3_ranked_99 rfl ?_
        exact js_iret rfl rfl dX3_ranked_100 ⟨js_reti (by rcases z0 with z | z <;> first | (rw [zv_p (by omega)]; rw [show k = 0 by omega]; rfl) | (rw [zv_n (by omega), show (f 0).toNat = k by omega])), (zH_eq hA js_up_s ((js_up_n (js_nek p1 p0 js_kAO)).trans p1) ((js_up_n (js_nek p2 p0 js_kAO)).trans p2) ((js_up_n (js_nek p3 p0 js_kAO)).trans p3) ((js_up_n (js_nek p4 p0 js_kAO)).trans p4) ((js_up_n (js_nek p5 p0 js_kAO)).trans p5) ((js_up_n (js_nek p6 p0 js_kAO)).trans p6) ((js_up_n (js_nek p7 p0 js_kAO)).trans p7) ((js_up_n (js_nek p8 p0 js_kAO)).trans p8) ((js_up_n (js_nek p9 p0 js_kAO)).trans p9) ((js_up_n (js_nek p10 p0 js_kAO)).trans p10) ((js_up_n (js_nek p11 p0 js_kAO)).trans p11) (fun q hq => ((js_up_n (hq 0 (by decide))).trans rfl)))⟩
      · refine js_iconst dX3_ranked_38 ?_
        refine js_istore (L' := [(4, .int (jI 0)), (0, .ref (A 0)), (1, .int (jI pl)), (2, .int (jI (zrk f pl k))), (3, .int (jI ((k : Int))))]) dX3_ranked_39 (by decide) rfl ?_
        refine js_iconst dX3_ranked_41 ?_
        refine js_istore (L' := [(5, .int (jI 0)), (4, .int (jI 0)), (0, .ref (A 0)), (1, .int (jI pl)), (2, .int (jI (zrk f pl k))), (3, .int (jI ((k : Int))))]) dX3_ranked_42 (by decide) rfl ?_
        refine js_sub (L' := [(0, .ref (A 0)), (1, .int (jI pl)), (2, .int (jI (zrk f pl k))), (3, .int (jI ((k : Int)))), (4, .int (jI 0)), (5, .int (jI 0))]) [2, 3, 4, 5, 1, 0] rfl ?_
        refine js_loop (σ := Nat) (fun j => (j : Int) ≤ f 0) (fun j => (f 0).toNat - j) (fun j => 0) (fun j => 0) 44 (fun j => [(0, .ref (A 0)), (1, .int (jI pl)), (2, .int (jI (zrk f pl k))), (3, .int (jI ((k : Int)))), (4, .int (jI (zcnt f k j))), (5, .int (jI ((j : Int))))]) (fun j => []) (fun j => (js_up h (A 0) (js_ob true 2 [.ref (A 1), .ref (A 2), .ref (A 3), .ref (A 4), .int (jI isS), .ref (A 5), .int (jI pm), .int (jI (zt1 (0 ≤ pl ∧ pl ≤ f 0 - 1))), .ref (A 6), .ref (A 7), .ref (A 8), .ref (A 9), .int (jI len), .int (jI at_), .int (jI wr), .int (jI fa), .ref (A 10), .int (jI om), .ref (A 11), .int (jI lm)]))) (fun j hj IHj => ?_) 0 (by omega)
        show js_ok ρ mX3_ranked _ 3 0 0 44 [(0, .ref (A 0)), (1, .int (jI pl)), (2, .int (jI (zrk f pl k))), (3, .int (jI ((k : Int)))), (4, .int (jI (zcnt f k j))), (5, .int (jI ((j : Int))))] [] (js_up h (A 0) (js_ob true 2 [.ref (A 1), .ref (A 2), .ref (A 3), .ref (A 4), .int (jI isS), .ref (A 5), .int (jI pm), .int (jI (zt1 (0 ≤ pl ∧ pl ≤ f 0 - 1))), .ref (A 6), .ref (A 7), .ref (A 8), .ref (A 9), .int (jI len), .int (jI at_), .int (jI wr), .int (jI fa), .ref (A 10), .int (jI om), .ref (A 11), .int (jI lm)]))
        have hcn := zcnt_r (f := f) (b := (k : Int)) j
        refine js_iload 5 dX3_ranked_44 rfl ?_
        refine js_aload_n 0 dX3_ranked_46 rfl ?_
        refine gX3_9 rfl dX3_ranked_47 js_up_s rfl ?_
        refine js_iconst dX3_ranked_50 ?_
        refine js_iaload dX3_ranked_51 ((js_up_n (js_nek p1 p0 js_kAO)).trans p1) (by omega) ?_
        refine js_icmp_ge (tgt := 81) dX3_ranked_52 (by decide) (by omega) (fun c6 => ?_) (fun c6 => ?_)
        · refine js_join 92 [(0, .ref (A 0)), (1, .int (jI pl)), (2, .int (jI (zrk f pl k))), (3, .int (jI ((k : Int)))), (4, .int (jI (zcnt f k j))), (5, .int (jI ((j : Int))))] [] (js_up h (A 0) (js_ob true 2 [.ref (A 1), .ref (A 2), .ref (A 3), .ref (A 4), .int (jI isS), .ref (A 5), .int (jI pm), .int (jI (zt1 (0 ≤ pl ∧ pl ≤ f 0 - 1))), .ref (A 6), .ref (A 7), .ref (A 8), .ref (A 9), .int (jI len), .int (jI at_), .int (jI wr), .int (jI fa), .ref (A 10), .int (jI om), .ref (A 11), .int (jI lm)])) (zrk f pl (k + 1)) (fun z hz => ?_) (fun J7 => ?_)
          · subst hz
            refine js_istore_n (L' := [(2, .int (jI (zrk f pl (k + 1)))), (0, .ref (A 0)), (1, .int (jI pl)), (3, .int (jI ((k : Int)))), (4, .int (jI (zcnt f k j))), (5, .int (jI ((j : Int))))]) dX3_ranked_92 (by decide) rfl ?_
            refine js_iinc (L' := [(3, .int (jI (((k : Int)) + 1))), (2, .int (jI (zrk f pl (k + 1)))), (0, .ref (A 0)), (1, .int (jI pl)), (4, .int (jI (zcnt f k j))), (5, .int (jI ((j : Int))))]) 3 dX3_ranked_93 rfl (by decide) rfl ?_
            refine js_goto (tgt := 21) dX3_ranked_96 (by decide) ?_
            refine js_sub (L' := [(0, .ref (A 0)), (1, .int (jI pl)), (2, .int (jI (zrk f pl (k + 1)))), (3, .int (jI (((k : Int)) + 1)))]) [2, 3, 1, 0] rfl ?_
            exact IHk (k + 1) ⟨by omega, fun _ => by omega⟩ (by omega)
          · refine js_iload 4 dX3_ranked_81 rfl ?_
            refine js_iload_n 1 dX3_ranked_83 rfl ?_
            refine js_icmp_ne (tgt := 91) dX3_ranked_84 (by decide) (by omega) (fun c8 => ?_) (fun c8 => ?_)
            · refine js_iload_n 2 dX3_ranked_91 rfl ?_
              exact J7 _ (by rw [show zrk f pl (k + 1) = if zcnt f k (f 0).toNat = pl then (k : Int) else zrk f pl k from rfl, show (f 0).toNat = j by omega]; (repeat' split) <;> omega)
            · refine js_iload_n 3 dX3_ranked_87 rfl ?_
              refine js_goto (tgt := 92) dX3_ranked_88 (by decide) ?_
              exact J7 _ (by rw [show zrk f pl (k + 1) = if zcnt f k (f 0).toNat = pl then (k : Int) else zrk f pl k from rfl, show (f 0).toNat = j by omega]; (repeat' split) <;> omega)
        · refine js_iload 4 dX3_ranked_55 rfl ?_
          refine js_join 72 [(0, .ref (A 0)), (1, .int (jI pl)), (2, .int (jI (zrk f pl k))), (3, .int (jI ((k : Int)))), (4, .int (jI (zcnt f k j))), (5, .int (jI ((j : Int))))] [.int (jI (zcnt f k j))] (js_up h (A 0) (js_ob true 2 [.ref (A 1), .ref (A 2), .ref (A 3), .ref (A 4), .int (jI isS), .ref (A 5), .int (jI pm), .int (jI (zt1 (0 ≤ pl ∧ pl ≤ f 0 - 1))), .ref (A 6), .ref (A 7), .ref (A 8), .ref (A 9), .int (jI len), .int (jI at_), .int (jI wr), .int (jI fa), .ref (A 10), .int (jI om), .ref (A 11), .int (jI lm)])) (jb (zah f (j : Int) (k : Int))) (fun z hz => ?_) (fun J9 => ?_)
          · subst hz
            refine js_iadd dX3_ranked_72 ?_
            refine js_istore (L' := [(4, .int (jI ((zcnt f k j) + (jb (zah f (j : Int) (k : Int)))))), (0, .ref (A 0)), (1, .int (jI pl)), (2, .int (jI (zrk f pl k))), (3, .int (jI ((k : Int)))), (5, .int (jI ((j : Int))))]) dX3_ranked_73 (by decide) rfl ?_
            refine js_iinc (L' := [(5, .int (jI (((j : Int)) + 1))), (4, .int (jI ((zcnt f k j) + (jb (zah f (j : Int) (k : Int)))))), (0, .ref (A 0)), (1, .int (jI pl)), (2, .int (jI (zrk f pl k))), (3, .int (jI ((k : Int))))]) 5 dX3_ranked_75 rfl (by decide) rfl ?_
            refine js_goto (tgt := 44) dX3_ranked_78 (by decide) ?_
            refine js_sub (L' := [(0, .ref (A 0)), (1, .int (jI pl)), (2, .int (jI (zrk f pl k))), (3, .int (jI ((k : Int)))), (4, .int (jI ((zcnt f k j) + (jb (zah f (j : Int) (k : Int)))))), (5, .int (jI (((j : Int)) + 1)))]) [2, 3, 4, 5, 1, 0] rfl ?_
            exact IHj (j + 1) (by omega) (by omega)
          · refine js_aload_n 0 dX3_ranked_57 rfl ?_
            refine js_iload 5 dX3_ranked_58 rfl ?_
            refine js_iload_n 3 dX3_ranked_60 rfl ?_
            refine eX3_207 rfl dX3_ranked_61 js_up_s (com_isAhead js_up_s ((js_up_n (js_nek p1 p0 js_kAO)).trans p1) hI (by omega) (by omega)) (Nat.le_of_ble_eq_true rfl) (Nat.le_of_ble_eq_true rfl) ?_
            refine js_if_eqB (tgt := 71) dX3_ranked_64 (by decide) (fun c10 => ?_) (fun c10 => ?_)
            · refine js_iconst dX3_ranked_71 ?_
              exact J9 _ (by first | exact (jb_t (by assumption)).symm | exact (jb_f (by assumption)).symm)
            · refine js_iconst dX3_ranked_67 ?_
              refine js_goto (tgt := 72) dX3_ranked_68 (by decide) ?_
              exact J9 _ (by first | exact (jb_t (by assumption)).symm | exact (jb_f (by assumption)).symm)
  · refine js_aload_n 0 dX3_ranked_1 rfl ?_
    refine js_iload_n 1 dX3_ranked_2 rfl ?_
    refine eX3_113 rfl dX3_ranked_3 p0 (com_isBalloon p0 p1 (by omega) (by omega)) (Nat.le_of_ble_eq_true rfl) (Nat.le_of_ble_eq_true rfl) ?_
    refine js_if_eqB (tgt := 13) dX3_ranked_6 (by decide) (fun c11 => ?_) (fun c11 => ?_)
    · refine js_iconst dX3_ranked_13 ?_
      exact J1 _ (by omega)
    · refine js_iconst dX3_ranked_9 ?_
      refine js_goto (tgt := 14) dX3_ranked_10 (by decide) ?_
      exact J1 _ (by omega)
theorem pm_dearest {ρ : js_R} {h : js_H} {A : Nat → Nat} {f bef asd svd pas rf it wt tx od ln : Int → Int} {isS pm th len at_ wr fa om lm : Int} {T : Int} (hA : zA A) (hp : zMc A f bef asd svd pas rf it wt tx od ln isS pm th len at_ wr fa om lm h) (hI : zI T f) : js_Con ρ mX3_dearest 1 0 0 [.ref (A 0)] h (js_ret (some (.int (jI (zv (zt1 (f (187 + zdb f 99) ≠ 0)) (zdb f 99))))) (zH A f bef asd svd pas rf it wt tx od ln isS pm (zt1 (f (187 + zdb f 99) ≠ 0)) len at_ wr fa om lm h)) := by
  refine js_body [(0, .ref (A 0))] rfl (by decide) (Nat.le_of_ble_eq_true rfl) rfl ?_
  obtain ⟨p0, p1, p2, p3, p4, p5, p6, p7, p8, p9, p10, p11⟩ := hp
  have h01 := zI_01 hI
  refine js_iconst dX3_dearest_0 ?_
  refine js_istore_n (L' := [(1, .int (jI 0)), (0, .ref (A 0))]) dX3_dearest_1 (by decide) rfl ?_
  refine js_iconst dX3_dearest_2 ?_
  refine js_istore_n (L' := [(2, .int (jI 1)), (1, .int (jI 0)), (0, .ref (A 0))]) dX3_dearest_3 (by decide) rfl ?_
  refine js_sub (L' := [(0, .ref (A 0)), (1, .int (jI 0)), (2, .int (jI 1))]) [2, 1, 0] rfl ?_
  refine js_loop (σ := Nat) (fun k => k ≤ 99) (fun k => 99 - k) (fun k => 0) (fun k => 0) 4 (fun k => [(0, .ref (A 0)), (1, .int (jI (zdb f k))), (2, .int (jI ((k : Int) + 1)))]) (fun k => []) (fun k => h) (fun k hk IHk => ?_) 0 (by decide)
  show js_ok ρ mX3_dearest _ 1 0 0 4 [(0, .ref (A 0)), (1, .int (jI (zdb f k))), (2, .int (jI ((k : Int) + 1)))] [] h
  refine js_iload_n 2 dX3_dearest_4 rfl ?_
  refine js_bipush dX3_dearest_5 rfl ?_
  refine js_icmp_ge (tgt := 45) dX3_dearest_7 (by decide) (by omega) (fun c2 => ?_) (fun c2 => ?_)
  · have ek : k = 99 := by omega
    have hdb := zdb_r (f := f) k
    have hc1 := zI_c hI (zdb f k) (by omega) (by omega)
    have hT0 := zI_T hI
    have z0 := zt1_c (f (187 + zdb f 99) ≠ 0)
    rw [← ek] at z0
    refine js_aload_n 0 dX3_dearest_45 rfl ?_
    refine js_join 64 [(0, .ref (A 0)), (1, .int (jI (zdb f k))), (2, .int (jI ((k : Int) + 1)))] [.ref (A 0)] h (zt1 (f (187 + zdb f 99) ≠ 0)) (fun z hz => ?_) (fun J3 => ?_)
    · subst hz
      rw [ek] at z0
      refine pX3_49 rfl dX3_dearest_64 p0 (Nat.le_of_ble_eq_true rfl) rfl rfl ?_
      show js_ok ρ mX3_dearest _ 1 0 0 67 [(0, .ref (A 0)), (1, .int (jI (zdb f k))), (2, .int (jI ((k : Int) + 1)))] [] (js_up h (A 0) (js_ob true 2 [.ref (A 1), .ref (A 2), .ref (A 3), .ref (A 4), .int (jI isS), .ref (A 5), .int (jI pm), .int (jI (zt1 (f (187 + zdb f 99) ≠ 0))), .ref (A 6), .ref (A 7), .ref (A 8), .ref (A 9), .int (jI len), .int (jI at_), .int (jI wr), .int (jI fa), .ref (A 10), .int (jI om), .ref (A 11), .int (jI lm)]))
      refine js_aload_n 0 dX3_dearest_67 rfl ?_
      refine gX3_49 rfl dX3_dearest_68 js_up_s rfl ?_
      refine js_if_le (tgt := 78) dX3_dearest_71 (by decide) (by omega) (fun c4 => ?_) (fun c4 => ?_)
      · refine js_iload_n 1 dX3_dearest_78 rfl ?_
        exact js_iret rfl rfl dX3_dearest_79 ⟨js_reti (by first | (rw [zv_p (by omega)]; done) | (rw [zv_n (by omega), ek]; done)), (zH_eq hA js_up_s ((js_up_n (js_nek p1 p0 js_kAO)).trans p1) ((js_up_n (js_nek p2 p0 js_kAO)).trans p2) ((js_up_n (js_nek p3 p0 js_kAO)).trans p3) ((js_up_n (js_nek p4 p0 js_kAO)).trans p4) ((js_up_n (js_nek p5 p0 js_kAO)).trans p5) ((js_up_n (js_nek p6 p0 js_kAO)).trans p6) ((js_up_n (js_nek p7 p0 js_kAO)).trans p7) ((js_up_n (js_nek p8 p0 js_kAO)).trans p8) ((js_up_n (js_nek p9 p0 js_kAO)).trans p9) ((js_up_n (js_nek p10 p0 js_kAO)).trans p10) ((js_up_n (js_nek p11 p0 js_kAO)).trans p11) (fun q hq => ((js_up_n (hq 0 (by decide))).trans rfl)))⟩
      · refine js_iconst dX3_dearest_74 ?_
        refine js_goto (tgt := 79) dX3_dearest_75 (by decide) ?_
        exact js_iret rfl rfl dX3_dearest_79 ⟨js_reti (by first | (rw [zv_p (by omega)]; done) | (rw [zv_n (by omega), ek]; done)), (zH_eq hA js_up_s ((js_up_n (js_nek p1 p0 js_kAO)).trans p1) ((js_up_n (js_nek p2 p0 js_kAO)).trans p2) ((js_up_n (js_nek p3 p0 js_kAO)).trans p3) ((js_up_n (js_nek p4 p0 js_kAO)).trans p4) ((js_up_n (js_nek p5 p0 js_kAO)).trans p5) ((js_up_n (js_nek p6 p0 js_kAO)).trans p6) ((js_up_n (js_nek p7 p0 js_kAO)).trans p7) ((js_up_n (js_nek p8 p0 js_kAO)).trans p8) ((js_up_n (js_nek p9 p0 js_kAO)).trans p9) ((js_up_n (js_nek p10 p0 js_kAO)).trans p10) ((js_up_n (js_nek p11 p0 js_kAO)).trans p11) (fun q hq => ((js_up_n (hq 0 (by decide))).trans rfl)))⟩
    · refine js_aload_n 0 dX3_dearest_46 rfl ?_
      refine gX3_9 rfl dX3_dearest_47 p0 rfl ?_
      refine js_sipush dX3_dearest_50 rfl ?_
      refine js_iload_n 1 dX3_dearest_53 rfl ?_
      refine js_iadd dX3_dearest_54 ?_
      refine js_iaload dX3_dearest_55 p1 (by omega) ?_
      refine js_if_ne (tgt := 63) dX3_dearest_56 (by decide) (by omega) (fun c5 => ?_) (fun c5 => ?_)
      · refine js_iconst dX3_dearest_63 ?_
        exact J3 _ (by rw [← ek]; omega)
      · refine js_iconst dX3_dearest_59 ?_
        refine js_goto (tgt := 64) dX3_dearest_60 (by decide) ?_
        exact J3 _ (by rw [← ek]; omega)
  · have hdb := zdb_r (f := f) k
    have hc1 := zI_c hI (zdb f k) (by omega) (by omega)
    have hc2 := zI_c hI ((k : Int) + 1) (by omega) (by omega)
    have hT0 := zI_T hI
    refine js_join 38 [(0, .ref (A 0)), (1, .int (jI (zdb f k))), (2, .int (jI ((k : Int) + 1)))] [] h (zdb f (k + 1)) (fun z hz => ?_) (fun J6 => ?_)
    · subst hz
      refine js_istore_n (L' := [(1, .int (jI (zdb f (k + 1)))), (0, .ref (A 0)), (2, .int (jI ((k : Int) + 1)))]) dX3_dearest_38 (by decide) rfl ?_
      refine js_iinc (L' := [(2, .int (jI (((k : Int) + 1) + 1))), (1, .int (jI (zdb f (k + 1)))), (0, .ref (A 0))]) 2 dX3_dearest_39 rfl (by decide) rfl ?_
      refine js_goto (tgt := 4) dX3_dearest_42 (by decide) ?_
      refine js_sub (L' := [(0, .ref (A 0)), (1, .int (jI (zdb f (k + 1)))), (2, .int (jI (((k : Int) + 1) + 1)))]) [2, 1, 0] rfl ?_
      exact IHk (k + 1) (by omega) (by omega)
    · refine js_aload_n 0 dX3_dearest_10 rfl ?_
      refine gX3_9 rfl dX3_dearest_11 p0 rfl ?_
      refine js_sipush dX3_dearest_14 rfl ?_
      refine js_iload_n 2 dX3_dearest_17 rfl ?_
      refine js_iadd dX3_dearest_18 ?_
      refine js_iaload dX3_dearest_19 p1 (by omega) ?_
      refine js_aload_n 0 dX3_dearest_20 rfl ?_
      refine gX3_9 rfl dX3_dearest_21 p0 rfl ?_
      refine js_sipush dX3_dearest_24 rfl ?_
      refine js_iload_n 1 dX3_dearest_27 rfl ?_
      refine js_iadd dX3_dearest_28 ?_
      refine js_iaload dX3_dearest_29 p1 (by omega) ?_
      refine js_icmp_le (tgt := 37) dX3_dearest_30 (by decide) (by omega) (fun c7 => ?_) (fun c7 => ?_)
      · refine js_iload_n 1 dX3_dearest_37 rfl ?_
        exact J6 _ (by rw [show zdb f (k + 1) = if f (187 + zdb f k) < f (187 + ((k : Int) + 1)) then (k : Int) + 1 else zdb f k from rfl]; (repeat' split) <;> omega)
      · refine js_iload_n 2 dX3_dearest_33 rfl ?_
        refine js_goto (tgt := 38) dX3_dearest_34 (by decide) ?_
        exact J6 _ (by rw [show zdb f (k + 1) = if f (187 + zdb f k) < f (187 + ((k : Int) + 1)) then (k : Int) + 1 else zdb f k from rfl]; (repeat' split) <;> omega)
theorem com_all {ρ : js_R} {h : js_H} {m s : Nat} {v1 v2 v3 v4 v5 v6 v7 v8 v9 v10 v11 v12 v13 v14 v15 v16 v17 v18 v19 : Value} {f : Int → Int} {T wh sm : Int} (hm : h m = some (js_ob true 2 [.ref s, v1, v2, v3, v4, v5, v6, v7, v8, v9, v10, v11, v12, v13, v14, v15, v16, v17, v18, v19])) (hs : h s = some (js_aI true 0 287 f)) (hI : zI T f) (rw_ : 0 ≤ wh ∧ wh ≤ 8) (rs : sm = 0 ∨ sm = 1) : js_Con ρ mX3_all 1 0 0 [.ref m, .int (jI wh), .int (jI sm)] h (js_ret (some (.int (jI (zall f wh sm (f 0).toNat)))) h) := by
  refine js_body [(0, .ref m), (1, .int (jI wh)), (2, .int (jI sm))] rfl (by decide) (Nat.le_of_ble_eq_true rfl) rfl ?_
  have h01 := zI_01 hI
  have hT0 := zI_T hI
  refine js_iconst dX3_all_0 ?_
  refine js_istore_n (L' := [(3, .int (jI 0)), (0, .ref m), (1, .int (jI wh)), (2, .int (jI sm))]) dX3_all_1 (by decide) rfl ?_
  refine js_iconst dX3_all_2 ?_
  refine js_istore (L' := [(4, .int (jI 0)), (3, .int (jI 0)), (0, .ref m), (1, .int (jI wh)), (2, .int (jI sm))]) dX3_all_3 (by decide) rfl ?_
  refine js_sub (L' := [(0, .ref m), (1, .int (jI wh)), (2, .int (jI sm)), (3, .int (jI 0)), (4, .int (jI 0))]) [2, 3, 4, 1, 0] rfl ?_
  refine js_loop (σ := Nat) (fun k => (k : Int) ≤ f 0) (fun k => (f 0).toNat - k) (fun k => 0) (fun k => 0) 5 (fun k => [(0, .ref m), (1, .int (jI wh)), (2, .int (jI sm)), (3, .int (jI (zall f wh sm k))), (4, .int (jI ((k : Int))))]) (fun k => []) (fun k => h) (fun k hk IHk => ?_) 0 h01.1.1
  show js_ok ρ mX3_all _ 1 0 0 5 [(0, .ref m), (1, .int (jI wh)), (2, .int (jI sm)), (3, .int (jI (zall f wh sm k))), (4, .int (jI ((k : Int))))] [] h
  refine js_iload 4 dX3_all_5 rfl ?_
  refine js_aload_n 0 dX3_all_7 rfl ?_
  refine gX3_9 rfl dX3_all_8 hm rfl ?_
  refine js_iconst dX3_all_11 ?_
  refine js_iaload dX3_all_12 hs (by omega) ?_
  refine js_icmp_ge (tgt := 54) dX3_all_13 (by decide) (by omega) (fun c2 => ?_) (fun c2 => ?_)
  · refine js_iload_n 3 dX3_all_54 rfl ?_
    exact js_iret rfl rfl dX3_all_55 ⟨js_reti (by rw [show (f 0).toNat = k by omega]), rfl⟩
  · have hB := zI_B hI (b := (k : Int)) (by omega) (by omega)
    unfold zIB at hB
    have hr : -2147483648 ≤ f (13 + 9 * (k : Int) + wh) ∧ f (13 + 9 * (k : Int) + wh) < 2147483648 := by
        have hw : wh = 0 ∨ wh = 1 ∨ wh = 2 ∨ wh = 3 ∨ wh = 4 ∨ wh = 5 ∨ wh = 6 ∨ wh = 7 ∨ wh = 8 := by omega
        rcases hw with rfl | rfl | rfl | rfl | rfl | rfl | rfl | rfl | rfl <;> omega
    refine js_iload_n 3 dX3_all_16 rfl ?_
    refine js_join 46 [(0, .ref m), (1, .int (jI wh)), (2, .int (jI sm)), (3, .int (jI (zall f wh sm k))), (4, .int (jI ((k : Int))))] [.int (jI (zall f wh sm k))] h (if sm = 0 then (if 0 < f (13 + 9 * (k : Int) + wh) then 1 else 0) else f (13 + 9 * (k : Int) + wh)) (fun z hz => ?_) (fun J3 => ?_)
    · subst hz
      refine js_iadd dX3_all_46 ?_
      refine js_top (b := zall f wh sm (k + 1)) (by rfl) ?_
      refine js_istore_n (L' := [(3, .int (jI (zall f wh sm (k + 1)))), (0, .ref m), (1, .int (jI wh)), (2, .int (jI sm)), (4, .int (jI ((k : Int))))]) dX3_all_47 (by decide) rfl ?_
      refine js_iinc (L' := [(4, .int (jI (((k : Int)) + 1))), (3, .int (jI (zall f wh sm (k + 1)))), (0, .ref m), (1, .int (jI wh)), (2, .int (jI sm))]) 4 dX3_all_48 rfl (by decide) rfl ?_
      refine js_goto (tgt := 5) dX3_all_51 (by decide) ?_
      refine js_sub (L' := [(0, .ref m), (1, .int (jI wh)), (2, .int (jI sm)), (3, .int (jI (zall f wh sm (k + 1)))), (4, .int (jI (((k : Int)) + 1)))]) [2, 3, 4, 1, 0] rfl ?_
      exact IHk (k + 1) (by omega) (by omega)
    · refine js_iload_n 2 dX3_all_17 rfl ?_
      refine js_if_eq (tgt := 31) dX3_all_18 (by decide) (by omega) (fun c4 => ?_) (fun c4 => ?_)
      · refine js_aload_n 0 dX3_all_31 rfl ?_
        refine js_iload 4 dX3_all_32 rfl ?_
        refine js_iload_n 1 dX3_all_34 rfl ?_
        refine eX3_76 rfl dX3_all_35 hm (com_of hm hs (by omega) (by omega)) (Nat.le_of_ble_eq_true rfl) (Nat.le_of_ble_eq_true rfl) ?_
        refine js_if_le (tgt := 45) dX3_all_38 (by decide) (by omega) (fun c5 => ?_) (fun c5 => ?_)
        · refine js_iconst dX3_all_45 ?_
          exact J3 _ (by (repeat' split) <;> omega)
        · refine js_iconst dX3_all_41 ?_
          refine js_goto (tgt := 46) dX3_all_42 (by decide) ?_
          exact J3 _ (by (repeat' split) <;> omega)
      · refine js_aload_n 0 dX3_all_21 rfl ?_
        refine js_iload 4 dX3_all_22 rfl ?_
        refine js_iload_n 1 dX3_all_24 rfl ?_
        refine eX3_76 rfl dX3_all_25 hm (com_of hm hs (by omega) (by omega)) (Nat.le_of_ble_eq_true rfl) (Nat.le_of_ble_eq_true rfl) ?_
        refine js_goto (tgt := 46) dX3_all_28 (by decide) ?_
        exact J3 _ (by (repeat' split) <;> omega)
theorem com_fees {ρ : js_R} {h : js_H} {m s : Nat} {v1 v2 v3 v4 v5 v6 v7 v8 v9 v10 v11 v12 v13 v14 v15 v16 v17 v18 v19 : Value} {f : Int → Int} {T : Int} (hm : h m = some (js_ob true 2 [.ref s, v1, v2, v3, v4, v5, v6, v7, v8, v9, v10, v11, v12, v13, v14, v15, v16, v17, v18, v19])) (hs : h s = some (js_aI true 0 287 f)) (hI : zI T f) : js_Con ρ mX3_fees 0 0 0 [.ref m] h (js_ret (some (.int (jI (zfrm f 100)))) h) := by
  refine js_body [(0, .ref m)] rfl (by decide) (Nat.le_of_ble_eq_true rfl) rfl ?_
  have h01 := zI_01 hI
  refine js_iconst dX3_fees_0 ?_
  refine js_istore_n (L' := [(1, .int (jI 0)), (0, .ref m)]) dX3_fees_1 (by decide) rfl ?_
  refine js_iconst dX3_fees_2 ?_
  refine js_istore_n (L' := [(2, .int (jI 0)), (1, .int (jI 0)), (0, .ref m)]) dX3_fees_3 (by decide) rfl ?_
  refine js_sub (L' := [(0, .ref m), (1, .int (jI 0)), (2, .int (jI 0))]) [2, 1, 0] rfl ?_
  refine js_loop (σ := Nat) (fun k => k ≤ 100) (fun k => 100 - k) (fun k => 0) (fun k => 0) 4 (fun k => [(0, .ref m), (1, .int (jI (zfrm f k))), (2, .int (jI ((k : Int))))]) (fun k => []) (fun k => h) (fun k hk IHk => ?_) 0 (by decide)
  show js_ok ρ mX3_fees _ 0 0 0 4 [(0, .ref m), (1, .int (jI (zfrm f k))), (2, .int (jI ((k : Int))))] [] h
  refine js_iload_n 2 dX3_fees_4 rfl ?_
  refine js_bipush dX3_fees_5 rfl ?_
  refine js_icmp_ge (tgt := 36) dX3_fees_7 (by decide) (by omega) (fun c2 => ?_) (fun c2 => ?_)
  · refine js_iload_n 1 dX3_fees_36 rfl ?_
    exact js_iret rfl rfl dX3_fees_37 ⟨js_reti (by rw [show (100 : Nat) = k by omega]), rfl⟩
  · have hF := zI_f hI (k : Int) (by omega) (by omega)
    refine js_iload_n 1 dX3_fees_10 rfl ?_
    refine js_join 28 [(0, .ref m), (1, .int (jI (zfrm f k))), (2, .int (jI ((k : Int))))] [.int (jI (zfrm f k))] h (if 0 < f (87 + (k : Int)) then 1 else 0) (fun z hz => ?_) (fun J3 => ?_)
    · subst hz
      refine js_iadd dX3_fees_28 ?_
      refine js_istore_n (L' := [(1, .int (jI ((zfrm f k) + (if 0 < f (87 + (k : Int)) then 1 else 0)))), (0, .ref m), (2, .int (jI ((k : Int))))]) dX3_fees_29 (by decide) rfl ?_
      refine js_iinc (L' := [(2, .int (jI (((k : Int)) + 1))), (1, .int (jI ((zfrm f k) + (if 0 < f (87 + (k : Int)) then 1 else 0)))), (0, .ref m)]) 2 dX3_fees_30 rfl (by decide) rfl ?_
      refine js_goto (tgt := 4) dX3_fees_33 (by decide) ?_
      refine js_sub (L' := [(0, .ref m), (1, .int (jI ((zfrm f k) + (if 0 < f (87 + (k : Int)) then 1 else 0)))), (2, .int (jI (((k : Int)) + 1)))]) [2, 1, 0] rfl ?_
      exact IHk (k + 1) (by omega) (by omega)
    · refine js_aload_n 0 dX3_fees_11 rfl ?_
      refine gX3_9 rfl dX3_fees_12 hm rfl ?_
      refine js_bipush dX3_fees_15 rfl ?_
      refine js_iload_n 2 dX3_fees_17 rfl ?_
      refine js_iadd dX3_fees_18 ?_
      refine js_iaload dX3_fees_19 hs (by omega) ?_
      refine js_if_le (tgt := 27) dX3_fees_20 (by decide) (by omega) (fun c4 => ?_) (fun c4 => ?_)
      · refine js_iconst dX3_fees_27 ?_
        exact J3 _ (by (repeat' split) <;> omega)
      · refine js_iconst dX3_fees_23 ?_
        refine js_goto (tgt := 28) dX3_fees_24 (by decide) ?_
        exact J3 _ (by (repeat' split) <;> omega)
theorem pm_account {ρ : js_R} {h : js_H} {A : Nat → Nat} {f bef asd svd pas rf it wt tx od ln : Int → Int} {isS pm th len at_ wr fa om lm : Int} {T wh : Int} (hA : zA A) (hp : zMc A f bef asd svd pas rf it wt tx od ln isS pm th len at_ wr fa om lm h) (hI : zI T f) (rwh : -2147483648 ≤ wh ∧ wh < 2147483648) : js_Con ρ mX3_account 2 0 0 [.ref (A 0), .int (jI wh)] h (js_ret (some (.int (jI (zv (zt1 (0 ≤ wh ∧ wh ≤ 13)) (zacc f pm len wh))))) (zH A f bef asd svd pas rf it wt tx od ln isS pm (zt1 (0 ≤ wh ∧ wh ≤ 13)) len at_ wr fa om lm h)) := by
  refine js_body [(0, .ref (A 0)), (1, .int (jI wh))] rfl (by decide) (Nat.le_of_ble_eq_true rfl) rfl ?_
  obtain ⟨p0, p1, p2, p3, p4, p5, p6, p7, p8, p9, p10, p11⟩ := hp
  have h01 := zI_01 hI
  have z0 := zt1_c (0 ≤ wh ∧ wh ≤ 13)
  refine js_aload_n 0 dX3_account_0 rfl ?_
  refine js_join 16 [(0, .ref (A 0)), (1, .int (jI wh))] [.ref (A 0)] h (zt1 (0 ≤ wh ∧ wh ≤ 13)) (fun z hz => ?_) (fun J1 => ?_)
  · subst hz
    refine pX3_49 rfl dX3_account_16 p0 (Nat.le_of_ble_eq_true rfl) rfl rfl ?_
    show js_ok ρ mX3_account _ 2 0 0 19 [(0, .ref (A 0)), (1, .int (jI wh))] [] (js_up h (A 0) (js_ob true 2 [.ref (A 1), .ref (A 2), .ref (A 3), .ref (A 4), .int (jI isS), .ref (A 5), .int (jI pm), .int (jI (zt1 (0 ≤ wh ∧ wh ≤ 13))), .ref (A 6), .ref (A 7), .ref (A 8), .ref (A 9), .int (jI len), .int (jI at_), .int (jI wr), .int (jI fa), .ref (A 10), .int (jI om), .ref (A 11), .int (jI lm)]))
    refine js_aload_n 0 dX3_account_19 rfl ?_
    refine gX3_49 rfl dX3_account_20 js_up_s rfl ?_
    refine js_if_le (tgt := 28) dX3_account_23 (by decide) (by omega) (fun c2 => ?_) (fun c2 => ?_)
    · refine js_iload_n 1 dX3_account_28 rfl ?_
      rcases (show ((wh : Int) < 0 ∨ 13 < (wh : Int)) ∨ (wh : Int) = 0 ∨ (wh : Int) = 1 ∨ (wh : Int) = 2 ∨ (wh : Int) = 3 ∨ (wh : Int) = 4 ∨ (wh : Int) = 5 ∨ (wh : Int) = 6 ∨ (wh : Int) = 7 ∨ (wh : Int) = 8 ∨ (wh : Int) = 9 ∨ (wh : Int) = 10 ∨ (wh : Int) = 11 ∨ (wh : Int) = 12 ∨ (wh : Int) = 13 from by omega) with t3 | t3 | t3 | t3 | t3 | t3 | t3 | t3 | t3 | t3 | t3 | t3 | t3 | t3 | t3
      · exfalso; omega
      · refine js_top (b := 0) t3 ?_
        refine js_tableIn (off := 71) (tgt := 100) dX3_account_29 (by decide) (by decide) (by decide) rfl (by decide) ?_
        refine js_aload_n 0 dX3_account_100 rfl ?_
        refine gX3_9 rfl dX3_account_101 js_up_s rfl ?_
        refine js_iconst dX3_account_104 ?_
        refine js_iaload dX3_account_105 ((js_up_n (js_nek p1 p0 js_kAO)).trans p1) (by omega) ?_
        exact js_iret rfl rfl dX3_account_106 ⟨js_reti (by rw [zv_n (by omega)]; unfold zacc; rw [if_pos (by omega)]), (zH_eq hA js_up_s ((js_up_n (js_nek p1 p0 js_kAO)).trans p1) ((js_up_n (js_nek p2 p0 js_kAO)).trans p2) ((js_up_n (js_nek p3 p0 js_kAO)).trans p3) ((js_up_n (js_nek p4 p0 js_kAO)).trans p4) ((js_up_n (js_nek p5 p0 js_kAO)).trans p5) ((js_up_n (js_nek p6 p0 js_kAO)).trans p6) ((js_up_n (js_nek p7 p0 js_kAO)).trans p7) ((js_up_n (js_nek p8 p0 js_kAO)).trans p8) ((js_up_n (js_nek p9 p0 js_kAO)).trans p9) ((js_up_n (js_nek p10 p0 js_kAO)).trans p10) ((js_up_n (js_nek p11 p0 js_kAO)).trans p11) (fun q hq => ((js_up_n (hq 0 (by decide))).trans rfl)))⟩
      · refine js_top (b := 1) t3 ?_
        refine js_tableIn (off := 78) (tgt := 107) dX3_account_29 (by decide) (by decide) (by decide) rfl (by decide) ?_
        refine js_aload_n 0 dX3_account_107 rfl ?_
        refine js_iconst dX3_account_108 ?_
        refine js_iconst dX3_account_109 ?_
        refine eX3_317 rfl dX3_account_110 js_up_s (com_all js_up_s ((js_up_n (js_nek p1 p0 js_kAO)).trans p1) hI (by omega) (by omega)) (Nat.le_of_ble_eq_true rfl) (Nat.le_of_ble_eq_true rfl) ?_
        exact js_iret rfl rfl dX3_account_113 ⟨js_reti (by rw [zv_n (by omega)]; unfold zacc; rw [if_neg (by omega), if_pos (by omega)]), (zH_eq hA js_up_s ((js_up_n (js_nek p1 p0 js_kAO)).trans p1) ((js_up_n (js_nek p2 p0 js_kAO)).trans p2) ((js_up_n (js_nek p3 p0 js_kAO)).trans p3) ((js_up_n (js_nek p4 p0 js_kAO)).trans p4) ((js_up_n (js_nek p5 p0 js_kAO)).trans p5) ((js_up_n (js_nek p6 p0 js_kAO)).trans p6) ((js_up_n (js_nek p7 p0 js_kAO)).trans p7) ((js_up_n (js_nek p8 p0 js_kAO)).trans p8) ((js_up_n (js_nek p9 p0 js_kAO)).trans p9) ((js_up_n (js_nek p10 p0 js_kAO)).trans p10) ((js_up_n (js_nek p11 p0 js_kAO)).trans p11) (fun q hq => ((js_up_n (hq 0 (by decide))).trans rfl)))⟩
      · refine js_top (b := 2) t3 ?_
        refine js_tableIn (off := 85) (tgt := 114) dX3_account_29 (by decide) (by decide) (by decide) rfl (by decide) ?_
        refine js_aload_n 0 dX3_account_114 rfl ?_
        refine gX3_9 rfl dX3_account_115 js_up_s rfl ?_
        refine js_iconst dX3_account_118 ?_
        refine js_iaload dX3_account_119 ((js_up_n (js_nek p1 p0 js_kAO)).trans p1) (by omega) ?_
        exact js_iret rfl rfl dX3_account_120 ⟨js_reti (by rw [zv_n (by omega)]; unfold zacc; rw [if_neg (by omega), if_neg (by omega), if_pos (by omega)]), (zH_eq hA js_up_s ((js_up_n (js_nek p1 p0 js_kAO)).trans p1) ((js_up_n (js_nek p2 p0 js_kAO)).trans p2) ((js_up_n (js_nek p3 p0 js_kAO)).trans p3) ((js_up_n (js_nek p4 p0 js_kAO)).trans p4) ((js_up_n (js_nek p5 p0 js_kAO)).trans p5) ((js_up_n (js_nek p6 p0 js_kAO)).trans p6) ((js_up_n (js_nek p7 p0 js_kAO)).trans p7) ((js_up_n (js_nek p8 p0 js_kAO)).trans p8) ((js_up_n (js_nek p9 p0 js_kAO)).trans p9) ((js_up_n (js_nek p10 p0 js_kAO)).trans p10) ((js_up_n (js_nek p11 p0 js_kAO)).trans p11) (fun q hq => ((js_up_n (hq 0 (by decide))).trans rfl)))⟩
      · refine js_top (b := 3) t3 ?_
        refine js_tableIn (off := 138) (tgt := 167) dX3_account_29 (by decide) (by decide) (by decide) rfl (by decide) ?_
        refine js_aload_n 0 dX3_account_167 rfl ?_
        refine gX3_9 rfl dX3_account_168 js_up_s rfl ?_
        refine js_iconst dX3_account_171 ?_
        refine js_iload_n 1 dX3_account_172 rfl ?_
        refine js_iadd dX3_account_173 ?_
        refine js_iconst dX3_account_174 ?_
        refine js_isub dX3_account_175 ?_
        refine js_iaload dX3_account_176 ((js_up_n (js_nek p1 p0 js_kAO)).trans p1) (by omega) ?_
        exact js_iret rfl rfl dX3_account_177 ⟨js_reti (by rw [zv_n (by omega)]; unfold zacc; rw [if_neg (by omega), if_neg (by omega), if_neg (by omega), if_neg (by omega), if_neg (by omega), if_neg (by omega), if_neg (by omega), if_neg (by omega), if_neg (by omega), if_neg (by omega)]), (zH_eq hA js_up_s ((js_up_n (js_nek p1 p0 js_kAO)).trans p1) ((js_up_n (js_nek p2 p0 js_kAO)).trans p2) ((js_up_n (js_nek p3 p0 js_kAO)).trans p3) ((js_up_n (js_nek p4 p0 js_kAO)).trans p4) ((js_up_n (js_nek p5 p0 js_kAO)).trans p5) ((js_up_n (js_nek p6 p0 js_kAO)).trans p6) ((js_up_n (js_nek p7 p0 js_kAO)).trans p7) ((js_up_n (js_nek p8 p0 js_kAO)).trans p8) ((js_up_n (js_nek p9 p0 js_kAO)).trans p9) ((js_up_n (js_nek p10 p0 js_kAO)).trans p10) ((js_up_n (js_nek p11 p0 js_kAO)).trans p11) (fun q hq => ((js_up_n (hq 0 (by decide))).trans rfl)))⟩
      · refine js_top (b := 4) t3 ?_
        refine js_tableIn (off := 138) (tgt := 167) dX3_account_29 (by decide) (by decide) (by decide) rfl (by decide) ?_
        refine js_aload_n 0 dX3_account_167 rfl ?_
        refine gX3_9 rfl dX3_account_168 js_up_s rfl ?_
        refine js_iconst dX3_account_171 ?_
        refine js_iload_n 1 dX3_account_172 rfl ?_
        refine js_iadd dX3_account_173 ?_
        refine js_iconst dX3_account_174 ?_
        refine js_isub dX3_account_175 ?_
        refine js_iaload dX3_account_176 ((js_up_n (js_nek p1 p0 js_kAO)).trans p1) (by omega) ?_
        exact js_iret rfl rfl dX3_account_177 ⟨js_reti (by rw [zv_n (by omega)]; unfold zacc; rw [if_neg (by omega), if_neg (by omega), if_neg (by omega), if_neg (by omega), if_neg (by omega), if_neg (by omega), if_neg (by omega), if_neg (by omega), if_neg (by omega), if_neg (by omega)]), (zH_eq hA js_up_s ((js_up_n (js_nek p1 p0 js_kAO)).trans p1) ((js_up_n (js_nek p2 p0 js_kAO)).trans p2) ((js_up_n (js_nek p3 p0 js_kAO)).trans p3) ((js_up_n (js_nek p4 p0 js_kAO)).trans p4) ((js_up_n (js_nek p5 p0 js_kAO)).trans p5) ((js_up_n (js_nek p6 p0 js_kAO)).trans p6) ((js_up_n (js_nek p7 p0 js_kAO)).trans p7) ((js_up_n (js_nek p8 p0 js_kAO)).trans p8) ((js_up_n (js_nek p9 p0 js_kAO)).trans p9) ((js_up_n (js_nek p10 p0 js_kAO)).trans p10) ((js_up_n (js_nek p11 p0 js_kAO)).trans p11) (fun q hq => ((js_up_n (hq 0 (by decide))).trans rfl)))⟩
      · refine js_top (b := 5) t3 ?_
        refine js_tableIn (off := 138) (tgt := 167) dX3_account_29 (by decide) (by decide) (by decide) rfl (by decide) ?_
        refine js_aload_n 0 dX3_account_167 rfl ?_
        refine gX3_9 rfl dX3_account_168 js_up_s rfl ?_
        refine js_iconst dX3_account_171 ?_
        refine js_iload_n 1 dX3_account_172 rfl ?_
        refine js_iadd dX3_account_173 ?_
        refine js_iconst dX3_account_174 ?_
        refine js_isub dX3_account_175 ?_
        refine js_iaload dX3_account_176 ((js_up_n (js_nek p1 p0 js_kAO)).trans p1) (by omega) ?_
        exact js_iret rfl rfl dX3_account_177 ⟨js_reti (by rw [zv_n (by omega)]; unfold zacc; rw [if_neg (by omega), if_neg (by omega), if_neg (by omega), if_neg (by omega), if_neg (by omega), if_neg (by omega), if_neg (by omega), if_neg (by omega), if_neg (by omega), if_neg (by omega)]), (zH_eq hA js_up_s ((js_up_n (js_nek p1 p0 js_kAO)).trans p1) ((js_up_n (js_nek p2 p0 js_kAO)).trans p2) ((js_up_n (js_nek p3 p0 js_kAO)).trans p3) ((js_up_n (js_nek p4 p0 js_kAO)).trans p4) ((js_up_n (js_nek p5 p0 js_kAO)).trans p5) ((js_up_n (js_nek p6 p0 js_kAO)).trans p6) ((js_up_n (js_nek p7 p0 js_kAO)).trans p7) ((js_up_n (js_nek p8 p0 js_kAO)).trans p8) ((js_up_n (js_nek p9 p0 js_kAO)).trans p9) ((js_up_n (js_nek p10 p0 js_kAO)).trans p10) ((js_up_n (js_nek p11 p0 js_kAO)).trans p11) (fun q hq => ((js_up_n (hq 0 (by decide))).trans rfl)))⟩
      · refine js_top (b := 6) t3 ?_
        refine js_tableIn (off := 138) (tgt := 167) dX3_account_29 (by decide) (by decide) (by decide) rfl (by decide) ?_
        refine js_aload_n 0 dX3_account_167 rfl ?_
        refine gX3_9 rfl dX3_account_168 js_up_s rfl ?_
        refine js_iconst dX3_account_171 ?_
        refine js_iload_n 1 dX3_account_172 rfl ?_
        refine js_iadd dX3_account_173 ?_
        refine js_iconst dX3_account_174 ?_
        refine js_isub dX3_account_175 ?_
        refine js_iaload dX3_account_176 ((js_up_n (js_nek p1 p0 js_kAO)).trans p1) (by omega) ?_
        exact js_iret rfl rfl dX3_account_177 ⟨js_reti (by rw [zv_n (by omega)]; unfold zacc; rw [if_neg (by omega), if_neg (by omega), if_neg (by omega), if_neg (by omega), if_neg (by omega), if_neg (by omega), if_neg (by omega), if_neg (by omega), if_neg (by omega), if_neg (by omega)]), (zH_eq hA js_up_s ((js_up_n (js_nek p1 p0 js_kAO)).trans p1) ((js_up_n (js_nek p2 p0 js_kAO)).trans p2) ((js_up_n (js_nek p3 p0 js_kAO)).trans p3) ((js_up_n (js_nek p4 p0 js_kAO)).trans p4) ((js_up_n (js_nek p5 p0 js_kAO)).trans p5) ((js_up_n (js_nek p6 p0 js_kAO)).trans p6) ((js_up_n (js_nek p7 p0 js_kAO)).trans p7) ((js_up_n (js_nek p8 p0 js_kAO)).trans p8) ((js_up_n (js_nek p9 p0 js_kAO)).trans p9) ((js_up_n (js_nek p10 p0 js_kAO)).trans p10) ((js_up_n (js_nek p11 p0 js_kAO)).trans p11) (fun q hq => ((js_up_n (hq 0 (by decide))).trans rfl)))⟩
      · refine js_top (b := 7) t3 ?_
        refine js_tableIn (off := 92) (tgt := 121) dX3_account_29 (by decide) (by decide) (by decide) rfl (by decide) ?_
        refine js_aload_n 0 dX3_account_121 rfl ?_
        refine js_iconst dX3_account_122 ?_
        refine js_iconst dX3_account_123 ?_
        refine eX3_317 rfl dX3_account_124 js_up_s (com_all js_up_s ((js_up_n (js_nek p1 p0 js_kAO)).trans p1) hI (by omega) (by omega)) (Nat.le_of_ble_eq_true rfl) (Nat.le_of_ble_eq_true rfl) ?_
        exact js_iret rfl rfl dX3_account_127 ⟨js_reti (by rw [zv_n (by omega)]; unfold zacc; rw [if_neg (by omega), if_neg (by omega), if_neg (by omega), if_pos (by omega)]), (zH_eq hA js_up_s ((js_up_n (js_nek p1 p0 js_kAO)).trans p1) ((js_up_n (js_nek p2 p0 js_kAO)).trans p2) ((js_up_n (js_nek p3 p0 js_kAO)).trans p3) ((js_up_n (js_nek p4 p0 js_kAO)).trans p4) ((js_up_n (js_nek p5 p0 js_kAO)).trans p5) ((js_up_n (js_nek p6 p0 js_kAO)).trans p6) ((js_up_n (js_nek p7 p0 js_kAO)).trans p7) ((js_up_n (js_nek p8 p0 js_kAO)).trans p8) ((js_up_n (js_nek p9 p0 js_kAO)).trans p9) ((js_up_n (js_nek p10 p0 js_kAO)).trans p10) ((js_up_n (js_nek p11 p0 js_kAO)).trans p11) (fun q hq => ((js_up_n (hq 0 (by decide))).trans rfl)))⟩
      · refine js_top (b := 8) t3 ?_
        refine js_tableIn (off := 99) (tgt := 128) dX3_account_29 (by decide) (by decide) (by decide) rfl (by decide) ?_
        refine js_aload_n 0 dX3_account_128 rfl ?_
        refine gX3_9 rfl dX3_account_129 js_up_s rfl ?_
        refine js_bipush dX3_account_132 rfl ?_
        refine js_iaload dX3_account_134 ((js_up_n (js_nek p1 p0 js_kAO)).trans p1) (by omega) ?_
        exact js_iret rfl rfl dX3_account_135 ⟨js_reti (by rw [zv_n (by omega)]; unfold zacc; rw [if_neg (by omega), if_neg (by omega), if_neg (by omega), if_neg (by omega), if_pos (by omega)]), (zH_eq hA js_up_s ((js_up_n (js_nek p1 p0 js_kAO)).trans p1) ((js_up_n (js_nek p2 p0 js_kAO)).trans p2) ((js_up_n (js_nek p3 p0 js_kAO)).trans p3) ((js_up_n (js_nek p4 p0 js_kAO)).trans p4) ((js_up_n (js_nek p5 p0 js_kAO)).trans p5) ((js_up_n (js_nek p6 p0 js_kAO)).trans p6) ((js_up_n (js_nek p7 p0 js_kAO)).trans p7) ((js_up_n (js_nek p8 p0 js_kAO)).trans p8) ((js_up_n (js_nek p9 p0 js_kAO)).trans p9) ((js_up_n (js_nek p10 p0 js_kAO)).trans p10) ((js_up_n (js_nek p11 p0 js_kAO)).trans p11) (fun q hq => ((js_up_n (hq 0 (by decide))).trans rfl)))⟩
      · refine js_top (b := 9) t3 ?_
        refine js_tableIn (off := 107) (tgt := 136) dX3_account_29 (by decide) (by decide) (by decide) rfl (by decide) ?_
        refine js_aload_n 0 dX3_account_136 rfl ?_
        refine gX3_9 rfl dX3_account_137 js_up_s rfl ?_
        refine js_bipush dX3_account_140 rfl ?_
        refine js_iaload dX3_account_142 ((js_up_n (js_nek p1 p0 js_kAO)).trans p1) (by omega) ?_
        exact js_iret rfl rfl dX3_account_143 ⟨js_reti (by rw [zv_n (by omega)]; unfold zacc; rw [if_neg (by omega), if_neg (by omega), if_neg (by omega), if_neg (by omega), if_neg (by omega), if_pos (by omega)]), (zH_eq hA js_up_s ((js_up_n (js_nek p1 p0 js_kAO)).trans p1) ((js_up_n (js_nek p2 p0 js_kAO)).trans p2) ((js_up_n (js_nek p3 p0 js_kAO)).trans p3) ((js_up_n (js_nek p4 p0 js_kAO)).trans p4) ((js_up_n (js_nek p5 p0 js_kAO)).trans p5) ((js_up_n (js_nek p6 p0 js_kAO)).trans p6) ((js_up_n (js_nek p7 p0 js_kAO)).trans p7) ((js_up_n (js_nek p8 p0 js_kAO)).trans p8) ((js_up_n (js_nek p9 p0 js_kAO)).trans p9) ((js_up_n (js_nek p10 p0 js_kAO)).trans p10) ((js_up_n (js_nek p11 p0 js_kAO)).trans p11) (fun q hq => ((js_up_n (hq 0 (by decide))).trans rfl)))⟩
      · refine js_top (b := 10) t3 ?_
        refine js_tableIn (off := 115) (tgt := 144) dX3_account_29 (by decide) (by decide) (by decide) rfl (by decide) ?_
        refine js_aload_n 0 dX3_account_144 rfl ?_
        refine js_bipush dX3_account_145 rfl ?_
        refine js_iconst dX3_account_147 ?_
        refine eX3_317 rfl dX3_account_148 js_up_s (com_all js_up_s ((js_up_n (js_nek p1 p0 js_kAO)).trans p1) hI (by omega) (by omega)) (Nat.le_of_ble_eq_true rfl) (Nat.le_of_ble_eq_true rfl) ?_
        exact js_iret rfl rfl dX3_account_151 ⟨js_reti (by rw [zv_n (by omega)]; unfold zacc; rw [if_neg (by omega), if_neg (by omega), if_neg (by omega), if_neg (by omega), if_neg (by omega), if_neg (by omega), if_pos (by omega)]), (zH_eq hA js_up_s ((js_up_n (js_nek p1 p0 js_kAO)).trans p1) ((js_up_n (js_nek p2 p0 js_kAO)).trans p2) ((js_up_n (js_nek p3 p0 js_kAO)).trans p3) ((js_up_n (js_nek p4 p0 js_kAO)).trans p4) ((js_up_n (js_nek p5 p0 js_kAO)).trans p5) ((js_up_n (js_nek p6 p0 js_kAO)).trans p6) ((js_up_n (js_nek p7 p0 js_kAO)).trans p7) ((js_up_n (js_nek p8 p0 js_kAO)).trans p8) ((js_up_n (js_nek p9 p0 js_kAO)).trans p9) ((js_up_n (js_nek p10 p0 js_kAO)).trans p10) ((js_up_n (js_nek p11 p0 js_kAO)).trans p11) (fun q hq => ((js_up_n (hq 0 (by decide))).trans rfl)))⟩
      · refine js_top (b := 11) t3 ?_
        refine js_tableIn (off := 123) (tgt := 152) dX3_account_29 (by decide) (by decide) (by decide) rfl (by decide) ?_
        refine js_aload_n 0 dX3_account_152 rfl ?_
        refine eX3_321 rfl dX3_account_153 js_up_s (com_fees js_up_s ((js_up_n (js_nek p1 p0 js_kAO)).trans p1) hI) (Nat.le_of_ble_eq_true rfl) (Nat.le_of_ble_eq_true rfl) ?_
        exact js_iret rfl rfl dX3_account_156 ⟨js_reti (by rw [zv_n (by omega)]; unfold zacc; rw [if_neg (by omega), if_neg (by omega), if_neg (by omega), if_neg (by omega), if_neg (by omega), if_neg (by omega), if_neg (by omega), if_pos (by omega)]), (zH_eq hA js_up_s ((js_up_n (js_nek p1 p0 js_kAO)).trans p1) ((js_up_n (js_nek p2 p0 js_kAO)).trans p2) ((js_up_n (js_nek p3 p0 js_kAO)).trans p3) ((js_up_n (js_nek p4 p0 js_kAO)).trans p4) ((js_up_n (js_nek p5 p0 js_kAO)).trans p5) ((js_up_n (js_nek p6 p0 js_kAO)).trans p6) ((js_up_n (js_nek p7 p0 js_kAO)).trans p7) ((js_up_n (js_nek p8 p0 js_kAO)).trans p8) ((js_up_n (js_nek p9 p0 js_kAO)).trans p9) ((js_up_n (js_nek p10 p0 js_kAO)).trans p10) ((js_up_n (js_nek p11 p0 js_kAO)).trans p11) (fun q hq => ((js_up_n (hq 0 (by decide))).trans rfl)))⟩
      · refine js_top (b := 12) t3 ?_
        refine js_tableIn (off := 128) (tgt := 157) dX3_account_29 (by decide) (by decide) (by decide) rfl (by decide) ?_
        refine js_aload_n 0 dX3_account_157 rfl ?_
        refine gX3_210 rfl dX3_account_158 js_up_s rfl ?_
        exact js_iret rfl rfl dX3_account_161 ⟨js_reti (by rw [zv_n (by omega)]; unfold zacc; rw [if_neg (by omega), if_neg (by omega), if_neg (by omega), if_neg (by omega), if_neg (by omega), if_neg (by omega), if_neg (by omega), if_neg (by omega), if_pos (by omega)]), (zH_eq hA js_up_s ((js_up_n (js_nek p1 p0 js_kAO)).trans p1) ((js_up_n (js_nek p2 p0 js_kAO)).trans p2) ((js_up_n (js_nek p3 p0 js_kAO)).trans p3) ((js_up_n (js_nek p4 p0 js_kAO)).trans p4) ((js_up_n (js_nek p5 p0 js_kAO)).trans p5) ((js_up_n (js_nek p6 p0 js_kAO)).trans p6) ((js_up_n (js_nek p7 p0 js_kAO)).trans p7) ((js_up_n (js_nek p8 p0 js_kAO)).trans p8) ((js_up_n (js_nek p9 p0 js_kAO)).trans p9) ((js_up_n (js_nek p10 p0 js_kAO)).trans p10) ((js_up_n (js_nek p11 p0 js_kAO)).trans p11) (fun q hq => ((js_up_n (hq 0 (by decide))).trans rfl)))⟩
      · refine js_top (b := 13) t3 ?_
        refine js_tableIn (off := 133) (tgt := 162) dX3_account_29 (by decide) (by decide) (by decide) rfl (by decide) ?_
        refine js_aload_n 0 dX3_account_162 rfl ?_
        refine gX3_58 rfl dX3_account_163 js_up_s rfl ?_
        exact js_iret rfl rfl dX3_account_166 ⟨js_reti (by rw [zv_n (by omega)]; unfold zacc; rw [if_neg (by omega), if_neg (by omega), if_neg (by omega), if_neg (by omega), if_neg (by omega), if_neg (by omega), if_neg (by omega), if_neg (by omega), if_neg (by omega), if_pos (by omega)]), (zH_eq hA js_up_s ((js_up_n (js_nek p1 p0 js_kAO)).trans p1) ((js_up_n (js_nek p2 p0 js_kAO)).trans p2) ((js_up_n (js_nek p3 p0 js_kAO)).trans p3) ((js_up_n (js_nek p4 p0 js_kAO)).trans p4) ((js_up_n (js_nek p5 p0 js_kAO)).trans p5) ((js_up_n (js_nek p6 p0 js_kAO)).trans p6) ((js_up_n (js_nek p7 p0 js_kAO)).trans p7) ((js_up_n (js_nek p8 p0 js_kAO)).trans p8) ((js_up_n (js_nek p9 p0 js_kAO)).trans p9) ((js_up_n (js_nek p10 p0 js_kAO)).trans p10) ((js_up_n (js_nek p11 p0 js_kAO)).trans p11) (fun q hq => ((js_up_n (hq 0 (by decide))).trans rfl)))⟩
    · refine js_iconst dX3_account_26 ?_
      exact js_iret rfl rfl dX3_account_27 ⟨js_reti (by rw [zv_p (by omega)]), (zH_eq hA js_up_s ((js_up_n (js_nek p1 p0 js_kAO)).trans p1) ((js_up_n (js_nek p2 p0 js_kAO)).trans p2) ((js_up_n (js_nek p3 p0 js_kAO)).trans p3) ((js_up_n (js_nek p4 p0 js_kAO)).trans p4) ((js_up_n (js_nek p5 p0 js_kAO)).trans p5) ((js_up_n (js_nek p6 p0 js_kAO)).trans p6) ((js_up_n (js_nek p7 p0 js_kAO)).trans p7) ((js_up_n (js_nek p8 p0 js_kAO)).trans p8) ((js_up_n (js_nek p9 p0 js_kAO)).trans p9) ((js_up_n (js_nek p10 p0 js_kAO)).trans p10) ((js_up_n (js_nek p11 p0 js_kAO)).trans p11) (fun q hq => ((js_up_n (hq 0 (by decide))).trans rfl)))⟩
  · refine js_iload_n 1 dX3_account_1 rfl ?_
    refine js_iconst dX3_account_2 ?_
    refine js_bipush dX3_account_3 rfl ?_
    refine eX3_61 rfl dX3_account_5 (com_in (by omega) (by omega) (by omega)) (Nat.le_of_ble_eq_true rfl) (Nat.le_of_ble_eq_true rfl) ?_
    refine js_if_eqB (tgt := 15) dX3_account_8 (by decide) (fun c4 => ?_) (fun c4 => ?_)
    · refine js_iconst dX3_account_15 ?_
      exact J1 _ (by omega)
    · refine js_iconst dX3_account_11 ?_
      refine js_goto (tgt := 16) dX3_account_12 (by decide) ?_
      exact J1 _ (by omega)
theorem pm_meanGas {ρ : js_R} {h : js_H} {A : Nat → Nat} {f bef asd svd pas rf it wt tx od ln : Int → Int} {isS pm th len at_ wr fa om lm : Int} {T : Int} (hA : zA A) (hp : zMc A f bef asd svd pas rf it wt tx od ln isS pm th len at_ wr fa om lm h) (hI : zI T f) : js_Con ρ mX3_meanGas 2 0 0 [.ref (A 0)] h (js_ret (some (.double (if 0 < zt1 (f 0 ≠ 0) then 0 else FP.ddiv (FP.i2d (jI (zall f 4 1 (f 0).toNat))) (FP.i2d (jI (f 0)))))) (zH A f bef asd svd pas rf it wt tx od ln isS pm (zt1 (f 0 ≠ 0)) len at_ wr fa om lm h)) := by
  refine js_body [(0, .ref (A 0))] rfl (by decide) (Nat.le_of_ble_eq_true rfl) rfl ?_
  obtain ⟨p0, p1, p2, p3, p4, p5, p6, p7, p8, p9, p10, p11⟩ := hp
  have h01 := zI_01 hI
  have z0 := zt1_c (f 0 ≠ 0)
  have hall : 0 ≤ zall f 4 1 (f 0).toNat ∧ zall f 4 1 (f 0).toNat ≤ 240 := by
      have := zsum_r (f := f) (w := 4) (f 0).toNat (fun b z => by have z := zI_B hI (b := (b : Int)) (by omega) (by omega); unfold zIB at z; omega); omega
  refine js_aload_n 0 dX3_meanGas_0 rfl ?_
  refine gX3_9 rfl dX3_meanGas_1 p0 rfl ?_
  refine js_iconst dX3_meanGas_4 ?_
  refine js_iaload dX3_meanGas_5 p1 (by omega) ?_
  refine js_istore_n (L' := [(1, .int (jI (f 0))), (0, .ref (A 0))]) dX3_meanGas_6 (by decide) rfl ?_
  refine js_aload_n 1 dX3_meanGas_7 rfl ?_
  refine js_join 17 [(1, .int (jI (f 0))), (0, .ref (A 0))] [.ref (A 0)] h (zt1 (f 0 ≠ 0)) (fun z hz => ?_) (fun J1 => ?_)
  · subst hz
    refine pX3_49 rfl dX3_meanGas_17 p0 (Nat.le_of_ble_eq_true rfl) rfl rfl ?_
    show js_ok ρ mX3_meanGas _ 2 0 0 20 [(1, .int (jI (f 0))), (0, .ref (A 0))] [] (js_up h (A 0) (js_ob true 2 [.ref (A 1), .ref (A 2), .ref (A 3), .ref (A 4), .int (jI isS), .ref (A 5), .int (jI pm), .int (jI (zt1 (f 0 ≠ 0))), .ref (A 6), .ref (A 7), .ref (A 8), .ref (A 9), .int (jI len), .int (jI at_), .int (jI wr), .int (jI fa), .ref (A 10), .int (jI om), .ref (A 11), .int (jI lm)]))
    refine js_aload_n 1 dX3_meanGas_20 rfl ?_
    refine gX3_49 rfl dX3_meanGas_21 js_up_s rfl ?_
    refine js_if_le (tgt := 31) dX3_meanGas_24 (by decide) (by omega) (fun c2 => ?_) (fun c2 => ?_)
    · refine js_aload_n 1 dX3_meanGas_31 rfl ?_
      refine js_iconst dX3_meanGas_32 ?_
      refine js_iconst dX3_meanGas_33 ?_
      refine eX3_317 rfl dX3_meanGas_34 js_up_s (com_all js_up_s ((js_up_n (js_nek p1 p0 js_kAO)).trans p1) hI (by omega) (by omega)) (Nat.le_of_ble_eq_true rfl) (Nat.le_of_ble_eq_true rfl) ?_
      refine js_i2d dX3_meanGas_37 ?_
      refine js_iload_n 0 dX3_meanGas_38 rfl ?_
      refine js_i2d dX3_meanGas_39 ?_
      refine js_ddiv dX3_meanGas_40 (by exact zn64' (by omega) (by omega)) ?_
      exact js_dret rfl dX3_meanGas_41 ⟨(by first | (rw [if_pos (by omega)]; done) | (rw [if_neg (by omega)]; done)), (zH_eq hA js_up_s ((js_up_n (js_nek p1 p0 js_kAO)).trans p1) ((js_up_n (js_nek p2 p0 js_kAO)).trans p2) ((js_up_n (js_nek p3 p0 js_kAO)).trans p3) ((js_up_n (js_nek p4 p0 js_kAO)).trans p4) ((js_up_n (js_nek p5 p0 js_kAO)).trans p5) ((js_up_n (js_nek p6 p0 js_kAO)).trans p6) ((js_up_n (js_nek p7 p0 js_kAO)).trans p7) ((js_up_n (js_nek p8 p0 js_kAO)).trans p8) ((js_up_n (js_nek p9 p0 js_kAO)).trans p9) ((js_up_n (js_nek p10 p0 js_kAO)).trans p10) ((js_up_n (js_nek p11 p0 js_kAO)).trans p11) (fun q hq => ((js_up_n (hq 0 (by decide))).trans rfl)))⟩
    · refine js_dconst0 dX3_meanGas_27 ?_
      refine js_goto (tgt := 41) dX3_meanGas_28 (by decide) ?_
      exact js_dret rfl dX3_meanGas_41 ⟨(by first | (rw [if_pos (by omega)]; done) | (rw [if_neg (by omega)]; done)), (zH_eq hA js_up_s ((js_up_n (js_nek p1 p0 js_kAO)).trans p1) ((js_up_n (js_nek p2 p0 js_kAO)).trans p2) ((js_up_n (js_nek p3 p0 js_kAO)).trans p3) ((js_up_n (js_nek p4 p0 js_kAO)).trans p4) ((js_up_n (js_nek p5 p0 js_kAO)).trans p5) ((js_up_n (js_nek p6 p0 js_kAO)).trans p6) ((js_up_n (js_nek p7 p0 js_kAO)).trans p7) ((js_up_n (js_nek p8 p0 js_kAO)).trans p8) ((js_up_n (js_nek p9 p0 js_kAO)).trans p9) ((js_up_n (js_nek p10 p0 js_kAO)).trans p10) ((js_up_n (js_nek p11 p0 js_kAO)).trans p11) (fun q hq => ((js_up_n (hq 0 (by decide))).trans rfl)))⟩
  · refine js_iload_n 0 dX3_meanGas_8 rfl ?_
    refine js_if_ne (tgt := 16) dX3_meanGas_9 (by decide) (by omega) (fun c3 => ?_) (fun c3 => ?_)
    · refine js_iconst dX3_meanGas_16 ?_
      exact J1 _ (by omega)
    · refine js_iconst dX3_meanGas_12 ?_
      refine js_goto (tgt := 17) dX3_meanGas_13 (by decide) ?_
      exact J1 _ (by omega)
theorem pm_flyingShare {ρ : js_R} {h : js_H} {A : Nat → Nat} {f bef asd svd pas rf it wt tx od ln : Int → Int} {isS pm th len at_ wr fa om lm : Int} {T : Int} (hA : zA A) (hp : zMc A f bef asd svd pas rf it wt tx od ln isS pm th len at_ wr fa om lm h) (hI : zI T f) : js_Con ρ mX3_flyingShare 2 0 0 [.ref (A 0)] h (js_ret (some (.float (if 0 < zt1 (f 0 ≠ 0) then 0 else FP.fdiv (FP.i2f (jI (zall f 2 0 (f 0).toNat))) (FP.i2f (jI (f 0)))))) (zH A f bef asd svd pas rf it wt tx od ln isS pm (zt1 (f 0 ≠ 0)) len at_ wr fa om lm h)) := by
  refine js_body [(0, .ref (A 0))] rfl (by decide) (Nat.le_of_ble_eq_true rfl) rfl ?_
  obtain ⟨p0, p1, p2, p3, p4, p5, p6, p7, p8, p9, p10, p11⟩ := hp
  have h01 := zI_01 hI
  have z0 := zt1_c (f 0 ≠ 0)
  have hall : 0 ≤ zall f 2 0 (f 0).toNat ∧ zall f 2 0 (f 0).toNat ≤ 6 := by
      have := zmany_r (f := f) (w := 2) (f 0).toNat; omega
  refine js_aload_n 0 dX3_flyingShare_0 rfl ?_
  refine gX3_9 rfl dX3_flyingShare_1 p0 rfl ?_
  refine js_iconst dX3_flyingShare_4 ?_
  refine js_iaload dX3_flyingShare_5 p1 (by omega) ?_
  refine js_istore_n (L' := [(1, .int (jI (f 0))), (0, .ref (A 0))]) dX3_flyingShare_6 (by decide) rfl ?_
  refine js_aload_n 1 dX3_flyingShare_7 rfl ?_
  refine js_join 17 [(1, .int (jI (f 0))), (0, .ref (A 0))] [.ref (A 0)] h (zt1 (f 0 ≠ 0)) (fun z hz => ?_) (fun J1 => ?_)
  · subst hz
    refine pX3_49 rfl dX3_flyingShare_17 p0 (Nat.le_of_ble_eq_true rfl) rfl rfl ?_
    show js_ok ρ mX3_flyingShare _ 2 0 0 20 [(1, .int (jI (f 0))), (0, .ref (A 0))] [] (js_up h (A 0) (js_ob true 2 [.ref (A 1), .ref (A 2), .ref (A 3), .ref (A 4), .int (jI isS), .ref (A 5), .int (jI pm), .int (jI (zt1 (f 0 ≠ 0))), .ref (A 6), .ref (A 7), .ref (A 8), .ref (A 9), .int (jI len), .int (jI at_), .int (jI wr), .int (jI fa), .ref (A 10), .int (jI om), .ref (A 11), .int (jI lm)]))
    refine js_aload_n 1 dX3_flyingShare_20 rfl ?_
    refine gX3_49 rfl dX3_flyingShare_21 js_up_s rfl ?_
    refine js_if_le (tgt := 31) dX3_flyingShare_24 (by decide) (by omega) (fun c2 => ?_) (fun c2 => ?_)
    · refine js_aload_n 1 dX3_flyingShare_31 rfl ?_
      refine js_iconst dX3_flyingShare_32 ?_
      refine js_iconst dX3_flyingShare_33 ?_
      refine eX3_317 rfl dX3_flyingShare_34 js_up_s (com_all js_up_s ((js_up_n (js_nek p1 p0 js_kAO)).trans p1) hI (by omega) (by omega)) (Nat.le_of_ble_eq_true rfl) (Nat.le_of_ble_eq_true rfl) ?_
      refine js_i2f dX3_flyingShare_37 ?_
      refine js_iload_n 0 dX3_flyingShare_38 rfl ?_
      refine js_i2f dX3_flyingShare_39 ?_
      refine js_fdiv dX3_flyingShare_40 (by exact (zn32' (by omega) (by omega)).1) ?_
      exact js_fret rfl dX3_flyingShare_41 ⟨(by first | (rw [if_pos (by omega)]; done) | (rw [if_neg (by omega)]; done)), (zH_eq hA js_up_s ((js_up_n (js_nek p1 p0 js_kAO)).trans p1) ((js_up_n (js_nek p2 p0 js_kAO)).trans p2) ((js_up_n (js_nek p3 p0 js_kAO)).trans p3) ((js_up_n (js_nek p4 p0 js_kAO)).trans p4) ((js_up_n (js_nek p5 p0 js_kAO)).trans p5) ((js_up_n (js_nek p6 p0 js_kAO)).trans p6) ((js_up_n (js_nek p7 p0 js_kAO)).trans p7) ((js_up_n (js_nek p8 p0 js_kAO)).trans p8) ((js_up_n (js_nek p9 p0 js_kAO)).trans p9) ((js_up_n (js_nek p10 p0 js_kAO)).trans p10) ((js_up_n (js_nek p11 p0 js_kAO)).trans p11) (fun q hq => ((js_up_n (hq 0 (by decide))).trans rfl)))⟩
    · refine js_fconst0 dX3_flyingShare_27 ?_
      refine js_goto (tgt := 41) dX3_flyingShare_28 (by decide) ?_
      exact js_fret rfl dX3_flyingShare_41 ⟨(by first | (rw [if_pos (by omega)]; done) | (rw [if_neg (by omega)]; done)), (zH_eq hA js_up_s ((js_up_n (js_nek p1 p0 js_kAO)).trans p1) ((js_up_n (js_nek p2 p0 js_kAO)).trans p2) ((js_up_n (js_nek p3 p0 js_kAO)).trans p3) ((js_up_n (js_nek p4 p0 js_kAO)).trans p4) ((js_up_n (js_nek p5 p0 js_kAO)).trans p5) ((js_up_n (js_nek p6 p0 js_kAO)).trans p6) ((js_up_n (js_nek p7 p0 js_kAO)).trans p7) ((js_up_n (js_nek p8 p0 js_kAO)).trans p8) ((js_up_n (js_nek p9 p0 js_kAO)).trans p9) ((js_up_n (js_nek p10 p0 js_kAO)).trans p10) ((js_up_n (js_nek p11 p0 js_kAO)).trans p11) (fun q hq => ((js_up_n (hq 0 (by decide))).trans rfl)))⟩
  · refine js_iload_n 0 dX3_flyingShare_8 rfl ?_
    refine js_if_ne (tgt := 16) dX3_flyingShare_9 (by decide) (by omega) (fun c3 => ?_) (fun c3 => ?_)
    · refine js_iconst dX3_flyingShare_16 ?_
      exact J1 _ (by omega)
    · refine js_iconst dX3_flyingShare_12 ?_
      refine js_goto (tgt := 17) dX3_flyingShare_13 (by decide) ?_
      exact J1 _ (by omega)
