set_option maxRecDepth 100000
/-! BalloonSpiresModel: reasons, undo and saving -/
theorem pm_reason {ρ : js_R} {h : js_H} {A : Nat → Nat} {f bef asd svd pas rf it wt tx od ln : Int → Int} {isS pm th len at_ wr fa om lm : Int} {dp dt : Int} (hA : zA A) (hp : zMc A f bef asd svd pas rf it wt tx od ln isS pm th len at_ wr fa om lm h) (hr : ∀ j : Int, 0 ≤ j → j < 4 → -2147483648 ≤ rf j ∧ rf j < 2147483648) (rdt : dt = 0 ∨ dt = 1) (rdp : -2147483648 ≤ dp ∧ dp < 2147483648) : js_Con ρ mX3_reason 2 0 0 [.ref (A 0), .int (jI dp), .int (jI dt)] h (js_ret (some (.int (jI (zv (zt2 (0 ≤ dp ∧ dp ≤ 1) (rf (2 * dp) ≠ 0)) (rf (2 * dp + (if dt = 0 then 0 else 1))))))) (zH A f bef asd svd pas rf it wt tx od ln isS pm (zt2 (0 ≤ dp ∧ dp ≤ 1) (rf (2 * dp) ≠ 0)) len at_ wr fa om lm h)) := by
  refine js_body [(0, .ref (A 0)), (1, .int (jI dp)), (2, .int (jI dt))] rfl (by decide) (Nat.le_of_ble_eq_true rfl) rfl ?_
  obtain ⟨p0, p1, p2, p3, p4, p5, p6, p7, p8, p9, p10, p11⟩ := hp
  have z0 := zt2_c (0 ≤ dp ∧ dp ≤ 1) (rf (2 * dp) ≠ 0)
  have z1 := zt1_c (0 ≤ dp ∧ dp ≤ 1)
  refine js_aload_n 0 dX3_reason_0 rfl ?_
  refine js_join 15 [(0, .ref (A 0)), (1, .int (jI dp)), (2, .int (jI dt))] [.ref (A 0)] h (zt1 (0 ≤ dp ∧ dp ≤ 1)) (fun z hz => ?_) (fun J1 => ?_)
  · subst hz
    refine pX3_49 rfl dX3_reason_15 p0 (Nat.le_of_ble_eq_true rfl) rfl rfl ?_
    show js_ok ρ mX3_reason _ 2 0 0 18 [(0, .ref (A 0)), (1, .int (jI dp)), (2, .int (jI dt))] [] (js_up h (A 0) (js_ob true 2 [.ref (A 1), .ref (A 2), .ref (A 3), .ref (A 4), .int (jI isS), .ref (A 5), .int (jI pm), .int (jI (zt1 (0 ≤ dp ∧ dp ≤ 1))), .ref (A 6), .ref (A 7), .ref (A 8), .ref (A 9), .int (jI len), .int (jI at_), .int (jI wr), .int (jI fa), .ref (A 10), .int (jI om), .ref (A 11), .int (jI lm)]))
    refine js_aload_n 0 dX3_reason_18 rfl ?_
    refine js_join 45 [(0, .ref (A 0)), (1, .int (jI dp)), (2, .int (jI dt))] [.ref (A 0)] (js_up h (A 0) (js_ob true 2 [.ref (A 1), .ref (A 2), .ref (A 3), .ref (A 4), .int (jI isS), .ref (A 5), .int (jI pm), .int (jI (zt1 (0 ≤ dp ∧ dp ≤ 1))), .ref (A 6), .ref (A 7), .ref (A 8), .ref (A 9), .int (jI len), .int (jI at_), .int (jI wr), .int (jI fa), .ref (A 10), .int (jI om), .ref (A 11), .int (jI lm)])) (zt2 (0 ≤ dp ∧ dp ≤ 1) (rf (2 * dp) ≠ 0)) (fun z hz => ?_) (fun J2 => ?_)
    · subst hz
      refine pX3_49 rfl dX3_reason_45 js_up_s (Nat.le_of_ble_eq_true rfl) rfl rfl ?_
      rw [js_up_up]
      show js_ok ρ mX3_reason _ 2 0 0 48 [(0, .ref (A 0)), (1, .int (jI dp)), (2, .int (jI dt))] [] (js_up h (A 0) (js_ob true 2 [.ref (A 1), .ref (A 2), .ref (A 3), .ref (A 4), .int (jI isS), .ref (A 5), .int (jI pm), .int (jI (zt2 (0 ≤ dp ∧ dp ≤ 1) (rf (2 * dp) ≠ 0))), .ref (A 6), .ref (A 7), .ref (A 8), .ref (A 9), .int (jI len), .int (jI at_), .int (jI wr), .int (jI fa), .ref (A 10), .int (jI om), .ref (A 11), .int (jI lm)]))
      refine js_aload_n 0 dX3_reason_48 rfl ?_
      refine gX3_49 rfl dX3_reason_49 js_up_s rfl ?_
      refine js_if_le (tgt := 59) dX3_reason_52 (by decide) (by omega) (fun c3 => ?_) (fun c3 => ?_)
      · refine js_aload_n 0 dX3_reason_59 rfl ?_
        refine gX3_25 rfl dX3_reason_60 js_up_s rfl ?_
        refine js_iconst dX3_reason_63 ?_
        refine js_iload_n 1 dX3_reason_64 rfl ?_
        refine js_imul dX3_reason_65 ?_
        refine js_join 75 [(0, .ref (A 0)), (1, .int (jI dp)), (2, .int (jI dt))] [.int (jI (2 * dp)), .ref (A 6)] (js_up h (A 0) (js_ob true 2 [.ref (A 1), .ref (A 2), .ref (A 3), .ref (A 4), .int (jI isS), .ref (A 5), .int (jI pm), .int (jI (zt2 (0 ≤ dp ∧ dp ≤ 1) (rf (2 * dp) ≠ 0))), .ref (A 6), .ref (A 7), .ref (A 8), .ref (A 9), .int (jI len), .int (jI at_), .int (jI wr), .int (jI fa), .ref (A 10), .int (jI om), .ref (A 11), .int (jI lm)])) (if dt = 0 then 0 else 1) (fun z hz => ?_) (fun J4 => ?_)
        · subst hz
          refine js_iadd dX3_reason_75 ?_
          have hw : (if dt = 0 then (0 : Int) else 1) = 0 ∨ (if dt = 0 then (0 : Int) else 1) = 1 := by split <;> simp
          refine js_iaload dX3_reason_76 ((js_up_n (Ne.symm (js_nek p0 p6 js_kOA))).trans p6) (by omega) ?_
          exact js_iret rfl rfl dX3_reason_77 ⟨js_reti (by first | (rw [zv_p (by omega)]) | (rw [zv_n (by omega)])), (zH_eq hA js_up_s ((js_up_n (Ne.symm (js_nek p0 p1 js_kOA))).trans p1) ((js_up_n (Ne.symm (js_nek p0 p2 js_kOA))).trans p2) ((js_up_n (Ne.symm (js_nek p0 p3 js_kOA))).trans p3) ((js_up_n (Ne.symm (js_nek p0 p4 js_kOA))).trans p4) ((js_up_n (Ne.symm (js_nek p0 p5 js_kOA))).trans p5) ((js_up_n (Ne.symm (js_nek p0 p6 js_kOA))).trans p6) ((js_up_n (Ne.symm (js_nek p0 p7 js_kOA))).trans p7) ((js_up_n (Ne.symm (js_nek p0 p8 js_kOA))).trans p8) ((js_up_n (Ne.symm (js_nek p0 p9 js_kOA))).trans p9) ((js_up_n (Ne.symm (js_nek p0 p10 js_kOA))).trans p10) ((js_up_n (Ne.symm (js_nek p0 p11 js_kOA))).trans p11) (fun q hq => ((js_up_n (hq 0 (by decide))).trans rfl)))⟩
        · refine js_iload_n 2 dX3_reason_66 rfl ?_
          refine js_if_eq (tgt := 74) dX3_reason_67 (by decide) (by omega) (fun c5 => ?_) (fun c5 => ?_)
          · refine js_iconst dX3_reason_74 ?_
            exact J4 _ (by (repeat' split) <;> omega)
          · refine js_iconst dX3_reason_70 ?_
            refine js_goto (tgt := 75) dX3_reason_71 (by decide) ?_
            exact J4 _ (by (repeat' split) <;> omega)
      · refine js_iconst dX3_reason_55 ?_
        refine js_goto (tgt := 77) dX3_reason_56 (by decide) ?_
        exact js_iret rfl rfl dX3_reason_77 ⟨js_reti (by first | (rw [zv_p (by omega)]) | (rw [zv_n (by omega)])), (zH_eq hA js_up_s ((js_up_n (Ne.symm (js_nek p0 p1 js_kOA))).trans p1) ((js_up_n (Ne.symm (js_nek p0 p2 js_kOA))).trans p2) ((js_up_n (Ne.symm (js_nek p0 p3 js_kOA))).trans p3) ((js_up_n (Ne.symm (js_nek p0 p4 js_kOA))).trans p4) ((js_up_n (Ne.symm (js_nek p0 p5 js_kOA))).trans p5) ((js_up_n (Ne.symm (js_nek p0 p6 js_kOA))).trans p6) ((js_up_n (Ne.symm (js_nek p0 p7 js_kOA))).trans p7) ((js_up_n (Ne.symm (js_nek p0 p8 js_kOA))).trans p8) ((js_up_n (Ne.symm (js_nek p0 p9 js_kOA))).trans p9) ((js_up_n (Ne.symm (js_nek p0 p10 js_kOA))).trans p10) ((js_up_n (Ne.symm (js_nek p0 p11 js_kOA))).trans p11) (fun q hq => ((js_up_n (hq 0 (by decide))).trans rfl)))⟩
    · refine js_aload_n 0 dX3_reason_19 rfl ?_
      refine gX3_49 rfl dX3_reason_20 js_up_s rfl ?_
      refine js_if_ne (tgt := 41) dX3_reason_23 (by decide) (by omega) (fun c6 => ?_) (fun c6 => ?_)
      · refine js_aload_n 0 dX3_reason_41 rfl ?_
        refine gX3_49 rfl dX3_reason_42 js_up_s rfl ?_
        exact J2 _ (by first | (rcases z0 with z | z | z <;> omega) | omega)
      · have hq := hr (2 * dp) (by omega) (by omega)
        refine js_aload_n 0 dX3_reason_26 rfl ?_
        refine gX3_25 rfl dX3_reason_27 js_up_s rfl ?_
        refine js_iconst dX3_reason_30 ?_
        refine js_iload_n 1 dX3_reason_31 rfl ?_
        refine js_imul dX3_reason_32 ?_
        refine js_iaload dX3_reason_33 ((js_up_n (js_nek p6 p0 js_kAO)).trans p6) (by omega) ?_
        refine js_if_ne (tgt := 41) dX3_reason_34 (by decide) (by omega) (fun c7 => ?_) (fun c7 => ?_)
        · refine js_aload_n 0 dX3_reason_41 rfl ?_
          refine gX3_49 rfl dX3_reason_42 js_up_s rfl ?_
          exact J2 _ (by first | (rcases z0 with z | z | z <;> omega) | omega)
        · refine js_iconst dX3_reason_37 ?_
          refine js_goto (tgt := 45) dX3_reason_38 (by decide) ?_
          exact J2 _ (by first | (rcases z0 with z | z | z <;> omega) | omega)
  · refine js_iload_n 1 dX3_reason_1 rfl ?_
    refine js_iconst dX3_reason_2 ?_
    refine js_iconst dX3_reason_3 ?_
    refine eX3_61 rfl dX3_reason_4 (com_in (by omega) (by omega) (by omega)) (Nat.le_of_ble_eq_true rfl) (Nat.le_of_ble_eq_true rfl) ?_
    refine js_if_neB (tgt := 14) dX3_reason_7 (by decide) (fun c8 => ?_) (fun c8 => ?_)
    · refine js_iconst dX3_reason_14 ?_
      exact J1 _ (by omega)
    · refine js_iconst dX3_reason_10 ?_
      refine js_goto (tgt := 15) dX3_reason_11 (by decide) ?_
      exact J1 _ (by omega)
theorem pm_append {ρ : js_R} {h : js_H} {A : Nat → Nat} {f bef asd svd pas rf it wt tx od ln : Int → Int} {isS pm th len at_ wr fa om lm : Int} {c : Int} (hA : zA A) (hp : zMc A f bef asd svd pas rf it wt tx od ln isS pm th len at_ wr fa om lm h) (rc : 0 ≤ c ∧ c < 65536) (hl : 0 ≤ len ∧ len ≤ 60) : js_Con ρ mX3_append 2 0 0 [.ref (A 0), .int (jI c)] h (js_ret (some (.int (jI (zv (zt2 (32 ≤ c ∧ c ≤ 126) (len ≠ 60)) (len + 1))))) (zH A f bef asd svd pas rf it wt (zif (zt2 (32 ≤ c ∧ c ≤ 126) (len ≠ 60)) tx (js_uz tx len c)) od ln isS pm (zt2 (32 ≤ c ∧ c ≤ 126) (len ≠ 60)) (zif (zt2 (32 ≤ c ∧ c ≤ 126) (len ≠ 60)) len (len + 1)) at_ wr fa om lm h)) := by
  refine js_body [(0, .ref (A 0)), (1, .int (jI c))] rfl (by decide) (Nat.le_of_ble_eq_true rfl) rfl ?_
  obtain ⟨p0, p1, p2, p3, p4, p5, p6, p7, p8, p9, p10, p11⟩ := hp
  have z0 := zt2_c (32 ≤ c ∧ c ≤ 126) (len ≠ 60)
  refine js_aload_n 0 dX3_append_0 rfl ?_
  refine js_join 30 [(0, .ref (A 0)), (1, .int (jI c))] [.ref (A 0)] h (zt2 (32 ≤ c ∧ c ≤ 126) (len ≠ 60)) (fun z hz => ?_) (fun J1 => ?_)
  · subst hz
    refine pX3_49 rfl dX3_append_30 p0 (Nat.le_of_ble_eq_true rfl) rfl rfl ?_
    show js_ok ρ mX3_append _ 2 0 0 33 [(0, .ref (A 0)), (1, .int (jI c))] [] (js_up h (A 0) (js_ob true 2 [.ref (A 1), .ref (A 2), .ref (A 3), .ref (A 4), .int (jI isS), .ref (A 5), .int (jI pm), .int (jI (zt2 (32 ≤ c ∧ c ≤ 126) (len ≠ 60))), .ref (A 6), .ref (A 7), .ref (A 8), .ref (A 9), .int (jI len), .int (jI at_), .int (jI wr), .int (jI fa), .ref (A 10), .int (jI om), .ref (A 11), .int (jI lm)]))
    refine js_aload_n 0 dX3_append_33 rfl ?_
    refine gX3_49 rfl dX3_append_34 js_up_s rfl ?_
    refine js_if_le (tgt := 42) dX3_append_37 (by decide) (by omega) (fun c2 => ?_) (fun c2 => ?_)
    · refine js_aload_n 0 dX3_append_42 rfl ?_
      refine gX3_35 rfl dX3_append_43 js_up_s rfl ?_
      refine js_aload_n 0 dX3_append_46 rfl ?_
      refine gX3_210 rfl dX3_append_47 js_up_s rfl ?_
      refine js_iload_n 1 dX3_append_50 rfl ?_
      refine js_castore dX3_append_51 ((js_up_n (js_nek p9 p0 js_kAO)).trans p9) (by omega) (by omega) ?_
      show js_ok ρ mX3_append _ 2 0 0 52 [(0, .ref (A 0)), (1, .int (jI c))] [] (js_up (js_up h (A 0) (js_ob true 2 [.ref (A 1), .ref (A 2), .ref (A 3), .ref (A 4), .int (jI isS), .ref (A 5), .int (jI pm), .int (jI (zt2 (32 ≤ c ∧ c ≤ 126) (len ≠ 60))), .ref (A 6), .ref (A 7), .ref (A 8), .ref (A 9), .int (jI len), .int (jI at_), .int (jI wr), .int (jI fa), .ref (A 10), .int (jI om), .ref (A 11), .int (jI lm)])) (A 9) (js_aI true 3 60 (js_uz tx len c)))
      refine js_aload_n 0 dX3_append_52 rfl ?_
      refine js_dup dX3_append_53 rfl ?_
      refine gX3_210 rfl dX3_append_54 ((js_up_n (js_nek p0 p9 js_kOA)).trans js_up_s) rfl ?_
      refine js_iconst dX3_append_57 ?_
      refine js_iadd dX3_append_58 ?_
      refine pX3_210 rfl dX3_append_59 ((js_up_n (js_nek p0 p9 js_kOA)).trans js_up_s) (Nat.le_of_ble_eq_true rfl) rfl rfl ?_
      show js_ok ρ mX3_append _ 2 0 0 62 [(0, .ref (A 0)), (1, .int (jI c))] [] (js_up (js_up (js_up h (A 0) (js_ob true 2 [.ref (A 1), .ref (A 2), .ref (A 3), .ref (A 4), .int (jI isS), .ref (A 5), .int (jI pm), .int (jI (zt2 (32 ≤ c ∧ c ≤ 126) (len ≠ 60))), .ref (A 6), .ref (A 7), .ref (A 8), .ref (A 9), .int (jI len), .int (jI at_), .int (jI wr), .int (jI fa), .ref (A 10), .int (jI om), .ref (A 11), .int (jI lm)])) (A 9) (js_aI true 3 60 (js_uz tx len c))) (A 0) (js_ob true 2 [.ref (A 1), .ref (A 2), .ref (A 3), .ref (A 4), .int (jI isS), .ref (A 5), .int (jI pm), .int (jI (zt2 (32 ≤ c ∧ c ≤ 126) (len ≠ 60))), .ref (A 6), .ref (A 7), .ref (A 8), .ref (A 9), .int (jI (len + 1)), .int (jI at_), .int (jI wr), .int (jI fa), .ref (A 10), .int (jI om), .ref (A 11), .int (jI lm)]))
      refine js_aload_n 0 dX3_append_62 rfl ?_
      refine gX3_210 rfl dX3_append_63 js_up_s rfl ?_
      exact js_iret rfl rfl dX3_append_66 ⟨js_reti (by first | (rw [zv_p (by omega)]; done) | (rw [zv_n (by omega)]; done)), (by first | (simp only [zif_p (show 0 < (zt2 (32 ≤ c ∧ c ≤ 126) (len ≠ 60)) from by omega)]; exact (zH_eq hA js_up_s ((js_up_n (Ne.symm (js_nek p0 p1 js_kOA))).trans ((js_up_n (hA 1 9 (by decide) (by decide) (by decide))).trans ((js_up_n (js_nek p1 p0 js_kAO)).trans p1))) ((js_up_n (Ne.symm (js_nek p0 p2 js_kOA))).trans ((js_up_n (hA 2 9 (by decide) (by decide) (by decide))).trans ((js_up_n (js_nek p2 p0 js_kAO)).trans p2))) ((js_up_n (Ne.symm (js_nek p0 p3 js_kOA))).trans ((js_up_n (hA 3 9 (by decide) (by decide) (by decide))).trans ((js_up_n (js_nek p3 p0 js_kAO)).trans p3))) ((js_up_n (Ne.symm (js_nek p0 p4 js_kOA))).trans ((js_up_n (hA 4 9 (by decide) (by decide) (by decide))).trans ((js_up_n (js_nek p4 p0 js_kAO)).trans p4))) ((js_up_n (Ne.symm (js_nek p0 p5 js_kOA))).trans ((js_up_n (hA 5 9 (by decide) (by decide) (by decide))).trans ((js_up_n (js_nek p5 p0 js_kAO)).trans p5))) ((js_up_n (Ne.symm (js_nek p0 p6 js_kOA))).trans ((js_up_n (hA 6 9 (by decide) (by decide) (by decide))).trans ((js_up_n (js_nek p6 p0 js_kAO)).trans p6))) ((js_up_n (Ne.symm (js_nek p0 p7 js_kOA))).trans ((js_up_n (hA 7 9 (by decide) (by decide) (by decide))).trans ((js_up_n (js_nek p7 p0 js_kAO)).trans p7))) ((js_up_n (Ne.symm (js_nek p0 p8 js_kOA))).trans ((js_up_n (hA 8 9 (by decide) (by decide) (by decide))).trans ((js_up_n (js_nek p8 p0 js_kAO)).trans p8))) ((js_up_n (Ne.symm (js_nek p0 p9 js_kOA))).trans js_up_s) ((js_up_n (Ne.symm (js_nek p0 p10 js_kOA))).trans ((js_up_n (Ne.symm (hA 9 10 (by decide) (by decide) (by decide)))).trans ((js_up_n (js_nek p10 p0 js_kAO)).trans p10))) ((js_up_n (Ne.symm (js_nek p0 p11 js_kOA))).trans ((js_up_n (Ne.symm (hA 9 11 (by decide) (by decide) (by decide)))).trans ((js_up_n (js_nek p11 p0 js_kAO)).trans p11))) (fun q hq => ((js_up_n (hq 0 (by decide))).trans ((js_up_n (hq 9 (by decide))).trans ((js_up_n (hq 0 (by decide))).trans rfl)))))) | (simp only [zif_n (show ¬ 0 < (zt2 (32 ≤ c ∧ c ≤ 126) (len ≠ 60)) from by omega)]; exact (zH_eq hA js_up_s ((js_up_n (Ne.symm (js_nek p0 p1 js_kOA))).trans ((js_up_n (hA 1 9 (by decide) (by decide) (by decide))).trans ((js_up_n (js_nek p1 p0 js_kAO)).trans p1))) ((js_up_n (Ne.symm (js_nek p0 p2 js_kOA))).trans ((js_up_n (hA 2 9 (by decide) (by decide) (by decide))).trans ((js_up_n (js_nek p2 p0 js_kAO)).trans p2))) ((js_up_n (Ne.symm (js_nek p0 p3 js_kOA))).trans ((js_up_n (hA 3 9 (by decide) (by decide) (by decide))).trans ((js_up_n (js_nek p3 p0 js_kAO)).trans p3))) ((js_up_n (Ne.symm (js_nek p0 p4 js_kOA))).trans ((js_up_n (hA 4 9 (by decide) (by decide) (by decide))).trans ((js_up_n (js_nek p4 p0 js_kAO)).trans p4))) ((js_up_n (Ne.symm (js_nek p0 p5 js_kOA))).trans ((js_up_n (hA 5 9 (by decide) (by decide) (by decide))).trans ((js_up_n (js_nek p5 p0 js_kAO)).trans p5))) ((js_up_n (Ne.symm (js_nek p0 p6 js_kOA))).trans ((js_up_n (hA 6 9 (by decide) (by decide) (by decide))).trans ((js_up_n (js_nek p6 p0 js_kAO)).trans p6))) ((js_up_n (Ne.symm (js_nek p0 p7 js_kOA))).trans ((js_up_n (hA 7 9 (by decide) (by decide) (by decide))).trans ((js_up_n (js_nek p7 p0 js_kAO)).trans p7))) ((js_up_n (Ne.symm (js_nek p0 p8 js_kOA))).trans ((js_up_n (hA 8 9 (by decide) (by decide) (by decide))).trans ((js_up_n (js_nek p8 p0 js_kAO)).trans p8))) ((js_up_n (Ne.symm (js_nek p0 p9 js_kOA))).trans js_up_s) ((js_up_n (Ne.symm (js_nek p0 p10 js_kOA))).trans ((js_up_n (Ne.symm (hA 9 10 (by decide) (by decide) (by decide)))).trans ((js_up_n (js_nek p10 p0 js_kAO)).trans p10))) ((js_up_n (Ne.symm (js_nek p0 p11 js_kOA))).trans ((js_up_n (Ne.symm (hA 9 11 (by decide) (by decide) (by decide)))).trans ((js_up_n (js_nek p11 p0 js_kAO)).trans p11))) (fun q hq => ((js_up_n (hq 0 (by decide))).trans ((js_up_n (hq 9 (by decide))).trans ((js_up_n (hq 0 (by decide))).trans rfl)))))))⟩
    · refine js_iconst dX3_append_40 ?_
      exact js_iret rfl rfl dX3_append_41 ⟨js_reti (by first | (rw [zv_p (by omega)]; done) | (rw [zv_n (by omega)]; done)), (by first | (simp only [zif_p (show 0 < (zt2 (32 ≤ c ∧ c ≤ 126) (len ≠ 60)) from by omega)]; exact (zH_eq hA js_up_s ((js_up_n (js_nek p1 p0 js_kAO)).trans p1) ((js_up_n (js_nek p2 p0 js_kAO)).trans p2) ((js_up_n (js_nek p3 p0 js_kAO)).trans p3) ((js_up_n (js_nek p4 p0 js_kAO)).trans p4) ((js_up_n (js_nek p5 p0 js_kAO)).trans p5) ((js_up_n (js_nek p6 p0 js_kAO)).trans p6) ((js_up_n (js_nek p7 p0 js_kAO)).trans p7) ((js_up_n (js_nek p8 p0 js_kAO)).trans p8) ((js_up_n (js_nek p9 p0 js_kAO)).trans p9) ((js_up_n (js_nek p10 p0 js_kAO)).trans p10) ((js_up_n (js_nek p11 p0 js_kAO)).trans p11) (fun q hq => ((js_up_n (hq 0 (by decide))).trans rfl)))) | (simp only [zif_n (show ¬ 0 < (zt2 (32 ≤ c ∧ c ≤ 126) (len ≠ 60)) from by omega)]; exact (zH_eq hA js_up_s ((js_up_n (js_nek p1 p0 js_kAO)).trans p1) ((js_up_n (js_nek p2 p0 js_kAO)).trans p2) ((js_up_n (js_nek p3 p0 js_kAO)).trans p3) ((js_up_n (js_nek p4 p0 js_kAO)).trans p4) ((js_up_n (js_nek p5 p0 js_kAO)).trans p5) ((js_up_n (js_nek p6 p0 js_kAO)).trans p6) ((js_up_n (js_nek p7 p0 js_kAO)).trans p7) ((js_up_n (js_nek p8 p0 js_kAO)).trans p8) ((js_up_n (js_nek p9 p0 js_kAO)).trans p9) ((js_up_n (js_nek p10 p0 js_kAO)).trans p10) ((js_up_n (js_nek p11 p0 js_kAO)).trans p11) (fun q hq => ((js_up_n (hq 0 (by decide))).trans rfl)))))⟩
  · refine js_iload_n 1 dX3_append_1 rfl ?_
    refine js_bipush dX3_append_2 rfl ?_
    refine js_bipush dX3_append_4 rfl ?_
    refine eX3_61 rfl dX3_append_6 (com_in (by omega) (by omega) (by omega)) (Nat.le_of_ble_eq_true rfl) (Nat.le_of_ble_eq_true rfl) ?_
    refine js_if_neB (tgt := 16) dX3_append_9 (by decide) (fun c3 => ?_) (fun c3 => ?_)
    · refine js_aload_n 0 dX3_append_16 rfl ?_
      refine gX3_210 rfl dX3_append_17 p0 rfl ?_
      refine js_bipush dX3_append_20 rfl ?_
      refine js_icmp_ne (tgt := 29) dX3_append_22 (by decide) (by omega) (fun c4 => ?_) (fun c4 => ?_)
      · refine js_iconst dX3_append_29 ?_
        exact J1 _ (by omega)
      · refine js_iconst dX3_append_25 ?_
        refine js_goto (tgt := 30) dX3_append_26 (by decide) ?_
        exact J1 _ (by omega)
    · refine js_iconst dX3_append_12 ?_
      refine js_goto (tgt := 30) dX3_append_13 (by decide) ?_
      exact J1 _ (by omega)
theorem pm_character {ρ : js_R} {h : js_H} {A : Nat → Nat} {f bef asd svd pas rf it wt tx od ln : Int → Int} {isS pm th len at_ wr fa om lm : Int} {ix : Int} (hA : zA A) (hp : zMc A f bef asd svd pas rf it wt tx od ln isS pm th len at_ wr fa om lm h) (hl : ∀ j : Int, 0 ≤ j → j < 40 → 0 ≤ ln j ∧ ln j < 65536) (hlm : 0 ≤ lm ∧ lm ≤ 40) (rix : -2147483648 ≤ ix ∧ ix < 2147483648) : js_Con ρ mX3_character 2 0 0 [.ref (A 0), .int (jI ix)] h (js_ret (some (.int (jI (if 0 < zt1 (0 ≤ ix ∧ ix ≤ lm - 1) then 32 else ln ix)))) (zH A f bef asd svd pas rf it wt tx od ln isS pm (zt1 (0 ≤ ix ∧ ix ≤ lm - 1)) len at_ wr fa om lm h)) := by
  refine js_body [(0, .ref (A 0)), (1, .int (jI ix))] rfl (by decide) (Nat.le_of_ble_eq_true rfl) rfl ?_
  obtain ⟨p0, p1, p2, p3, p4, p5, p6, p7, p8, p9, p10, p11⟩ := hp
  have z0 := zt1_c (0 ≤ ix ∧ ix ≤ lm - 1)
  refine js_aload_n 0 dX3_character_0 rfl ?_
  refine js_join 20 [(0, .ref (A 0)), (1, .int (jI ix))] [.ref (A 0)] h (zt1 (0 ≤ ix ∧ ix ≤ lm - 1)) (fun z hz => ?_) (fun J1 => ?_)
  · subst hz
    refine pX3_49 rfl dX3_character_20 p0 (Nat.le_of_ble_eq_true rfl) rfl rfl ?_
    show js_ok ρ mX3_character _ 2 0 0 23 [(0, .ref (A 0)), (1, .int (jI ix))] [] (js_up h (A 0) (js_ob true 2 [.ref (A 1), .ref (A 2), .ref (A 3), .ref (A 4), .int (jI isS), .ref (A 5), .int (jI pm), .int (jI (zt1 (0 ≤ ix ∧ ix ≤ lm - 1))), .ref (A 6), .ref (A 7), .ref (A 8), .ref (A 9), .int (jI len), .int (jI at_), .int (jI wr), .int (jI fa), .ref (A 10), .int (jI om), .ref (A 11), .int (jI lm)]))
    refine js_aload_n 0 dX3_character_23 rfl ?_
    refine gX3_49 rfl dX3_character_24 js_up_s rfl ?_
    refine js_if_le (tgt := 35) dX3_character_27 (by decide) (by omega) (fun c2 => ?_) (fun c2 => ?_)
    · have hq := hl ix (by omega) (by omega)
      refine js_aload_n 0 dX3_character_35 rfl ?_
      refine gX3_46 rfl dX3_character_36 js_up_s rfl ?_
      refine js_iload_n 1 dX3_character_39 rfl ?_
      refine js_caload dX3_character_40 ((js_up_n (js_nek p11 p0 js_kAO)).trans p11) (by omega) ?_
      exact js_iret rfl (js_nar_char (by omega)) dX3_character_41 ⟨js_reti (by first | (rw [if_pos (by omega)]; done) | (rw [if_neg (by omega)]; done)), (zH_eq hA js_up_s ((js_up_n (js_nek p1 p0 js_kAO)).trans p1) ((js_up_n (js_nek p2 p0 js_kAO)).trans p2) ((js_up_n (js_nek p3 p0 js_kAO)).trans p3) ((js_up_n (js_nek p4 p0 js_kAO)).trans p4) ((js_up_n (js_nek p5 p0 js_kAO)).trans p5) ((js_up_n (js_nek p6 p0 js_kAO)).trans p6) ((js_up_n (js_nek p7 p0 js_kAO)).trans p7) ((js_up_n (js_nek p8 p0 js_kAO)).trans p8) ((js_up_n (js_nek p9 p0 js_kAO)).trans p9) ((js_up_n (js_nek p10 p0 js_kAO)).trans p10) ((js_up_n (js_nek p11 p0 js_kAO)).trans p11) (fun q hq => ((js_up_n (hq 0 (by decide))).trans rfl)))⟩
    · refine js_bipush dX3_character_30 rfl ?_
      refine js_goto (tgt := 41) dX3_character_32 (by decide) ?_
      exact js_iret rfl (js_nar_char (by omega)) dX3_character_41 ⟨js_reti (by first | (rw [if_pos (by omega)]; done) | (rw [if_neg (by omega)]; done)), (zH_eq hA js_up_s ((js_up_n (js_nek p1 p0 js_kAO)).trans p1) ((js_up_n (js_nek p2 p0 js_kAO)).trans p2) ((js_up_n (js_nek p3 p0 js_kAO)).trans p3) ((js_up_n (js_nek p4 p0 js_kAO)).trans p4) ((js_up_n (js_nek p5 p0 js_kAO)).trans p5) ((js_up_n (js_nek p6 p0 js_kAO)).trans p6) ((js_up_n (js_nek p7 p0 js_kAO)).trans p7) ((js_up_n (js_nek p8 p0 js_kAO)).trans p8) ((js_up_n (js_nek p9 p0 js_kAO)).trans p9) ((js_up_n (js_nek p10 p0 js_kAO)).trans p10) ((js_up_n (js_nek p11 p0 js_kAO)).trans p11) (fun q hq => ((js_up_n (hq 0 (by decide))).trans rfl)))⟩
  · refine js_iload_n 1 dX3_character_1 rfl ?_
    refine js_iconst dX3_character_2 ?_
    refine js_aload_n 0 dX3_character_3 rfl ?_
    refine gX3_302 rfl dX3_character_4 p0 rfl ?_
    refine js_iconst dX3_character_7 ?_
    refine js_isub dX3_character_8 ?_
    refine eX3_61 rfl dX3_character_9 (com_in (by omega) (by omega) (by omega)) (Nat.le_of_ble_eq_true rfl) (Nat.le_of_ble_eq_true rfl) ?_
    refine js_if_eqB (tgt := 19) dX3_character_12 (by decide) (fun c3 => ?_) (fun c3 => ?_)
    · refine js_iconst dX3_character_19 ?_
      exact J1 _ (by omega)
    · refine js_iconst dX3_character_15 ?_
      refine js_goto (tgt := 20) dX3_character_16 (by decide) ?_
      exact J1 _ (by omega)
theorem pm_undo {ρ : js_R} {h : js_H} {A : Nat → Nat} {f bef asd svd pas rf it wt tx od ln : Int → Int} {isS pm th len at_ wr fa om lm : Int}  (hA : zA A) (hp : zMc A f bef asd svd pas rf it wt tx od ln isS pm th len at_ wr fa om lm h) (hpm : 0 ≤ pm ∧ pm ≤ 8) : js_Con ρ mX3_undo 2 0 0 [.ref (A 0)] h (js_ret (some (.int (jI (zv (zt1 (pm ≠ 0)) (pm - 1))))) (zH A (zif (zt1 (pm ≠ 0)) f (zrow pas (pm - 1))) bef asd svd pas rf it wt tx od ln isS (zif (zt1 (pm ≠ 0)) pm (pm - 1)) (zt1 (pm ≠ 0)) len at_ wr fa om lm h)) := by
  refine js_body [(0, .ref (A 0))] rfl (by decide) (Nat.le_of_ble_eq_true rfl) rfl ?_
  obtain ⟨p0, p1, p2, p3, p4, p5, p6, p7, p8, p9, p10, p11⟩ := hp
  have z0 := zt1_c (pm ≠ 0)
  refine js_aload_n 0 dX3_undo_0 rfl ?_
  refine js_join 13 [(0, .ref (A 0))] [.ref (A 0)] h (zt1 (pm ≠ 0)) (fun z hz => ?_) (fun J1 => ?_)
  · subst hz
    refine pX3_49 rfl dX3_undo_13 p0 (Nat.le_of_ble_eq_true rfl) rfl rfl ?_
    show js_ok ρ mX3_undo _ 2 0 0 16 [(0, .ref (A 0))] [] (js_up h (A 0) (js_ob true 2 [.ref (A 1), .ref (A 2), .ref (A 3), .ref (A 4), .int (jI isS), .ref (A 5), .int (jI pm), .int (jI (zt1 (pm ≠ 0))), .ref (A 6), .ref (A 7), .ref (A 8), .ref (A 9), .int (jI len), .int (jI at_), .int (jI wr), .int (jI fa), .ref (A 10), .int (jI om), .ref (A 11), .int (jI lm)]))
    refine js_aload_n 0 dX3_undo_16 rfl ?_
    refine gX3_49 rfl dX3_undo_17 js_up_s rfl ?_
    refine js_if_le (tgt := 25) dX3_undo_20 (by decide) (by omega) (fun c2 => ?_) (fun c2 => ?_)
    · refine js_aload_n 0 dX3_undo_25 rfl ?_
      refine js_dup dX3_undo_26 rfl ?_
      refine gX3_58 rfl dX3_undo_27 js_up_s rfl ?_
      refine js_iconst dX3_undo_30 ?_
      refine js_isub dX3_undo_31 ?_
      refine pX3_58 rfl dX3_undo_32 js_up_s (Nat.le_of_ble_eq_true rfl) rfl rfl ?_
      rw [js_up_up]
      show js_ok ρ mX3_undo _ 2 0 0 35 [(0, .ref (A 0))] [] (js_up h (A 0) (js_ob true 2 [.ref (A 1), .ref (A 2), .ref (A 3), .ref (A 4), .int (jI isS), .ref (A 5), .int (jI (pm - 1)), .int (jI (zt1 (pm ≠ 0))), .ref (A 6), .ref (A 7), .ref (A 8), .ref (A 9), .int (jI len), .int (jI at_), .int (jI wr), .int (jI fa), .ref (A 10), .int (jI om), .ref (A 11), .int (jI lm)]))
      refine js_aload_n 0 dX3_undo_35 rfl ?_
      refine gX3_22 rfl dX3_undo_36 js_up_s rfl ?_
      refine js_sipush dX3_undo_39 rfl ?_
      refine js_aload_n 0 dX3_undo_42 rfl ?_
      refine gX3_58 rfl dX3_undo_43 js_up_s rfl ?_
      refine js_imul dX3_undo_46 ?_
      refine js_aload_n 0 dX3_undo_47 rfl ?_
      refine gX3_9 rfl dX3_undo_48 js_up_s rfl ?_
      refine js_iconst dX3_undo_51 ?_
      refine js_sipush dX3_undo_52 rfl ?_
      refine js_copyI (by decide) q2328 dX3_undo_55 ((js_up_n (Ne.symm (js_nek p0 p5 js_kOA))).trans p5) ((js_up_n (Ne.symm (js_nek p0 p1 js_kOA))).trans p1) (by omega) (Nat.le_of_ble_eq_true rfl) (Nat.le_of_ble_eq_true rfl) (fun _ _ _ => rfl) ?_
      show js_ok ρ mX3_undo _ 2 0 0 58 [(0, .ref (A 0))] [] (js_up (js_up h (A 0) (js_ob true 2 [.ref (A 1), .ref (A 2), .ref (A 3), .ref (A 4), .int (jI isS), .ref (A 5), .int (jI (pm - 1)), .int (jI (zt1 (pm ≠ 0))), .ref (A 6), .ref (A 7), .ref (A 8), .ref (A 9), .int (jI len), .int (jI at_), .int (jI wr), .int (jI fa), .ref (A 10), .int (jI om), .ref (A 11), .int (jI lm)])) (A 1) (js_aI true 0 287 (js_cp pas f (287 * (pm - 1)) 0 287)))
      refine js_norm (g' := zrow pas (pm - 1)) js_up_s (fun j j1 j2 => (by unfold zrow js_cp; rw [if_pos (by omega)]; congr 1; omega)) ?_
      rw [js_up_up]
      show js_ok ρ mX3_undo _ 2 0 0 58 [(0, .ref (A 0))] [] (js_up (js_up h (A 0) (js_ob true 2 [.ref (A 1), .ref (A 2), .ref (A 3), .ref (A 4), .int (jI isS), .ref (A 5), .int (jI (pm - 1)), .int (jI (zt1 (pm ≠ 0))), .ref (A 6), .ref (A 7), .ref (A 8), .ref (A 9), .int (jI len), .int (jI at_), .int (jI wr), .int (jI fa), .ref (A 10), .int (jI om), .ref (A 11), .int (jI lm)])) (A 1) (js_aI true 0 287 (zrow pas (pm - 1))))
      refine js_aload_n 0 dX3_undo_58 rfl ?_
      refine gX3_58 rfl dX3_undo_59 ((js_up_n (js_nek p0 p1 js_kOA)).trans js_up_s) rfl ?_
      exact js_iret rfl rfl dX3_undo_62 ⟨js_reti (by first | (rw [zv_p (by omega)]; done) | (rw [zv_n (by omega)]; done)), (by first | (simp only [zif_p (show 0 < (zt1 (pm ≠ 0)) from by omega)]; exact (zH_eq hA ((js_up_n (js_nek p0 p1 js_kOA)).trans js_up_s) js_up_s ((js_up_n (Ne.symm (hA 1 2 (by decide) (by decide) (by decide)))).trans ((js_up_n (Ne.symm (js_nek p0 p2 js_kOA))).trans p2)) ((js_up_n (Ne.symm (hA 1 3 (by decide) (by decide) (by decide)))).trans ((js_up_n (Ne.symm (js_nek p0 p3 js_kOA))).trans p3)) ((js_up_n (Ne.symm (hA 1 4 (by decide) (by decide) (by decide)))).trans ((js_up_n (Ne.symm (js_nek p0 p4 js_kOA))).trans p4)) ((js_up_n (Ne.symm (hA 1 5 (by decide) (by decide) (by decide)))).trans ((js_up_n (Ne.symm (js_nek p0 p5 js_kOA))).trans p5)) ((js_up_n (Ne.symm (hA 1 6 (by decide) (by decide) (by decide)))).trans ((js_up_n (Ne.symm (js_nek p0 p6 js_kOA))).trans p6)) ((js_up_n (Ne.symm (hA 1 7 (by decide) (by decide) (by decide)))).trans ((js_up_n (Ne.symm (js_nek p0 p7 js_kOA))).trans p7)) ((js_up_n (Ne.symm (hA 1 8 (by decide) (by decide) (by decide)))).trans ((js_up_n (Ne.symm (js_nek p0 p8 js_kOA))).trans p8)) ((js_up_n (Ne.symm (hA 1 9 (by decide) (by decide) (by decide)))).trans ((js_up_n (Ne.symm (js_nek p0 p9 js_kOA))).trans p9)) ((js_up_n (Ne.symm (hA 1 10 (by decide) (by decide) (by decide)))).trans ((js_up_n (Ne.symm (js_nek p0 p10 js_kOA))).trans p10)) ((js_up_n (Ne.symm (hA 1 11 (by decide) (by decide) (by decide)))).trans ((js_up_n (Ne.symm (js_nek p0 p11 js_kOA))).trans p11)) (fun q hq => ((js_up_n (hq 1 (by decide))).trans ((js_up_n (hq 0 (by decide))).trans rfl))))) | (simp only [zif_n (show ¬ 0 < (zt1 (pm ≠ 0)) from by omega)]; exact (zH_eq hA ((js_up_n (js_nek p0 p1 js_kOA)).trans js_up_s) js_up_s ((js_up_n (Ne.symm (hA 1 2 (by decide) (by decide) (by decide)))).trans ((js_up_n (Ne.symm (js_nek p0 p2 js_kOA))).trans p2)) ((js_up_n (Ne.symm (hA 1 3 (by decide) (by decide) (by decide)))).trans ((js_up_n (Ne.symm (js_nek p0 p3 js_kOA))).trans p3)) ((js_up_n (Ne.symm (hA 1 4 (by decide) (by decide) (by decide)))).trans ((js_up_n (Ne.symm (js_nek p0 p4 js_kOA))).trans p4)) ((js_up_n (Ne.symm (hA 1 5 (by decide) (by decide) (by decide)))).trans ((js_up_n (Ne.symm (js_nek p0 p5 js_kOA))).trans p5)) ((js_up_n (Ne.symm (hA 1 6 (by decide) (by decide) (by decide)))).trans ((js_up_n (Ne.symm (js_nek p0 p6 js_kOA))).trans p6)) ((js_up_n (Ne.symm (hA 1 7 (by decide) (by decide) (by decide)))).trans ((js_up_n (Ne.symm (js_nek p0 p7 js_kOA))).trans p7)) ((js_up_n (Ne.symm (hA 1 8 (by decide) (by decide) (by decide)))).trans ((js_up_n (Ne.symm (js_nek p0 p8 js_kOA))).trans p8)) ((js_up_n (Ne.symm (hA 1 9 (by decide) (by decide) (by decide)))).trans ((js_up_n (Ne.symm (js_nek p0 p9 js_kOA))).trans p9)) ((js_up_n (Ne.symm (hA 1 10 (by decide) (by decide) (by decide)))).trans ((js_up_n (Ne.symm (js_nek p0 p10 js_kOA))).trans p10)) ((js_up_n (Ne.symm (hA 1 11 (by decide) (by decide) (by decide)))).trans ((js_up_n (Ne.symm (js_nek p0 p11 js_kOA))).trans p11)) (fun q hq => ((js_up_n (hq 1 (by decide))).trans ((js_up_n (hq 0 (by decide))).trans rfl))))))⟩
    · refine js_iconst dX3_undo_23 ?_
      exact js_iret rfl rfl dX3_undo_24 ⟨js_reti (by first | (rw [zv_p (by omega)]; done) | (rw [zv_n (by omega)]; done)), (by first | (simp only [zif_p (show 0 < (zt1 (pm ≠ 0)) from by omega)]; exact (zH_eq hA js_up_s ((js_up_n (js_nek p1 p0 js_kAO)).trans p1) ((js_up_n (js_nek p2 p0 js_kAO)).trans p2) ((js_up_n (js_nek p3 p0 js_kAO)).trans p3) ((js_up_n (js_nek p4 p0 js_kAO)).trans p4) ((js_up_n (js_nek p5 p0 js_kAO)).trans p5) ((js_up_n (js_nek p6 p0 js_kAO)).trans p6) ((js_up_n (js_nek p7 p0 js_kAO)).trans p7) ((js_up_n (js_nek p8 p0 js_kAO)).trans p8) ((js_up_n (js_nek p9 p0 js_kAO)).trans p9) ((js_up_n (js_nek p10 p0 js_kAO)).trans p10) ((js_up_n (js_nek p11 p0 js_kAO)).trans p11) (fun q hq => ((js_up_n (hq 0 (by decide))).trans rfl)))) | (simp only [zif_n (show ¬ 0 < (zt1 (pm ≠ 0)) from by omega)]; exact (zH_eq hA js_up_s ((js_up_n (js_nek p1 p0 js_kAO)).trans p1) ((js_up_n (js_nek p2 p0 js_kAO)).trans p2) ((js_up_n (js_nek p3 p0 js_kAO)).trans p3) ((js_up_n (js_nek p4 p0 js_kAO)).trans p4) ((js_up_n (js_nek p5 p0 js_kAO)).trans p5) ((js_up_n (js_nek p6 p0 js_kAO)).trans p6) ((js_up_n (js_nek p7 p0 js_kAO)).trans p7) ((js_up_n (js_nek p8 p0 js_kAO)).trans p8) ((js_up_n (js_nek p9 p0 js_kAO)).trans p9) ((js_up_n (js_nek p10 p0 js_kAO)).trans p10) ((js_up_n (js_nek p11 p0 js_kAO)).trans p11) (fun q hq => ((js_up_n (hq 0 (by decide))).trans rfl)))))⟩
  · refine js_aload_n 0 dX3_undo_1 rfl ?_
    refine gX3_58 rfl dX3_undo_2 p0 rfl ?_
    refine js_if_ne (tgt := 12) dX3_undo_5 (by decide) (by omega) (fun c3 => ?_) (fun c3 => ?_)
    · refine js_iconst dX3_undo_12 ?_
      exact J1 _ (by omega)
    · refine js_iconst dX3_undo_8 ?_
      refine js_goto (tgt := 13) dX3_undo_9 (by decide) ?_
      exact J1 _ (by omega)
theorem pm_save {ρ : js_R} {h : js_H} {A : Nat → Nat} {f bef asd svd pas rf it wt tx od ln : Int → Int} {isS pm th len at_ wr fa om lm : Int}  (hA : zA A) (hp : zMc A f bef asd svd pas rf it wt tx od ln isS pm th len at_ wr fa om lm h)  : js_Con ρ mX3_save 2 0 0 [.ref (A 0)] h (js_ret (some (.int (jI (f 0)))) (zH A f bef asd f pas rf it wt tx od ln 1 pm 0 len at_ wr fa om lm h)) := by
  refine js_body [(0, .ref (A 0))] rfl (by decide) (Nat.le_of_ble_eq_true rfl) rfl ?_
  obtain ⟨p0, p1, p2, p3, p4, p5, p6, p7, p8, p9, p10, p11⟩ := hp
  refine js_aload_n 0 dX3_save_0 rfl ?_
  refine js_iconst dX3_save_1 ?_
  refine pX3_49 rfl dX3_save_2 p0 (Nat.le_of_ble_eq_true rfl) rfl rfl ?_
  show js_ok ρ mX3_save _ 2 0 0 5 [(0, .ref (A 0))] [] (js_up h (A 0) (js_ob true 2 [.ref (A 1), .ref (A 2), .ref (A 3), .ref (A 4), .int (jI isS), .ref (A 5), .int (jI pm), .int (jI 0), .ref (A 6), .ref (A 7), .ref (A 8), .ref (A 9), .int (jI len), .int (jI at_), .int (jI wr), .int (jI fa), .ref (A 10), .int (jI om), .ref (A 11), .int (jI lm)]))
  refine js_aload_n 0 dX3_save_5 rfl ?_
  refine gX3_9 rfl dX3_save_6 js_up_s rfl ?_
  refine js_iconst dX3_save_9 ?_
  refine js_aload_n 0 dX3_save_10 rfl ?_
  refine gX3_19 rfl dX3_save_11 js_up_s rfl ?_
  refine js_iconst dX3_save_14 ?_
  refine js_sipush dX3_save_15 rfl ?_
  refine js_copyI (by decide) q2328 dX3_save_18 ((js_up_n (js_nek p1 p0 js_kAO)).trans p1) ((js_up_n (js_nek p4 p0 js_kAO)).trans p4) (by omega) (Nat.le_of_ble_eq_true rfl) (Nat.le_of_ble_eq_true rfl) (fun _ _ _ => rfl) ?_
  show js_ok ρ mX3_save _ 2 0 0 21 [(0, .ref (A 0))] [] (js_up (js_up h (A 0) (js_ob true 2 [.ref (A 1), .ref (A 2), .ref (A 3), .ref (A 4), .int (jI isS), .ref (A 5), .int (jI pm), .int (jI 0), .ref (A 6), .ref (A 7), .ref (A 8), .ref (A 9), .int (jI len), .int (jI at_), .int (jI wr), .int (jI fa), .ref (A 10), .int (jI om), .ref (A 11), .int (jI lm)])) (A 4) (js_aI true 0 287 (js_cp f svd 0 0 287)))
  refine js_norm (g' := f) js_up_s (fun j j1 j2 => (by rw [show js_cp f svd 0 0 287 j = f (0 + (j - 0)) from if_pos (by omega)]; congr 1; omega)) ?_
  rw [js_up_up]
  show js_ok ρ mX3_save _ 2 0 0 21 [(0, .ref (A 0))] [] (js_up (js_up h (A 0) (js_ob true 2 [.ref (A 1), .ref (A 2), .ref (A 3), .ref (A 4), .int (jI isS), .ref (A 5), .int (jI pm), .int (jI 0), .ref (A 6), .ref (A 7), .ref (A 8), .ref (A 9), .int (jI len), .int (jI at_), .int (jI wr), .int (jI fa), .ref (A 10), .int (jI om), .ref (A 11), .int (jI lm)])) (A 4) (js_aI true 0 287 f))
  refine js_aload_n 0 dX3_save_21 rfl ?_
  refine js_iconst dX3_save_22 ?_
  refine pX3_324 rfl dX3_save_23 ((js_up_n (js_nek p0 p4 js_kOA)).trans js_up_s) (Nat.le_of_ble_eq_true rfl) (js_nar_boolean (by omega)) (js_fit_boolean (by omega)) ?_
  show js_ok ρ mX3_save _ 2 0 0 26 [(0, .ref (A 0))] [] (js_up (js_up (js_up h (A 0) (js_ob true 2 [.ref (A 1), .ref (A 2), .ref (A 3), .ref (A 4), .int (jI isS), .ref (A 5), .int (jI pm), .int (jI 0), .ref (A 6), .ref (A 7), .ref (A 8), .ref (A 9), .int (jI len), .int (jI at_), .int (jI wr), .int (jI fa), .ref (A 10), .int (jI om), .ref (A 11), .int (jI lm)])) (A 4) (js_aI true 0 287 f)) (A 0) (js_ob true 2 [.ref (A 1), .ref (A 2), .ref (A 3), .ref (A 4), .int (jI 1), .ref (A 5), .int (jI pm), .int (jI 0), .ref (A 6), .ref (A 7), .ref (A 8), .ref (A 9), .int (jI len), .int (jI at_), .int (jI wr), .int (jI fa), .ref (A 10), .int (jI om), .ref (A 11), .int (jI lm)]))
  refine js_aload_n 0 dX3_save_26 rfl ?_
  refine gX3_9 rfl dX3_save_27 js_up_s rfl ?_
  refine js_iconst dX3_save_30 ?_
  refine js_iaload dX3_save_31 ((js_up_n (Ne.symm (js_nek p0 p1 js_kOA))).trans ((js_up_n (hA 1 4 (by decide) (by decide) (by decide))).trans ((js_up_n (js_nek p1 p0 js_kAO)).trans p1))) (by omega) ?_
  exact js_iret rfl rfl dX3_save_32 ⟨js_reti (by rfl), (zH_eq hA js_up_s ((js_up_n (Ne.symm (js_nek p0 p1 js_kOA))).trans ((js_up_n (hA 1 4 (by decide) (by decide) (by decide))).trans ((js_up_n (js_nek p1 p0 js_kAO)).trans p1))) ((js_up_n (Ne.symm (js_nek p0 p2 js_kOA))).trans ((js_up_n (hA 2 4 (by decide) (by decide) (by decide))).trans ((js_up_n (js_nek p2 p0 js_kAO)).trans p2))) ((js_up_n (Ne.symm (js_nek p0 p3 js_kOA))).trans ((js_up_n (hA 3 4 (by decide) (by decide) (by decide))).trans ((js_up_n (js_nek p3 p0 js_kAO)).trans p3))) ((js_up_n (Ne.symm (js_nek p0 p4 js_kOA))).trans js_up_s) ((js_up_n (Ne.symm (js_nek p0 p5 js_kOA))).trans ((js_up_n (Ne.symm (hA 4 5 (by decide) (by decide) (by decide)))).trans ((js_up_n (js_nek p5 p0 js_kAO)).trans p5))) ((js_up_n (Ne.symm (js_nek p0 p6 js_kOA))).trans ((js_up_n (Ne.symm (hA 4 6 (by decide) (by decide) (by decide)))).trans ((js_up_n (js_nek p6 p0 js_kAO)).trans p6))) ((js_up_n (Ne.symm (js_nek p0 p7 js_kOA))).trans ((js_up_n (Ne.symm (hA 4 7 (by decide) (by decide) (by decide)))).trans ((js_up_n (js_nek p7 p0 js_kAO)).trans p7))) ((js_up_n (Ne.symm (js_nek p0 p8 js_kOA))).trans ((js_up_n (Ne.symm (hA 4 8 (by decide) (by decide) (by decide)))).trans ((js_up_n (js_nek p8 p0 js_kAO)).trans p8))) ((js_up_n (Ne.symm (js_nek p0 p9 js_kOA))).trans ((js_up_n (Ne.symm (hA 4 9 (by decide) (by decide) (by decide)))).trans ((js_up_n (js_nek p9 p0 js_kAO)).trans p9))) ((js_up_n (Ne.symm (js_nek p0 p10 js_kOA))).trans ((js_up_n (Ne.symm (hA 4 10 (by decide) (by decide) (by decide)))).trans ((js_up_n (js_nek p10 p0 js_kAO)).trans p10))) ((js_up_n (Ne.symm (js_nek p0 p11 js_kOA))).trans ((js_up_n (Ne.symm (hA 4 11 (by decide) (by decide) (by decide)))).trans ((js_up_n (js_nek p11 p0 js_kAO)).trans p11))) (fun q hq => ((js_up_n (hq 0 (by decide))).trans ((js_up_n (hq 4 (by decide))).trans ((js_up_n (hq 0 (by decide))).trans rfl)))))⟩
theorem pm_restore {ρ : js_R} {h : js_H} {A : Nat → Nat} {f bef asd svd pas rf it wt tx od ln : Int → Int} {isS pm th len at_ wr fa om lm : Int}  (hA : zA A) (hp : zMc A f bef asd svd pas rf it wt tx od ln isS pm th len at_ wr fa om lm h) (his : isS = 0 ∨ isS = 1) : js_Con ρ mX3_restore 2 0 0 [.ref (A 0)] h (js_ret (some (.int (jI (zv (zt1 (isS ≠ 0)) (svd 0))))) (zH A (zif (zt1 (isS ≠ 0)) f svd) bef asd svd pas rf it wt tx od ln isS (zif (zt1 (isS ≠ 0)) pm 0) (zt1 (isS ≠ 0)) len at_ wr fa om lm h)) := by
  refine js_body [(0, .ref (A 0))] rfl (by decide) (Nat.le_of_ble_eq_true rfl) rfl ?_
  obtain ⟨p0, p1, p2, p3, p4, p5, p6, p7, p8, p9, p10, p11⟩ := hp
  have z0 := zt1_c (isS ≠ 0)
  refine js_aload_n 0 dX3_restore_0 rfl ?_
  refine js_join 13 [(0, .ref (A 0))] [.ref (A 0)] h (zt1 (isS ≠ 0)) (fun z hz => ?_) (fun J1 => ?_)
  · subst hz
    refine pX3_49 rfl dX3_restore_13 p0 (Nat.le_of_ble_eq_true rfl) rfl rfl ?_
    show js_ok ρ mX3_restore _ 2 0 0 16 [(0, .ref (A 0))] [] (js_up h (A 0) (js_ob true 2 [.ref (A 1), .ref (A 2), .ref (A 3), .ref (A 4), .int (jI isS), .ref (A 5), .int (jI pm), .int (jI (zt1 (isS ≠ 0))), .ref (A 6), .ref (A 7), .ref (A 8), .ref (A 9), .int (jI len), .int (jI at_), .int (jI wr), .int (jI fa), .ref (A 10), .int (jI om), .ref (A 11), .int (jI lm)]))
    refine js_aload_n 0 dX3_restore_16 rfl ?_
    refine gX3_49 rfl dX3_restore_17 js_up_s rfl ?_
    refine js_if_le (tgt := 25) dX3_restore_20 (by decide) (by omega) (fun c2 => ?_) (fun c2 => ?_)
    · refine js_aload_n 0 dX3_restore_25 rfl ?_
      refine gX3_19 rfl dX3_restore_26 js_up_s rfl ?_
      refine js_iconst dX3_restore_29 ?_
      refine js_aload_n 0 dX3_restore_30 rfl ?_
      refine gX3_9 rfl dX3_restore_31 js_up_s rfl ?_
      refine js_iconst dX3_restore_34 ?_
      refine js_sipush dX3_restore_35 rfl ?_
      refine js_copyI (by decide) q2328 dX3_restore_38 ((js_up_n (js_nek p4 p0 js_kAO)).trans p4) ((js_up_n (js_nek p1 p0 js_kAO)).trans p1) (by omega) (Nat.le_of_ble_eq_true rfl) (Nat.le_of_ble_eq_true rfl) (fun _ _ _ => rfl) ?_
      show js_ok ρ mX3_restore _ 2 0 0 41 [(0, .ref (A 0))] [] (js_up (js_up h (A 0) (js_ob true 2 [.ref (A 1), .ref (A 2), .ref (A 3), .ref (A 4), .int (jI isS), .ref (A 5), .int (jI pm), .int (jI (zt1 (isS ≠ 0))), .ref (A 6), .ref (A 7), .ref (A 8), .ref (A 9), .int (jI len), .int (jI at_), .int (jI wr), .int (jI fa), .ref (A 10), .int (jI om), .ref (A 11), .int (jI lm)])) (A 1) (js_aI true 0 287 (js_cp svd f 0 0 287)))
      refine js_norm (g' := svd) js_up_s (fun j j1 j2 => (by rw [show js_cp svd f 0 0 287 j = svd (0 + (j - 0)) from if_pos (by omega)]; congr 1; omega)) ?_
      rw [js_up_up]
      show js_ok ρ mX3_restore _ 2 0 0 41 [(0, .ref (A 0))] [] (js_up (js_up h (A 0) (js_ob true 2 [.ref (A 1), .ref (A 2), .ref (A 3), .ref (A 4), .int (jI isS), .ref (A 5), .int (jI pm), .int (jI (zt1 (isS ≠ 0))), .ref (A 6), .ref (A 7), .ref (A 8), .ref (A 9), .int (jI len), .int (jI at_), .int (jI wr), .int (jI fa), .ref (A 10), .int (jI om), .ref (A 11), .int (jI lm)])) (A 1) (js_aI true 0 287 svd))
      refine js_aload_n 0 dX3_restore_41 rfl ?_
      refine js_iconst dX3_restore_42 ?_
      refine pX3_58 rfl dX3_restore_43 ((js_up_n (js_nek p0 p1 js_kOA)).trans js_up_s) (Nat.le_of_ble_eq_true rfl) rfl rfl ?_
      show js_ok ρ mX3_restore _ 2 0 0 46 [(0, .ref (A 0))] [] (js_up (js_up (js_up h (A 0) (js_ob true 2 [.ref (A 1), .ref (A 2), .ref (A 3), .ref (A 4), .int (jI isS), .ref (A 5), .int (jI pm), .int (jI (zt1 (isS ≠ 0))), .ref (A 6), .ref (A 7), .ref (A 8), .ref (A 9), .int (jI len), .int (jI at_), .int (jI wr), .int (jI fa), .ref (A 10), .int (jI om), .ref (A 11), .int (jI lm)])) (A 1) (js_aI true 0 287 svd)) (A 0) (js_ob true 2 [.ref (A 1), .ref (A 2), .ref (A 3), .ref (A 4), .int (jI isS), .ref (A 5), .int (jI 0), .int (jI (zt1 (isS ≠ 0))), .ref (A 6), .ref (A 7), .ref (A 8), .ref (A 9), .int (jI len), .int (jI at_), .int (jI wr), .int (jI fa), .ref (A 10), .int (jI om), .ref (A 11), .int (jI lm)]))
      refine js_aload_n 0 dX3_restore_46 rfl ?_
      refine gX3_9 rfl dX3_restore_47 js_up_s rfl ?_
      refine js_iconst dX3_restore_50 ?_
      refine js_iaload dX3_restore_51 ((js_up_n (Ne.symm (js_nek p0 p1 js_kOA))).trans js_up_s) (by omega) ?_
      exact js_iret rfl rfl dX3_restore_52 ⟨js_reti (by first | (rw [zv_p (by omega)]; done) | (rw [zv_n (by omega)]; done)), (by first | (simp only [zif_p (show 0 < (zt1 (isS ≠ 0)) from by omega)]; exact (zH_eq hA js_up_s ((js_up_n (Ne.symm (js_nek p0 p1 js_kOA))).trans js_up_s) ((js_up_n (Ne.symm (js_nek p0 p2 js_kOA))).trans ((js_up_n (Ne.symm (hA 1 2 (by decide) (by decide) (by decide)))).trans ((js_up_n (js_nek p2 p0 js_kAO)).trans p2))) ((js_up_n (Ne.symm (js_nek p0 p3 js_kOA))).trans ((js_up_n (Ne.symm (hA 1 3 (by decide) (by decide) (by decide)))).trans ((js_up_n (js_nek p3 p0 js_kAO)).trans p3))) ((js_up_n (Ne.symm (js_nek p0 p4 js_kOA))).trans ((js_up_n (Ne.symm (hA 1 4 (by decide) (by decide) (by decide)))).trans ((js_up_n (js_nek p4 p0 js_kAO)).trans p4))) ((js_up_n (Ne.symm (js_nek p0 p5 js_kOA))).trans ((js_up_n (Ne.symm (hA 1 5 (by decide) (by decide) (by decide)))).trans ((js_up_n (js_nek p5 p0 js_kAO)).trans p5))) ((js_up_n (Ne.symm (js_nek p0 p6 js_kOA))).trans ((js_up_n (Ne.symm (hA 1 6 (by decide) (by decide) (by decide)))).trans ((js_up_n (js_nek p6 p0 js_kAO)).trans p6))) ((js_up_n (Ne.symm (js_nek p0 p7 js_kOA))).trans ((js_up_n (Ne.symm (hA 1 7 (by decide) (by decide) (by decide)))).trans ((js_up_n (js_nek p7 p0 js_kAO)).trans p7))) ((js_up_n (Ne.symm (js_nek p0 p8 js_kOA))).trans ((js_up_n (Ne.symm (hA 1 8 (by decide) (by decide) (by decide)))).trans ((js_up_n (js_nek p8 p0 js_kAO)).trans p8))) ((js_up_n (Ne.symm (js_nek p0 p9 js_kOA))).trans ((js_up_n (Ne.symm (hA 1 9 (by decide) (by decide) (by decide)))).trans ((js_up_n (js_nek p9 p0 js_kAO)).trans p9))) ((js_up_n (Ne.symm (js_nek p0 p10 js_kOA))).trans ((js_up_n (Ne.symm (hA 1 10 (by decide) (by decide) (by decide)))).trans ((js_up_n (js_nek p10 p0 js_kAO)).trans p10))) ((js_up_n (Ne.symm (js_nek p0 p11 js_kOA))).trans ((js_up_n (Ne.symm (hA 1 11 (by decide) (by decide) (by decide)))).trans ((js_up_n (js_nek p11 p0 js_kAO)).trans p11))) (fun q hq => ((js_up_n (hq 0 (by decide))).trans ((js_up_n (hq 1 (by decide))).trans ((js_up_n (hq 0 (by decide))).trans rfl)))))) | (simp only [zif_n (show ¬ 0 < (zt1 (isS ≠ 0)) from by omega)]; exact (zH_eq hA js_up_s ((js_up_n (Ne.symm (js_nek p0 p1 js_kOA))).trans js_up_s) ((js_up_n (Ne.symm (js_nek p0 p2 js_kOA))).trans ((js_up_n (Ne.symm (hA 1 2 (by decide) (by decide) (by decide)))).trans ((js_up_n (js_nek p2 p0 js_kAO)).trans p2))) ((js_up_n (Ne.symm (js_nek p0 p3 js_kOA))).trans ((js_up_n (Ne.symm (hA 1 3 (by decide) (by decide) (by decide)))).trans ((js_up_n (js_nek p3 p0 js_kAO)).trans p3))) ((js_up_n (Ne.symm (js_nek p0 p4 js_kOA))).trans ((js_up_n (Ne.symm (hA 1 4 (by decide) (by decide) (by decide)))).trans ((js_up_n (js_nek p4 p0 js_kAO)).trans p4))) ((js_up_n (Ne.symm (js_nek p0 p5 js_kOA))).trans ((js_up_n (Ne.symm (hA 1 5 (by decide) (by decide) (by decide)))).trans ((js_up_n (js_nek p5 p0 js_kAO)).trans p5))) ((js_up_n (Ne.symm (js_nek p0 p6 js_kOA))).trans ((js_up_n (Ne.symm (hA 1 6 (by decide) (by decide) (by decide)))).trans ((js_up_n (js_nek p6 p0 js_kAO)).trans p6))) ((js_up_n (Ne.symm (js_nek p0 p7 js_kOA))).trans ((js_up_n (Ne.symm (hA 1 7 (by decide) (by decide) (by decide)))).trans ((js_up_n (js_nek p7 p0 js_kAO)).trans p7))) ((js_up_n (Ne.symm (js_nek p0 p8 js_kOA))).trans ((js_up_n (Ne.symm (hA 1 8 (by decide) (by decide) (by decide)))).trans ((js_up_n (js_nek p8 p0 js_kAO)).trans p8))) ((js_up_n (Ne.symm (js_nek p0 p9 js_kOA))).trans ((js_up_n (Ne.symm (hA 1 9 (by decide) (by decide) (by decide)))).trans ((js_up_n (js_nek p9 p0 js_kAO)).trans p9))) ((js_up_n (Ne.symm (js_nek p0 p10 js_kOA))).trans ((js_up_n (Ne.symm (hA 1 10 (by decide) (by decide) (by decide)))).trans ((js_up_n (js_nek p10 p0 js_kAO)).trans p10))) ((js_up_n (Ne.symm (js_nek p0 p11 js_kOA))).trans ((js_up_n (Ne.symm (hA 1 11 (by decide) (by decide) (by decide)))).trans ((js_up_n (js_nek p11 p0 js_kAO)).trans p11))) (fun q hq => ((js_up_n (hq 0 (by decide))).trans ((js_up_n (hq 1 (by decide))).trans ((js_up_n (hq 0 (by decide))).trans rfl)))))))⟩
    · refine js_iconst dX3_restore_23 ?_
      exact js_iret rfl rfl dX3_restore_24 ⟨js_reti (by first | (rw [zv_p (by omega)]; done) | (rw [zv_n (by omega)]; done)), (by first | (simp only [zif_p (show 0 < (zt1 (isS ≠ 0)) from by omega)]; exact (zH_eq hA js_up_s ((js_up_n (js_nek p1 p0 js_kAO)).trans p1) ((js_up_n (js_nek p2 p0 js_kAO)).trans p2) ((js_up_n (js_nek p3 p0 js_kAO)).trans p3) ((js_up_n (js_nek p4 p0 js_kAO)).trans p4) ((js_up_n (js_nek p5 p0 js_kAO)).trans p5) ((js_up_n (js_nek p6 p0 js_kAO)).trans p6) ((js_up_n (js_nek p7 p0 js_kAO)).trans p7) ((js_up_n (js_nek p8 p0 js_kAO)).trans p8) ((js_up_n (js_nek p9 p0 js_kAO)).trans p9) ((js_up_n (js_nek p10 p0 js_kAO)).trans p10) ((js_up_n (js_nek p11 p0 js_kAO)).trans p11) (fun q hq => ((js_up_n (hq 0 (by decide))).trans rfl)))) | (simp only [zif_n (show ¬ 0 < (zt1 (isS ≠ 0)) from by omega)]; exact (zH_eq hA js_up_s ((js_up_n (js_nek p1 p0 js_kAO)).trans p1) ((js_up_n (js_nek p2 p0 js_kAO)).trans p2) ((js_up_n (js_nek p3 p0 js_kAO)).trans p3) ((js_up_n (js_nek p4 p0 js_kAO)).trans p4) ((js_up_n (js_nek p5 p0 js_kAO)).trans p5) ((js_up_n (js_nek p6 p0 js_kAO)).trans p6) ((js_up_n (js_nek p7 p0 js_kAO)).trans p7) ((js_up_n (js_nek p8 p0 js_kAO)).trans p8) ((js_up_n (js_nek p9 p0 js_kAO)).trans p9) ((js_up_n (js_nek p10 p0 js_kAO)).trans p10) ((js_up_n (js_nek p11 p0 js_kAO)).trans p11) (fun q hq => ((js_up_n (hq 0 (by decide))).trans rfl)))))⟩
  · refine js_aload_n 0 dX3_restore_1 rfl ?_
    refine gX3_324 rfl dX3_restore_2 p0 rfl ?_
    refine js_if_eq (tgt := 12) dX3_restore_5 (by decide) (by omega) (fun c3 => ?_) (fun c3 => ?_)
    · refine js_iconst dX3_restore_12 ?_
      exact J1 _ (by omega)
    · refine js_iconst dX3_restore_8 ?_
      refine js_goto (tgt := 13) dX3_restore_9 (by decide) ?_
      exact J1 _ (by omega)
