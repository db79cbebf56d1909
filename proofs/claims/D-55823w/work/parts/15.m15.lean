set_option maxRecDepth 100000
/-! BalloonSpiresModel: what changes do -/
theorem com_refuse {ρ : js_R} {h : js_H} {m s rf : Nat} {v1 v2 v3 v4 v5 v6 v7 v9 v10 v11 v12 v13 v14 v15 v16 v17 v18 v19 : Value} {f g : Int → Int} {w v : Int} (hm : h m = some (js_ob true 2 [.ref s, v1, v2, v3, v4, v5, v6, v7, .ref rf, v9, v10, v11, v12, v13, v14, v15, v16, v17, v18, v19])) (hs : h s = some (js_aI true 0 287 f)) (hr : h rf = some (js_aI true 0 4 g)) (hn : s ≠ rf)  : js_Con ρ mX3_refuse 0 0 0 [.ref m, .int (jI w), .int (jI v)] h (js_ret (some (.int (jI 0))) (js_up (js_up h m (js_ob true 2 [.ref s, v1, v2, v3, v4, v5, v6, .int (jI 1), .ref rf, v9, v10, v11, v12, v13, v14, v15, v16, v17, v18, v19])) rf (js_aI true 0 4 (zrf g w v)))) := by
  refine js_body [(0, .ref m), (1, .int (jI w)), (2, .int (jI v))] rfl (by decide) (Nat.le_of_ble_eq_true rfl) rfl ?_
  refine js_aload_n 0 dX3_refuse_0 rfl ?_
  refine js_iconst dX3_refuse_1 ?_
  refine pX3_49 rfl dX3_refuse_2 hm (Nat.le_of_ble_eq_true rfl) rfl rfl ?_
  show js_ok ρ mX3_refuse _ 0 0 0 5 [(0, .ref m), (1, .int (jI w)), (2, .int (jI v))] [] (js_up h m (js_ob true 2 [.ref s, v1, v2, v3, v4, v5, v6, .int (jI 1), .ref rf, v9, v10, v11, v12, v13, v14, v15, v16, v17, v18, v19]))
  refine js_aload_n 0 dX3_refuse_5 rfl ?_
  refine gX3_25 rfl dX3_refuse_6 js_up_s rfl ?_
  refine js_iconst dX3_refuse_9 ?_
  refine js_iload_n 1 dX3_refuse_10 rfl ?_
  refine js_iastore dX3_refuse_11 ((js_up_n (js_nek hr hm js_kAO)).trans hr) (by omega) ?_
  show js_ok ρ mX3_refuse _ 0 0 0 12 [(0, .ref m), (1, .int (jI w)), (2, .int (jI v))] [] (js_up (js_up h m (js_ob true 2 [.ref s, v1, v2, v3, v4, v5, v6, .int (jI 1), .ref rf, v9, v10, v11, v12, v13, v14, v15, v16, v17, v18, v19])) rf (js_aI true 0 4 (js_uz g 0 w)))
  refine js_aload_n 0 dX3_refuse_12 rfl ?_
  refine gX3_25 rfl dX3_refuse_13 ((js_up_n (js_nek hm hr js_kOA)).trans js_up_s) rfl ?_
  refine js_iconst dX3_refuse_16 ?_
  refine js_iload_n 2 dX3_refuse_17 rfl ?_
  refine js_iastore dX3_refuse_18 js_up_s (by omega) ?_
  rw [js_up_up]
  show js_ok ρ mX3_refuse _ 0 0 0 19 [(0, .ref m), (1, .int (jI w)), (2, .int (jI v))] [] (js_up (js_up h m (js_ob true 2 [.ref s, v1, v2, v3, v4, v5, v6, .int (jI 1), .ref rf, v9, v10, v11, v12, v13, v14, v15, v16, v17, v18, v19])) rf (js_aI true 0 4 (js_uz (js_uz g 0 w) 1 v)))
  refine js_aload_n 0 dX3_refuse_19 rfl ?_
  refine gX3_25 rfl dX3_refuse_20 ((js_up_n (js_nek hm hr js_kOA)).trans js_up_s) rfl ?_
  refine js_iconst dX3_refuse_23 ?_
  refine js_iconst dX3_refuse_24 ?_
  refine js_iastore dX3_refuse_25 js_up_s (by omega) ?_
  rw [js_up_up]
  show js_ok ρ mX3_refuse _ 0 0 0 26 [(0, .ref m), (1, .int (jI w)), (2, .int (jI v))] [] (js_up (js_up h m (js_ob true 2 [.ref s, v1, v2, v3, v4, v5, v6, .int (jI 1), .ref rf, v9, v10, v11, v12, v13, v14, v15, v16, v17, v18, v19])) rf (js_aI true 0 4 (js_uz (js_uz (js_uz g 0 w) 1 v) 2 0)))
  refine js_aload_n 0 dX3_refuse_26 rfl ?_
  refine gX3_25 rfl dX3_refuse_27 ((js_up_n (js_nek hm hr js_kOA)).trans js_up_s) rfl ?_
  refine js_iconst dX3_refuse_30 ?_
  refine js_iconst dX3_refuse_31 ?_
  refine js_iastore dX3_refuse_32 js_up_s (by omega) ?_
  rw [js_up_up]
  show js_ok ρ mX3_refuse _ 0 0 0 33 [(0, .ref m), (1, .int (jI w)), (2, .int (jI v))] [] (js_up (js_up h m (js_ob true 2 [.ref s, v1, v2, v3, v4, v5, v6, .int (jI 1), .ref rf, v9, v10, v11, v12, v13, v14, v15, v16, v17, v18, v19])) rf (js_aI true 0 4 (js_uz (js_uz (js_uz (js_uz g 0 w) 1 v) 2 0) 3 0)))
  refine js_iconst dX3_refuse_33 ?_
  exact js_iret rfl rfl dX3_refuse_34 ⟨rfl, rfl⟩
theorem com_doWind {ρ : js_R} {h : js_H} {m s rf : Nat} {v1 v2 v3 v4 v5 v6 v7 v9 v10 v11 v12 v13 v14 v15 v16 v17 v18 v19 : Value} {f g : Int → Int} {T ht d : Int} (hm : h m = some (js_ob true 2 [.ref s, v1, v2, v3, v4, v5, v6, v7, .ref rf, v9, v10, v11, v12, v13, v14, v15, v16, v17, v18, v19])) (hs : h s = some (js_aI true 0 287 f)) (hr : h rf = some (js_aI true 0 4 g)) (hn : s ≠ rf) (hI : zI T f) (rht : -2147483648 ≤ ht ∧ ht < 2147483648) (rd : -2147483648 ≤ d ∧ d < 2147483648) : js_Con ρ mX3_doWind 2 0 0 [.ref m, .int (jI ht), .int (jI d)] h (js_ret (some (.int (jI (zoR (zdoWind f ht d))))) (zoH h m s rf (js_ob true 2 [.ref s, v1, v2, v3, v4, v5, v6, .int (jI 1), .ref rf, v9, v10, v11, v12, v13, v14, v15, v16, v17, v18, v19]) g (zdoWind f ht d))) := by
  refine js_body [(0, .ref m), (1, .int (jI ht)), (2, .int (jI d))] rfl (by decide) (Nat.le_of_ble_eq_true rfl) rfl ?_
  have h01 := zI_01 hI
  refine js_iload_n 1 dX3_doWind_0 rfl ?_
  refine js_iconst dX3_doWind_1 ?_
  refine js_iconst dX3_doWind_2 ?_
  refine eX3_61 rfl dX3_doWind_3 (com_in (by omega) (by omega) (by omega)) (Nat.le_of_ble_eq_true rfl) (Nat.le_of_ble_eq_true rfl) ?_
  refine js_if_eqB (tgt := 18) dX3_doWind_6 (by decide) (fun c1 => ?_) (fun c1 => ?_)
  · refine js_aload_n 0 dX3_doWind_18 rfl ?_
    refine js_iconst dX3_doWind_19 ?_
    refine js_iload_n 1 dX3_doWind_20 rfl ?_
    refine js_iconst dX3_doWind_21 ?_
    refine js_iconst dX3_doWind_22 ?_
    refine eX3_61 rfl dX3_doWind_23 (com_in (by omega) (by omega) (by omega)) (Nat.le_of_ble_eq_true rfl) (Nat.le_of_ble_eq_true rfl) ?_
    refine js_if_eqB (tgt := 33) dX3_doWind_26 (by decide) (fun c2 => ?_) (fun c2 => ?_)
    · refine js_iload_n 1 dX3_doWind_33 rfl ?_
      refine eX3_83 rfl dX3_doWind_34 hm (com_refuse hm hs hr hn) (Nat.le_of_ble_eq_true rfl) (Nat.le_of_ble_eq_true rfl) ?_
      show js_ok ρ mX3_doWind _ 2 0 0 37 [(0, .ref m), (1, .int (jI ht)), (2, .int (jI d))] [.int (jI 0)] (js_up (js_up h m (js_ob true 2 [.ref s, v1, v2, v3, v4, v5, v6, .int (jI 1), .ref rf, v9, v10, v11, v12, v13, v14, v15, v16, v17, v18, v19])) rf (js_aI true 0 4 (zrf g 4 ht)))
      exact js_iret rfl rfl dX3_doWind_37 (by rw [show zdoWind f ht d = .inl (4, ht) from by unfold zdoWind; (repeat' split) <;> first | (exfalso; omega) | rfl]; exact ⟨rfl, rfl⟩)
    · refine js_iload_n 2 dX3_doWind_29 rfl ?_
      refine js_goto (tgt := 34) dX3_doWind_30 (by decide) ?_
      refine eX3_83 rfl dX3_doWind_34 hm (com_refuse hm hs hr hn) (Nat.le_of_ble_eq_true rfl) (Nat.le_of_ble_eq_true rfl) ?_
      show js_ok ρ mX3_doWind _ 2 0 0 37 [(0, .ref m), (1, .int (jI ht)), (2, .int (jI d))] [.int (jI 0)] (js_up (js_up h m (js_ob true 2 [.ref s, v1, v2, v3, v4, v5, v6, .int (jI 1), .ref rf, v9, v10, v11, v12, v13, v14, v15, v16, v17, v18, v19])) rf (js_aI true 0 4 (zrf g 4 d)))
      exact js_iret rfl rfl dX3_doWind_37 (by rw [show zdoWind f ht d = .inl (4, d) from by unfold zdoWind; (repeat' split) <;> first | (exfalso; omega) | rfl]; exact ⟨rfl, rfl⟩)
  · refine js_iload_n 2 dX3_doWind_9 rfl ?_
    refine js_iconst dX3_doWind_10 ?_
    refine js_iconst dX3_doWind_11 ?_
    refine eX3_61 rfl dX3_doWind_12 (com_in (by omega) (by omega) (by omega)) (Nat.le_of_ble_eq_true rfl) (Nat.le_of_ble_eq_true rfl) ?_
    refine js_if_neB (tgt := 38) dX3_doWind_15 (by decide) (fun c3 => ?_) (fun c3 => ?_)
    · refine js_aload_n 0 dX3_doWind_38 rfl ?_
      refine gX3_9 rfl dX3_doWind_39 hm rfl ?_
      refine js_bipush dX3_doWind_42 rfl ?_
      refine js_iload_n 1 dX3_doWind_44 rfl ?_
      refine js_iadd dX3_doWind_45 ?_
      refine js_iconst dX3_doWind_46 ?_
      refine js_isub dX3_doWind_47 ?_
      refine js_iaload dX3_doWind_48 hs (by omega) ?_
      refine js_istore_n (L' := [(3, .int (jI (f ((8 + ht) - 1)))), (0, .ref m), (1, .int (jI ht)), (2, .int (jI d))]) dX3_doWind_49 (by decide) rfl ?_
      have hw := zI_w hI (8 + ht - 1) (by omega) (by omega)
      refine js_iload_n 0 dX3_doWind_50 rfl ?_
      refine js_iload_n 3 dX3_doWind_51 rfl ?_
      refine js_icmp_ne (tgt := 62) dX3_doWind_52 (by decide) (by omega) (fun c4 => ?_) (fun c4 => ?_)
      · refine js_aload_n 1 dX3_doWind_62 rfl ?_
        refine gX3_9 rfl dX3_doWind_63 hm rfl ?_
        refine js_bipush dX3_doWind_66 rfl ?_
        refine js_iload_n 2 dX3_doWind_68 rfl ?_
        refine js_iadd dX3_doWind_69 ?_
        refine js_iconst dX3_doWind_70 ?_
        refine js_isub dX3_doWind_71 ?_
        refine js_iload_n 3 dX3_doWind_72 rfl ?_
        refine js_iastore dX3_doWind_73 hs (by omega) ?_
        show js_ok ρ mX3_doWind _ 2 0 0 74 [(3, .int (jI (f ((8 + ht) - 1)))), (0, .ref m), (1, .int (jI ht)), (2, .int (jI d))] [] (js_up h s (js_aI true 0 287 (js_uz f ((8 + ht) - 1) d)))
        refine js_iload_n 0 dX3_doWind_74 rfl ?_
        exact js_iret rfl rfl dX3_doWind_75 (by rw [show zdoWind f ht d = .inr (f ((8 + ht) - 1), js_uz f ((8 + ht) - 1) d) from by unfold zdoWind; (repeat' split) <;> first | (exfalso; omega) | rfl]; exact ⟨rfl, rfl⟩)
      · refine js_aload_n 1 dX3_doWind_55 rfl ?_
        refine js_iconst dX3_doWind_56 ?_
        refine js_iload_n 3 dX3_doWind_57 rfl ?_
        refine eX3_83 rfl dX3_doWind_58 hm (com_refuse hm hs hr hn) (Nat.le_of_ble_eq_true rfl) (Nat.le_of_ble_eq_true rfl) ?_
        show js_ok ρ mX3_doWind _ 2 0 0 61 [(3, .int (jI (f ((8 + ht) - 1)))), (0, .ref m), (1, .int (jI ht)), (2, .int (jI d))] [.int (jI 0)] (js_up (js_up h m (js_ob true 2 [.ref s, v1, v2, v3, v4, v5, v6, .int (jI 1), .ref rf, v9, v10, v11, v12, v13, v14, v15, v16, v17, v18, v19])) rf (js_aI true 0 4 (zrf g 3 d)))
        exact js_iret rfl rfl dX3_doWind_61 (by rw [show zdoWind f ht d = .inl (3, d) from by unfold zdoWind; (repeat' split) <;> first | (exfalso; omega) | rfl]; exact ⟨rfl, rfl⟩)
    · refine js_aload_n 0 dX3_doWind_18 rfl ?_
      refine js_iconst dX3_doWind_19 ?_
      refine js_iload_n 1 dX3_doWind_20 rfl ?_
      refine js_iconst dX3_doWind_21 ?_
      refine js_iconst dX3_doWind_22 ?_
      refine eX3_61 rfl dX3_doWind_23 (com_in (by omega) (by omega) (by omega)) (Nat.le_of_ble_eq_true rfl) (Nat.le_of_ble_eq_true rfl) ?_
      refine js_if_eqB (tgt := 33) dX3_doWind_26 (by decide) (fun c5 => ?_) (fun c5 => ?_)
      · refine js_iload_n 1 dX3_doWind_33 rfl ?_
        refine eX3_83 rfl dX3_doWind_34 hm (com_refuse hm hs hr hn) (Nat.le_of_ble_eq_true rfl) (Nat.le_of_ble_eq_true rfl) ?_
        show js_ok ρ mX3_doWind _ 2 0 0 37 [(0, .ref m), (1, .int (jI ht)), (2, .int (jI d))] [.int (jI 0)] (js_up (js_up h m (js_ob true 2 [.ref s, v1, v2, v3, v4, v5, v6, .int (jI 1), .ref rf, v9, v10, v11, v12, v13, v14, v15, v16, v17, v18, v19])) rf (js_aI true 0 4 (zrf g 4 ht)))
        exact js_iret rfl rfl dX3_doWind_37 (by rw [show zdoWind f ht d = .inl (4, ht) from by unfold zdoWind; (repeat' split) <;> first | (exfalso; omega) | rfl]; exact ⟨rfl, rfl⟩)
      · refine js_iload_n 2 dX3_doWind_29 rfl ?_
        refine js_goto (tgt := 34) dX3_doWind_30 (by decide) ?_
        refine eX3_83 rfl dX3_doWind_34 hm (com_refuse hm hs hr hn) (Nat.le_of_ble_eq_true rfl) (Nat.le_of_ble_eq_true rfl) ?_
        show js_ok ρ mX3_doWind _ 2 0 0 37 [(0, .ref m), (1, .int (jI ht)), (2, .int (jI d))] [.int (jI 0)] (js_up (js_up h m (js_ob true 2 [.ref s, v1, v2, v3, v4, v5, v6, .int (jI 1), .ref rf, v9, v10, v11, v12, v13, v14, v15, v16, v17, v18, v19])) rf (js_aI true 0 4 (zrf g 4 d)))
        exact js_iret rfl rfl dX3_doWind_37 (by rw [show zdoWind f ht d = .inl (4, d) from by unfold zdoWind; (repeat' split) <;> first | (exfalso; omega) | rfl]; exact ⟨rfl, rfl⟩)
theorem com_doFarm {ρ : js_R} {h : js_H} {m s rf : Nat} {v1 v2 v3 v4 v5 v6 v7 v9 v10 v11 v12 v13 v14 v15 v16 v17 v18 v19 : Value} {f g : Int → Int} {T x y fee : Int} (hm : h m = some (js_ob true 2 [.ref s, v1, v2, v3, v4, v5, v6, v7, .ref rf, v9, v10, v11, v12, v13, v14, v15, v16, v17, v18, v19])) (hs : h s = some (js_aI true 0 287 f)) (hr : h rf = some (js_aI true 0 4 g)) (hn : s ≠ rf) (hI : zI T f) (rx : -2147483648 ≤ x ∧ x < 2147483648) (ry : -2147483648 ≤ y ∧ y < 2147483648) (rfee : -2147483648 ≤ fee ∧ fee < 2147483648) : js_Con ρ mX3_doFarm 2 0 0 [.ref m, .int (jI x), .int (jI y), .int (jI fee)] h (js_ret (some (.int (jI (zoR (zdoFarm f x y fee))))) (zoH h m s rf (js_ob true 2 [.ref s, v1, v2, v3, v4, v5, v6, .int (jI 1), .ref rf, v9, v10, v11, v12, v13, v14, v15, v16, v17, v18, v19]) g (zdoFarm f x y fee))) := by
  refine js_body [(0, .ref m), (1, .int (jI x)), (2, .int (jI y)), (3, .int (jI fee))] rfl (by decide) (Nat.le_of_ble_eq_true rfl) rfl ?_
  have h01 := zI_01 hI
  refine js_iload_n 1 dX3_doFarm_0 rfl ?_
  refine js_bipush dX3_doFarm_1 rfl ?_
  refine js_iload_n 2 dX3_doFarm_3 rfl ?_
  refine js_bipush dX3_doFarm_4 rfl ?_
  refine eX3_79 rfl dX3_doFarm_6 (com_wrong (by omega) (by omega) (by omega) (by omega)) (Nat.le_of_ble_eq_true rfl) (Nat.le_of_ble_eq_true rfl) ?_
  have w1 := zwr_c x 9 y 9
  show js_ok ρ mX3_doFarm _ 2 0 0 9 [(0, .ref m), (1, .int (jI x)), (2, .int (jI y)), (3, .int (jI fee))] [.int (jI (zwr x 9 y 9))] h
  refine js_istore (L' := [(4, .int (jI (zwr x 9 y 9))), (0, .ref m), (1, .int (jI x)), (2, .int (jI y)), (3, .int (jI fee))]) dX3_doFarm_9 (by decide) rfl ?_
  refine js_iload 0 dX3_doFarm_11 rfl ?_
  refine js_iconst dX3_doFarm_13 ?_
  refine js_icmp_lt (tgt := 27) dX3_doFarm_14 (by decide) (by omega) (fun c2 => ?_) (fun c2 => ?_)
  · refine js_aload_n 1 dX3_doFarm_27 rfl ?_
    refine js_iconst dX3_doFarm_28 ?_
    refine js_iload 0 dX3_doFarm_29 rfl ?_
    refine js_if_ne (tgt := 38) dX3_doFarm_31 (by decide) (by omega) (fun c3 => ?_) (fun c3 => ?_)
    · refine js_iload 0 dX3_doFarm_38 rfl ?_
      refine js_iconst dX3_doFarm_40 ?_
      refine js_icmp_ne (tgt := 48) dX3_doFarm_41 (by decide) (by omega) (fun c4 => ?_) (fun c4 => ?_)
      · refine js_iload_n 4 dX3_doFarm_48 rfl ?_
        refine eX3_83 rfl dX3_doFarm_49 hm (com_refuse hm hs hr hn) (Nat.le_of_ble_eq_true rfl) (Nat.le_of_ble_eq_true rfl) ?_
        show js_ok ρ mX3_doFarm _ 2 0 0 52 [(4, .int (jI (zwr x 9 y 9))), (0, .ref m), (1, .int (jI x)), (2, .int (jI y)), (3, .int (jI fee))] [.int (jI 0)] (js_up (js_up h m (js_ob true 2 [.ref s, v1, v2, v3, v4, v5, v6, .int (jI 1), .ref rf, v9, v10, v11, v12, v13, v14, v15, v16, v17, v18, v19])) rf (js_aI true 0 4 (zrf g 4 fee)))
        exact js_iret rfl rfl dX3_doFarm_52 (by rw [show zdoFarm f x y fee = .inl (4, fee) from by unfold zdoFarm; (repeat' split) <;> first | (exfalso; omega) | rfl]; exact ⟨rfl, rfl⟩)
      · refine js_iload_n 3 dX3_doFarm_44 rfl ?_
        refine js_goto (tgt := 49) dX3_doFarm_45 (by decide) ?_
        refine eX3_83 rfl dX3_doFarm_49 hm (com_refuse hm hs hr hn) (Nat.le_of_ble_eq_true rfl) (Nat.le_of_ble_eq_true rfl) ?_
        show js_ok ρ mX3_doFarm _ 2 0 0 52 [(4, .int (jI (zwr x 9 y 9))), (0, .ref m), (1, .int (jI x)), (2, .int (jI y)), (3, .int (jI fee))] [.int (jI 0)] (js_up (js_up h m (js_ob true 2 [.ref s, v1, v2, v3, v4, v5, v6, .int (jI 1), .ref rf, v9, v10, v11, v12, v13, v14, v15, v16, v17, v18, v19])) rf (js_aI true 0 4 (zrf g 4 y)))
        exact js_iret rfl rfl dX3_doFarm_52 (by rw [show zdoFarm f x y fee = .inl (4, y) from by unfold zdoFarm; (repeat' split) <;> first | (exfalso; omega) | rfl]; exact ⟨rfl, rfl⟩)
    · refine js_iload_n 2 dX3_doFarm_34 rfl ?_
      refine js_goto (tgt := 49) dX3_doFarm_35 (by decide) ?_
      refine eX3_83 rfl dX3_doFarm_49 hm (com_refuse hm hs hr hn) (Nat.le_of_ble_eq_true rfl) (Nat.le_of_ble_eq_true rfl) ?_
      show js_ok ρ mX3_doFarm _ 2 0 0 52 [(4, .int (jI (zwr x 9 y 9))), (0, .ref m), (1, .int (jI x)), (2, .int (jI y)), (3, .int (jI fee))] [.int (jI 0)] (js_up (js_up h m (js_ob true 2 [.ref s, v1, v2, v3, v4, v5, v6, .int (jI 1), .ref rf, v9, v10, v11, v12, v13, v14, v15, v16, v17, v18, v19])) rf (js_aI true 0 4 (zrf g 4 x)))
      exact js_iret rfl rfl dX3_doFarm_52 (by rw [show zdoFarm f x y fee = .inl (4, x) from by unfold zdoFarm; (repeat' split) <;> first | (exfalso; omega) | rfl]; exact ⟨rfl, rfl⟩)
  · refine js_iload_n 4 dX3_doFarm_17 rfl ?_
    refine js_iconst dX3_doFarm_18 ?_
    refine js_bipush dX3_doFarm_19 rfl ?_
    refine eX3_61 rfl dX3_doFarm_21 (com_in (by omega) (by omega) (by omega)) (Nat.le_of_ble_eq_true rfl) (Nat.le_of_ble_eq_true rfl) ?_
    refine js_if_neB (tgt := 53) dX3_doFarm_24 (by decide) (fun c5 => ?_) (fun c5 => ?_)
    · refine js_aload_n 1 dX3_doFarm_53 rfl ?_
      refine gX3_9 rfl dX3_doFarm_54 hm rfl ?_
      refine js_bipush dX3_doFarm_57 rfl ?_
      refine js_iload_n 2 dX3_doFarm_59 rfl ?_
      refine js_iload_n 3 dX3_doFarm_60 rfl ?_
      refine eX3_69 rfl dX3_doFarm_61 com_code (Nat.le_of_ble_eq_true rfl) (Nat.le_of_ble_eq_true rfl) ?_
      refine js_iadd dX3_doFarm_64 ?_
      refine js_iaload dX3_doFarm_65 hs (by omega) ?_
      have hw := zI_f hI (10 * y + x) (by omega) (by omega)
      refine js_istore (L' := [(5, .int (jI (f (87 + (10 * y + x))))), (4, .int (jI (zwr x 9 y 9))), (0, .ref m), (1, .int (jI x)), (2, .int (jI y)), (3, .int (jI fee))]) dX3_doFarm_66 (by decide) rfl ?_
      refine js_iload 0 dX3_doFarm_68 rfl ?_
      refine js_iload_n 5 dX3_doFarm_70 rfl ?_
      refine js_icmp_ne (tgt := 81) dX3_doFarm_71 (by decide) (by omega) (fun c6 => ?_) (fun c6 => ?_)
      · refine js_aload_n 2 dX3_doFarm_81 rfl ?_
        refine gX3_9 rfl dX3_doFarm_82 hm rfl ?_
        refine js_bipush dX3_doFarm_85 rfl ?_
        refine js_iload_n 3 dX3_doFarm_87 rfl ?_
        refine js_iload_n 4 dX3_doFarm_88 rfl ?_
        refine eX3_69 rfl dX3_doFarm_89 com_code (Nat.le_of_ble_eq_true rfl) (Nat.le_of_ble_eq_true rfl) ?_
        refine js_iadd dX3_doFarm_92 ?_
        refine js_iload_n 5 dX3_doFarm_93 rfl ?_
        refine js_iastore dX3_doFarm_94 hs (by omega) ?_
        show js_ok ρ mX3_doFarm _ 2 0 0 95 [(5, .int (jI (f (87 + (10 * y + x))))), (4, .int (jI (zwr x 9 y 9))), (0, .ref m), (1, .int (jI x)), (2, .int (jI y)), (3, .int (jI fee))] [] (js_up h s (js_aI true 0 287 (js_uz f (87 + (10 * y + x)) fee)))
        refine js_iload 0 dX3_doFarm_95 rfl ?_
        exact js_iret rfl rfl dX3_doFarm_97 (by rw [show zdoFarm f x y fee = .inr (f (87 + (10 * y + x)), js_uz f (87 + (10 * y + x)) fee) from by unfold zdoFarm; (repeat' split) <;> first | (exfalso; omega) | rfl]; exact ⟨rfl, rfl⟩)
      · refine js_aload_n 2 dX3_doFarm_74 rfl ?_
        refine js_iconst dX3_doFarm_75 ?_
        refine js_iload_n 5 dX3_doFarm_76 rfl ?_
        refine eX3_83 rfl dX3_doFarm_77 hm (com_refuse hm hs hr hn) (Nat.le_of_ble_eq_true rfl) (Nat.le_of_ble_eq_true rfl) ?_
        show js_ok ρ mX3_doFarm _ 2 0 0 80 [(5, .int (jI (f (87 + (10 * y + x))))), (4, .int (jI (zwr x 9 y 9))), (0, .ref m), (1, .int (jI x)), (2, .int (jI y)), (3, .int (jI fee))] [.int (jI 0)] (js_up (js_up h m (js_ob true 2 [.ref s, v1, v2, v3, v4, v5, v6, .int (jI 1), .ref rf, v9, v10, v11, v12, v13, v14, v15, v16, v17, v18, v19])) rf (js_aI true 0 4 (zrf g 3 fee)))
        exact js_iret rfl rfl dX3_doFarm_80 (by rw [show zdoFarm f x y fee = .inl (3, fee) from by unfold zdoFarm; (repeat' split) <;> first | (exfalso; omega) | rfl]; exact ⟨rfl, rfl⟩)
    · refine js_aload_n 1 dX3_doFarm_27 rfl ?_
      refine js_iconst dX3_doFarm_28 ?_
      refine js_iload 0 dX3_doFarm_29 rfl ?_
      refine js_if_ne (tgt := 38) dX3_doFarm_31 (by decide) (by omega) (fun c7 => ?_) (fun c7 => ?_)
      · refine js_iload 0 dX3_doFarm_38 rfl ?_
        refine js_iconst dX3_doFarm_40 ?_
        refine js_icmp_ne (tgt := 48) dX3_doFarm_41 (by decide) (by omega) (fun c8 => ?_) (fun c8 => ?_)
        · refine js_iload_n 4 dX3_doFarm_48 rfl ?_
          refine eX3_83 rfl dX3_doFarm_49 hm (com_refuse hm hs hr hn) (Nat.le_of_ble_eq_true rfl) (Nat.le_of_ble_eq_true rfl) ?_
          show js_ok ρ mX3_doFarm _ 2 0 0 52 [(4, .int (jI (zwr x 9 y 9))), (0, .ref m), (1, .int (jI x)), (2, .int (jI y)), (3, .int (jI fee))] [.int (jI 0)] (js_up (js_up h m (js_ob true 2 [.ref s, v1, v2, v3, v4, v5, v6, .int (jI 1), .ref rf, v9, v10, v11, v12, v13, v14, v15, v16, v17, v18, v19])) rf (js_aI true 0 4 (zrf g 4 fee)))
          exact js_iret rfl rfl dX3_doFarm_52 (by rw [show zdoFarm f x y fee = .inl (4, fee) from by unfold zdoFarm; (repeat' split) <;> first | (exfalso; omega) | rfl]; exact ⟨rfl, rfl⟩)
        · refine js_iload_n 3 dX3_doFarm_44 rfl ?_
          refine js_goto (tgt := 49) dX3_doFarm_45 (by decide) ?_
          refine eX3_83 rfl dX3_doFarm_49 hm (com_refuse hm hs hr hn) (Nat.le_of_ble_eq_true rfl) (Nat.le_of_ble_eq_true rfl) ?_
          show js_ok ρ mX3_doFarm _ 2 0 0 52 [(4, .int (jI (zwr x 9 y 9))), (0, .ref m), (1, .int (jI x)), (2, .int (jI y)), (3, .int (jI fee))] [.int (jI 0)] (js_up (js_up h m (js_ob true 2 [.ref s, v1, v2, v3, v4, v5, v6, .int (jI 1), .ref rf, v9, v10, v11, v12, v13, v14, v15, v16, v17, v18, v19])) rf (js_aI true 0 4 (zrf g 4 y)))
          exact js_iret rfl rfl dX3_doFarm_52 (by rw [show zdoFarm f x y fee = .inl (4, y) from by unfold zdoFarm; (repeat' split) <;> first | (exfalso; omega) | rfl]; exact ⟨rfl, rfl⟩)
      · refine js_iload_n 2 dX3_doFarm_34 rfl ?_
        refine js_goto (tgt := 49) dX3_doFarm_35 (by decide) ?_
        refine eX3_83 rfl dX3_doFarm_49 hm (com_refuse hm hs hr hn) (Nat.le_of_ble_eq_true rfl) (Nat.le_of_ble_eq_true rfl) ?_
        show js_ok ρ mX3_doFarm _ 2 0 0 52 [(4, .int (jI (zwr x 9 y 9))), (0, .ref m), (1, .int (jI x)), (2, .int (jI y)), (3, .int (jI fee))] [.int (jI 0)] (js_up (js_up h m (js_ob true 2 [.ref s, v1, v2, v3, v4, v5, v6, .int (jI 1), .ref rf, v9, v10, v11, v12, v13, v14, v15, v16, v17, v18, v19])) rf (js_aI true 0 4 (zrf g 4 x)))
        exact js_iret rfl rfl dX3_doFarm_52 (by rw [show zdoFarm f x y fee = .inl (4, x) from by unfold zdoFarm; (repeat' split) <;> first | (exfalso; omega) | rfl]; exact ⟨rfl, rfl⟩)
theorem com_doDrop {ρ : js_R} {h : js_H} {m s rf : Nat} {v1 v2 v3 v4 v5 v6 v7 v9 v10 v11 v12 v13 v14 v15 v16 v17 v18 v19 : Value} {f g : Int → Int} {T b sk : Int} (hm : h m = some (js_ob true 2 [.ref s, v1, v2, v3, v4, v5, v6, v7, .ref rf, v9, v10, v11, v12, v13, v14, v15, v16, v17, v18, v19])) (hs : h s = some (js_aI true 0 287 f)) (hr : h rf = some (js_aI true 0 4 g)) (hn : s ≠ rf) (hI : zI T f) (rb : -2147483648 ≤ b ∧ b < 2147483648) (rsk : -2147483648 ≤ sk ∧ sk < 2147483648) : js_Con ρ mX3_doDrop 2 0 0 [.ref m, .int (jI b), .int (jI sk)] h (js_ret (some (.int (jI (zoR (zdoDrop f b sk))))) (zoH h m s rf (js_ob true 2 [.ref s, v1, v2, v3, v4, v5, v6, .int (jI 1), .ref rf, v9, v10, v11, v12, v13, v14, v15, v16, v17, v18, v19]) g (zdoDrop f b sk))) := by
  refine js_body [(0, .ref m), (1, .int (jI b)), (2, .int (jI sk))] rfl (by decide) (Nat.le_of_ble_eq_true rfl) rfl ?_
  have h01 := zI_01 hI
  refine js_aload_n 0 dX3_doDrop_0 rfl ?_
  refine js_iload_n 1 dX3_doDrop_1 rfl ?_
  refine eX3_113 rfl dX3_doDrop_2 hm (com_isBalloon hm hs (by omega) (by omega)) (Nat.le_of_ble_eq_true rfl) (Nat.le_of_ble_eq_true rfl) ?_
  refine js_if_neB (tgt := 15) dX3_doDrop_5 (by decide) (fun c1 => ?_) (fun c1 => ?_)
  · refine js_iload_n 2 dX3_doDrop_15 rfl ?_
    refine js_iconst dX3_doDrop_16 ?_
    refine js_bipush dX3_doDrop_17 rfl ?_
    refine eX3_61 rfl dX3_doDrop_19 (com_in (by omega) (by omega) (by omega)) (Nat.le_of_ble_eq_true rfl) (Nat.le_of_ble_eq_true rfl) ?_
    refine js_if_neB (tgt := 32) dX3_doDrop_22 (by decide) (fun c2 => ?_) (fun c2 => ?_)
    · have hb : 0 ≤ b ∧ b < f 0 := by omega
      have hB := zI_B hI hb.1 hb.2
      have hp := zIB_p hB
      unfold zIB at hB
      refine js_aload_n 0 dX3_doDrop_32 rfl ?_
      refine js_iload_n 1 dX3_doDrop_33 rfl ?_
      refine js_iconst dX3_doDrop_34 ?_
      refine eX3_76 rfl dX3_doDrop_35 hm (com_of hm hs (by omega) (by omega)) (Nat.le_of_ble_eq_true rfl) (Nat.le_of_ble_eq_true rfl) ?_
      refine js_istore_n (L' := [(3, .int (jI (f (13 + 9 * b + 2)))), (0, .ref m), (1, .int (jI b)), (2, .int (jI sk))]) dX3_doDrop_38 (by decide) rfl ?_
      refine js_aload_n 1 dX3_doDrop_39 rfl ?_
      refine js_iload_n 2 dX3_doDrop_40 rfl ?_
      refine js_iconst dX3_doDrop_41 ?_
      refine eX3_76 rfl dX3_doDrop_42 hm (com_of hm hs (by omega) (by omega)) (Nat.le_of_ble_eq_true rfl) (Nat.le_of_ble_eq_true rfl) ?_
      refine js_if_ne (tgt := 56) dX3_doDrop_45 (by decide) (by omega) (fun c3 => ?_) (fun c3 => ?_)
      · refine js_aload_n 1 dX3_doDrop_56 rfl ?_
        refine js_iload_n 2 dX3_doDrop_57 rfl ?_
        refine js_iconst dX3_doDrop_58 ?_
        refine eX3_76 rfl dX3_doDrop_59 hm (com_of hm hs (by omega) (by omega)) (Nat.le_of_ble_eq_true rfl) (Nat.le_of_ble_eq_true rfl) ?_
        refine js_iload_n 3 dX3_doDrop_62 rfl ?_
        refine js_icmp_ge (tgt := 79) dX3_doDrop_63 (by decide) (by omega) (fun c4 => ?_) (fun c4 => ?_)
        · refine js_iload_n 0 dX3_doDrop_79 rfl ?_
          refine js_iload_n 3 dX3_doDrop_80 rfl ?_
          refine js_iadd dX3_doDrop_81 ?_
          refine js_iconst dX3_doDrop_82 ?_
          refine js_icmp_le (tgt := 96) dX3_doDrop_83 (by decide) (by omega) (fun c5 => ?_) (fun c5 => ?_)
          · refine js_aload_n 1 dX3_doDrop_96 rfl ?_
            refine js_iload_n 2 dX3_doDrop_97 rfl ?_
            refine js_iconst dX3_doDrop_98 ?_
            refine js_iload_n 0 dX3_doDrop_99 rfl ?_
            refine js_iload_n 3 dX3_doDrop_100 rfl ?_
            refine js_iadd dX3_doDrop_101 ?_
            refine eX3_86 rfl dX3_doDrop_102 hm (com_sets hm hs (by omega) (by omega)) (Nat.le_of_ble_eq_true rfl) (Nat.le_of_ble_eq_true rfl) ?_
            show js_ok ρ mX3_doDrop _ 2 0 0 105 [(3, .int (jI (f (13 + 9 * b + 2)))), (0, .ref m), (1, .int (jI b)), (2, .int (jI sk))] [] (js_up h s (js_aI true 0 287 (js_uz f (13 + 9 * b + 2) ((f (13 + 9 * b + 2)) + sk))))
            refine js_aload_n 1 dX3_doDrop_105 rfl ?_
            refine js_iload_n 2 dX3_doDrop_106 rfl ?_
            refine js_iconst dX3_doDrop_107 ?_
            refine js_aload_n 1 dX3_doDrop_108 rfl ?_
            refine js_iload_n 2 dX3_doDrop_109 rfl ?_
            refine js_iconst dX3_doDrop_110 ?_
            refine eX3_76 rfl dX3_doDrop_111 ((js_up_n (js_nek hm hs js_kOA)).trans hm) (com_of ((js_up_n (js_nek hm hs js_kOA)).trans hm) js_up_s (by omega) (by omega)) (Nat.le_of_ble_eq_true rfl) (Nat.le_of_ble_eq_true rfl) ?_
            rw [show (js_uz f (13 + 9 * b + 2) ((f (13 + 9 * b + 2)) + sk)) (13 + 9 * b + 3) = f (13 + 9 * b + 3) from by rw [js_uz_n (by omega)]]
            refine js_iload_n 3 dX3_doDrop_114 rfl ?_
            refine js_isub dX3_doDrop_115 ?_
            refine eX3_86 rfl dX3_doDrop_116 ((js_up_n (js_nek hm hs js_kOA)).trans hm) (com_sets ((js_up_n (js_nek hm hs js_kOA)).trans hm) js_up_s (by omega) (by omega)) (Nat.le_of_ble_eq_true rfl) (Nat.le_of_ble_eq_true rfl) ?_
            rw [js_up_up]
            show js_ok ρ mX3_doDrop _ 2 0 0 119 [(3, .int (jI (f (13 + 9 * b + 2)))), (0, .ref m), (1, .int (jI b)), (2, .int (jI sk))] [] (js_up h s (js_aI true 0 287 (js_uz (js_uz f (13 + 9 * b + 2) ((f (13 + 9 * b + 2)) + sk)) (13 + 9 * b + 3) ((f (13 + 9 * b + 3)) - sk))))
            refine js_aload_n 1 dX3_doDrop_119 rfl ?_
            refine gX3_9 rfl dX3_doDrop_120 ((js_up_n (js_nek hm hs js_kOA)).trans hm) rfl ?_
            refine js_bipush dX3_doDrop_123 rfl ?_
            refine js_dup2 dX3_doDrop_125 rfl rfl ?_
            refine js_iaload dX3_doDrop_126 js_up_s (by omega) ?_
            rw [show (js_uz (js_uz f (13 + 9 * b + 2) ((f (13 + 9 * b + 2)) + sk)) (13 + 9 * b + 3) ((f (13 + 9 * b + 3)) - sk)) 6 = f 6 from by rw [js_uz_n (by omega), js_uz_n (by omega)]]
            refine js_iload_n 3 dX3_doDrop_127 rfl ?_
            refine js_iadd dX3_doDrop_128 ?_
            refine js_iastore dX3_doDrop_129 js_up_s (by omega) ?_
            rw [js_up_up]
            show js_ok ρ mX3_doDrop _ 2 0 0 130 [(3, .int (jI (f (13 + 9 * b + 2)))), (0, .ref m), (1, .int (jI b)), (2, .int (jI sk))] [] (js_up h s (js_aI true 0 287 (js_uz (js_uz (js_uz f (13 + 9 * b + 2) ((f (13 + 9 * b + 2)) + sk)) (13 + 9 * b + 3) ((f (13 + 9 * b + 3)) - sk)) 6 ((f 6) + sk))))
            refine js_iload_n 0 dX3_doDrop_130 rfl ?_
            refine js_iload_n 3 dX3_doDrop_131 rfl ?_
            refine js_iadd dX3_doDrop_132 ?_
            exact js_iret rfl rfl dX3_doDrop_133 (by rw [show zdoDrop f b sk = .inr ((f (13 + 9 * b + 2)) + sk, js_uz (js_uz (js_uz f (13 + 9 * b + 2) ((f (13 + 9 * b + 2)) + sk)) (13 + 9 * b + 3) ((f (13 + 9 * b + 3)) - sk)) 6 ((f 6) + sk)) from by unfold zdoDrop; (repeat' split) <;> first | (exfalso; omega) | rfl]; exact ⟨rfl, rfl⟩)
          · refine js_aload_n 1 dX3_doDrop_86 rfl ?_
            refine js_bipush dX3_doDrop_87 rfl ?_
            refine js_iconst dX3_doDrop_89 ?_
            refine js_iload_n 0 dX3_doDrop_90 rfl ?_
            refine js_isub dX3_doDrop_91 ?_
            refine eX3_83 rfl dX3_doDrop_92 hm (com_refuse hm hs hr hn) (Nat.le_of_ble_eq_true rfl) (Nat.le_of_ble_eq_true rfl) ?_
            show js_ok ρ mX3_doDrop _ 2 0 0 95 [(3, .int (jI (f (13 + 9 * b + 2)))), (0, .ref m), (1, .int (jI b)), (2, .int (jI sk))] [.int (jI 0)] (js_up (js_up h m (js_ob true 2 [.ref s, v1, v2, v3, v4, v5, v6, .int (jI 1), .ref rf, v9, v10, v11, v12, v13, v14, v15, v16, v17, v18, v19])) rf (js_aI true 0 4 (zrf g 7 (5 - (f (13 + 9 * b + 2))))))
            exact js_iret rfl rfl dX3_doDrop_95 (by rw [show zdoDrop f b sk = .inl (7, (5 - (f (13 + 9 * b + 2)))) from by unfold zdoDrop; (repeat' split) <;> first | (exfalso; omega) | rfl]; exact ⟨rfl, rfl⟩)
        · refine js_aload_n 1 dX3_doDrop_66 rfl ?_
          refine js_bipush dX3_doDrop_67 rfl ?_
          refine js_aload_n 1 dX3_doDrop_69 rfl ?_
          refine js_iload_n 2 dX3_doDrop_70 rfl ?_
          refine js_iconst dX3_doDrop_71 ?_
          refine eX3_76 rfl dX3_doDrop_72 hm (com_of hm hs (by omega) (by omega)) (Nat.le_of_ble_eq_true rfl) (Nat.le_of_ble_eq_true rfl) ?_
          refine eX3_83 rfl dX3_doDrop_75 hm (com_refuse hm hs hr hn) (Nat.le_of_ble_eq_true rfl) (Nat.le_of_ble_eq_true rfl) ?_
          show js_ok ρ mX3_doDrop _ 2 0 0 78 [(3, .int (jI (f (13 + 9 * b + 2)))), (0, .ref m), (1, .int (jI b)), (2, .int (jI sk))] [.int (jI 0)] (js_up (js_up h m (js_ob true 2 [.ref s, v1, v2, v3, v4, v5, v6, .int (jI 1), .ref rf, v9, v10, v11, v12, v13, v14, v15, v16, v17, v18, v19])) rf (js_aI true 0 4 (zrf g 6 (f (13 + 9 * b + 3)))))
          exact js_iret rfl rfl dX3_doDrop_78 (by rw [show zdoDrop f b sk = .inl (6, (f (13 + 9 * b + 3))) from by unfold zdoDrop; (repeat' split) <;> first | (exfalso; omega) | rfl]; exact ⟨rfl, rfl⟩)
      · refine js_aload_n 1 dX3_doDrop_48 rfl ?_
        refine js_bipush dX3_doDrop_49 rfl ?_
        refine js_iload_n 0 dX3_doDrop_51 rfl ?_
        refine eX3_83 rfl dX3_doDrop_52 hm (com_refuse hm hs hr hn) (Nat.le_of_ble_eq_true rfl) (Nat.le_of_ble_eq_true rfl) ?_
        show js_ok ρ mX3_doDrop _ 2 0 0 55 [(3, .int (jI (f (13 + 9 * b + 2)))), (0, .ref m), (1, .int (jI b)), (2, .int (jI sk))] [.int (jI 0)] (js_up (js_up h m (js_ob true 2 [.ref s, v1, v2, v3, v4, v5, v6, .int (jI 1), .ref rf, v9, v10, v11, v12, v13, v14, v15, v16, v17, v18, v19])) rf (js_aI true 0 4 (zrf g 8 (f (13 + 9 * b + 2)))))
        exact js_iret rfl rfl dX3_doDrop_55 (by rw [show zdoDrop f b sk = .inl (8, (f (13 + 9 * b + 2))) from by unfold zdoDrop; (repeat' split) <;> first | (exfalso; omega) | rfl]; exact ⟨rfl, rfl⟩)
    · refine js_aload_n 0 dX3_doDrop_25 rfl ?_
      refine js_iconst dX3_doDrop_26 ?_
      refine js_iload_n 2 dX3_doDrop_27 rfl ?_
      refine eX3_83 rfl dX3_doDrop_28 hm (com_refuse hm hs hr hn) (Nat.le_of_ble_eq_true rfl) (Nat.le_of_ble_eq_true rfl) ?_
      show js_ok ρ mX3_doDrop _ 2 0 0 31 [(0, .ref m), (1, .int (jI b)), (2, .int (jI sk))] [.int (jI 0)] (js_up (js_up h m (js_ob true 2 [.ref s, v1, v2, v3, v4, v5, v6, .int (jI 1), .ref rf, v9, v10, v11, v12, v13, v14, v15, v16, v17, v18, v19])) rf (js_aI true 0 4 (zrf g 4 sk)))
      exact js_iret rfl rfl dX3_doDrop_31 (by rw [show zdoDrop f b sk = .inl (4, sk) from by unfold zdoDrop; (repeat' split) <;> first | (exfalso; omega) | rfl]; exact ⟨rfl, rfl⟩)
  · refine js_aload_n 0 dX3_doDrop_8 rfl ?_
    refine js_iconst dX3_doDrop_9 ?_
    refine js_iload_n 1 dX3_doDrop_10 rfl ?_
    refine eX3_83 rfl dX3_doDrop_11 hm (com_refuse hm hs hr hn) (Nat.le_of_ble_eq_true rfl) (Nat.le_of_ble_eq_true rfl) ?_
    show js_ok ρ mX3_doDrop _ 2 0 0 14 [(0, .ref m), (1, .int (jI b)), (2, .int (jI sk))] [.int (jI 0)] (js_up (js_up h m (js_ob true 2 [.ref s, v1, v2, v3, v4, v5, v6, .int (jI 1), .ref rf, v9, v10, v11, v12, v13, v14, v15, v16, v17, v18, v19])) rf (js_aI true 0 4 (zrf g 5 b)))
    exact js_iret rfl rfl dX3_doDrop_14 (by rw [show zdoDrop f b sk = .inl (5, b) from by unfold zdoDrop; (repeat' split) <;> first | (exfalso; omega) | rfl]; exact ⟨rfl, rfl⟩)
theorem com_doVent {ρ : js_R} {h : js_H} {m s rf : Nat} {v1 v2 v3 v4 v5 v6 v7 v9 v10 v11 v12 v13 v14 v15 v16 v17 v18 v19 : Value} {f g : Int → Int} {T b lv : Int} (hm : h m = some (js_ob true 2 [.ref s, v1, v2, v3, v4, v5, v6, v7, .ref rf, v9, v10, v11, v12, v13, v14, v15, v16, v17, v18, v19])) (hs : h s = some (js_aI true 0 287 f)) (hr : h rf = some (js_aI true 0 4 g)) (hn : s ≠ rf) (hI : zI T f) (rb : -2147483648 ≤ b ∧ b < 2147483648) (rlv : -2147483648 ≤ lv ∧ lv < 2147483648) : js_Con ρ mX3_doVent 3 0 0 [.ref m, .int (jI b), .int (jI lv)] h (js_ret (some (.int (jI (zoR (zdoVent f b lv))))) (zoH h m s rf (js_ob true 2 [.ref s, v1, v2, v3, v4, v5, v6, .int (jI 1), .ref rf, v9, v10, v11, v12, v13, v14, v15, v16, v17, v18, v19]) g (zdoVent f b lv))) := by
  refine js_body [(0, .ref m), (1, .int (jI b)), (2, .int (jI lv))] rfl (by decide) (Nat.le_of_ble_eq_true rfl) rfl ?_
  have h01 := zI_01 hI
  refine js_aload_n 0 dX3_doVent_0 rfl ?_
  refine js_iload_n 1 dX3_doVent_1 rfl ?_
  refine eX3_113 rfl dX3_doVent_2 hm (com_isBalloon hm hs (by omega) (by omega)) (Nat.le_of_ble_eq_true rfl) (Nat.le_of_ble_eq_true rfl) ?_
  refine js_if_neB (tgt := 15) dX3_doVent_5 (by decide) (fun c1 => ?_) (fun c1 => ?_)
  · refine js_iload_n 2 dX3_doVent_15 rfl ?_
    refine js_iconst dX3_doVent_16 ?_
    refine js_iconst dX3_doVent_17 ?_
    refine eX3_61 rfl dX3_doVent_18 (com_in (by omega) (by omega) (by omega)) (Nat.le_of_ble_eq_true rfl) (Nat.le_of_ble_eq_true rfl) ?_
    refine js_if_neB (tgt := 31) dX3_doVent_21 (by decide) (fun c2 => ?_) (fun c2 => ?_)
    · have hb : 0 ≤ b ∧ b < f 0 := by omega
      have hB := zI_B hI hb.1 hb.2
      have hp := zIB_p hB
      unfold zIB at hB
      refine js_iload_n 2 dX3_doVent_31 rfl ?_
      refine js_aload_n 0 dX3_doVent_32 rfl ?_
      refine js_iload_n 1 dX3_doVent_33 rfl ?_
      refine js_iconst dX3_doVent_34 ?_
      refine eX3_76 rfl dX3_doVent_35 hm (com_of hm hs (by omega) (by omega)) (Nat.le_of_ble_eq_true rfl) (Nat.le_of_ble_eq_true rfl) ?_
      refine js_icmp_le (tgt := 54) dX3_doVent_38 (by decide) (by omega) (fun c3 => ?_) (fun c3 => ?_)
      · refine js_aload_n 0 dX3_doVent_54 rfl ?_
        refine js_iload_n 1 dX3_doVent_55 rfl ?_
        refine js_iconst dX3_doVent_56 ?_
        refine js_iconst dX3_doVent_57 ?_
        refine js_aload_n 0 dX3_doVent_58 rfl ?_
        refine js_iload_n 1 dX3_doVent_59 rfl ?_
        refine js_iconst dX3_doVent_60 ?_
        refine eX3_76 rfl dX3_doVent_61 hm (com_of hm hs (by omega) (by omega)) (Nat.le_of_ble_eq_true rfl) (Nat.le_of_ble_eq_true rfl) ?_
        refine js_iload_n 2 dX3_doVent_64 rfl ?_
        refine js_isub dX3_doVent_65 ?_
        refine js_mmax q2409 dX3_doVent_66 (by omega) (Nat.le_of_ble_eq_true rfl) (Nat.le_of_ble_eq_true rfl) ?_
        refine eX3_86 rfl dX3_doVent_69 hm (com_sets hm hs (by omega) (by omega)) (Nat.le_of_ble_eq_true rfl) (Nat.le_of_ble_eq_true rfl) ?_
        show js_ok ρ mX3_doVent _ 3 0 0 72 [(0, .ref m), (1, .int (jI b)), (2, .int (jI lv))] [] (js_up h s (js_aI true 0 287 (js_uz f (13 + 9 * b + 4) (max 0 ((f (13 + 9 * b + 4)) - lv)))))
        show js_ok ρ mX3_doVent _ 3 0 0 72 [(0, .ref m), (1, .int (jI b)), (2, .int (jI lv))] [] (js_up h s (js_aI true 0 287 (zgas f b lv)))
        have e2 : zgas f b lv (13 + 9 * b + 2) = f (13 + 9 * b + 2) := js_uz_n (by omega)
        have ep : zpt (zgas f b lv) b = zpt f b := by unfold zpt zgas; simp (disch := omega) only [js_uz_n]
        refine js_aload_n 0 dX3_doVent_72 rfl ?_
        refine js_iload_n 1 dX3_doVent_73 rfl ?_
        refine js_iload_n 2 dX3_doVent_74 rfl ?_
        refine eX3_128 rfl dX3_doVent_75 ((js_up_n (js_nek hm hs js_kOA)).trans hm) (com_sinks ((js_up_n (js_nek hm hs js_kOA)).trans hm) js_up_s (by omega) (by omega) (by omega)) (Nat.le_of_ble_eq_true rfl) (Nat.le_of_ble_eq_true rfl) ?_
        rw [js_up_up]
        show js_ok ρ mX3_doVent _ 3 0 0 78 [(0, .ref m), (1, .int (jI b)), (2, .int (jI lv))] [.int (jI (zfee (zgas f b lv) b lv))] (js_up h s (js_aI true 0 287 (zsinks (zgas f b lv) b lv)))
        exact js_iret rfl rfl dX3_doVent_78 (by rw [show zdoVent f b lv = .inr (zfee (zgas f b lv) b lv, zsinks (zgas f b lv) b lv) from by unfold zdoVent; (repeat' split) <;> first | (exfalso; omega) | rfl]; exact ⟨rfl, rfl⟩)
      · refine js_aload_n 0 dX3_doVent_41 rfl ?_
        refine js_bipush dX3_doVent_42 rfl ?_
        refine js_aload_n 0 dX3_doVent_44 rfl ?_
        refine js_iload_n 1 dX3_doVent_45 rfl ?_
        refine js_iconst dX3_doVent_46 ?_
        refine eX3_76 rfl dX3_doVent_47 hm (com_of hm hs (by omega) (by omega)) (Nat.le_of_ble_eq_true rfl) (Nat.le_of_ble_eq_true rfl) ?_
        refine eX3_83 rfl dX3_doVent_50 hm (com_refuse hm hs hr hn) (Nat.le_of_ble_eq_true rfl) (Nat.le_of_ble_eq_true rfl) ?_
        show js_ok ρ mX3_doVent _ 3 0 0 53 [(0, .ref m), (1, .int (jI b)), (2, .int (jI lv))] [.int (jI 0)] (js_up (js_up h m (js_ob true 2 [.ref s, v1, v2, v3, v4, v5, v6, .int (jI 1), .ref rf, v9, v10, v11, v12, v13, v14, v15, v16, v17, v18, v19])) rf (js_aI true 0 4 (zrf g 7 (f (13 + 9 * b + 2)))))
        exact js_iret rfl rfl dX3_doVent_53 (by rw [show zdoVent f b lv = .inl (7, (f (13 + 9 * b + 2))) from by unfold zdoVent; (repeat' split) <;> first | (exfalso; omega) | rfl]; exact ⟨rfl, rfl⟩)
    · refine js_aload_n 0 dX3_doVent_24 rfl ?_
      refine js_iconst dX3_doVent_25 ?_
      refine js_iload_n 2 dX3_doVent_26 rfl ?_
      refine eX3_83 rfl dX3_doVent_27 hm (com_refuse hm hs hr hn) (Nat.le_of_ble_eq_true rfl) (Nat.le_of_ble_eq_true rfl) ?_
      show js_ok ρ mX3_doVent _ 3 0 0 30 [(0, .ref m), (1, .int (jI b)), (2, .int (jI lv))] [.int (jI 0)] (js_up (js_up h m (js_ob true 2 [.ref s, v1, v2, v3, v4, v5, v6, .int (jI 1), .ref rf, v9, v10, v11, v12, v13, v14, v15, v16, v17, v18, v19])) rf (js_aI true 0 4 (zrf g 4 lv)))
      exact js_iret rfl rfl dX3_doVent_30 (by rw [show zdoVent f b lv = .inl (4, lv) from by unfold zdoVent; (repeat' split) <;> first | (exfalso; omega) | rfl]; exact ⟨rfl, rfl⟩)
  · refine js_aload_n 0 dX3_doVent_8 rfl ?_
    refine js_iconst dX3_doVent_9 ?_
    refine js_iload_n 1 dX3_doVent_10 rfl ?_
    refine eX3_83 rfl dX3_doVent_11 hm (com_refuse hm hs hr hn) (Nat.le_of_ble_eq_true rfl) (Nat.le_of_ble_eq_true rfl) ?_
    show js_ok ρ mX3_doVent _ 3 0 0 14 [(0, .ref m), (1, .int (jI b)), (2, .int (jI lv))] [.int (jI 0)] (js_up (js_up h m (js_ob true 2 [.ref s, v1, v2, v3, v4, v5, v6, .int (jI 1), .ref rf, v9, v10, v11, v12, v13, v14, v15, v16, v17, v18, v19])) rf (js_aI true 0 4 (zrf g 5 b)))
    exact js_iret rfl rfl dX3_doVent_14 (by rw [show zdoVent f b lv = .inl (5, b) from by unfold zdoVent; (repeat' split) <;> first | (exfalso; omega) | rfl]; exact ⟨rfl, rfl⟩)
theorem com_doTrade {ρ : js_R} {h : js_H} {m s rf : Nat} {v1 v2 v3 v4 v5 v6 v7 v9 v10 v11 v12 v13 v14 v15 v16 v17 v18 v19 : Value} {f g : Int → Int} {T b c sk : Int} (hm : h m = some (js_ob true 2 [.ref s, v1, v2, v3, v4, v5, v6, v7, .ref rf, v9, v10, v11, v12, v13, v14, v15, v16, v17, v18, v19])) (hs : h s = some (js_aI true 0 287 f)) (hr : h rf = some (js_aI true 0 4 g)) (hn : s ≠ rf) (hI : zI T f) (rb : -2147483648 ≤ b ∧ b < 2147483648) (rc : -2147483648 ≤ c ∧ c < 2147483648) (rsk : -2147483648 ≤ sk ∧ sk < 2147483648) : js_Con ρ mX3_doTrade 3 0 0 [.ref m, .int (jI b), .int (jI c), .int (jI sk)] h (js_ret (some (.int (jI (zoR (zdoTrade f b c sk))))) (zoH h m s rf (js_ob true 2 [.ref s, v1, v2, v3, v4, v5, v6, .int (jI 1), .ref rf, v9, v10, v11, v12, v13, v14, v15, v16, v17, v18, v19]) g (zdoTrade f b c sk))) := by
  refine js_body [(0, .ref m), (1, .int (jI b)), (2, .int (jI c)), (3, .int (jI sk))] rfl (by decide) (Nat.le_of_ble_eq_true rfl) rfl ?_
  have h01 := zI_01 hI
  refine js_aload_n 0 dX3_doTrade_0 rfl ?_
  refine js_iload_n 1 dX3_doTrade_1 rfl ?_
  refine eX3_113 rfl dX3_doTrade_2 hm (com_isBalloon hm hs (by omega) (by omega)) (Nat.le_of_ble_eq_true rfl) (Nat.le_of_ble_eq_true rfl) ?_
  refine js_if_eqB (tgt := 16) dX3_doTrade_5 (by decide) (fun c1 => ?_) (fun c1 => ?_)
  · refine js_aload_n 0 dX3_doTrade_16 rfl ?_
    refine js_iconst dX3_doTrade_17 ?_
    refine js_aload_n 0 dX3_doTrade_18 rfl ?_
    refine js_iload_n 1 dX3_doTrade_19 rfl ?_
    refine eX3_113 rfl dX3_doTrade_20 hm (com_isBalloon hm hs (by omega) (by omega)) (Nat.le_of_ble_eq_true rfl) (Nat.le_of_ble_eq_true rfl) ?_
    refine js_if_eqB (tgt := 30) dX3_doTrade_23 (by decide) (fun c2 => ?_) (fun c2 => ?_)
    · refine js_iload_n 1 dX3_doTrade_30 rfl ?_
      refine eX3_83 rfl dX3_doTrade_31 hm (com_refuse hm hs hr hn) (Nat.le_of_ble_eq_true rfl) (Nat.le_of_ble_eq_true rfl) ?_
      show js_ok ρ mX3_doTrade _ 3 0 0 34 [(0, .ref m), (1, .int (jI b)), (2, .int (jI c)), (3, .int (jI sk))] [.int (jI 0)] (js_up (js_up h m (js_ob true 2 [.ref s, v1, v2, v3, v4, v5, v6, .int (jI 1), .ref rf, v9, v10, v11, v12, v13, v14, v15, v16, v17, v18, v19])) rf (js_aI true 0 4 (zrf g 5 b)))
      exact js_iret rfl rfl dX3_doTrade_34 (by rw [show zdoTrade f b c sk = .inl (5, b) from by unfold zdoTrade; (repeat' split) <;> first | (exfalso; omega) | rfl]; exact ⟨rfl, rfl⟩)
    · refine js_iload_n 2 dX3_doTrade_26 rfl ?_
      refine js_goto (tgt := 31) dX3_doTrade_27 (by decide) ?_
      refine eX3_83 rfl dX3_doTrade_31 hm (com_refuse hm hs hr hn) (Nat.le_of_ble_eq_true rfl) (Nat.le_of_ble_eq_true rfl) ?_
      show js_ok ρ mX3_doTrade _ 3 0 0 34 [(0, .ref m), (1, .int (jI b)), (2, .int (jI c)), (3, .int (jI sk))] [.int (jI 0)] (js_up (js_up h m (js_ob true 2 [.ref s, v1, v2, v3, v4, v5, v6, .int (jI 1), .ref rf, v9, v10, v11, v12, v13, v14, v15, v16, v17, v18, v19])) rf (js_aI true 0 4 (zrf g 5 c)))
      exact js_iret rfl rfl dX3_doTrade_34 (by rw [show zdoTrade f b c sk = .inl (5, c) from by unfold zdoTrade; (repeat' split) <;> first | (exfalso; omega) | rfl]; exact ⟨rfl, rfl⟩)
  · refine js_aload_n 0 dX3_doTrade_8 rfl ?_
    refine js_iload_n 2 dX3_doTrade_9 rfl ?_
    refine eX3_113 rfl dX3_doTrade_10 hm (com_isBalloon hm hs (by omega) (by omega)) (Nat.le_of_ble_eq_true rfl) (Nat.le_of_ble_eq_true rfl) ?_
    refine js_if_neB (tgt := 35) dX3_doTrade_13 (by decide) (fun c3 => ?_) (fun c3 => ?_)
    · refine js_iload_n 1 dX3_doTrade_35 rfl ?_
      refine js_iload_n 2 dX3_doTrade_36 rfl ?_
      refine js_icmp_ne (tgt := 48) dX3_doTrade_37 (by decide) (by omega) (fun c4 => ?_) (fun c4 => ?_)
      · refine js_iload_n 3 dX3_doTrade_48 rfl ?_
        refine js_iconst dX3_doTrade_49 ?_
        refine js_bipush dX3_doTrade_50 rfl ?_
        refine eX3_61 rfl dX3_doTrade_52 (com_in (by omega) (by omega) (by omega)) (Nat.le_of_ble_eq_true rfl) (Nat.le_of_ble_eq_true rfl) ?_
        refine js_if_neB (tgt := 65) dX3_doTrade_55 (by decide) (fun c5 => ?_) (fun c5 => ?_)
        · have hb : 0 ≤ b ∧ b < f 0 := by omega
          have hB := zI_B hI hb.1 hb.2
          have hp := zIB_p hB
          unfold zIB at hB
          have hc : 0 ≤ c ∧ c < f 0 := by omega
          have hC := zI_B hI hc.1 hc.2
          have hq := zIB_p hC
          unfold zIB at hC
          have hz := zapt_r (f := f) (b := b) (c := c) (by omega) (by omega)
          have ha := zabs_c (f (13 + 9 * b + 2) - f (13 + 9 * c + 2))
          refine js_join 99 [(0, .ref m), (1, .int (jI b)), (2, .int (jI c)), (3, .int (jI sk))] [] h (zapt f b c) (fun z hz => ?_) (fun J6 => ?_)
          · subst hz
            refine js_istore (L' := [(4, .int (jI (zapt f b c))), (0, .ref m), (1, .int (jI b)), (2, .int (jI c)), (3, .int (jI sk))]) dX3_doTrade_99 (by decide) rfl ?_
            refine js_iload 0 dX3_doTrade_101 rfl ?_
            refine js_iconst dX3_doTrade_103 ?_
            refine js_icmp_le (tgt := 116) dX3_doTrade_104 (by decide) (by omega) (fun c7 => ?_) (fun c7 => ?_)
            · refine js_aload_n 1 dX3_doTrade_116 rfl ?_
              refine js_iload_n 2 dX3_doTrade_117 rfl ?_
              refine js_iconst dX3_doTrade_118 ?_
              refine eX3_76 rfl dX3_doTrade_119 hm (com_of hm hs (by omega) (by omega)) (Nat.le_of_ble_eq_true rfl) (Nat.le_of_ble_eq_true rfl) ?_
              refine js_iload_n 4 dX3_doTrade_122 rfl ?_
              refine js_icmp_ge (tgt := 139) dX3_doTrade_123 (by decide) (by omega) (fun c8 => ?_) (fun c8 => ?_)
              · refine js_bipush dX3_doTrade_139 rfl ?_
                refine js_aload_n 1 dX3_doTrade_141 rfl ?_
                refine js_iload_n 3 dX3_doTrade_142 rfl ?_
                refine js_iconst dX3_doTrade_143 ?_
                refine eX3_76 rfl dX3_doTrade_144 hm (com_of hm hs (by omega) (by omega)) (Nat.le_of_ble_eq_true rfl) (Nat.le_of_ble_eq_true rfl) ?_
                refine js_isub dX3_doTrade_147 ?_
                refine js_istore (L' := [(5, .int (jI (20 - (f (13 + 9 * c + 3))))), (4, .int (jI (zapt f b c))), (0, .ref m), (1, .int (jI b)), (2, .int (jI c)), (3, .int (jI sk))]) dX3_doTrade_148 (by decide) rfl ?_
                refine js_iload_n 5 dX3_doTrade_150 rfl ?_
                refine js_iload 0 dX3_doTrade_151 rfl ?_
                refine js_icmp_le (tgt := 165) dX3_doTrade_153 (by decide) (by omega) (fun c9 => ?_) (fun c9 => ?_)
                · refine js_aload_n 2 dX3_doTrade_165 rfl ?_
                  refine js_iload_n 3 dX3_doTrade_166 rfl ?_
                  refine js_iconst dX3_doTrade_167 ?_
                  refine js_aload_n 2 dX3_doTrade_168 rfl ?_
                  refine js_iload_n 3 dX3_doTrade_169 rfl ?_
                  refine js_iconst dX3_doTrade_170 ?_
                  refine eX3_76 rfl dX3_doTrade_171 hm (com_of hm hs (by omega) (by omega)) (Nat.le_of_ble_eq_true rfl) (Nat.le_of_ble_eq_true rfl) ?_
                  refine js_iload_n 5 dX3_doTrade_174 rfl ?_
                  refine js_isub dX3_doTrade_175 ?_
                  refine eX3_86 rfl dX3_doTrade_176 hm (com_sets hm hs (by omega) (by omega)) (Nat.le_of_ble_eq_true rfl) (Nat.le_of_ble_eq_true rfl) ?_
                  show js_ok ρ mX3_doTrade _ 3 0 0 179 [(5, .int (jI (20 - (f (13 + 9 * c + 3))))), (4, .int (jI (zapt f b c))), (0, .ref m), (1, .int (jI b)), (2, .int (jI c)), (3, .int (jI sk))] [] (js_up h s (js_aI true 0 287 (js_uz f (13 + 9 * b + 3) ((f (13 + 9 * b + 3)) - sk))))
                  refine js_aload_n 2 dX3_doTrade_179 rfl ?_
                  refine js_iload_n 4 dX3_doTrade_180 rfl ?_
                  refine js_iconst dX3_doTrade_181 ?_
                  refine js_aload_n 2 dX3_doTrade_182 rfl ?_
                  refine js_iload_n 4 dX3_doTrade_183 rfl ?_
                  refine js_iconst dX3_doTrade_184 ?_
                  refine eX3_76 rfl dX3_doTrade_185 ((js_up_n (js_nek hm hs js_kOA)).trans hm) (com_of ((js_up_n (js_nek hm hs js_kOA)).trans hm) js_up_s (by omega) (by omega)) (Nat.le_of_ble_eq_true rfl) (Nat.le_of_ble_eq_true rfl) ?_
                  rw [show (js_uz f (13 + 9 * b + 3) ((f (13 + 9 * b + 3)) - sk)) (13 + 9 * c + 3) = f (13 + 9 * c + 3) from by rw [js_uz_n (by omega)]]
                  refine js_iload_n 5 dX3_doTrade_188 rfl ?_
                  refine js_iadd dX3_doTrade_189 ?_
                  refine eX3_86 rfl dX3_doTrade_190 ((js_up_n (js_nek hm hs js_kOA)).trans hm) (com_sets ((js_up_n (js_nek hm hs js_kOA)).trans hm) js_up_s (by omega) (by omega)) (Nat.le_of_ble_eq_true rfl) (Nat.le_of_ble_eq_true rfl) ?_
                  rw [js_up_up]
                  show js_ok ρ mX3_doTrade _ 3 0 0 193 [(5, .int (jI (20 - (f (13 + 9 * c + 3))))), (4, .int (jI (zapt f b c))), (0, .ref m), (1, .int (jI b)), (2, .int (jI c)), (3, .int (jI sk))] [] (js_up h s (js_aI true 0 287 (js_uz (js_uz f (13 + 9 * b + 3) ((f (13 + 9 * b + 3)) - sk)) (13 + 9 * c + 3) ((f (13 + 9 * c + 3)) + sk))))
                  refine js_aload_n 2 dX3_doTrade_193 rfl ?_
                  refine js_iload_n 4 dX3_doTrade_194 rfl ?_
                  refine js_iconst dX3_doTrade_195 ?_
                  refine eX3_76 rfl dX3_doTrade_196 ((js_up_n (js_nek hm hs js_kOA)).trans hm) (com_of ((js_up_n (js_nek hm hs js_kOA)).trans hm) js_up_s (by omega) (by omega)) (Nat.le_of_ble_eq_true rfl) (Nat.le_of_ble_eq_true rfl) ?_
                  rw [show (js_uz (js_uz f (13 + 9 * b + 3) ((f (13 + 9 * b + 3)) - sk)) (13 + 9 * c + 3) ((f (13 + 9 * c + 3)) + sk)) (13 + 9 * c + 3) = (f (13 + 9 * c + 3)) + sk from by rw [js_uz_s]]
                  exact js_iret rfl rfl dX3_doTrade_199 (by rw [show zdoTrade f b c sk = .inr ((f (13 + 9 * c + 3)) + sk, js_uz (js_uz f (13 + 9 * b + 3) ((f (13 + 9 * b + 3)) - sk)) (13 + 9 * c + 3) ((f (13 + 9 * c + 3)) + sk)) from by unfold zdoTrade; (repeat' split) <;> first | (exfalso; omega) | rfl]; exact ⟨rfl, rfl⟩)
                · refine js_aload_n 2 dX3_doTrade_156 rfl ?_
                  refine js_bipush dX3_doTrade_157 rfl ?_
                  refine js_iload 0 dX3_doTrade_159 rfl ?_
                  refine eX3_83 rfl dX3_doTrade_161 hm (com_refuse hm hs hr hn) (Nat.le_of_ble_eq_true rfl) (Nat.le_of_ble_eq_true rfl) ?_
                  show js_ok ρ mX3_doTrade _ 3 0 0 164 [(5, .int (jI (20 - (f (13 + 9 * c + 3))))), (4, .int (jI (zapt f b c))), (0, .ref m), (1, .int (jI b)), (2, .int (jI c)), (3, .int (jI sk))] [.int (jI 0)] (js_up (js_up h m (js_ob true 2 [.ref s, v1, v2, v3, v4, v5, v6, .int (jI 1), .ref rf, v9, v10, v11, v12, v13, v14, v15, v16, v17, v18, v19])) rf (js_aI true 0 4 (zrf g 10 (20 - (f (13 + 9 * c + 3))))))
                  exact js_iret rfl rfl dX3_doTrade_164 (by rw [show zdoTrade f b c sk = .inl (10, (20 - (f (13 + 9 * c + 3)))) from by unfold zdoTrade; (repeat' split) <;> first | (exfalso; omega) | rfl]; exact ⟨rfl, rfl⟩)
              · refine js_aload_n 1 dX3_doTrade_126 rfl ?_
                refine js_bipush dX3_doTrade_127 rfl ?_
                refine js_aload_n 1 dX3_doTrade_129 rfl ?_
                refine js_iload_n 2 dX3_doTrade_130 rfl ?_
                refine js_iconst dX3_doTrade_131 ?_
                refine eX3_76 rfl dX3_doTrade_132 hm (com_of hm hs (by omega) (by omega)) (Nat.le_of_ble_eq_true rfl) (Nat.le_of_ble_eq_true rfl) ?_
                refine eX3_83 rfl dX3_doTrade_135 hm (com_refuse hm hs hr hn) (Nat.le_of_ble_eq_true rfl) (Nat.le_of_ble_eq_true rfl) ?_
                show js_ok ρ mX3_doTrade _ 3 0 0 138 [(4, .int (jI (zapt f b c))), (0, .ref m), (1, .int (jI b)), (2, .int (jI c)), (3, .int (jI sk))] [.int (jI 0)] (js_up (js_up h m (js_ob true 2 [.ref s, v1, v2, v3, v4, v5, v6, .int (jI 1), .ref rf, v9, v10, v11, v12, v13, v14, v15, v16, v17, v18, v19])) rf (js_aI true 0 4 (zrf g 6 (f (13 + 9 * b + 3)))))
                exact js_iret rfl rfl dX3_doTrade_138 (by rw [show zdoTrade f b c sk = .inl (6, (f (13 + 9 * b + 3))) from by unfold zdoTrade; (repeat' split) <;> first | (exfalso; omega) | rfl]; exact ⟨rfl, rfl⟩)
            · refine js_aload_n 1 dX3_doTrade_107 rfl ?_
              refine js_bipush dX3_doTrade_108 rfl ?_
              refine js_iload 0 dX3_doTrade_110 rfl ?_
              refine eX3_83 rfl dX3_doTrade_112 hm (com_refuse hm hs hr hn) (Nat.le_of_ble_eq_true rfl) (Nat.le_of_ble_eq_true rfl) ?_
              show js_ok ρ mX3_doTrade _ 3 0 0 115 [(4, .int (jI (zapt f b c))), (0, .ref m), (1, .int (jI b)), (2, .int (jI c)), (3, .int (jI sk))] [.int (jI 0)] (js_up (js_up h m (js_ob true 2 [.ref s, v1, v2, v3, v4, v5, v6, .int (jI 1), .ref rf, v9, v10, v11, v12, v13, v14, v15, v16, v17, v18, v19])) rf (js_aI true 0 4 (zrf g 9 (zapt f b c))))
              exact js_iret rfl rfl dX3_doTrade_115 (by rw [show zdoTrade f b c sk = .inl (9, (zapt f b c)) from by unfold zdoTrade; (repeat' split) <;> first | (exfalso; omega) | rfl]; exact ⟨rfl, rfl⟩)
          · refine js_aload_n 0 dX3_doTrade_65 rfl ?_
            refine js_iload_n 1 dX3_doTrade_66 rfl ?_
            refine eX3_120 rfl dX3_doTrade_67 hm (com_pointOf hm hs (by omega)) (Nat.le_of_ble_eq_true rfl) (Nat.le_of_ble_eq_true rfl) ?_
            refine js_aload_n 0 dX3_doTrade_70 rfl ?_
            refine js_iload_n 2 dX3_doTrade_71 rfl ?_
            refine eX3_120 rfl dX3_doTrade_72 hm (com_pointOf hm hs (by omega)) (Nat.le_of_ble_eq_true rfl) (Nat.le_of_ble_eq_true rfl) ?_
            refine js_icmp_ne (tgt := 97) dX3_doTrade_75 (by decide) (by omega) (fun c10 => ?_) (fun c10 => ?_)
            · refine js_bipush dX3_doTrade_97 rfl ?_
              exact J6 _ (by unfold zapt; (repeat' split) <;> omega)
            · refine js_aload_n 0 dX3_doTrade_78 rfl ?_
              refine js_iload_n 1 dX3_doTrade_79 rfl ?_
              refine js_iconst dX3_doTrade_80 ?_
              refine eX3_76 rfl dX3_doTrade_81 hm (com_of hm hs (by omega) (by omega)) (Nat.le_of_ble_eq_true rfl) (Nat.le_of_ble_eq_true rfl) ?_
              refine js_aload_n 0 dX3_doTrade_84 rfl ?_
              refine js_iload_n 2 dX3_doTrade_85 rfl ?_
              refine js_iconst dX3_doTrade_86 ?_
              refine eX3_76 rfl dX3_doTrade_87 hm (com_of hm hs (by omega) (by omega)) (Nat.le_of_ble_eq_true rfl) (Nat.le_of_ble_eq_true rfl) ?_
              refine js_isub dX3_doTrade_90 ?_
              refine js_mabs q2426 dX3_doTrade_91 (by omega) (Nat.le_of_ble_eq_true rfl) (Nat.le_of_ble_eq_true rfl) ?_
              refine js_goto (tgt := 99) dX3_doTrade_94 (by decide) ?_
              exact J6 _ (by unfold zapt; (repeat' split) <;> omega)
        · refine js_aload_n 0 dX3_doTrade_58 rfl ?_
          refine js_iconst dX3_doTrade_59 ?_
          refine js_iload_n 3 dX3_doTrade_60 rfl ?_
          refine eX3_83 rfl dX3_doTrade_61 hm (com_refuse hm hs hr hn) (Nat.le_of_ble_eq_true rfl) (Nat.le_of_ble_eq_true rfl) ?_
          show js_ok ρ mX3_doTrade _ 3 0 0 64 [(0, .ref m), (1, .int (jI b)), (2, .int (jI c)), (3, .int (jI sk))] [.int (jI 0)] (js_up (js_up h m (js_ob true 2 [.ref s, v1, v2, v3, v4, v5, v6, .int (jI 1), .ref rf, v9, v10, v11, v12, v13, v14, v15, v16, v17, v18, v19])) rf (js_aI true 0 4 (zrf g 4 sk)))
          exact js_iret rfl rfl dX3_doTrade_64 (by rw [show zdoTrade f b c sk = .inl (4, sk) from by unfold zdoTrade; (repeat' split) <;> first | (exfalso; omega) | rfl]; exact ⟨rfl, rfl⟩)
      · refine js_aload_n 0 dX3_doTrade_40 rfl ?_
        refine js_bipush dX3_doTrade_41 rfl ?_
        refine js_iload_n 1 dX3_doTrade_43 rfl ?_
        refine eX3_83 rfl dX3_doTrade_44 hm (com_refuse hm hs hr hn) (Nat.le_of_ble_eq_true rfl) (Nat.le_of_ble_eq_true rfl) ?_
        show js_ok ρ mX3_doTrade _ 3 0 0 47 [(0, .ref m), (1, .int (jI b)), (2, .int (jI c)), (3, .int (jI sk))] [.int (jI 0)] (js_up (js_up h m (js_ob true 2 [.ref s, v1, v2, v3, v4, v5, v6, .int (jI 1), .ref rf, v9, v10, v11, v12, v13, v14, v15, v16, v17, v18, v19])) rf (js_aI true 0 4 (zrf g 11 b)))
        exact js_iret rfl rfl dX3_doTrade_47 (by rw [show zdoTrade f b c sk = .inl (11, b) from by unfold zdoTrade; (repeat' split) <;> first | (exfalso; omega) | rfl]; exact ⟨rfl, rfl⟩)
    · refine js_aload_n 0 dX3_doTrade_16 rfl ?_
      refine js_iconst dX3_doTrade_17 ?_
      refine js_aload_n 0 dX3_doTrade_18 rfl ?_
      refine js_iload_n 1 dX3_doTrade_19 rfl ?_
      refine eX3_113 rfl dX3_doTrade_20 hm (com_isBalloon hm hs (by omega) (by omega)) (Nat.le_of_ble_eq_true rfl) (Nat.le_of_ble_eq_true rfl) ?_
      refine js_if_eqB (tgt := 30) dX3_doTrade_23 (by decide) (fun c11 => ?_) (fun c11 => ?_)
      · refine js_iload_n 1 dX3_doTrade_30 rfl ?_
        refine eX3_83 rfl dX3_doTrade_31 hm (com_refuse hm hs hr hn) (Nat.le_of_ble_eq_true rfl) (Nat.le_of_ble_eq_true rfl) ?_
        show js_ok ρ mX3_doTrade _ 3 0 0 34 [(0, .ref m), (1, .int (jI b)), (2, .int (jI c)), (3, .int (jI sk))] [.int (jI 0)] (js_up (js_up h m (js_ob true 2 [.ref s, v1, v2, v3, v4, v5, v6, .int (jI 1), .ref rf, v9, v10, v11, v12, v13, v14, v15, v16, v17, v18, v19])) rf (js_aI true 0 4 (zrf g 5 b)))
        exact js_iret rfl rfl dX3_doTrade_34 (by rw [show zdoTrade f b c sk = .inl (5, b) from by unfold zdoTrade; (repeat' split) <;> first | (exfalso; omega) | rfl]; exact ⟨rfl, rfl⟩)
      · refine js_iload_n 2 dX3_doTrade_26 rfl ?_
        refine js_goto (tgt := 31) dX3_doTrade_27 (by decide) ?_
        refine eX3_83 rfl dX3_doTrade_31 hm (com_refuse hm hs hr hn) (Nat.le_of_ble_eq_true rfl) (Nat.le_of_ble_eq_true rfl) ?_
        show js_ok ρ mX3_doTrade _ 3 0 0 34 [(0, .ref m), (1, .int (jI b)), (2, .int (jI c)), (3, .int (jI sk))] [.int (jI 0)] (js_up (js_up h m (js_ob true 2 [.ref s, v1, v2, v3, v4, v5, v6, .int (jI 1), .ref rf, v9, v10, v11, v12, v13, v14, v15, v16, v17, v18, v19])) rf (js_aI true 0 4 (zrf g 5 c)))
        exact js_iret rfl rfl dX3_doTrade_34 (by rw [show zdoTrade f b c sk = .inl (5, c) from by unfold zdoTrade; (repeat' split) <;> first | (exfalso; omega) | rfl]; exact ⟨rfl, rfl⟩)
theorem com_doSeal {ρ : js_R} {h : js_H} {m s rf : Nat} {v1 v2 v3 v4 v5 v6 v7 v9 v10 v11 v12 v13 v14 v15 v16 v17 v18 v19 : Value} {f g : Int → Int} {T b ht : Int} (hm : h m = some (js_ob true 2 [.ref s, v1, v2, v3, v4, v5, v6, v7, .ref rf, v9, v10, v11, v12, v13, v14, v15, v16, v17, v18, v19])) (hs : h s = some (js_aI true 0 287 f)) (hr : h rf = some (js_aI true 0 4 g)) (hn : s ≠ rf) (hI : zI T f) (rb : -2147483648 ≤ b ∧ b < 2147483648) (rht : -2147483648 ≤ ht ∧ ht < 2147483648) : js_Con ρ mX3_doSeal 2 0 0 [.ref m, .int (jI b), .int (jI ht)] h (js_ret (some (.int (jI (zoR (zdoSeal f b ht))))) (zoH h m s rf (js_ob true 2 [.ref s, v1, v2, v3, v4, v5, v6, .int (jI 1), .ref rf, v9, v10, v11, v12, v13, v14, v15, v16, v17, v18, v19]) g (zdoSeal f b ht))) := by
  refine js_body [(0, .ref m), (1, .int (jI b)), (2, .int (jI ht))] rfl (by decide) (Nat.le_of_ble_eq_true rfl) rfl ?_
  have h01 := zI_01 hI
  refine js_aload_n 0 dX3_doSeal_0 rfl ?_
  refine js_iload_n 1 dX3_doSeal_1 rfl ?_
  refine eX3_113 rfl dX3_doSeal_2 hm (com_isBalloon hm hs (by omega) (by omega)) (Nat.le_of_ble_eq_true rfl) (Nat.le_of_ble_eq_true rfl) ?_
  refine js_if_neB (tgt := 15) dX3_doSeal_5 (by decide) (fun c1 => ?_) (fun c1 => ?_)
  · refine js_iload_n 2 dX3_doSeal_15 rfl ?_
    refine js_iconst dX3_doSeal_16 ?_
    refine js_iconst dX3_doSeal_17 ?_
    refine eX3_61 rfl dX3_doSeal_18 (com_in (by omega) (by omega) (by omega)) (Nat.le_of_ble_eq_true rfl) (Nat.le_of_ble_eq_true rfl) ?_
    refine js_if_neB (tgt := 31) dX3_doSeal_21 (by decide) (fun c2 => ?_) (fun c2 => ?_)
    · have hb : 0 ≤ b ∧ b < f 0 := by omega
      have hB := zI_B hI hb.1 hb.2
      have hp := zIB_p hB
      unfold zIB at hB
      refine js_aload_n 0 dX3_doSeal_31 rfl ?_
      refine js_iload_n 1 dX3_doSeal_32 rfl ?_
      refine js_bipush dX3_doSeal_33 rfl ?_
      refine eX3_76 rfl dX3_doSeal_35 hm (com_of hm hs (by omega) (by omega)) (Nat.le_of_ble_eq_true rfl) (Nat.le_of_ble_eq_true rfl) ?_
      refine js_istore_n (L' := [(3, .int (jI (f (13 + 9 * b + 8)))), (0, .ref m), (1, .int (jI b)), (2, .int (jI ht))]) dX3_doSeal_38 (by decide) rfl ?_
      refine js_iload_n 0 dX3_doSeal_39 rfl ?_
      refine js_iload_n 3 dX3_doSeal_40 rfl ?_
      refine js_icmp_ne (tgt := 51) dX3_doSeal_41 (by decide) (by omega) (fun c3 => ?_) (fun c3 => ?_)
      · refine js_aload_n 1 dX3_doSeal_51 rfl ?_
        refine js_iload_n 2 dX3_doSeal_52 rfl ?_
        refine js_bipush dX3_doSeal_53 rfl ?_
        refine js_iload_n 3 dX3_doSeal_55 rfl ?_
        refine eX3_86 rfl dX3_doSeal_56 hm (com_sets hm hs (by omega) (by omega)) (Nat.le_of_ble_eq_true rfl) (Nat.le_of_ble_eq_true rfl) ?_
        show js_ok ρ mX3_doSeal _ 2 0 0 59 [(3, .int (jI (f (13 + 9 * b + 8)))), (0, .ref m), (1, .int (jI b)), (2, .int (jI ht))] [] (js_up h s (js_aI true 0 287 (js_uz f (13 + 9 * b + 8) ht)))
        refine js_iload_n 0 dX3_doSeal_59 rfl ?_
        exact js_iret rfl rfl dX3_doSeal_60 (by rw [show zdoSeal f b ht = .inr (f (13 + 9 * b + 8), js_uz f (13 + 9 * b + 8) ht) from by unfold zdoSeal; (repeat' split) <;> first | (exfalso; omega) | rfl]; exact ⟨rfl, rfl⟩)
      · refine js_aload_n 1 dX3_doSeal_44 rfl ?_
        refine js_iconst dX3_doSeal_45 ?_
        refine js_iload_n 3 dX3_doSeal_46 rfl ?_
        refine eX3_83 rfl dX3_doSeal_47 hm (com_refuse hm hs hr hn) (Nat.le_of_ble_eq_true rfl) (Nat.le_of_ble_eq_true rfl) ?_
        show js_ok ρ mX3_doSeal _ 2 0 0 50 [(3, .int (jI (f (13 + 9 * b + 8)))), (0, .ref m), (1, .int (jI b)), (2, .int (jI ht))] [.int (jI 0)] (js_up (js_up h m (js_ob true 2 [.ref s, v1, v2, v3, v4, v5, v6, .int (jI 1), .ref rf, v9, v10, v11, v12, v13, v14, v15, v16, v17, v18, v19])) rf (js_aI true 0 4 (zrf g 3 ht)))
        exact js_iret rfl rfl dX3_doSeal_50 (by rw [show zdoSeal f b ht = .inl (3, ht) from by unfold zdoSeal; (repeat' split) <;> first | (exfalso; omega) | rfl]; exact ⟨rfl, rfl⟩)
    · refine js_aload_n 0 dX3_doSeal_24 rfl ?_
      refine js_iconst dX3_doSeal_25 ?_
      refine js_iload_n 2 dX3_doSeal_26 rfl ?_
      refine eX3_83 rfl dX3_doSeal_27 hm (com_refuse hm hs hr hn) (Nat.le_of_ble_eq_true rfl) (Nat.le_of_ble_eq_true rfl) ?_
      show js_ok ρ mX3_doSeal _ 2 0 0 30 [(0, .ref m), (1, .int (jI b)), (2, .int (jI ht))] [.int (jI 0)] (js_up (js_up h m (js_ob true 2 [.ref s, v1, v2, v3, v4, v5, v6, .int (jI 1), .ref rf, v9, v10, v11, v12, v13, v14, v15, v16, v17, v18, v19])) rf (js_aI true 0 4 (zrf g 4 ht)))
      exact js_iret rfl rfl dX3_doSeal_30 (by rw [show zdoSeal f b ht = .inl (4, ht) from by unfold zdoSeal; (repeat' split) <;> first | (exfalso; omega) | rfl]; exact ⟨rfl, rfl⟩)
  · refine js_aload_n 0 dX3_doSeal_8 rfl ?_
    refine js_iconst dX3_doSeal_9 ?_
    refine js_iload_n 1 dX3_doSeal_10 rfl ?_
    refine eX3_83 rfl dX3_doSeal_11 hm (com_refuse hm hs hr hn) (Nat.le_of_ble_eq_true rfl) (Nat.le_of_ble_eq_true rfl) ?_
    show js_ok ρ mX3_doSeal _ 2 0 0 14 [(0, .ref m), (1, .int (jI b)), (2, .int (jI ht))] [.int (jI 0)] (js_up (js_up h m (js_ob true 2 [.ref s, v1, v2, v3, v4, v5, v6, .int (jI 1), .ref rf, v9, v10, v11, v12, v13, v14, v15, v16, v17, v18, v19])) rf (js_aI true 0 4 (zrf g 5 b)))
    exact js_iret rfl rfl dX3_doSeal_14 (by rw [show zdoSeal f b ht = .inl (5, b) from by unfold zdoSeal; (repeat' split) <;> first | (exfalso; omega) | rfl]; exact ⟨rfl, rfl⟩)
theorem com_spireOn {ρ : js_R} {h : js_H} {m s : Nat} {v1 v2 v3 v4 v5 v6 v7 v8 v9 v10 v11 v12 v13 v14 v15 v16 v17 v18 v19 : Value} {f : Int → Int} {T p : Int} (hm : h m = some (js_ob true 2 [.ref s, v1, v2, v3, v4, v5, v6, v7, v8, v9, v10, v11, v12, v13, v14, v15, v16, v17, v18, v19])) (hs : h s = some (js_aI true 0 287 f)) (hI : zI T f) (rp : -1000 ≤ p ∧ p ≤ 1000) : js_Con ρ mX3_spireOn 1 0 0 [.ref m, .int (jI p)] h (js_ret (some (.int (jI (zspon f p)))) h) := by
  refine js_body [(0, .ref m), (1, .int (jI p))] rfl (by decide) (Nat.le_of_ble_eq_true rfl) rfl ?_
  have h01 := zI_01 hI
  refine js_iconst dX3_spireOn_0 ?_
  refine js_istore_n (L' := [(2, .int (jI (-1))), (0, .ref m), (1, .int (jI p))]) dX3_spireOn_1 (by decide) rfl ?_
  refine js_iconst dX3_spireOn_2 ?_
  refine js_istore_n (L' := [(3, .int (jI 0)), (2, .int (jI (-1))), (0, .ref m), (1, .int (jI p))]) dX3_spireOn_3 (by decide) rfl ?_
  refine js_sub (L' := [(0, .ref m), (1, .int (jI p)), (2, .int (jI (-1))), (3, .int (jI 0))]) [2, 3, 1, 0] rfl ?_
  refine js_loop (σ := Nat) (fun k => (k : Int) ≤ f 1) (fun k => (f 1).toNat - k) (fun k => 0) (fun k => 0) 4 (fun k => [(0, .ref m), (1, .int (jI p)), (2, .int (jI (zson f p k))), (3, .int (jI ((k : Int))))]) (fun k => []) (fun k => h) (fun k hk IHk => ?_) 0 h01.2.1
  show js_ok ρ mX3_spireOn _ 1 0 0 4 [(0, .ref m), (1, .int (jI p)), (2, .int (jI (zson f p k))), (3, .int (jI ((k : Int))))] [] h
  refine js_iload_n 3 dX3_spireOn_4 rfl ?_
  refine js_aload_n 0 dX3_spireOn_5 rfl ?_
  refine gX3_9 rfl dX3_spireOn_6 hm rfl ?_
  refine js_iconst dX3_spireOn_9 ?_
  refine js_iaload dX3_spireOn_10 hs (by omega) ?_
  refine js_icmp_ge (tgt := 57) dX3_spireOn_11 (by decide) (by omega) (fun c2 => ?_) (fun c2 => ?_)
  · refine js_iload_n 2 dX3_spireOn_57 rfl ?_
    exact js_iret rfl rfl dX3_spireOn_58 ⟨js_reti (by unfold zspon; rw [show (f 1).toNat = k by omega]), rfl⟩
  · have hP := zI_P hI (i := (k : Int)) (by omega) (by omega)
    have hs2 := zIP_p hP
    unfold zIP at hP
    unfold zsp at hs2
    refine js_bipush dX3_spireOn_14 rfl ?_
    refine js_iconst dX3_spireOn_16 ?_
    refine js_iload_n 3 dX3_spireOn_17 rfl ?_
    refine js_imul dX3_spireOn_18 ?_
    refine js_iadd dX3_spireOn_19 ?_
    refine js_istore (L' := [(4, .int (jI (67 + (4 * ((k : Int)))))), (0, .ref m), (1, .int (jI p)), (2, .int (jI (zson f p k))), (3, .int (jI ((k : Int))))]) dX3_spireOn_20 (by decide) rfl ?_
    refine js_join 50 [(4, .int (jI (67 + (4 * ((k : Int)))))), (0, .ref m), (1, .int (jI p)), (2, .int (jI (zson f p k))), (3, .int (jI ((k : Int))))] [] h (zson f p (k + 1)) (fun z hz => ?_) (fun J3 => ?_)
    · subst hz
      refine js_istore_n (L' := [(2, .int (jI (zson f p (k + 1)))), (4, .int (jI (67 + (4 * ((k : Int)))))), (0, .ref m), (1, .int (jI p)), (3, .int (jI ((k : Int))))]) dX3_spireOn_50 (by decide) rfl ?_
      refine js_iinc (L' := [(3, .int (jI (((k : Int)) + 1))), (2, .int (jI (zson f p (k + 1)))), (4, .int (jI (67 + (4 * ((k : Int)))))), (0, .ref m), (1, .int (jI p))]) 4 dX3_spireOn_51 rfl (by decide) rfl ?_
      refine js_goto (tgt := 4) dX3_spireOn_54 (by decide) ?_
      refine js_sub (L' := [(0, .ref m), (1, .int (jI p)), (2, .int (jI (zson f p (k + 1)))), (3, .int (jI (((k : Int)) + 1)))]) [3, 4, 1, 0] rfl ?_
      exact IHk (k + 1) (by omega) (by omega)
    · refine js_aload_n 1 dX3_spireOn_22 rfl ?_
      refine gX3_9 rfl dX3_spireOn_23 hm rfl ?_
      refine js_iload 0 dX3_spireOn_26 rfl ?_
      refine js_iaload dX3_spireOn_28 hs (by omega) ?_
      refine js_aload_n 1 dX3_spireOn_29 rfl ?_
      refine gX3_9 rfl dX3_spireOn_30 hm rfl ?_
      refine js_iload 0 dX3_spireOn_33 rfl ?_
      refine js_iconst dX3_spireOn_35 ?_
      refine js_iadd dX3_spireOn_36 ?_
      refine js_iaload dX3_spireOn_37 hs (by omega) ?_
      refine eX3_69 rfl dX3_spireOn_38 com_code (Nat.le_of_ble_eq_true rfl) (Nat.le_of_ble_eq_true rfl) ?_
      refine js_iload_n 2 dX3_spireOn_41 rfl ?_
      refine js_icmp_ne (tgt := 49) dX3_spireOn_42 (by decide) (by omega) (fun c4 => ?_) (fun c4 => ?_)
      · refine js_iload_n 3 dX3_spireOn_49 rfl ?_
        exact J3 _ (by rw [show zson f p (k + 1) = if zsp f k = p then (k : Int) else zson f p k from rfl]; unfold zsp; (repeat' split) <;> omega)
      · refine js_iload_n 4 dX3_spireOn_45 rfl ?_
        refine js_goto (tgt := 50) dX3_spireOn_46 (by decide) ?_
        exact J3 _ (by rw [show zson f p (k + 1) = if zsp f k = p then (k : Int) else zson f p k from rfl]; unfold zsp; (repeat' split) <;> omega)
theorem com_doSpire {ρ : js_R} {h : js_H} {m s rf : Nat} {v1 v2 v3 v4 v5 v6 v7 v9 v10 v11 v12 v13 v14 v15 v16 v17 v18 v19 : Value} {f g : Int → Int} {T x y sd : Int} (hm : h m = some (js_ob true 2 [.ref s, v1, v2, v3, v4, v5, v6, v7, .ref rf, v9, v10, v11, v12, v13, v14, v15, v16, v17, v18, v19])) (hs : h s = some (js_aI true 0 287 f)) (hr : h rf = some (js_aI true 0 4 g)) (hn : s ≠ rf) (hI : zI T f) (rx : -2147483648 ≤ x ∧ x < 2147483648) (ry : -2147483648 ≤ y ∧ y < 2147483648) (rsd : -2147483648 ≤ sd ∧ sd < 2147483648) : js_Con ρ mX3_doSpire 3 0 0 [.ref m, .int (jI x), .int (jI y), .int (jI sd)] h (js_ret (some (.int (jI (zoR (zdoSpire f x y sd))))) (zoH h m s rf (js_ob true 2 [.ref s, v1, v2, v3, v4, v5, v6, .int (jI 1), .ref rf, v9, v10, v11, v12, v13, v14, v15, v16, v17, v18, v19]) g (zdoSpire f x y sd))) := by
  refine js_body [(0, .ref m), (1, .int (jI x)), (2, .int (jI y)), (3, .int (jI sd))] rfl (by decide) (Nat.le_of_ble_eq_true rfl) rfl ?_
  have h01 := zI_01 hI
  refine js_aload_n 0 dX3_doSpire_0 rfl ?_
  refine gX3_9 rfl dX3_doSpire_1 hm rfl ?_
  refine js_iconst dX3_doSpire_4 ?_
  refine js_iaload dX3_doSpire_5 hs (by omega) ?_
  refine js_istore (L' := [(4, .int (jI (f 1))), (0, .ref m), (1, .int (jI x)), (2, .int (jI y)), (3, .int (jI sd))]) dX3_doSpire_6 (by decide) rfl ?_
  refine js_iload_n 2 dX3_doSpire_8 rfl ?_
  refine js_bipush dX3_doSpire_9 rfl ?_
  refine js_iload_n 3 dX3_doSpire_11 rfl ?_
  refine js_bipush dX3_doSpire_12 rfl ?_
  refine eX3_79 rfl dX3_doSpire_14 (com_wrong (by omega) (by omega) (by omega) (by omega)) (Nat.le_of_ble_eq_true rfl) (Nat.le_of_ble_eq_true rfl) ?_
  have w1 := zwr_c x 9 y 9
  show js_ok ρ mX3_doSpire _ 3 0 0 17 [(4, .int (jI (f 1))), (0, .ref m), (1, .int (jI x)), (2, .int (jI y)), (3, .int (jI sd))] [.int (jI (zwr x 9 y 9))] h
  refine js_istore (L' := [(5, .int (jI (zwr x 9 y 9))), (4, .int (jI (f 1))), (0, .ref m), (1, .int (jI x)), (2, .int (jI y)), (3, .int (jI sd))]) dX3_doSpire_17 (by decide) rfl ?_
  refine js_iload 0 dX3_doSpire_19 rfl ?_
  refine js_iconst dX3_doSpire_21 ?_
  refine js_icmp_ge (tgt := 41) dX3_doSpire_22 (by decide) (by omega) (fun c2 => ?_) (fun c2 => ?_)
  · refine js_iload_n 5 dX3_doSpire_41 rfl ?_
    refine js_iconst dX3_doSpire_42 ?_
    refine js_iconst dX3_doSpire_43 ?_
    refine eX3_61 rfl dX3_doSpire_44 (com_in (by omega) (by omega) (by omega)) (Nat.le_of_ble_eq_true rfl) (Nat.le_of_ble_eq_true rfl) ?_
    refine js_if_eqB (tgt := 62) dX3_doSpire_47 (by decide) (fun c3 => ?_) (fun c3 => ?_)
    · refine js_aload_n 2 dX3_doSpire_62 rfl ?_
      refine js_iconst dX3_doSpire_63 ?_
      refine js_iload_n 5 dX3_doSpire_64 rfl ?_
      refine eX3_83 rfl dX3_doSpire_65 hm (com_refuse hm hs hr hn) (Nat.le_of_ble_eq_true rfl) (Nat.le_of_ble_eq_true rfl) ?_
      show js_ok ρ mX3_doSpire _ 3 0 0 68 [(5, .int (jI (zwr x 9 y 9))), (4, .int (jI (f 1))), (0, .ref m), (1, .int (jI x)), (2, .int (jI y)), (3, .int (jI sd))] [.int (jI 0)] (js_up (js_up h m (js_ob true 2 [.ref s, v1, v2, v3, v4, v5, v6, .int (jI 1), .ref rf, v9, v10, v11, v12, v13, v14, v15, v16, v17, v18, v19])) rf (js_aI true 0 4 (zrf g 4 sd)))
      exact js_iret rfl rfl dX3_doSpire_68 (by rw [show zdoSpire f x y sd = .inl (4, sd) from by unfold zdoSpire; (repeat' split) <;> first | (exfalso; omega) | rfl]; exact ⟨rfl, rfl⟩)
    · have hz := znexm_r (p := 10 * y + x) (w := sd) (by omega)
      refine js_iload_n 3 dX3_doSpire_50 rfl ?_
      refine js_iload_n 4 dX3_doSpire_51 rfl ?_
      refine eX3_69 rfl dX3_doSpire_52 com_code (Nat.le_of_ble_eq_true rfl) (Nat.le_of_ble_eq_true rfl) ?_
      refine js_iload_n 5 dX3_doSpire_55 rfl ?_
      refine eX3_73 rfl dX3_doSpire_56 (com_nextTo (by omega) (by omega)) (Nat.le_of_ble_eq_true rfl) (Nat.le_of_ble_eq_true rfl) ?_
      refine js_if_ge (tgt := 69) dX3_doSpire_59 (by decide) (by omega) (fun c4 => ?_) (fun c4 => ?_)
      · refine js_aload_n 2 dX3_doSpire_69 rfl ?_
        refine js_iload_n 3 dX3_doSpire_70 rfl ?_
        refine js_iload_n 4 dX3_doSpire_71 rfl ?_
        refine eX3_69 rfl dX3_doSpire_72 com_code (Nat.le_of_ble_eq_true rfl) (Nat.le_of_ble_eq_true rfl) ?_
        refine eX3_100 rfl dX3_doSpire_75 hm (com_spireOn hm hs hI (by omega)) (Nat.le_of_ble_eq_true rfl) (Nat.le_of_ble_eq_true rfl) ?_
        have z5 := zspon_r f (10 * y + x) (by omega)
        show js_ok ρ mX3_doSpire _ 3 0 0 78 [(5, .int (jI (zwr x 9 y 9))), (4, .int (jI (f 1))), (0, .ref m), (1, .int (jI x)), (2, .int (jI y)), (3, .int (jI sd))] [.int (jI (zspon f (10 * y + x)))] h
        refine js_if_lt (tgt := 96) dX3_doSpire_78 (by decide) (by omega) (fun c6 => ?_) (fun c6 => ?_)
        · refine js_iload 1 dX3_doSpire_96 rfl ?_
          refine js_iconst dX3_doSpire_98 ?_
          refine js_icmp_ne (tgt := 109) dX3_doSpire_99 (by decide) (by omega) (fun c7 => ?_) (fun c7 => ?_)
          · refine js_bipush dX3_doSpire_109 rfl ?_
            refine js_iconst dX3_doSpire_111 ?_
            refine js_iload 1 dX3_doSpire_112 rfl ?_
            refine js_imul dX3_doSpire_114 ?_
            refine js_iadd dX3_doSpire_115 ?_
            refine js_istore (L' := [(6, .int (jI (67 + (4 * (f 1))))), (5, .int (jI (zwr x 9 y 9))), (4, .int (jI (f 1))), (0, .ref m), (1, .int (jI x)), (2, .int (jI y)), (3, .int (jI sd))]) dX3_doSpire_116 (by decide) rfl ?_
            refine js_aload_n 3 dX3_doSpire_118 rfl ?_
            refine gX3_9 rfl dX3_doSpire_119 hm rfl ?_
            refine js_iload 0 dX3_doSpire_122 rfl ?_
            refine js_iload_n 4 dX3_doSpire_124 rfl ?_
            refine js_iastore dX3_doSpire_125 hs (by omega) ?_
            show js_ok ρ mX3_doSpire _ 3 0 0 126 [(6, .int (jI (67 + (4 * (f 1))))), (5, .int (jI (zwr x 9 y 9))), (4, .int (jI (f 1))), (0, .ref m), (1, .int (jI x)), (2, .int (jI y)), (3, .int (jI sd))] [] (js_up h s (js_aI true 0 287 (js_uz f (67 + (4 * (f 1))) x)))
            refine js_aload_n 3 dX3_doSpire_126 rfl ?_
            refine gX3_9 rfl dX3_doSpire_127 ((js_up_n (js_nek hm hs js_kOA)).trans hm) rfl ?_
            refine js_iload 0 dX3_doSpire_130 rfl ?_
            refine js_iconst dX3_doSpire_132 ?_
            refine js_iadd dX3_doSpire_133 ?_
            refine js_iload_n 5 dX3_doSpire_134 rfl ?_
            refine js_iastore dX3_doSpire_135 js_up_s (by omega) ?_
            rw [js_up_up]
            show js_ok ρ mX3_doSpire _ 3 0 0 136 [(6, .int (jI (67 + (4 * (f 1))))), (5, .int (jI (zwr x 9 y 9))), (4, .int (jI (f 1))), (0, .ref m), (1, .int (jI x)), (2, .int (jI y)), (3, .int (jI sd))] [] (js_up h s (js_aI true 0 287 (js_uz (js_uz f (67 + (4 * (f 1))) x) ((67 + (4 * (f 1))) + 1) y)))
            refine js_aload_n 3 dX3_doSpire_136 rfl ?_
            refine gX3_9 rfl dX3_doSpire_137 ((js_up_n (js_nek hm hs js_kOA)).trans hm) rfl ?_
            refine js_iload 0 dX3_doSpire_140 rfl ?_
            refine js_iconst dX3_doSpire_142 ?_
            refine js_iadd dX3_doSpire_143 ?_
            refine js_iload_n 6 dX3_doSpire_144 rfl ?_
            refine js_iastore dX3_doSpire_145 js_up_s (by omega) ?_
            rw [js_up_up]
            show js_ok ρ mX3_doSpire _ 3 0 0 146 [(6, .int (jI (67 + (4 * (f 1))))), (5, .int (jI (zwr x 9 y 9))), (4, .int (jI (f 1))), (0, .ref m), (1, .int (jI x)), (2, .int (jI y)), (3, .int (jI sd))] [] (js_up h s (js_aI true 0 287 (js_uz (js_uz (js_uz f (67 + (4 * (f 1))) x) ((67 + (4 * (f 1))) + 1) y) ((67 + (4 * (f 1))) + 2) sd)))
            refine js_aload_n 3 dX3_doSpire_146 rfl ?_
            refine gX3_9 rfl dX3_doSpire_147 ((js_up_n (js_nek hm hs js_kOA)).trans hm) rfl ?_
            refine js_iload 0 dX3_doSpire_150 rfl ?_
            refine js_iconst dX3_doSpire_152 ?_
            refine js_iadd dX3_doSpire_153 ?_
            refine js_iconst dX3_doSpire_154 ?_
            refine js_iastore dX3_doSpire_155 js_up_s (by omega) ?_
            rw [js_up_up]
            show js_ok ρ mX3_doSpire _ 3 0 0 156 [(6, .int (jI (67 + (4 * (f 1))))), (5, .int (jI (zwr x 9 y 9))), (4, .int (jI (f 1))), (0, .ref m), (1, .int (jI x)), (2, .int (jI y)), (3, .int (jI sd))] [] (js_up h s (js_aI true 0 287 (js_uz (js_uz (js_uz (js_uz f (67 + (4 * (f 1))) x) ((67 + (4 * (f 1))) + 1) y) ((67 + (4 * (f 1))) + 2) sd) ((67 + (4 * (f 1))) + 3) 0)))
            refine js_aload_n 3 dX3_doSpire_156 rfl ?_
            refine gX3_9 rfl dX3_doSpire_157 ((js_up_n (js_nek hm hs js_kOA)).trans hm) rfl ?_
            refine js_iconst dX3_doSpire_160 ?_
            refine js_dup2 dX3_doSpire_161 rfl rfl ?_
            refine js_iaload dX3_doSpire_162 js_up_s (by omega) ?_
            rw [show (js_uz (js_uz (js_uz (js_uz f (67 + (4 * (f 1))) x) ((67 + (4 * (f 1))) + 1) y) ((67 + (4 * (f 1))) + 2) sd) ((67 + (4 * (f 1))) + 3) 0) 1 = f 1 from by rw [js_uz_n (by omega), js_uz_n (by omega), js_uz_n (by omega), js_uz_n (by omega)]]
            refine js_iconst dX3_doSpire_163 ?_
            refine js_iadd dX3_doSpire_164 ?_
            refine js_iastore dX3_doSpire_165 js_up_s (by omega) ?_
            rw [js_up_up]
            show js_ok ρ mX3_doSpire _ 3 0 0 166 [(6, .int (jI (67 + (4 * (f 1))))), (5, .int (jI (zwr x 9 y 9))), (4, .int (jI (f 1))), (0, .ref m), (1, .int (jI x)), (2, .int (jI y)), (3, .int (jI sd))] [] (js_up h s (js_aI true 0 287 (js_uz (js_uz (js_uz (js_uz (js_uz f (67 + (4 * (f 1))) x) ((67 + (4 * (f 1))) + 1) y) ((67 + (4 * (f 1))) + 2) sd) ((67 + (4 * (f 1))) + 3) 0) 1 ((f 1) + 1))))
            refine js_iload 2 dX3_doSpire_166 rfl ?_
            exact js_iret rfl rfl dX3_doSpire_168 (by rw [show zdoSpire f x y sd = .inr (f 1, js_uz (js_uz (js_uz (js_uz (js_uz f (67 + (4 * (f 1))) x) ((67 + (4 * (f 1))) + 1) y) ((67 + (4 * (f 1))) + 2) sd) ((67 + (4 * (f 1))) + 3) 0) 1 ((f 1) + 1)) from by unfold zdoSpire; (repeat' split) <;> first | (exfalso; omega) | rfl]; exact ⟨rfl, rfl⟩)
          · refine js_aload_n 2 dX3_doSpire_102 rfl ?_
            refine js_iconst dX3_doSpire_103 ?_
            refine js_iconst dX3_doSpire_104 ?_
            refine eX3_83 rfl dX3_doSpire_105 hm (com_refuse hm hs hr hn) (Nat.le_of_ble_eq_true rfl) (Nat.le_of_ble_eq_true rfl) ?_
            show js_ok ρ mX3_doSpire _ 3 0 0 108 [(5, .int (jI (zwr x 9 y 9))), (4, .int (jI (f 1))), (0, .ref m), (1, .int (jI x)), (2, .int (jI y)), (3, .int (jI sd))] [.int (jI 0)] (js_up (js_up h m (js_ob true 2 [.ref s, v1, v2, v3, v4, v5, v6, .int (jI 1), .ref rf, v9, v10, v11, v12, v13, v14, v15, v16, v17, v18, v19])) rf (js_aI true 0 4 (zrf g 1 5)))
            exact js_iret rfl rfl dX3_doSpire_108 (by rw [show zdoSpire f x y sd = .inl (1, 5) from by unfold zdoSpire; (repeat' split) <;> first | (exfalso; omega) | rfl]; exact ⟨rfl, rfl⟩)
        · refine js_aload_n 2 dX3_doSpire_81 rfl ?_
          refine js_iconst dX3_doSpire_82 ?_
          refine js_aload_n 2 dX3_doSpire_83 rfl ?_
          refine js_iload_n 3 dX3_doSpire_84 rfl ?_
          refine js_iload_n 4 dX3_doSpire_85 rfl ?_
          refine eX3_69 rfl dX3_doSpire_86 com_code (Nat.le_of_ble_eq_true rfl) (Nat.le_of_ble_eq_true rfl) ?_
          refine eX3_100 rfl dX3_doSpire_89 hm (com_spireOn hm hs hI (by omega)) (Nat.le_of_ble_eq_true rfl) (Nat.le_of_ble_eq_true rfl) ?_
          have z8 := zspon_r f (10 * y + x) (by omega)
          show js_ok ρ mX3_doSpire _ 3 0 0 92 [(5, .int (jI (zwr x 9 y 9))), (4, .int (jI (f 1))), (0, .ref m), (1, .int (jI x)), (2, .int (jI y)), (3, .int (jI sd))] [.int (jI (zspon f (10 * y + x))), .int (jI 2), .ref m] h
          refine eX3_83 rfl dX3_doSpire_92 hm (com_refuse hm hs hr hn) (Nat.le_of_ble_eq_true rfl) (Nat.le_of_ble_eq_true rfl) ?_
          show js_ok ρ mX3_doSpire _ 3 0 0 95 [(5, .int (jI (zwr x 9 y 9))), (4, .int (jI (f 1))), (0, .ref m), (1, .int (jI x)), (2, .int (jI y)), (3, .int (jI sd))] [.int (jI 0)] (js_up (js_up h m (js_ob true 2 [.ref s, v1, v2, v3, v4, v5, v6, .int (jI 1), .ref rf, v9, v10, v11, v12, v13, v14, v15, v16, v17, v18, v19])) rf (js_aI true 0 4 (zrf g 2 (zspon f (10 * y + x)))))
          exact js_iret rfl rfl dX3_doSpire_95 (by rw [show zdoSpire f x y sd = .inl (2, (zspon f (10 * y + x))) from by unfold zdoSpire; (repeat' split) <;> first | (exfalso; omega) | rfl]; exact ⟨rfl, rfl⟩)
      · refine js_aload_n 2 dX3_doSpire_62 rfl ?_
        refine js_iconst dX3_doSpire_63 ?_
        refine js_iload_n 5 dX3_doSpire_64 rfl ?_
        refine eX3_83 rfl dX3_doSpire_65 hm (com_refuse hm hs hr hn) (Nat.le_of_ble_eq_true rfl) (Nat.le_of_ble_eq_true rfl) ?_
        show js_ok ρ mX3_doSpire _ 3 0 0 68 [(5, .int (jI (zwr x 9 y 9))), (4, .int (jI (f 1))), (0, .ref m), (1, .int (jI x)), (2, .int (jI y)), (3, .int (jI sd))] [.int (jI 0)] (js_up (js_up h m (js_ob true 2 [.ref s, v1, v2, v3, v4, v5, v6, .int (jI 1), .ref rf, v9, v10, v11, v12, v13, v14, v15, v16, v17, v18, v19])) rf (js_aI true 0 4 (zrf g 4 sd)))
        exact js_iret rfl rfl dX3_doSpire_68 (by rw [show zdoSpire f x y sd = .inl (4, sd) from by unfold zdoSpire; (repeat' split) <;> first | (exfalso; omega) | rfl]; exact ⟨rfl, rfl⟩)
  · refine js_aload_n 2 dX3_doSpire_25 rfl ?_
    refine js_iconst dX3_doSpire_26 ?_
    refine js_iload 0 dX3_doSpire_27 rfl ?_
    refine js_if_ne (tgt := 36) dX3_doSpire_29 (by decide) (by omega) (fun c9 => ?_) (fun c9 => ?_)
    · refine js_iload_n 4 dX3_doSpire_36 rfl ?_
      refine eX3_83 rfl dX3_doSpire_37 hm (com_refuse hm hs hr hn) (Nat.le_of_ble_eq_true rfl) (Nat.le_of_ble_eq_true rfl) ?_
      show js_ok ρ mX3_doSpire _ 3 0 0 40 [(5, .int (jI (zwr x 9 y 9))), (4, .int (jI (f 1))), (0, .ref m), (1, .int (jI x)), (2, .int (jI y)), (3, .int (jI sd))] [.int (jI 0)] (js_up (js_up h m (js_ob true 2 [.ref s, v1, v2, v3, v4, v5, v6, .int (jI 1), .ref rf, v9, v10, v11, v12, v13, v14, v15, v16, v17, v18, v19])) rf (js_aI true 0 4 (zrf g 4 y)))
      exact js_iret rfl rfl dX3_doSpire_40 (by rw [show zdoSpire f x y sd = .inl (4, y) from by unfold zdoSpire; (repeat' split) <;> first | (exfalso; omega) | rfl]; exact ⟨rfl, rfl⟩)
    · refine js_iload_n 3 dX3_doSpire_32 rfl ?_
      refine js_goto (tgt := 37) dX3_doSpire_33 (by decide) ?_
      refine eX3_83 rfl dX3_doSpire_37 hm (com_refuse hm hs hr hn) (Nat.le_of_ble_eq_true rfl) (Nat.le_of_ble_eq_true rfl) ?_
      show js_ok ρ mX3_doSpire _ 3 0 0 40 [(5, .int (jI (zwr x 9 y 9))), (4, .int (jI (f 1))), (0, .ref m), (1, .int (jI x)), (2, .int (jI y)), (3, .int (jI sd))] [.int (jI 0)] (js_up (js_up h m (js_ob true 2 [.ref s, v1, v2, v3, v4, v5, v6, .int (jI 1), .ref rf, v9, v10, v11, v12, v13, v14, v15, v16, v17, v18, v19])) rf (js_aI true 0 4 (zrf g 4 x)))
      exact js_iret rfl rfl dX3_doSpire_40 (by rw [show zdoSpire f x y sd = .inl (4, x) from by unfold zdoSpire; (repeat' split) <;> first | (exfalso; omega) | rfl]; exact ⟨rfl, rfl⟩)
theorem com_doEnter {ρ : js_R} {h : js_H} {m s rf : Nat} {v1 v2 v3 v4 v5 v6 v7 v9 v10 v11 v12 v13 v14 v15 v16 v17 v18 v19 : Value} {f g : Int → Int} {T x y sk gs : Int} (hm : h m = some (js_ob true 2 [.ref s, v1, v2, v3, v4, v5, v6, v7, .ref rf, v9, v10, v11, v12, v13, v14, v15, v16, v17, v18, v19])) (hs : h s = some (js_aI true 0 287 f)) (hr : h rf = some (js_aI true 0 4 g)) (hn : s ≠ rf) (hI : zI T f) (rx : -2147483648 ≤ x ∧ x < 2147483648) (ry : -2147483648 ≤ y ∧ y < 2147483648) (rsk : -2147483648 ≤ sk ∧ sk < 2147483648) (rgs : -2147483648 ≤ gs ∧ gs < 2147483648) : js_Con ρ mX3_doEnter 2 0 0 [.ref m, .int (jI x), .int (jI y), .int (jI sk), .int (jI gs)] h (js_ret (some (.int (jI (zoR (zdoEnter f x y sk gs))))) (zoH h m s rf (js_ob true 2 [.ref s, v1, v2, v3, v4, v5, v6, .int (jI 1), .ref rf, v9, v10, v11, v12, v13, v14, v15, v16, v17, v18, v19]) g (zdoEnter f x y sk gs))) := by
  refine js_body [(0, .ref m), (1, .int (jI x)), (2, .int (jI y)), (3, .int (jI sk)), (4, .int (jI gs))] rfl (by decide) (Nat.le_of_ble_eq_true rfl) rfl ?_
  have h01 := zI_01 hI
  refine js_aload_n 0 dX3_doEnter_0 rfl ?_
  refine gX3_9 rfl dX3_doEnter_1 hm rfl ?_
  refine js_iconst dX3_doEnter_4 ?_
  refine js_iaload dX3_doEnter_5 hs (by omega) ?_
  refine js_istore (L' := [(5, .int (jI (f 0))), (0, .ref m), (1, .int (jI x)), (2, .int (jI y)), (3, .int (jI sk)), (4, .int (jI gs))]) dX3_doEnter_6 (by decide) rfl ?_
  refine js_iload_n 2 dX3_doEnter_8 rfl ?_
  refine js_bipush dX3_doEnter_9 rfl ?_
  refine js_iload_n 3 dX3_doEnter_11 rfl ?_
  refine js_bipush dX3_doEnter_12 rfl ?_
  refine eX3_79 rfl dX3_doEnter_14 (com_wrong (by omega) (by omega) (by omega) (by omega)) (Nat.le_of_ble_eq_true rfl) (Nat.le_of_ble_eq_true rfl) ?_
  have w1 := zwr_c x 9 y 9
  show js_ok ρ mX3_doEnter _ 2 0 0 17 [(5, .int (jI (f 0))), (0, .ref m), (1, .int (jI x)), (2, .int (jI y)), (3, .int (jI sk)), (4, .int (jI gs))] [.int (jI (zwr x 9 y 9))] h
  refine js_istore (L' := [(6, .int (jI (zwr x 9 y 9))), (5, .int (jI (f 0))), (0, .ref m), (1, .int (jI x)), (2, .int (jI y)), (3, .int (jI sk)), (4, .int (jI gs))]) dX3_doEnter_17 (by decide) rfl ?_
  refine js_iload 0 dX3_doEnter_19 rfl ?_
  refine js_iconst dX3_doEnter_21 ?_
  refine js_icmp_ge (tgt := 41) dX3_doEnter_22 (by decide) (by omega) (fun c2 => ?_) (fun c2 => ?_)
  · refine js_iload_n 5 dX3_doEnter_41 rfl ?_
    refine js_bipush dX3_doEnter_42 rfl ?_
    refine js_iload 6 dX3_doEnter_44 rfl ?_
    refine js_bipush dX3_doEnter_46 rfl ?_
    refine eX3_79 rfl dX3_doEnter_48 (com_wrong (by omega) (by omega) (by omega) (by omega)) (Nat.le_of_ble_eq_true rfl) (Nat.le_of_ble_eq_true rfl) ?_
    have w3 := zwr_c sk 20 gs 40
    show js_ok ρ mX3_doEnter _ 2 0 0 51 [(6, .int (jI (zwr x 9 y 9))), (5, .int (jI (f 0))), (0, .ref m), (1, .int (jI x)), (2, .int (jI y)), (3, .int (jI sk)), (4, .int (jI gs))] [.int (jI (zwr sk 20 gs 40))] h
    refine js_istore (L' := [(7, .int (jI (zwr sk 20 gs 40))), (6, .int (jI (zwr x 9 y 9))), (5, .int (jI (f 0))), (0, .ref m), (1, .int (jI x)), (2, .int (jI y)), (3, .int (jI sk)), (4, .int (jI gs))]) dX3_doEnter_51 (by decide) rfl ?_
    refine js_iload 0 dX3_doEnter_53 rfl ?_
    refine js_iconst dX3_doEnter_55 ?_
    refine js_icmp_ge (tgt := 76) dX3_doEnter_56 (by decide) (by omega) (fun c4 => ?_) (fun c4 => ?_)
    · refine js_iload 2 dX3_doEnter_76 rfl ?_
      refine js_bipush dX3_doEnter_78 rfl ?_
      refine js_icmp_ne (tgt := 91) dX3_doEnter_80 (by decide) (by omega) (fun c5 => ?_) (fun c5 => ?_)
      · refine js_iconst dX3_doEnter_91 ?_
        refine js_istore (L' := [(8, .int (jI 0)), (7, .int (jI (zwr sk 20 gs 40))), (6, .int (jI (zwr x 9 y 9))), (5, .int (jI (f 0))), (0, .ref m), (1, .int (jI x)), (2, .int (jI y)), (3, .int (jI sk)), (4, .int (jI gs))]) dX3_doEnter_92 (by decide) rfl ?_
        refine js_sub (L' := [(0, .ref m), (1, .int (jI x)), (2, .int (jI y)), (3, .int (jI sk)), (4, .int (jI gs)), (5, .int (jI (f 0))), (8, .int (jI 0))]) [4, 5, 6, 7, 8, 3, 0] rfl ?_
        refine js_heq (js_selfU hs) ?_
        refine js_loop (σ := Nat) (fun k => k ≤ 9) (fun k => 9 - k) (fun k => 0) (fun k => 0) 94 (fun k => [(0, .ref m), (1, .int (jI x)), (2, .int (jI y)), (3, .int (jI sk)), (4, .int (jI gs)), (5, .int (jI (f 0))), (8, .int (jI ((k : Int))))]) (fun k => []) (fun k => (js_up h s (js_aI true 0 287 (zent0 f x y sk gs k)))) (fun k hk IHk => ?_) 0 (by decide)
        show js_ok ρ mX3_doEnter _ 2 0 0 94 [(0, .ref m), (1, .int (jI x)), (2, .int (jI y)), (3, .int (jI sk)), (4, .int (jI gs)), (5, .int (jI (f 0))), (8, .int (jI ((k : Int))))] [] (js_up h s (js_aI true 0 287 (zent0 f x y sk gs k)))
        have e0 := zent0_n (f := f) (x := x) (y := y) (sk := sk) (gs := gs) (j := 0) k (by omega)
        refine js_iload 6 dX3_doEnter_94 rfl ?_
        refine js_bipush dX3_doEnter_96 rfl ?_
        refine js_icmp_ge (tgt := 156) dX3_doEnter_98 (by decide) (by omega) (fun c7 => ?_) (fun c7 => ?_)
        · have ek : 9 = k := by omega
          refine js_heq (h' := (js_up h s (js_aI true 0 287 (zent0 f x y sk gs 9)))) (by rw [show (zent0 f x y sk gs 9) = (zent0 f x y sk gs k) from (by rw [ek])]) ?_
          refine js_aload_n 0 dX3_doEnter_156 rfl ?_
          refine gX3_9 rfl dX3_doEnter_157 ((js_up_n (js_nek hm hs js_kOA)).trans hm) rfl ?_
          refine js_iconst dX3_doEnter_160 ?_
          refine js_dup2 dX3_doEnter_161 rfl rfl ?_
          refine js_iaload dX3_doEnter_162 js_up_s (by omega) ?_
          refine js_iconst dX3_doEnter_163 ?_
          refine js_iadd dX3_doEnter_164 ?_
          refine js_iastore dX3_doEnter_165 js_up_s (by omega) ?_
          rw [js_up_up]
          show js_ok ρ mX3_doEnter _ 2 0 0 166 [(0, .ref m), (1, .int (jI x)), (2, .int (jI y)), (3, .int (jI sk)), (4, .int (jI gs)), (5, .int (jI (f 0))), (8, .int (jI ((k : Int))))] [] (js_up h s (js_aI true 0 287 (js_uz (zent0 f x y sk gs 9) 0 (((zent0 f x y sk gs 9) 0) + 1))))
          refine js_aload_n 0 dX3_doEnter_166 rfl ?_
          refine gX3_9 rfl dX3_doEnter_167 ((js_up_n (js_nek hm hs js_kOA)).trans hm) rfl ?_
          refine js_bipush dX3_doEnter_170 rfl ?_
          refine js_dup2 dX3_doEnter_172 rfl rfl ?_
          refine js_iaload dX3_doEnter_173 js_up_s (by omega) ?_
          rw [show (js_uz (zent0 f x y sk gs 9) 0 (((zent0 f x y sk gs 9) 0) + 1)) 7 = (zent0 f x y sk gs 9) 7 from by rw [js_uz_n (by omega)]]
          refine js_iconst dX3_doEnter_174 ?_
          refine js_iadd dX3_doEnter_175 ?_
          refine js_iastore dX3_doEnter_176 js_up_s (by omega) ?_
          rw [js_up_up]
          show js_ok ρ mX3_doEnter _ 2 0 0 177 [(0, .ref m), (1, .int (jI x)), (2, .int (jI y)), (3, .int (jI sk)), (4, .int (jI gs)), (5, .int (jI (f 0))), (8, .int (jI ((k : Int))))] [] (js_up h s (js_aI true 0 287 (js_uz (js_uz (zent0 f x y sk gs 9) 0 (((zent0 f x y sk gs 9) 0) + 1)) 7 (((zent0 f x y sk gs 9) 7) + 1))))
          refine js_iload 5 dX3_doEnter_177 rfl ?_
          exact js_iret rfl rfl dX3_doEnter_179 (by rw [show zdoEnter f x y sk gs = .inr (f 0, js_uz (js_uz (zent0 f x y sk gs 9) 0 (((zent0 f x y sk gs 9) 0) + 1)) 7 (((zent0 f x y sk gs 9) 7) + 1)) from by unfold zdoEnter; (repeat' split) <;> first | (exfalso; omega) | rfl]; exact ⟨rfl, rfl⟩)
        · refine js_aload_n 0 dX3_doEnter_101 rfl ?_
          refine js_iload 5 dX3_doEnter_102 rfl ?_
          refine js_iload 6 dX3_doEnter_104 rfl ?_
          refine js_join 147 [(0, .ref m), (1, .int (jI x)), (2, .int (jI y)), (3, .int (jI sk)), (4, .int (jI gs)), (5, .int (jI (f 0))), (8, .int (jI ((k : Int))))] [.int (jI ((k : Int))), .int (jI (f 0)), .ref m] (js_up h s (js_aI true 0 287 (zent0 f x y sk gs k))) (zev x y sk gs (k : Int)) (fun z hz => ?_) (fun J8 => ?_)
          · subst hz
            refine eX3_86 rfl dX3_doEnter_147 ((js_up_n (js_nek hm hs js_kOA)).trans hm) (com_sets ((js_up_n (js_nek hm hs js_kOA)).trans hm) js_up_s (by omega) (by omega)) (Nat.le_of_ble_eq_true rfl) (Nat.le_of_ble_eq_true rfl) ?_
            rw [js_up_up]
            show js_ok ρ mX3_doEnter _ 2 0 0 150 [(0, .ref m), (1, .int (jI x)), (2, .int (jI y)), (3, .int (jI sk)), (4, .int (jI gs)), (5, .int (jI (f 0))), (8, .int (jI ((k : Int))))] [] (js_up h s (js_aI true 0 287 (js_uz (zent0 f x y sk gs k) (13 + 9 * (f 0) + ((k : Int))) (zev x y sk gs (k : Int)))))
            refine js_iinc (L' := [(8, .int (jI (((k : Int)) + 1))), (0, .ref m), (1, .int (jI x)), (2, .int (jI y)), (3, .int (jI sk)), (4, .int (jI gs)), (5, .int (jI (f 0)))]) 6 dX3_doEnter_150 rfl (by decide) rfl ?_
            refine js_goto (tgt := 94) dX3_doEnter_153 (by decide) ?_
            show js_ok ρ mX3_doEnter _ 2 0 0 94 [(8, .int (jI (((k : Int)) + 1))), (0, .ref m), (1, .int (jI x)), (2, .int (jI y)), (3, .int (jI sk)), (4, .int (jI gs)), (5, .int (jI (f 0)))] [] (js_up h s (js_aI true 0 287 (zent0 f x y sk gs (k + 1))))
            refine js_sub (L' := [(0, .ref m), (1, .int (jI x)), (2, .int (jI y)), (3, .int (jI sk)), (4, .int (jI gs)), (5, .int (jI (f 0))), (8, .int (jI (((k : Int)) + 1)))]) [1, 2, 3, 4, 5, 6, 0] rfl ?_
            exact IHk (k + 1) (by omega) (by omega)
          · refine js_iload 6 dX3_doEnter_106 rfl ?_
            refine js_if_ne (tgt := 115) dX3_doEnter_108 (by decide) (by omega) (fun c9 => ?_) (fun c9 => ?_)
            · refine js_iload 6 dX3_doEnter_115 rfl ?_
              refine js_iconst dX3_doEnter_117 ?_
              refine js_icmp_ne (tgt := 125) dX3_doEnter_118 (by decide) (by omega) (fun c10 => ?_) (fun c10 => ?_)
              · refine js_iload 6 dX3_doEnter_125 rfl ?_
                refine js_iconst dX3_doEnter_127 ?_
                refine js_icmp_ne (tgt := 135) dX3_doEnter_128 (by decide) (by omega) (fun c11 => ?_) (fun c11 => ?_)
                · refine js_iload 6 dX3_doEnter_135 rfl ?_
                  refine js_iconst dX3_doEnter_137 ?_
                  refine js_icmp_ne (tgt := 146) dX3_doEnter_138 (by decide) (by omega) (fun c12 => ?_) (fun c12 => ?_)
                  · refine js_iconst dX3_doEnter_146 ?_
                    exact J8 _ (by unfold zev; (repeat' split) <;> omega)
                  · refine js_iload 4 dX3_doEnter_141 rfl ?_
                    refine js_goto (tgt := 147) dX3_doEnter_143 (by decide) ?_
                    exact J8 _ (by unfold zev; (repeat' split) <;> omega)
                · refine js_iload_n 3 dX3_doEnter_131 rfl ?_
                  refine js_goto (tgt := 147) dX3_doEnter_132 (by decide) ?_
                  exact J8 _ (by unfold zev; (repeat' split) <;> omega)
              · refine js_iload_n 2 dX3_doEnter_121 rfl ?_
                refine js_goto (tgt := 147) dX3_doEnter_122 (by decide) ?_
                exact J8 _ (by unfold zev; (repeat' split) <;> omega)
            · refine js_iload_n 1 dX3_doEnter_111 rfl ?_
              refine js_goto (tgt := 147) dX3_doEnter_112 (by decide) ?_
              exact J8 _ (by unfold zev; (repeat' split) <;> omega)
      · refine js_aload_n 3 dX3_doEnter_83 rfl ?_
        refine js_iconst dX3_doEnter_84 ?_
        refine js_bipush dX3_doEnter_85 rfl ?_
        refine eX3_83 rfl dX3_doEnter_87 hm (com_refuse hm hs hr hn) (Nat.le_of_ble_eq_true rfl) (Nat.le_of_ble_eq_true rfl) ?_
        show js_ok ρ mX3_doEnter _ 2 0 0 90 [(7, .int (jI (zwr sk 20 gs 40))), (6, .int (jI (zwr x 9 y 9))), (5, .int (jI (f 0))), (0, .ref m), (1, .int (jI x)), (2, .int (jI y)), (3, .int (jI sk)), (4, .int (jI gs))] [.int (jI 0)] (js_up (js_up h m (js_ob true 2 [.ref s, v1, v2, v3, v4, v5, v6, .int (jI 1), .ref rf, v9, v10, v11, v12, v13, v14, v15, v16, v17, v18, v19])) rf (js_aI true 0 4 (zrf g 1 6)))
        exact js_iret rfl rfl dX3_doEnter_90 (by rw [show zdoEnter f x y sk gs = .inl (1, 6) from by unfold zdoEnter; (repeat' split) <;> first | (exfalso; omega) | rfl]; exact ⟨rfl, rfl⟩)
    · refine js_aload_n 3 dX3_doEnter_59 rfl ?_
      refine js_iconst dX3_doEnter_60 ?_
      refine js_iload 0 dX3_doEnter_61 rfl ?_
      refine js_if_ne (tgt := 70) dX3_doEnter_63 (by decide) (by omega) (fun c13 => ?_) (fun c13 => ?_)
      · refine js_iload 7 dX3_doEnter_70 rfl ?_
        refine eX3_83 rfl dX3_doEnter_72 hm (com_refuse hm hs hr hn) (Nat.le_of_ble_eq_true rfl) (Nat.le_of_ble_eq_true rfl) ?_
        show js_ok ρ mX3_doEnter _ 2 0 0 75 [(7, .int (jI (zwr sk 20 gs 40))), (6, .int (jI (zwr x 9 y 9))), (5, .int (jI (f 0))), (0, .ref m), (1, .int (jI x)), (2, .int (jI y)), (3, .int (jI sk)), (4, .int (jI gs))] [.int (jI 0)] (js_up (js_up h m (js_ob true 2 [.ref s, v1, v2, v3, v4, v5, v6, .int (jI 1), .ref rf, v9, v10, v11, v12, v13, v14, v15, v16, v17, v18, v19])) rf (js_aI true 0 4 (zrf g 4 gs)))
        exact js_iret rfl rfl dX3_doEnter_75 (by rw [show zdoEnter f x y sk gs = .inl (4, gs) from by unfold zdoEnter; (repeat' split) <;> first | (exfalso; omega) | rfl]; exact ⟨rfl, rfl⟩)
      · refine js_iload_n 6 dX3_doEnter_66 rfl ?_
        refine js_goto (tgt := 72) dX3_doEnter_67 (by decide) ?_
        refine eX3_83 rfl dX3_doEnter_72 hm (com_refuse hm hs hr hn) (Nat.le_of_ble_eq_true rfl) (Nat.le_of_ble_eq_true rfl) ?_
        show js_ok ρ mX3_doEnter _ 2 0 0 75 [(7, .int (jI (zwr sk 20 gs 40))), (6, .int (jI (zwr x 9 y 9))), (5, .int (jI (f 0))), (0, .ref m), (1, .int (jI x)), (2, .int (jI y)), (3, .int (jI sk)), (4, .int (jI gs))] [.int (jI 0)] (js_up (js_up h m (js_ob true 2 [.ref s, v1, v2, v3, v4, v5, v6, .int (jI 1), .ref rf, v9, v10, v11, v12, v13, v14, v15, v16, v17, v18, v19])) rf (js_aI true 0 4 (zrf g 4 sk)))
        exact js_iret rfl rfl dX3_doEnter_75 (by rw [show zdoEnter f x y sk gs = .inl (4, sk) from by unfold zdoEnter; (repeat' split) <;> first | (exfalso; omega) | rfl]; exact ⟨rfl, rfl⟩)
  · refine js_aload_n 2 dX3_doEnter_25 rfl ?_
    refine js_iconst dX3_doEnter_26 ?_
    refine js_iload 0 dX3_doEnter_27 rfl ?_
    refine js_if_ne (tgt := 36) dX3_doEnter_29 (by decide) (by omega) (fun c14 => ?_) (fun c14 => ?_)
    · refine js_iload_n 4 dX3_doEnter_36 rfl ?_
      refine eX3_83 rfl dX3_doEnter_37 hm (com_refuse hm hs hr hn) (Nat.le_of_ble_eq_true rfl) (Nat.le_of_ble_eq_true rfl) ?_
      show js_ok ρ mX3_doEnter _ 2 0 0 40 [(6, .int (jI (zwr x 9 y 9))), (5, .int (jI (f 0))), (0, .ref m), (1, .int (jI x)), (2, .int (jI y)), (3, .int (jI sk)), (4, .int (jI gs))] [.int (jI 0)] (js_up (js_up h m (js_ob true 2 [.ref s, v1, v2, v3, v4, v5, v6, .int (jI 1), .ref rf, v9, v10, v11, v12, v13, v14, v15, v16, v17, v18, v19])) rf (js_aI true 0 4 (zrf g 4 y)))
      exact js_iret rfl rfl dX3_doEnter_40 (by rw [show zdoEnter f x y sk gs = .inl (4, y) from by unfold zdoEnter; (repeat' split) <;> first | (exfalso; omega) | rfl]; exact ⟨rfl, rfl⟩)
    · refine js_iload_n 3 dX3_doEnter_32 rfl ?_
      refine js_goto (tgt := 37) dX3_doEnter_33 (by decide) ?_
      refine eX3_83 rfl dX3_doEnter_37 hm (com_refuse hm hs hr hn) (Nat.le_of_ble_eq_true rfl) (Nat.le_of_ble_eq_true rfl) ?_
      show js_ok ρ mX3_doEnter _ 2 0 0 40 [(6, .int (jI (zwr x 9 y 9))), (5, .int (jI (f 0))), (0, .ref m), (1, .int (jI x)), (2, .int (jI y)), (3, .int (jI sk)), (4, .int (jI gs))] [.int (jI 0)] (js_up (js_up h m (js_ob true 2 [.ref s, v1, v2, v3, v4, v5, v6, .int (jI 1), .ref rf, v9, v10, v11, v12, v13, v14, v15, v16, v17, v18, v19])) rf (js_aI true 0 4 (zrf g 4 x)))
      exact js_iret rfl rfl dX3_doEnter_40 (by rw [show zdoEnter f x y sk gs = .inl (4, x) from by unfold zdoEnter; (repeat' split) <;> first | (exfalso; omega) | rfl]; exact ⟨rfl, rfl⟩)
theorem com_doHour {ρ : js_R} {h : js_H} {m s rf : Nat} {v1 v2 v3 v4 v5 v6 v7 v9 v10 v11 v12 v13 v14 v15 v16 v17 v18 v19 : Value} {f g : Int → Int} {T n : Int} (hm : h m = some (js_ob true 2 [.ref s, v1, v2, v3, v4, v5, v6, v7, .ref rf, v9, v10, v11, v12, v13, v14, v15, v16, v17, v18, v19])) (hs : h s = some (js_aI true 0 287 f)) (hr : h rf = some (js_aI true 0 4 g)) (hn : s ≠ rf) (hI : zI T f) (hT : T + 400 ≤ 1000000) (rn : -2147483648 ≤ n ∧ n < 2147483648) : js_Con ρ mX3_doHour 7 0 0 [.ref m, .int (jI n)] h (js_ret (some (.int (jI (zoR (zdoHour f n))))) (zoH h m s rf (js_ob true 2 [.ref s, v1, v2, v3, v4, v5, v6, .int (jI 1), .ref rf, v9, v10, v11, v12, v13, v14, v15, v16, v17, v18, v19]) g (zdoHour f n))) := by
  refine js_body [(0, .ref m), (1, .int (jI n))] rfl (by decide) (Nat.le_of_ble_eq_true rfl) rfl ?_
  have h01 := zI_01 hI
  refine js_iload_n 1 dX3_doHour_0 rfl ?_
  refine js_iconst dX3_doHour_1 ?_
  refine js_bipush dX3_doHour_2 rfl ?_
  refine eX3_61 rfl dX3_doHour_4 (com_in (by omega) (by omega) (by omega)) (Nat.le_of_ble_eq_true rfl) (Nat.le_of_ble_eq_true rfl) ?_
  refine js_if_neB (tgt := 17) dX3_doHour_7 (by decide) (fun c1 => ?_) (fun c1 => ?_)
  · refine js_aload_n 0 dX3_doHour_17 rfl ?_
    refine gX3_9 rfl dX3_doHour_18 hm rfl ?_
    refine js_iconst dX3_doHour_21 ?_
    refine js_iaload dX3_doHour_22 hs (by omega) ?_
    refine js_istore_n (L' := [(2, .int (jI (f 3))), (0, .ref m), (1, .int (jI n))]) dX3_doHour_23 (by decide) rfl ?_
    refine js_iconst dX3_doHour_24 ?_
    refine js_istore_n (L' := [(3, .int (jI 0)), (2, .int (jI (f 3))), (0, .ref m), (1, .int (jI n))]) dX3_doHour_25 (by decide) rfl ?_
    refine js_sub (L' := [(0, .ref m), (1, .int (jI n)), (2, .int (jI (f 3))), (3, .int (jI 0))]) [2, 3, 1, 0] rfl ?_
    refine js_heq (js_selfU hs) ?_
    refine js_loop (σ := Nat) (fun k => (k : Int) ≤ n) (fun k => n.toNat - k) (fun k => 0) (fun k => 0) 26 (fun k => [(0, .ref m), (1, .int (jI n)), (2, .int (jI (f 3))), (3, .int (jI ((k : Int))))]) (fun k => []) (fun k => (js_up h s (js_aI true 0 287 (zhrs f k)))) (fun k hk IHk => ?_) 0 (by omega)
    show js_ok ρ mX3_doHour _ 7 0 0 26 [(0, .ref m), (1, .int (jI n)), (2, .int (jI (f 3))), (3, .int (jI ((k : Int))))] [] (js_up h s (js_aI true 0 287 (zhrs f k)))
    have iK := (zhrs_I hI k (by omega)).1
    refine js_iload_n 3 dX3_doHour_26 rfl ?_
    refine js_iload_n 1 dX3_doHour_27 rfl ?_
    refine js_icmp_ge (tgt := 41) dX3_doHour_28 (by decide) (by omega) (fun c3 => ?_) (fun c3 => ?_)
    · have ek : n.toNat = k := by omega
      refine js_heq (h' := (js_up h s (js_aI true 0 287 (zhrs f n.toNat)))) (by rw [show (zhrs f n.toNat) = (zhrs f k) from (by rw [ek])]) ?_
      refine js_aload_n 0 dX3_doHour_41 rfl ?_
      refine gX3_9 rfl dX3_doHour_42 ((js_up_n (js_nek hm hs js_kOA)).trans hm) rfl ?_
      refine js_iconst dX3_doHour_45 ?_
      refine js_iaload dX3_doHour_46 js_up_s (by omega) ?_
      refine js_iload_n 2 dX3_doHour_47 rfl ?_
      refine js_isub dX3_doHour_48 ?_
      exact js_iret rfl rfl dX3_doHour_49 (by rw [show zdoHour f n = .inr (((zhrs f n.toNat) 3) - (f 3), zhrs f n.toNat) from by unfold zdoHour; (repeat' split) <;> first | (exfalso; omega) | rfl]; exact ⟨rfl, rfl⟩)
    · refine js_aload_n 0 dX3_doHour_31 rfl ?_
      refine eX3_162 rfl dX3_doHour_32 ((js_up_n (js_nek hm hs js_kOA)).trans hm) (com_goesHour ((js_up_n (js_nek hm hs js_kOA)).trans hm) js_up_s iK (by omega)) (Nat.le_of_ble_eq_true rfl) (Nat.le_of_ble_eq_true rfl) ?_
      rw [js_up_up]
      show js_ok ρ mX3_doHour _ 7 0 0 35 [(0, .ref m), (1, .int (jI n)), (2, .int (jI (f 3))), (3, .int (jI ((k : Int))))] [] (js_up h s (js_aI true 0 287 (zhr (zhrs f k))))
      refine js_iinc (L' := [(3, .int (jI (((k : Int)) + 1))), (0, .ref m), (1, .int (jI n)), (2, .int (jI (f 3)))]) 3 dX3_doHour_35 rfl (by decide) rfl ?_
      refine js_goto (tgt := 26) dX3_doHour_38 (by decide) ?_
      show js_ok ρ mX3_doHour _ 7 0 0 26 [(3, .int (jI (((k : Int)) + 1))), (0, .ref m), (1, .int (jI n)), (2, .int (jI (f 3)))] [] (js_up h s (js_aI true 0 287 (zhrs f (k + 1))))
      refine js_sub (L' := [(0, .ref m), (1, .int (jI n)), (2, .int (jI (f 3))), (3, .int (jI (((k : Int)) + 1)))]) [1, 2, 3, 0] rfl ?_
      exact IHk (k + 1) (by omega) (by omega)
  · refine js_aload_n 0 dX3_doHour_10 rfl ?_
    refine js_iconst dX3_doHour_11 ?_
    refine js_iload_n 1 dX3_doHour_12 rfl ?_
    refine eX3_83 rfl dX3_doHour_13 hm (com_refuse hm hs hr hn) (Nat.le_of_ble_eq_true rfl) (Nat.le_of_ble_eq_true rfl) ?_
    show js_ok ρ mX3_doHour _ 7 0 0 16 [(0, .ref m), (1, .int (jI n))] [.int (jI 0)] (js_up (js_up h m (js_ob true 2 [.ref s, v1, v2, v3, v4, v5, v6, .int (jI 1), .ref rf, v9, v10, v11, v12, v13, v14, v15, v16, v17, v18, v19])) rf (js_aI true 0 4 (zrf g 4 n)))
    exact js_iret rfl rfl dX3_doHour_16 (by rw [show zdoHour f n = .inl (4, n) from by unfold zdoHour; (repeat' split) <;> first | (exfalso; omega) | rfl]; exact ⟨rfl, rfl⟩)
theorem com_doRetire {ρ : js_R} {h : js_H} {m s rf : Nat} {v1 v2 v3 v4 v5 v6 v7 v9 v10 v11 v12 v13 v14 v15 v16 v17 v18 v19 : Value} {f g : Int → Int} {T b : Int} (hm : h m = some (js_ob true 2 [.ref s, v1, v2, v3, v4, v5, v6, v7, .ref rf, v9, v10, v11, v12, v13, v14, v15, v16, v17, v18, v19])) (hs : h s = some (js_aI true 0 287 f)) (hr : h rf = some (js_aI true 0 4 g)) (hn : s ≠ rf) (hI : zI T f) (rb : -2147483648 ≤ b ∧ b < 2147483648) : js_Con ρ mX3_doRetire 3 0 0 [.ref m, .int (jI b)] h (js_ret (some (.int (jI (zoR (zdoRetire f b))))) (zoH h m s rf (js_ob true 2 [.ref s, v1, v2, v3, v4, v5, v6, .int (jI 1), .ref rf, v9, v10, v11, v12, v13, v14, v15, v16, v17, v18, v19]) g (zdoRetire f b))) := by
  refine js_body [(0, .ref m), (1, .int (jI b))] rfl (by decide) (Nat.le_of_ble_eq_true rfl) rfl ?_
  have h01 := zI_01 hI
  refine js_aload_n 0 dX3_doRetire_0 rfl ?_
  refine js_iload_n 1 dX3_doRetire_1 rfl ?_
  refine eX3_113 rfl dX3_doRetire_2 hm (com_isBalloon hm hs (by omega) (by omega)) (Nat.le_of_ble_eq_true rfl) (Nat.le_of_ble_eq_true rfl) ?_
  refine js_if_neB (tgt := 15) dX3_doRetire_5 (by decide) (fun c1 => ?_) (fun c1 => ?_)
  · refine js_aload_n 0 dX3_doRetire_15 rfl ?_
    refine gX3_9 rfl dX3_doRetire_16 hm rfl ?_
    refine js_iconst dX3_doRetire_19 ?_
    refine js_iaload dX3_doRetire_20 hs (by omega) ?_
    refine js_iconst dX3_doRetire_21 ?_
    refine js_isub dX3_doRetire_22 ?_
    refine js_istore_n (L' := [(2, .int (jI ((f 0) - 1))), (0, .ref m), (1, .int (jI b))]) dX3_doRetire_23 (by decide) rfl ?_
    refine js_bipush dX3_doRetire_24 rfl ?_
    refine js_bipush dX3_doRetire_26 rfl ?_
    refine js_iload_n 2 dX3_doRetire_28 rfl ?_
    refine js_imul dX3_doRetire_29 ?_
    refine js_iadd dX3_doRetire_30 ?_
    refine js_istore_n (L' := [(3, .int (jI (13 + (9 * b)))), (2, .int (jI ((f 0) - 1))), (0, .ref m), (1, .int (jI b))]) dX3_doRetire_31 (by decide) rfl ?_
    refine js_aload_n 2 dX3_doRetire_32 rfl ?_
    refine gX3_9 rfl dX3_doRetire_33 hm rfl ?_
    refine js_iload_n 0 dX3_doRetire_36 rfl ?_
    refine js_bipush dX3_doRetire_37 rfl ?_
    refine js_iadd dX3_doRetire_39 ?_
    refine js_aload_n 2 dX3_doRetire_40 rfl ?_
    refine gX3_9 rfl dX3_doRetire_41 hm rfl ?_
    refine js_iload_n 0 dX3_doRetire_44 rfl ?_
    refine js_bipush dX3_doRetire_45 rfl ?_
    refine js_iload_n 1 dX3_doRetire_47 rfl ?_
    refine js_iload_n 3 dX3_doRetire_48 rfl ?_
    refine js_isub dX3_doRetire_49 ?_
    refine js_imul dX3_doRetire_50 ?_
    refine js_copyI (by decide) q2328 dX3_doRetire_51 hs hs (by omega) (Nat.le_of_ble_eq_true rfl) (Nat.le_of_ble_eq_true rfl) (fun _ _ _ => rfl) ?_
    show js_ok ρ mX3_doRetire _ 3 0 0 54 [(3, .int (jI (13 + (9 * b)))), (2, .int (jI ((f 0) - 1))), (0, .ref m), (1, .int (jI b))] [] (js_up h s (js_aI true 0 287 (js_cp f f ((13 + (9 * b)) + 9) (13 + (9 * b)) (9 * (((f 0) - 1) - b)))))
    refine js_aload_n 2 dX3_doRetire_54 rfl ?_
    refine gX3_9 rfl dX3_doRetire_55 ((js_up_n (js_nek hm hs js_kOA)).trans hm) rfl ?_
    refine js_iconst dX3_doRetire_58 ?_
    refine js_iload_n 1 dX3_doRetire_59 rfl ?_
    refine js_iastore dX3_doRetire_60 js_up_s (by omega) ?_
    rw [js_up_up]
    show js_ok ρ mX3_doRetire _ 3 0 0 61 [(3, .int (jI (13 + (9 * b)))), (2, .int (jI ((f 0) - 1))), (0, .ref m), (1, .int (jI b))] [] (js_up h s (js_aI true 0 287 (js_uz (js_cp f f ((13 + (9 * b)) + 9) (13 + (9 * b)) (9 * (((f 0) - 1) - b))) 0 ((f 0) - 1))))
    refine js_iload_n 1 dX3_doRetire_61 rfl ?_
    exact js_iret rfl rfl dX3_doRetire_62 (by rw [show zdoRetire f b = .inr ((f 0) - 1, js_uz (js_cp f f ((13 + (9 * b)) + 9) (13 + (9 * b)) (9 * (((f 0) - 1) - b))) 0 ((f 0) - 1)) from by unfold zdoRetire; (repeat' split) <;> first | (exfalso; omega) | rfl]; exact ⟨rfl, rfl⟩)
  · refine js_aload_n 0 dX3_doRetire_8 rfl ?_
    refine js_iconst dX3_doRetire_9 ?_
    refine js_iload_n 1 dX3_doRetire_10 rfl ?_
    refine eX3_83 rfl dX3_doRetire_11 hm (com_refuse hm hs hr hn) (Nat.le_of_ble_eq_true rfl) (Nat.le_of_ble_eq_true rfl) ?_
    show js_ok ρ mX3_doRetire _ 3 0 0 14 [(0, .ref m), (1, .int (jI b))] [.int (jI 0)] (js_up (js_up h m (js_ob true 2 [.ref s, v1, v2, v3, v4, v5, v6, .int (jI 1), .ref rf, v9, v10, v11, v12, v13, v14, v15, v16, v17, v18, v19])) rf (js_aI true 0 4 (zrf g 5 b)))
    exact js_iret rfl rfl dX3_doRetire_14 (by rw [show zdoRetire f b = .inl (5, b) from by unfold zdoRetire; (repeat' split) <;> first | (exfalso; omega) | rfl]; exact ⟨rfl, rfl⟩)
