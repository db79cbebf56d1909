set_option maxRecDepth 100000
/-! BalloonSpiresModel: an hour -/
theorem com_sinks {ρ : js_R} {h : js_H} {m s : Nat} {v1 v2 v3 v4 v5 v6 v7 v8 v9 v10 v11 v12 v13 v14 v15 v16 v17 v18 v19 : Value} {f : Int → Int} {b lv : Int} (hm : h m = some (js_ob true 2 [.ref s, v1, v2, v3, v4, v5, v6, v7, v8, v9, v10, v11, v12, v13, v14, v15, v16, v17, v18, v19])) (hs : h s = some (js_aI true 0 287 f)) (rb : 0 ≤ b ∧ b ≤ 5) (r1 : -1000 ≤ f (13 + 9 * b + 2) - lv ∧ f (13 + 9 * b + 2) - lv ≤ 1000) (rp : 0 ≤ zpt f b ∧ zpt f b < 100) : js_Con ρ mX3_sinks 2 0 0 [.ref m, .int (jI b), .int (jI lv)] h (js_ret (some (.int (jI (zfee f b lv)))) (js_up h s (js_aI true 0 287 (zsinks f b lv)))) := by
  refine js_body [(0, .ref m), (1, .int (jI b)), (2, .int (jI lv))] rfl (by decide) (Nat.le_of_ble_eq_true rfl) rfl ?_
  refine js_aload_n 0 dX3_sinks_0 rfl ?_
  refine js_iload_n 1 dX3_sinks_1 rfl ?_
  refine js_iconst dX3_sinks_2 ?_
  refine eX3_76 rfl dX3_sinks_3 hm (com_of hm hs (by omega) (by omega)) (Nat.le_of_ble_eq_true rfl) (Nat.le_of_ble_eq_true rfl) ?_
  refine js_iload_n 2 dX3_sinks_6 rfl ?_
  refine js_isub dX3_sinks_7 ?_
  refine js_istore_n (L' := [(3, .int (jI ((f (13 + 9 * b + 2)) - lv))), (0, .ref m), (1, .int (jI b)), (2, .int (jI lv))]) dX3_sinks_8 (by decide) rfl ?_
  refine js_aload_n 1 dX3_sinks_9 rfl ?_
  refine js_iload_n 2 dX3_sinks_10 rfl ?_
  refine js_iconst dX3_sinks_11 ?_
  refine js_iload_n 0 dX3_sinks_12 rfl ?_
  refine eX3_86 rfl dX3_sinks_13 hm (com_sets hm hs (by omega) (by omega)) (Nat.le_of_ble_eq_true rfl) (Nat.le_of_ble_eq_true rfl) ?_
  show js_ok ρ mX3_sinks _ 2 0 0 16 [(3, .int (jI ((f (13 + 9 * b + 2)) - lv))), (0, .ref m), (1, .int (jI b)), (2, .int (jI lv))] [] (js_up h s (js_aI true 0 287 (js_uz f (13 + 9 * b + 2) ((f (13 + 9 * b + 2)) - lv))))
  refine js_join 37 [(3, .int (jI ((f (13 + 9 * b + 2)) - lv))), (0, .ref m), (1, .int (jI b)), (2, .int (jI lv))] [] (js_up h s (js_aI true 0 287 (js_uz f (13 + 9 * b + 2) ((f (13 + 9 * b + 2)) - lv)))) (zfee f b lv) (fun z hz => ?_) (fun J1 => ?_)
  · subst hz
    refine js_istore (L' := [(4, .int (jI (zfee f b lv))), (3, .int (jI ((f (13 + 9 * b + 2)) - lv))), (0, .ref m), (1, .int (jI b)), (2, .int (jI lv))]) dX3_sinks_37 (by decide) rfl ?_
    refine js_aload_n 2 dX3_sinks_39 rfl ?_
    refine js_iload_n 3 dX3_sinks_40 rfl ?_
    refine js_bipush dX3_sinks_41 rfl ?_
    refine js_aload_n 2 dX3_sinks_43 rfl ?_
    refine js_iload_n 3 dX3_sinks_44 rfl ?_
    refine js_bipush dX3_sinks_45 rfl ?_
    refine eX3_76 rfl dX3_sinks_47 ((js_up_n (js_nek hm hs js_kOA)).trans hm) (com_of ((js_up_n (js_nek hm hs js_kOA)).trans hm) js_up_s (by omega) (by omega)) (Nat.le_of_ble_eq_true rfl) (Nat.le_of_ble_eq_true rfl) ?_
    rw [show (js_uz f (13 + 9 * b + 2) ((f (13 + 9 * b + 2)) - lv)) (13 + 9 * b + 7) = f (13 + 9 * b + 7) from by rw [js_uz_n (by omega)]]
    refine js_iload 0 dX3_sinks_50 rfl ?_
    refine js_iadd dX3_sinks_52 ?_
    refine eX3_86 rfl dX3_sinks_53 ((js_up_n (js_nek hm hs js_kOA)).trans hm) (com_sets ((js_up_n (js_nek hm hs js_kOA)).trans hm) js_up_s (by omega) (by omega)) (Nat.le_of_ble_eq_true rfl) (Nat.le_of_ble_eq_true rfl) ?_
    rw [js_up_up]
    show js_ok ρ mX3_sinks _ 2 0 0 56 [(4, .int (jI (zfee f b lv))), (3, .int (jI ((f (13 + 9 * b + 2)) - lv))), (0, .ref m), (1, .int (jI b)), (2, .int (jI lv))] [] (js_up h s (js_aI true 0 287 (js_uz (js_uz f (13 + 9 * b + 2) ((f (13 + 9 * b + 2)) - lv)) (13 + 9 * b + 7) ((f (13 + 9 * b + 7)) + (zfee f b lv)))))
    refine js_aload_n 2 dX3_sinks_56 rfl ?_
    refine gX3_9 rfl dX3_sinks_57 ((js_up_n (js_nek hm hs js_kOA)).trans hm) rfl ?_
    refine js_sipush dX3_sinks_60 rfl ?_
    refine js_aload_n 2 dX3_sinks_63 rfl ?_
    refine js_iload_n 3 dX3_sinks_64 rfl ?_
    refine eX3_120 rfl dX3_sinks_65 ((js_up_n (js_nek hm hs js_kOA)).trans hm) (com_pointOf ((js_up_n (js_nek hm hs js_kOA)).trans hm) js_up_s (by omega)) (Nat.le_of_ble_eq_true rfl) (Nat.le_of_ble_eq_true rfl) ?_
    rw [show zpt (js_uz (js_uz f (13 + 9 * b + 2) ((f (13 + 9 * b + 2)) - lv)) (13 + 9 * b + 7) ((f (13 + 9 * b + 7)) + (zfee f b lv))) b = zpt f b from by unfold zpt; simp (disch := omega) only [js_uz_n]]
    refine js_iadd dX3_sinks_68 ?_
    refine js_dup2 dX3_sinks_69 rfl rfl ?_
    refine js_iaload dX3_sinks_70 js_up_s (by omega) ?_
    rw [show (js_uz (js_uz f (13 + 9 * b + 2) ((f (13 + 9 * b + 2)) - lv)) (13 + 9 * b + 7) ((f (13 + 9 * b + 7)) + (zfee f b lv))) (187 + (zpt f b)) = f (187 + (zpt f b)) from by rw [js_uz_n (by omega), js_uz_n (by omega)]]
    refine js_iload 0 dX3_sinks_71 rfl ?_
    refine js_iadd dX3_sinks_73 ?_
    refine js_iastore dX3_sinks_74 js_up_s (by omega) ?_
    rw [js_up_up]
    show js_ok ρ mX3_sinks _ 2 0 0 75 [(4, .int (jI (zfee f b lv))), (3, .int (jI ((f (13 + 9 * b + 2)) - lv))), (0, .ref m), (1, .int (jI b)), (2, .int (jI lv))] [] (js_up h s (js_aI true 0 287 (js_uz (js_uz (js_uz f (13 + 9 * b + 2) ((f (13 + 9 * b + 2)) - lv)) (13 + 9 * b + 7) ((f (13 + 9 * b + 7)) + (zfee f b lv))) (187 + (zpt f b)) ((f (187 + (zpt f b))) + (zfee f b lv)))))
    refine js_aload_n 2 dX3_sinks_75 rfl ?_
    refine gX3_9 rfl dX3_sinks_76 ((js_up_n (js_nek hm hs js_kOA)).trans hm) rfl ?_
    refine js_iconst dX3_sinks_79 ?_
    refine js_dup2 dX3_sinks_80 rfl rfl ?_
    refine js_iaload dX3_sinks_81 js_up_s (by omega) ?_
    rw [show (js_uz (js_uz (js_uz f (13 + 9 * b + 2) ((f (13 + 9 * b + 2)) - lv)) (13 + 9 * b + 7) ((f (13 + 9 * b + 7)) + (zfee f b lv))) (187 + (zpt f b)) ((f (187 + (zpt f b))) + (zfee f b lv))) 5 = f 5 from by rw [js_uz_n (by omega), js_uz_n (by omega), js_uz_n (by omega)]]
    refine js_iload 0 dX3_sinks_82 rfl ?_
    refine js_iadd dX3_sinks_84 ?_
    refine js_iastore dX3_sinks_85 js_up_s (by omega) ?_
    rw [js_up_up]
    show js_ok ρ mX3_sinks _ 2 0 0 86 [(4, .int (jI (zfee f b lv))), (3, .int (jI ((f (13 + 9 * b + 2)) - lv))), (0, .ref m), (1, .int (jI b)), (2, .int (jI lv))] [] (js_up h s (js_aI true 0 287 (js_uz (js_uz (js_uz (js_uz f (13 + 9 * b + 2) ((f (13 + 9 * b + 2)) - lv)) (13 + 9 * b + 7) ((f (13 + 9 * b + 7)) + (zfee f b lv))) (187 + (zpt f b)) ((f (187 + (zpt f b))) + (zfee f b lv))) 5 ((f 5) + (zfee f b lv)))))
    refine js_iload 0 dX3_sinks_86 rfl ?_
    exact js_iret rfl rfl dX3_sinks_88 ⟨rfl, rfl⟩
  · refine js_iload_n 0 dX3_sinks_16 rfl ?_
    refine js_if_le (tgt := 24) dX3_sinks_17 (by decide) (by omega) (fun c2 => ?_) (fun c2 => ?_)
    · refine js_aload_n 1 dX3_sinks_24 rfl ?_
      refine gX3_9 rfl dX3_sinks_25 ((js_up_n (js_nek hm hs js_kOA)).trans hm) rfl ?_
      refine js_bipush dX3_sinks_28 rfl ?_
      refine js_aload_n 1 dX3_sinks_30 rfl ?_
      refine js_iload_n 2 dX3_sinks_31 rfl ?_
      refine eX3_120 rfl dX3_sinks_32 ((js_up_n (js_nek hm hs js_kOA)).trans hm) (com_pointOf ((js_up_n (js_nek hm hs js_kOA)).trans hm) js_up_s (by omega)) (Nat.le_of_ble_eq_true rfl) (Nat.le_of_ble_eq_true rfl) ?_
      rw [show zpt (js_uz f (13 + 9 * b + 2) ((f (13 + 9 * b + 2)) - lv)) b = zpt f b from by unfold zpt; simp (disch := omega) only [js_uz_n]]
      refine js_iadd dX3_sinks_35 ?_
      refine js_iaload dX3_sinks_36 js_up_s (by omega) ?_
      rw [show (js_uz f (13 + 9 * b + 2) ((f (13 + 9 * b + 2)) - lv)) (87 + (zpt f b)) = f (87 + (zpt f b)) from by rw [js_uz_n (by omega)]]
      exact J1 _ (by unfold zfee; (repeat' split) <;> omega)
    · refine js_iconst dX3_sinks_20 ?_
      refine js_goto (tgt := 37) dX3_sinks_21 (by decide) ?_
      exact J1 _ (by unfold zfee; (repeat' split) <;> omega)
theorem com_rounds {ρ : js_R} {h : js_H} {m s : Nat} {v1 v2 v3 v4 v5 v6 v7 v8 v9 v10 v11 v12 v13 v14 v15 v16 v17 v18 v19 : Value} {f : Int → Int} {b : Int} (hm : h m = some (js_ob true 2 [.ref s, v1, v2, v3, v4, v5, v6, v7, v8, v9, v10, v11, v12, v13, v14, v15, v16, v17, v18, v19])) (hs : h s = some (js_aI true 0 287 f)) (rb : 0 ≤ b ∧ b ≤ 5) (r5 : 0 ≤ f (13 + 9 * b + 5) ∧ f (13 + 9 * b + 5) ≤ 4) (r2 : -1000 ≤ f (13 + 9 * b + 2) ∧ f (13 + 9 * b + 2) ≤ 1000) (r8 : -1000 ≤ f (13 + 9 * b + 8) ∧ f (13 + 9 * b + 8) ≤ 1000) : js_Con ρ mX3_rounds 1 0 0 [.ref m, .int (jI b)] h (js_ret none (js_up h s (js_aI true 0 287 (zrnds f b)))) := by
  refine js_body [(0, .ref m), (1, .int (jI b))] rfl (by decide) (Nat.le_of_ble_eq_true rfl) rfl ?_
  refine js_aload_n 0 dX3_rounds_0 rfl ?_
  refine gX3_9 rfl dX3_rounds_1 hm rfl ?_
  refine js_bipush dX3_rounds_4 rfl ?_
  refine js_iconst dX3_rounds_6 ?_
  refine js_aload_n 0 dX3_rounds_7 rfl ?_
  refine js_iload_n 1 dX3_rounds_8 rfl ?_
  refine js_iconst dX3_rounds_9 ?_
  refine eX3_76 rfl dX3_rounds_10 hm (com_of hm hs (by omega) (by omega)) (Nat.le_of_ble_eq_true rfl) (Nat.le_of_ble_eq_true rfl) ?_
  refine js_imul dX3_rounds_13 ?_
  refine js_iadd dX3_rounds_14 ?_
  refine js_iconst dX3_rounds_15 ?_
  refine js_iadd dX3_rounds_16 ?_
  refine js_dup2 dX3_rounds_17 rfl rfl ?_
  refine js_iaload dX3_rounds_18 hs (by omega) ?_
  refine js_iconst dX3_rounds_19 ?_
  refine js_iadd dX3_rounds_20 ?_
  refine js_iastore dX3_rounds_21 hs (by omega) ?_
  show js_ok ρ mX3_rounds _ 1 0 0 22 [(0, .ref m), (1, .int (jI b))] [] (js_up h s (js_aI true 0 287 (js_uz f ((67 + (4 * (f (13 + 9 * b + 5)))) + 3) ((f ((67 + (4 * (f (13 + 9 * b + 5)))) + 3)) + 1))))
  refine js_aload_n 0 dX3_rounds_22 rfl ?_
  refine js_iload_n 1 dX3_rounds_23 rfl ?_
  refine js_iconst dX3_rounds_24 ?_
  refine js_aload_n 0 dX3_rounds_25 rfl ?_
  refine js_iload_n 1 dX3_rounds_26 rfl ?_
  refine js_iconst dX3_rounds_27 ?_
  refine eX3_76 rfl dX3_rounds_28 ((js_up_n (js_nek hm hs js_kOA)).trans hm) (com_of ((js_up_n (js_nek hm hs js_kOA)).trans hm) js_up_s (by omega) (by omega)) (Nat.le_of_ble_eq_true rfl) (Nat.le_of_ble_eq_true rfl) ?_
  rw [show (js_uz f ((67 + (4 * (f (13 + 9 * b + 5)))) + 3) ((f ((67 + (4 * (f (13 + 9 * b + 5)))) + 3)) + 1)) (13 + 9 * b + 5) = f (13 + 9 * b + 5) from by rw [js_uz_n (by omega)]]
  refine js_iconst dX3_rounds_31 ?_
  refine js_iadd dX3_rounds_32 ?_
  refine eX3_86 rfl dX3_rounds_33 ((js_up_n (js_nek hm hs js_kOA)).trans hm) (com_sets ((js_up_n (js_nek hm hs js_kOA)).trans hm) js_up_s (by omega) (by omega)) (Nat.le_of_ble_eq_true rfl) (Nat.le_of_ble_eq_true rfl) ?_
  rw [js_up_up]
  show js_ok ρ mX3_rounds _ 1 0 0 36 [(0, .ref m), (1, .int (jI b))] [] (js_up h s (js_aI true 0 287 (js_uz (js_uz f ((67 + (4 * (f (13 + 9 * b + 5)))) + 3) ((f ((67 + (4 * (f (13 + 9 * b + 5)))) + 3)) + 1)) (13 + 9 * b + 5) ((f (13 + 9 * b + 5)) + 1))))
  refine js_aload_n 0 dX3_rounds_36 rfl ?_
  refine js_iload_n 1 dX3_rounds_37 rfl ?_
  refine js_bipush dX3_rounds_38 rfl ?_
  refine js_aload_n 0 dX3_rounds_40 rfl ?_
  refine js_iload_n 1 dX3_rounds_41 rfl ?_
  refine js_bipush dX3_rounds_42 rfl ?_
  refine eX3_76 rfl dX3_rounds_44 ((js_up_n (js_nek hm hs js_kOA)).trans hm) (com_of ((js_up_n (js_nek hm hs js_kOA)).trans hm) js_up_s (by omega) (by omega)) (Nat.le_of_ble_eq_true rfl) (Nat.le_of_ble_eq_true rfl) ?_
  rw [show (js_uz (js_uz f ((67 + (4 * (f (13 + 9 * b + 5)))) + 3) ((f ((67 + (4 * (f (13 + 9 * b + 5)))) + 3)) + 1)) (13 + 9 * b + 5) ((f (13 + 9 * b + 5)) + 1)) (13 + 9 * b + 6) = f (13 + 9 * b + 6) from by rw [js_uz_n (by omega), js_uz_n (by omega)]]
  refine js_bipush dX3_rounds_47 rfl ?_
  refine js_iadd dX3_rounds_49 ?_
  refine eX3_86 rfl dX3_rounds_50 ((js_up_n (js_nek hm hs js_kOA)).trans hm) (com_sets ((js_up_n (js_nek hm hs js_kOA)).trans hm) js_up_s (by omega) (by omega)) (Nat.le_of_ble_eq_true rfl) (Nat.le_of_ble_eq_true rfl) ?_
  rw [js_up_up]
  show js_ok ρ mX3_rounds _ 1 0 0 53 [(0, .ref m), (1, .int (jI b))] [] (js_up h s (js_aI true 0 287 (js_uz (js_uz (js_uz f ((67 + (4 * (f (13 + 9 * b + 5)))) + 3) ((f ((67 + (4 * (f (13 + 9 * b + 5)))) + 3)) + 1)) (13 + 9 * b + 5) ((f (13 + 9 * b + 5)) + 1)) (13 + 9 * b + 6) ((f (13 + 9 * b + 6)) + 10))))
  refine js_aload_n 0 dX3_rounds_53 rfl ?_
  refine gX3_9 rfl dX3_rounds_54 ((js_up_n (js_nek hm hs js_kOA)).trans hm) rfl ?_
  refine js_iconst dX3_rounds_57 ?_
  refine js_dup2 dX3_rounds_58 rfl rfl ?_
  refine js_iaload dX3_rounds_59 js_up_s (by omega) ?_
  rw [show (js_uz (js_uz (js_uz f ((67 + (4 * (f (13 + 9 * b + 5)))) + 3) ((f ((67 + (4 * (f (13 + 9 * b + 5)))) + 3)) + 1)) (13 + 9 * b + 5) ((f (13 + 9 * b + 5)) + 1)) (13 + 9 * b + 6) ((f (13 + 9 * b + 6)) + 10)) 3 = f 3 from by rw [js_uz_n (by omega), js_uz_n (by omega), js_uz_n (by omega)]]
  refine js_iconst dX3_rounds_60 ?_
  refine js_iadd dX3_rounds_61 ?_
  refine js_iastore dX3_rounds_62 js_up_s (by omega) ?_
  rw [js_up_up]
  show js_ok ρ mX3_rounds _ 1 0 0 63 [(0, .ref m), (1, .int (jI b))] [] (js_up h s (js_aI true 0 287 (js_uz (js_uz (js_uz (js_uz f ((67 + (4 * (f (13 + 9 * b + 5)))) + 3) ((f ((67 + (4 * (f (13 + 9 * b + 5)))) + 3)) + 1)) (13 + 9 * b + 5) ((f (13 + 9 * b + 5)) + 1)) (13 + 9 * b + 6) ((f (13 + 9 * b + 6)) + 10)) 3 ((f 3) + 1))))
  refine js_aload_n 0 dX3_rounds_63 rfl ?_
  refine js_iload_n 1 dX3_rounds_64 rfl ?_
  refine js_bipush dX3_rounds_65 rfl ?_
  refine eX3_76 rfl dX3_rounds_67 ((js_up_n (js_nek hm hs js_kOA)).trans hm) (com_of ((js_up_n (js_nek hm hs js_kOA)).trans hm) js_up_s (by omega) (by omega)) (Nat.le_of_ble_eq_true rfl) (Nat.le_of_ble_eq_true rfl) ?_
  rw [show (js_uz (js_uz (js_uz (js_uz f ((67 + (4 * (f (13 + 9 * b + 5)))) + 3) ((f ((67 + (4 * (f (13 + 9 * b + 5)))) + 3)) + 1)) (13 + 9 * b + 5) ((f (13 + 9 * b + 5)) + 1)) (13 + 9 * b + 6) ((f (13 + 9 * b + 6)) + 10)) 3 ((f 3) + 1)) (13 + 9 * b + 8) = f (13 + 9 * b + 8) from by rw [js_uz_n (by omega), js_uz_n (by omega), js_uz_n (by omega), js_uz_n (by omega)]]
  refine js_aload_n 0 dX3_rounds_70 rfl ?_
  refine js_iload_n 1 dX3_rounds_71 rfl ?_
  refine js_iconst dX3_rounds_72 ?_
  refine eX3_76 rfl dX3_rounds_73 ((js_up_n (js_nek hm hs js_kOA)).trans hm) (com_of ((js_up_n (js_nek hm hs js_kOA)).trans hm) js_up_s (by omega) (by omega)) (Nat.le_of_ble_eq_true rfl) (Nat.le_of_ble_eq_true rfl) ?_
  rw [show (js_uz (js_uz (js_uz (js_uz f ((67 + (4 * (f (13 + 9 * b + 5)))) + 3) ((f ((67 + (4 * (f (13 + 9 * b + 5)))) + 3)) + 1)) (13 + 9 * b + 5) ((f (13 + 9 * b + 5)) + 1)) (13 + 9 * b + 6) ((f (13 + 9 * b + 6)) + 10)) 3 ((f 3) + 1)) (13 + 9 * b + 2) = f (13 + 9 * b + 2) from by rw [js_uz_n (by omega), js_uz_n (by omega), js_uz_n (by omega), js_uz_n (by omega)]]
  refine js_icmp_ne (tgt := 113) dX3_rounds_76 (by decide) (by omega) (fun c1 => ?_) (fun c1 => ?_)
  · exact js_vret rfl dX3_rounds_113 ⟨rfl, by unfold zrnds; rw [if_neg (by omega)]; rfl⟩
  · refine js_aload_n 0 dX3_rounds_79 rfl ?_
    refine js_iload_n 1 dX3_rounds_80 rfl ?_
    refine js_bipush dX3_rounds_81 rfl ?_
    refine js_aload_n 0 dX3_rounds_83 rfl ?_
    refine js_iload_n 1 dX3_rounds_84 rfl ?_
    refine js_bipush dX3_rounds_85 rfl ?_
    refine eX3_76 rfl dX3_rounds_87 ((js_up_n (js_nek hm hs js_kOA)).trans hm) (com_of ((js_up_n (js_nek hm hs js_kOA)).trans hm) js_up_s (by omega) (by omega)) (Nat.le_of_ble_eq_true rfl) (Nat.le_of_ble_eq_true rfl) ?_
    rw [show (js_uz (js_uz (js_uz (js_uz f ((67 + (4 * (f (13 + 9 * b + 5)))) + 3) ((f ((67 + (4 * (f (13 + 9 * b + 5)))) + 3)) + 1)) (13 + 9 * b + 5) ((f (13 + 9 * b + 5)) + 1)) (13 + 9 * b + 6) ((f (13 + 9 * b + 6)) + 10)) 3 ((f 3) + 1)) (13 + 9 * b + 6) = (f (13 + 9 * b + 6)) + 10 from by rw [js_uz_n (by omega), js_uz_s]]
    refine js_iconst dX3_rounds_90 ?_
    refine js_iadd dX3_rounds_91 ?_
    refine eX3_86 rfl dX3_rounds_92 ((js_up_n (js_nek hm hs js_kOA)).trans hm) (com_sets ((js_up_n (js_nek hm hs js_kOA)).trans hm) js_up_s (by omega) (by omega)) (Nat.le_of_ble_eq_true rfl) (Nat.le_of_ble_eq_true rfl) ?_
    rw [js_up_up]
    show js_ok ρ mX3_rounds _ 1 0 0 95 [(0, .ref m), (1, .int (jI b))] [] (js_up h s (js_aI true 0 287 (js_uz (js_uz (js_uz (js_uz (js_uz f ((67 + (4 * (f (13 + 9 * b + 5)))) + 3) ((f ((67 + (4 * (f (13 + 9 * b + 5)))) + 3)) + 1)) (13 + 9 * b + 5) ((f (13 + 9 * b + 5)) + 1)) (13 + 9 * b + 6) ((f (13 + 9 * b + 6)) + 10)) 3 ((f 3) + 1)) (13 + 9 * b + 6) (((f (13 + 9 * b + 6)) + 10) + 5))))
    refine js_aload_n 0 dX3_rounds_95 rfl ?_
    refine js_iload_n 1 dX3_rounds_96 rfl ?_
    refine js_bipush dX3_rounds_97 rfl ?_
    refine js_iconst dX3_rounds_99 ?_
    refine eX3_86 rfl dX3_rounds_100 ((js_up_n (js_nek hm hs js_kOA)).trans hm) (com_sets ((js_up_n (js_nek hm hs js_kOA)).trans hm) js_up_s (by omega) (by omega)) (Nat.le_of_ble_eq_true rfl) (Nat.le_of_ble_eq_true rfl) ?_
    rw [js_up_up]
    show js_ok ρ mX3_rounds _ 1 0 0 103 [(0, .ref m), (1, .int (jI b))] [] (js_up h s (js_aI true 0 287 (js_uz (js_uz (js_uz (js_uz (js_uz (js_uz f ((67 + (4 * (f (13 + 9 * b + 5)))) + 3) ((f ((67 + (4 * (f (13 + 9 * b + 5)))) + 3)) + 1)) (13 + 9 * b + 5) ((f (13 + 9 * b + 5)) + 1)) (13 + 9 * b + 6) ((f (13 + 9 * b + 6)) + 10)) 3 ((f 3) + 1)) (13 + 9 * b + 6) (((f (13 + 9 * b + 6)) + 10) + 5)) (13 + 9 * b + 8) 0)))
    refine js_aload_n 0 dX3_rounds_103 rfl ?_
    refine gX3_9 rfl dX3_rounds_104 ((js_up_n (js_nek hm hs js_kOA)).trans hm) rfl ?_
    refine js_iconst dX3_rounds_107 ?_
    refine js_dup2 dX3_rounds_108 rfl rfl ?_
    refine js_iaload dX3_rounds_109 js_up_s (by omega) ?_
    rw [show (js_uz (js_uz (js_uz (js_uz (js_uz (js_uz f ((67 + (4 * (f (13 + 9 * b + 5)))) + 3) ((f ((67 + (4 * (f (13 + 9 * b + 5)))) + 3)) + 1)) (13 + 9 * b + 5) ((f (13 + 9 * b + 5)) + 1)) (13 + 9 * b + 6) ((f (13 + 9 * b + 6)) + 10)) 3 ((f 3) + 1)) (13 + 9 * b + 6) (((f (13 + 9 * b + 6)) + 10) + 5)) (13 + 9 * b + 8) 0) 4 = f 4 from by rw [js_uz_n (by omega), js_uz_n (by omega), js_uz_n (by omega), js_uz_n (by omega), js_uz_n (by omega), js_uz_n (by omega)]]
    refine js_iconst dX3_rounds_110 ?_
    refine js_iadd dX3_rounds_111 ?_
    refine js_iastore dX3_rounds_112 js_up_s (by omega) ?_
    rw [js_up_up]
    show js_ok ρ mX3_rounds _ 1 0 0 113 [(0, .ref m), (1, .int (jI b))] [] (js_up h s (js_aI true 0 287 (js_uz (js_uz (js_uz (js_uz (js_uz (js_uz (js_uz f ((67 + (4 * (f (13 + 9 * b + 5)))) + 3) ((f ((67 + (4 * (f (13 + 9 * b + 5)))) + 3)) + 1)) (13 + 9 * b + 5) ((f (13 + 9 * b + 5)) + 1)) (13 + 9 * b + 6) ((f (13 + 9 * b + 6)) + 10)) 3 ((f 3) + 1)) (13 + 9 * b + 6) (((f (13 + 9 * b + 6)) + 10) + 5)) (13 + 9 * b + 8) 0) 4 ((f 4) + 1))))
    exact js_vret rfl dX3_rounds_113 ⟨rfl, by unfold zrnds; rw [if_pos (by omega)]; rfl⟩
theorem com_hasNext {ρ : js_R} {h : js_H} {m s : Nat} {v1 v2 v3 v4 v5 v6 v7 v8 v9 v10 v11 v12 v13 v14 v15 v16 v17 v18 v19 : Value} {f : Int → Int} {T b : Int} (hm : h m = some (js_ob true 2 [.ref s, v1, v2, v3, v4, v5, v6, v7, v8, v9, v10, v11, v12, v13, v14, v15, v16, v17, v18, v19])) (hs : h s = some (js_aI true 0 287 f)) (hI : zI T f) (hb : 0 ≤ b ∧ b < f 0) : js_Con ρ mX3_hasNext 1 0 0 [.ref m, .int (jI b)] h (js_ret (some (.int (jI (jb (f (13 + 9 * b + 5) < f 1))))) h) := by
  refine js_body [(0, .ref m), (1, .int (jI b))] rfl (by decide) (Nat.le_of_ble_eq_true rfl) rfl ?_
  have h01 := zI_01 hI
  have hB := zI_B hI hb.1 hb.2
  have hp := zIB_p hB
  unfold zIB at hB
  refine js_aload_n 0 dX3_hasNext_0 rfl ?_
  refine js_iload_n 1 dX3_hasNext_1 rfl ?_
  refine js_iconst dX3_hasNext_2 ?_
  refine eX3_76 rfl dX3_hasNext_3 hm (com_of hm hs (by omega) (by omega)) (Nat.le_of_ble_eq_true rfl) (Nat.le_of_ble_eq_true rfl) ?_
  refine js_aload_n 0 dX3_hasNext_6 rfl ?_
  refine gX3_9 rfl dX3_hasNext_7 hm rfl ?_
  refine js_iconst dX3_hasNext_10 ?_
  refine js_iaload dX3_hasNext_11 hs (by omega) ?_
  refine js_icmp_ge (tgt := 19) dX3_hasNext_12 (by decide) (by omega) (fun c1 => ?_) (fun c1 => ?_)
  · refine js_iconst dX3_hasNext_19 ?_
    exact js_iret rfl (js_nar_boolean (by omega)) dX3_hasNext_20 ⟨js_reti (jb_f (by omega)).symm, rfl⟩
  · refine js_iconst dX3_hasNext_15 ?_
    refine js_goto (tgt := 20) dX3_hasNext_16 (by decide) ?_
    exact js_iret rfl (js_nar_boolean (by omega)) dX3_hasNext_20 ⟨js_reti (jb_t (by omega)).symm, rfl⟩
theorem com_atGate {ρ : js_R} {h : js_H} {m s : Nat} {v1 v2 v3 v4 v5 v6 v7 v8 v9 v10 v11 v12 v13 v14 v15 v16 v17 v18 v19 : Value} {f : Int → Int} {T b : Int} (hm : h m = some (js_ob true 2 [.ref s, v1, v2, v3, v4, v5, v6, v7, v8, v9, v10, v11, v12, v13, v14, v15, v16, v17, v18, v19])) (hs : h s = some (js_aI true 0 287 f)) (hI : zI T f) (hb : 0 ≤ b ∧ b < f 0) : js_Con ρ mX3_atGate 4 0 0 [.ref m, .int (jI b)] h (js_ret (some (.int (jI (jb (zatg f b))))) h) := by
  refine js_body [(0, .ref m), (1, .int (jI b))] rfl (by decide) (Nat.le_of_ble_eq_true rfl) rfl ?_
  have h01 := zI_01 hI
  have hB := zI_B hI hb.1 hb.2
  have hp := zIB_p hB
  unfold zIB at hB
  refine js_aload_n 0 dX3_atGate_0 rfl ?_
  refine js_iload_n 1 dX3_atGate_1 rfl ?_
  refine eX3_143 rfl dX3_atGate_2 hm (com_hasNext hm hs hI hb) (Nat.le_of_ble_eq_true rfl) (Nat.le_of_ble_eq_true rfl) ?_
  refine js_if_eqB (tgt := 30) dX3_atGate_5 (by decide) (fun c1 => ?_) (fun c1 => ?_)
  · refine js_iconst dX3_atGate_30 ?_
    exact js_iret rfl (js_nar_boolean (by omega)) dX3_atGate_31 ⟨js_reti (jb_f (fun z => by have z1 := z.1; have z2 := z.2; omega)).symm, rfl⟩
  · have hP := zI_P hI hB.2.2.2.2.2.1.1 c1
    have hsp := zIP_p hP
    have hg := zgt_r hP
    unfold zIP at hP
    refine js_aload_n 0 dX3_atGate_8 rfl ?_
    refine js_aload_n 0 dX3_atGate_9 rfl ?_
    refine js_iload_n 1 dX3_atGate_10 rfl ?_
    refine js_iconst dX3_atGate_11 ?_
    refine eX3_76 rfl dX3_atGate_12 hm (com_of hm hs (by omega) (by omega)) (Nat.le_of_ble_eq_true rfl) (Nat.le_of_ble_eq_true rfl) ?_
    refine eX3_146 rfl dX3_atGate_15 hm (com_gate hm hs (by omega) (by omega) (by omega)) (Nat.le_of_ble_eq_true rfl) (Nat.le_of_ble_eq_true rfl) ?_
    refine js_aload_n 0 dX3_atGate_18 rfl ?_
    refine js_iload_n 1 dX3_atGate_19 rfl ?_
    refine eX3_120 rfl dX3_atGate_20 hm (com_pointOf hm hs (by omega)) (Nat.le_of_ble_eq_true rfl) (Nat.le_of_ble_eq_true rfl) ?_
    refine js_icmp_ne (tgt := 30) dX3_atGate_23 (by decide) (by omega) (fun c2 => ?_) (fun c2 => ?_)
    · refine js_iconst dX3_atGate_30 ?_
      exact js_iret rfl (js_nar_boolean (by omega)) dX3_atGate_31 ⟨js_reti (jb_f (fun z => by have z1 := z.1; have z2 := z.2; omega)).symm, rfl⟩
    · refine js_iconst dX3_atGate_26 ?_
      refine js_goto (tgt := 31) dX3_atGate_27 (by decide) ?_
      exact js_iret rfl (js_nar_boolean (by omega)) dX3_atGate_31 ⟨js_reti (jb_t ⟨c1, by omega⟩).symm, rfl⟩
theorem com_flies {ρ : js_R} {h : js_H} {m s : Nat} {v1 v2 v3 v4 v5 v6 v7 v8 v9 v10 v11 v12 v13 v14 v15 v16 v17 v18 v19 : Value} {f : Int → Int} {T b : Int} (hm : h m = some (js_ob true 2 [.ref s, v1, v2, v3, v4, v5, v6, v7, v8, v9, v10, v11, v12, v13, v14, v15, v16, v17, v18, v19])) (hs : h s = some (js_aI true 0 287 f)) (hI : zI T f) (hb : 0 ≤ b ∧ b < f 0) (hh : 1 ≤ f (13 + 9 * b + 2)) (hT : T + 2 ≤ 1000000) : js_Con ρ mX3_flies 5 0 0 [.ref m, .int (jI b)] h (js_ret none (js_up h s (js_aI true 0 287 (zfly f b)))) := by
  refine js_body [(0, .ref m), (1, .int (jI b))] rfl (by decide) (Nat.le_of_ble_eq_true rfl) rfl ?_
  have h01 := zI_01 hI
  have hB := zI_B hI hb.1 hb.2
  have hp := zIB_p hB
  unfold zIB at hB
  have hw := zI_w hI (8 + f (13 + 9 * b + 2) - 1) (by omega) (by omega)
  have hz := znext_r (w := f (8 + f (13 + 9 * b + 2) - 1)) hp
  have iD := zdrf_I hI hb.1 hb.2
  have eD := (zdrf_step hI hb.1 hb.2).1
  have hD : 0 ≤ b ∧ b < zdrf f b 0 := by omega
  have bD := zI_B iD hD.1 hD.2
  unfold zIB at bD
  obtain ⟨sR, iR⟩ := zdrr_step hI hb.1 hb.2 (by omega)
  have eR := sR.1
  have bR := zI_B iR hb.1 (by omega)
  have iN := zbrn_I iR hb.1 (by omega)
  have eN := (zbrn_step iR hb.1 (by omega)).1
  have bN := zI_B iN hb.1 (by omega)
  have pN := zIB_p bN
  unfold zIB at bR bN
  clear sR
  refine js_aload_n 0 dX3_flies_0 rfl ?_
  refine js_aload_n 0 dX3_flies_1 rfl ?_
  refine js_iload_n 1 dX3_flies_2 rfl ?_
  refine eX3_120 rfl dX3_flies_3 hm (com_pointOf hm hs (by omega)) (Nat.le_of_ble_eq_true rfl) (Nat.le_of_ble_eq_true rfl) ?_
  refine js_aload_n 0 dX3_flies_6 rfl ?_
  refine js_iload_n 1 dX3_flies_7 rfl ?_
  refine js_iconst dX3_flies_8 ?_
  refine eX3_76 rfl dX3_flies_9 hm (com_of hm hs (by omega) (by omega)) (Nat.le_of_ble_eq_true rfl) (Nat.le_of_ble_eq_true rfl) ?_
  refine eX3_149 rfl dX3_flies_12 hm (com_drifted hm hs (by omega) (by omega) (by omega)) (Nat.le_of_ble_eq_true rfl) (Nat.le_of_ble_eq_true rfl) ?_
  refine js_istore_n (L' := [(2, .int (jI (znext (zpt f b) (f (8 + (f (13 + 9 * b + 2)) - 1))))), (0, .ref m), (1, .int (jI b))]) dX3_flies_15 (by decide) rfl ?_
  refine js_aload_n 1 dX3_flies_16 rfl ?_
  refine js_iload_n 2 dX3_flies_17 rfl ?_
  refine js_iconst dX3_flies_18 ?_
  refine js_iload_n 0 dX3_flies_19 rfl ?_
  refine js_bipush dX3_flies_20 rfl ?_
  refine js_irem dX3_flies_22 (by omega) ?_
  refine eX3_86 rfl dX3_flies_23 hm (com_sets hm hs (by omega) (by omega)) (Nat.le_of_ble_eq_true rfl) (Nat.le_of_ble_eq_true rfl) ?_
  show js_ok ρ mX3_flies _ 5 0 0 26 [(2, .int (jI (znext (zpt f b) (f (8 + (f (13 + 9 * b + 2)) - 1))))), (0, .ref m), (1, .int (jI b))] [] (js_up h s (js_aI true 0 287 (js_uz f (13 + 9 * b + 0) ((znext (zpt f b) (f (8 + (f (13 + 9 * b + 2)) - 1))) % 10))))
  refine js_aload_n 1 dX3_flies_26 rfl ?_
  refine js_iload_n 2 dX3_flies_27 rfl ?_
  refine js_iconst dX3_flies_28 ?_
  refine js_iload_n 0 dX3_flies_29 rfl ?_
  refine js_bipush dX3_flies_30 rfl ?_
  refine js_idiv dX3_flies_32 (by omega) ?_
  refine eX3_86 rfl dX3_flies_33 ((js_up_n (js_nek hm hs js_kOA)).trans hm) (com_sets ((js_up_n (js_nek hm hs js_kOA)).trans hm) js_up_s (by omega) (by omega)) (Nat.le_of_ble_eq_true rfl) (Nat.le_of_ble_eq_true rfl) ?_
  rw [js_up_up]
  show js_ok ρ mX3_flies _ 5 0 0 36 [(2, .int (jI (znext (zpt f b) (f (8 + (f (13 + 9 * b + 2)) - 1))))), (0, .ref m), (1, .int (jI b))] [] (js_up h s (js_aI true 0 287 (js_uz (js_uz f (13 + 9 * b + 0) ((znext (zpt f b) (f (8 + (f (13 + 9 * b + 2)) - 1))) % 10)) (13 + 9 * b + 1) ((znext (zpt f b) (f (8 + (f (13 + 9 * b + 2)) - 1))) / 10))))
  show js_ok ρ mX3_flies _ 5 0 0 36 [(2, .int (jI (znext (zpt f b) (f (8 + (f (13 + 9 * b + 2)) - 1))))), (0, .ref m), (1, .int (jI b))] [] (js_up h s (js_aI true 0 287 (zdrf f b)))
  refine js_aload_n 1 dX3_flies_36 rfl ?_
  refine js_iload_n 2 dX3_flies_37 rfl ?_
  refine eX3_152 rfl dX3_flies_38 ((js_up_n (js_nek hm hs js_kOA)).trans hm) (com_atGate ((js_up_n (js_nek hm hs js_kOA)).trans hm) js_up_s iD hD) (Nat.le_of_ble_eq_true rfl) (Nat.le_of_ble_eq_true rfl) ?_
  refine js_if_eqB (tgt := 49) dX3_flies_41 (by decide) (fun c1 => ?_) (fun c1 => ?_)
  · refine js_heq (h' := (js_up h s (js_aI true 0 287 (zdrr f b)))) (by rw [show (zdrr f b) = (zdrf f b) from (by unfold zdrr; rw [if_neg c1])]) ?_
    refine js_aload_n 1 dX3_flies_49 rfl ?_
    refine js_iload_n 2 dX3_flies_50 rfl ?_
    refine js_iconst dX3_flies_51 ?_
    refine js_iconst dX3_flies_52 ?_
    refine js_aload_n 1 dX3_flies_53 rfl ?_
    refine js_iload_n 2 dX3_flies_54 rfl ?_
    refine js_iconst dX3_flies_55 ?_
    refine eX3_76 rfl dX3_flies_56 ((js_up_n (js_nek hm hs js_kOA)).trans hm) (com_of ((js_up_n (js_nek hm hs js_kOA)).trans hm) js_up_s (by omega) (by omega)) (Nat.le_of_ble_eq_true rfl) (Nat.le_of_ble_eq_true rfl) ?_
    refine js_iconst dX3_flies_59 ?_
    refine js_isub dX3_flies_60 ?_
    refine js_mmax q2409 dX3_flies_61 (by omega) (Nat.le_of_ble_eq_true rfl) (Nat.le_of_ble_eq_true rfl) ?_
    refine eX3_86 rfl dX3_flies_64 ((js_up_n (js_nek hm hs js_kOA)).trans hm) (com_sets ((js_up_n (js_nek hm hs js_kOA)).trans hm) js_up_s (by omega) (by omega)) (Nat.le_of_ble_eq_true rfl) (Nat.le_of_ble_eq_true rfl) ?_
    rw [js_up_up]
    show js_ok ρ mX3_flies _ 5 0 0 67 [(2, .int (jI (znext (zpt f b) (f (8 + (f (13 + 9 * b + 2)) - 1))))), (0, .ref m), (1, .int (jI b))] [] (js_up h s (js_aI true 0 287 (js_uz (zdrr f b) (13 + 9 * b + 4) (max 0 (((zdrr f b) (13 + 9 * b + 4)) - 1)))))
    show js_ok ρ mX3_flies _ 5 0 0 67 [(2, .int (jI (znext (zpt f b) (f (8 + (f (13 + 9 * b + 2)) - 1))))), (0, .ref m), (1, .int (jI b))] [] (js_up h s (js_aI true 0 287 (zbrn (zdrr f b) b)))
    refine js_aload_n 1 dX3_flies_67 rfl ?_
    refine js_iload_n 2 dX3_flies_68 rfl ?_
    refine js_iconst dX3_flies_69 ?_
    refine eX3_76 rfl dX3_flies_70 ((js_up_n (js_nek hm hs js_kOA)).trans hm) (com_of ((js_up_n (js_nek hm hs js_kOA)).trans hm) js_up_s (by omega) (by omega)) (Nat.le_of_ble_eq_true rfl) (Nat.le_of_ble_eq_true rfl) ?_
    refine js_if_ne (tgt := 83) dX3_flies_73 (by decide) (by omega) (fun c2 => ?_) (fun c2 => ?_)
    · exact js_vret rfl dX3_flies_83 ⟨rfl, by unfold zfly; rw [if_neg (by assumption)]⟩
    · refine js_aload_n 1 dX3_flies_76 rfl ?_
      refine js_iload_n 2 dX3_flies_77 rfl ?_
      refine js_iconst dX3_flies_78 ?_
      refine eX3_128 rfl dX3_flies_79 ((js_up_n (js_nek hm hs js_kOA)).trans hm) (com_sinks ((js_up_n (js_nek hm hs js_kOA)).trans hm) js_up_s (by omega) (by omega) (by omega)) (Nat.le_of_ble_eq_true rfl) (Nat.le_of_ble_eq_true rfl) ?_
      rw [js_up_up]
      show js_ok ρ mX3_flies _ 5 0 0 82 [(2, .int (jI (znext (zpt f b) (f (8 + (f (13 + 9 * b + 2)) - 1))))), (0, .ref m), (1, .int (jI b))] [.int (jI (zfee (zbrn (zdrr f b) b) b 1))] (js_up h s (js_aI true 0 287 (zsinks (zbrn (zdrr f b) b) b 1)))
      refine js_istore_n (L' := [(3, .int (jI (zfee (zbrn (zdrr f b) b) b 1))), (2, .int (jI (znext (zpt f b) (f (8 + (f (13 + 9 * b + 2)) - 1))))), (0, .ref m), (1, .int (jI b))]) dX3_flies_82 (by decide) rfl ?_
      exact js_vret rfl dX3_flies_83 ⟨rfl, by unfold zfly; rw [if_pos (by assumption)]⟩
  · refine js_aload_n 1 dX3_flies_44 rfl ?_
    refine js_iload_n 2 dX3_flies_45 rfl ?_
    have cN := c1.1
    refine eX3_155 rfl dX3_flies_46 ((js_up_n (js_nek hm hs js_kOA)).trans hm) (com_rounds ((js_up_n (js_nek hm hs js_kOA)).trans hm) js_up_s (by omega) (by omega) (by omega) (by omega)) (Nat.le_of_ble_eq_true rfl) (Nat.le_of_ble_eq_true rfl) ?_
    rw [js_up_up]
    show js_ok ρ mX3_flies _ 5 0 0 49 [(2, .int (jI (znext (zpt f b) (f (8 + (f (13 + 9 * b + 2)) - 1))))), (0, .ref m), (1, .int (jI b))] [] (js_up h s (js_aI true 0 287 (zrnds (zdrf f b) b)))
    refine js_heq (h' := (js_up h s (js_aI true 0 287 (zdrr f b)))) (by rw [show (zdrr f b) = (zrnds (zdrf f b) b) from (by unfold zdrr; rw [if_pos c1])]) ?_
    refine js_aload_n 1 dX3_flies_49 rfl ?_
    refine js_iload_n 2 dX3_flies_50 rfl ?_
    refine js_iconst dX3_flies_51 ?_
    refine js_iconst dX3_flies_52 ?_
    refine js_aload_n 1 dX3_flies_53 rfl ?_
    refine js_iload_n 2 dX3_flies_54 rfl ?_
    refine js_iconst dX3_flies_55 ?_
    refine eX3_76 rfl dX3_flies_56 ((js_up_n (js_nek hm hs js_kOA)).trans hm) (com_of ((js_up_n (js_nek hm hs js_kOA)).trans hm) js_up_s (by omega) (by omega)) (Nat.le_of_ble_eq_true rfl) (Nat.le_of_ble_eq_true rfl) ?_
    refine js_iconst dX3_flies_59 ?_
    refine js_isub dX3_flies_60 ?_
    refine js_mmax q2409 dX3_flies_61 (by omega) (Nat.le_of_ble_eq_true rfl) (Nat.le_of_ble_eq_true rfl) ?_
    refine eX3_86 rfl dX3_flies_64 ((js_up_n (js_nek hm hs js_kOA)).trans hm) (com_sets ((js_up_n (js_nek hm hs js_kOA)).trans hm) js_up_s (by omega) (by omega)) (Nat.le_of_ble_eq_true rfl) (Nat.le_of_ble_eq_true rfl) ?_
    rw [js_up_up]
    show js_ok ρ mX3_flies _ 5 0 0 67 [(2, .int (jI (znext (zpt f b) (f (8 + (f (13 + 9 * b + 2)) - 1))))), (0, .ref m), (1, .int (jI b))] [] (js_up h s (js_aI true 0 287 (js_uz (zdrr f b) (13 + 9 * b + 4) (max 0 (((zdrr f b) (13 + 9 * b + 4)) - 1)))))
    show js_ok ρ mX3_flies _ 5 0 0 67 [(2, .int (jI (znext (zpt f b) (f (8 + (f (13 + 9 * b + 2)) - 1))))), (0, .ref m), (1, .int (jI b))] [] (js_up h s (js_aI true 0 287 (zbrn (zdrr f b) b)))
    refine js_aload_n 1 dX3_flies_67 rfl ?_
    refine js_iload_n 2 dX3_flies_68 rfl ?_
    refine js_iconst dX3_flies_69 ?_
    refine eX3_76 rfl dX3_flies_70 ((js_up_n (js_nek hm hs js_kOA)).trans hm) (com_of ((js_up_n (js_nek hm hs js_kOA)).trans hm) js_up_s (by omega) (by omega)) (Nat.le_of_ble_eq_true rfl) (Nat.le_of_ble_eq_true rfl) ?_
    refine js_if_ne (tgt := 83) dX3_flies_73 (by decide) (by omega) (fun c3 => ?_) (fun c3 => ?_)
    · exact js_vret rfl dX3_flies_83 ⟨rfl, by unfold zfly; rw [if_neg (by assumption)]⟩
    · refine js_aload_n 1 dX3_flies_76 rfl ?_
      refine js_iload_n 2 dX3_flies_77 rfl ?_
      refine js_iconst dX3_flies_78 ?_
      refine eX3_128 rfl dX3_flies_79 ((js_up_n (js_nek hm hs js_kOA)).trans hm) (com_sinks ((js_up_n (js_nek hm hs js_kOA)).trans hm) js_up_s (by omega) (by omega) (by omega)) (Nat.le_of_ble_eq_true rfl) (Nat.le_of_ble_eq_true rfl) ?_
      rw [js_up_up]
      show js_ok ρ mX3_flies _ 5 0 0 82 [(2, .int (jI (znext (zpt f b) (f (8 + (f (13 + 9 * b + 2)) - 1))))), (0, .ref m), (1, .int (jI b))] [.int (jI (zfee (zbrn (zdrr f b) b) b 1))] (js_up h s (js_aI true 0 287 (zsinks (zbrn (zdrr f b) b) b 1)))
      refine js_istore_n (L' := [(3, .int (jI (zfee (zbrn (zdrr f b) b) b 1))), (2, .int (jI (znext (zpt f b) (f (8 + (f (13 + 9 * b + 2)) - 1))))), (0, .ref m), (1, .int (jI b))]) dX3_flies_82 (by decide) rfl ?_
      exact js_vret rfl dX3_flies_83 ⟨rfl, by unfold zfly; rw [if_pos (by assumption)]⟩
theorem com_goesHour {ρ : js_R} {h : js_H} {m s : Nat} {v1 v2 v3 v4 v5 v6 v7 v8 v9 v10 v11 v12 v13 v14 v15 v16 v17 v18 v19 : Value} {f : Int → Int} {T : Int} (hm : h m = some (js_ob true 2 [.ref s, v1, v2, v3, v4, v5, v6, v7, v8, v9, v10, v11, v12, v13, v14, v15, v16, v17, v18, v19])) (hs : h s = some (js_aI true 0 287 f)) (hI : zI T f) (hT : T + 13 ≤ 1000000) : js_Con ρ mX3_goesHour 6 0 0 [.ref m] h (js_ret none (js_up h s (js_aI true 0 287 (zhr f)))) := by
  refine js_body [(0, .ref m)] rfl (by decide) (Nat.le_of_ble_eq_true rfl) rfl ?_
  refine js_iconst dX3_goesHour_0 ?_
  refine js_istore_n (L' := [(1, .int (jI 0)), (0, .ref m)]) dX3_goesHour_1 (by decide) rfl ?_
  refine js_sub (L' := [(0, .ref m), (1, .int (jI 0))]) [1, 0] rfl ?_
  refine js_heq (js_selfU hs) ?_
  refine js_loop (σ := Nat) (fun k => (k : Int) ≤ f 0) (fun k => (f 0).toNat - k) (fun k => 0) (fun k => 0) 2 (fun k => [(0, .ref m), (1, .int (jI ((k : Int))))]) (fun k => []) (fun k => (js_up h s (js_aI true 0 287 (zflk f k)))) (fun k hk IHk => ?_) 0 (zI_01 hI).1.1
  show js_ok ρ mX3_goesHour _ 6 0 0 2 [(0, .ref m), (1, .int (jI ((k : Int))))] [] (js_up h s (js_aI true 0 287 (zflk f k)))
  have h01 := zI_01 hI
  obtain ⟨iK, e0, e1⟩ := zflk_I hI (by omega) k hk
  refine js_iload_n 1 dX3_goesHour_2 rfl ?_
  refine js_aload_n 0 dX3_goesHour_3 rfl ?_
  refine gX3_9 rfl dX3_goesHour_4 ((js_up_n (js_nek hm hs js_kOA)).trans hm) rfl ?_
  refine js_iconst dX3_goesHour_7 ?_
  refine js_iaload dX3_goesHour_8 js_up_s (by omega) ?_
  refine js_icmp_ge (tgt := 32) dX3_goesHour_9 (by decide) (by omega) (fun c2 => ?_) (fun c2 => ?_)
  · have ek : (f 0).toNat = k := by omega
    refine js_heq (h' := (js_up h s (js_aI true 0 287 (zflk f (f 0).toNat)))) (by rw [show (zflk f (f 0).toNat) = (zflk f k) from (by rw [ek])]) ?_
    refine js_aload_n 0 dX3_goesHour_32 rfl ?_
    refine gX3_9 rfl dX3_goesHour_33 ((js_up_n (js_nek hm hs js_kOA)).trans hm) rfl ?_
    refine js_iconst dX3_goesHour_36 ?_
    refine js_dup2 dX3_goesHour_37 rfl rfl ?_
    refine js_iaload dX3_goesHour_38 js_up_s (by omega) ?_
    refine js_iconst dX3_goesHour_39 ?_
    refine js_iadd dX3_goesHour_40 ?_
    refine js_iastore dX3_goesHour_41 js_up_s (by omega) ?_
    rw [js_up_up]
    show js_ok ρ mX3_goesHour _ 6 0 0 42 [(0, .ref m), (1, .int (jI ((k : Int))))] [] (js_up h s (js_aI true 0 287 (js_uz (zflk f (f 0).toNat) 2 (((zflk f (f 0).toNat) 2) + 1))))
    exact js_vret rfl dX3_goesHour_42 ⟨rfl, rfl⟩
  · have hK : 0 ≤ (k : Int) ∧ (k : Int) < zflk f k 0 := by omega
    have bK := zI_B iK hK.1 hK.2
    unfold zIB at bK
    refine js_aload_n 0 dX3_goesHour_12 rfl ?_
    refine js_iload_n 1 dX3_goesHour_13 rfl ?_
    refine js_iconst dX3_goesHour_14 ?_
    refine eX3_76 rfl dX3_goesHour_15 ((js_up_n (js_nek hm hs js_kOA)).trans hm) (com_of ((js_up_n (js_nek hm hs js_kOA)).trans hm) js_up_s (by omega) (by omega)) (Nat.le_of_ble_eq_true rfl) (Nat.le_of_ble_eq_true rfl) ?_
    refine js_if_le (tgt := 26) dX3_goesHour_18 (by decide) (by omega) (fun c3 => ?_) (fun c3 => ?_)
    · refine js_iinc (L' := [(1, .int (jI (((k : Int)) + 1))), (0, .ref m)]) 1 dX3_goesHour_26 rfl (by decide) rfl ?_
      refine js_goto (tgt := 2) dX3_goesHour_29 (by decide) ?_
      refine js_heq (h' := (js_up h s (js_aI true 0 287 (zflk f (k + 1))))) (by rw [show (zflk f (k + 1)) = (zflk f k) from (if_pos (by omega))]) ?_
      refine js_sub (L' := [(0, .ref m), (1, .int (jI (((k : Int)) + 1)))]) [1, 0] rfl ?_
      exact IHk (k + 1) (by omega) (by omega)
    · refine js_aload_n 0 dX3_goesHour_21 rfl ?_
      refine js_iload_n 1 dX3_goesHour_22 rfl ?_
      refine eX3_159 rfl dX3_goesHour_23 ((js_up_n (js_nek hm hs js_kOA)).trans hm) (com_flies ((js_up_n (js_nek hm hs js_kOA)).trans hm) js_up_s iK hK (by omega) (by omega)) (Nat.le_of_ble_eq_true rfl) (Nat.le_of_ble_eq_true rfl) ?_
      rw [js_up_up]
      show js_ok ρ mX3_goesHour _ 6 0 0 26 [(0, .ref m), (1, .int (jI ((k : Int))))] [] (js_up h s (js_aI true 0 287 (zfly (zflk f k) ((k : Int)))))
      refine js_iinc (L' := [(1, .int (jI (((k : Int)) + 1))), (0, .ref m)]) 1 dX3_goesHour_26 rfl (by decide) rfl ?_
      refine js_goto (tgt := 2) dX3_goesHour_29 (by decide) ?_
      refine js_heq (h' := (js_up h s (js_aI true 0 287 (zflk f (k + 1))))) (by rw [show (zflk f (k + 1)) = (zfly (zflk f k) ((k : Int))) from (if_neg (by omega))]) ?_
      refine js_sub (L' := [(0, .ref m), (1, .int (jI (((k : Int)) + 1)))]) [1, 0] rfl ?_
      exact IHk (k + 1) (by omega) (by omega)
