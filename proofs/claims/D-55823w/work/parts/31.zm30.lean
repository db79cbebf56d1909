set_option maxRecDepth 100000
/-! BalloonSpiresModel: run -/
theorem com_ends2 {ρ : js_R} {h : js_H} {A : Nat → Nat} {f bef asd svd pas rf it wt tx od ln : Int → Int} {isS pm th len at_ wr fa om lm : Int} {a : Int} (hA : zA A) (hp : zMc A f bef asd svd pas rf it wt tx od ln isS pm th len at_ wr fa om lm h) (h1 : th = 2) : js_Con ρ mX3_ends 2 0 0 [.ref (A 0), .int (jI a)] h (js_ret (some (.int (jI 0))) (zH A bef bef asd svd pas rf it wt tx od ln isS pm th len at_ wr fa om lm h)) := by
  refine js_body [(0, .ref (A 0)), (1, .int (jI a))] rfl (by decide) (Nat.le_of_ble_eq_true rfl) rfl ?_
  obtain ⟨p0, p1, p2, p3, p4, p5, p6, p7, p8, p9, p10, p11⟩ := hp
  refine js_aload_n 0 dX3_ends_0 rfl ?_
  refine gX3_49 rfl dX3_ends_1 p0 rfl ?_
  refine js_if_le (tgt := 25) dX3_ends_4 (by decide) (by omega) (fun c1 => ?_) (fun c1 => ?_)
  · exfalso; omega
  · refine js_aload_n 0 dX3_ends_7 rfl ?_
    refine gX3_13 rfl dX3_ends_8 p0 rfl ?_
    refine js_iconst dX3_ends_11 ?_
    refine js_aload_n 0 dX3_ends_12 rfl ?_
    refine gX3_9 rfl dX3_ends_13 p0 rfl ?_
    refine js_iconst dX3_ends_16 ?_
    refine js_sipush dX3_ends_17 rfl ?_
    refine js_copyI (by decide) q2328 dX3_ends_20 p2 p1 (by omega) (Nat.le_of_ble_eq_true rfl) (Nat.le_of_ble_eq_true rfl) (fun _ _ _ => rfl) ?_
    show js_ok ρ mX3_ends _ 2 0 0 23 [(0, .ref (A 0)), (1, .int (jI a))] [] (js_up h (A 1) (js_aI true 0 287 (js_cp bef f 0 0 287)))
    refine js_norm (g' := bef) js_up_s (fun j j1 j2 => (by rw [show js_cp bef f 0 0 287 j = bef (0 + (j - 0)) from if_pos (by omega)]; congr 1; omega)) ?_
    rw [js_up_up]
    show js_ok ρ mX3_ends _ 2 0 0 23 [(0, .ref (A 0)), (1, .int (jI a))] [] (js_up h (A 1) (js_aI true 0 287 bef))
    refine js_iconst dX3_ends_23 ?_
    exact js_iret rfl rfl dX3_ends_24 ⟨js_reti (by rfl), (zH_eq hA ((js_up_n (js_nek p0 p1 js_kOA)).trans p0) js_up_s ((js_up_n (Ne.symm (hA 1 2 (by decide) (by decide) (by decide)))).trans p2) ((js_up_n (Ne.symm (hA 1 3 (by decide) (by decide) (by decide)))).trans p3) ((js_up_n (Ne.symm (hA 1 4 (by decide) (by decide) (by decide)))).trans p4) ((js_up_n (Ne.symm (hA 1 5 (by decide) (by decide) (by decide)))).trans p5) ((js_up_n (Ne.symm (hA 1 6 (by decide) (by decide) (by decide)))).trans p6) ((js_up_n (Ne.symm (hA 1 7 (by decide) (by decide) (by decide)))).trans p7) ((js_up_n (Ne.symm (hA 1 8 (by decide) (by decide) (by decide)))).trans p8) ((js_up_n (Ne.symm (hA 1 9 (by decide) (by decide) (by decide)))).trans p9) ((js_up_n (Ne.symm (hA 1 10 (by decide) (by decide) (by decide)))).trans p10) ((js_up_n (Ne.symm (hA 1 11 (by decide) (by decide) (by decide)))).trans p11) (fun q hq => ((js_up_n (hq 1 (by decide))).trans rfl)))⟩
theorem pm_run {ρ : js_R} {h : js_H} {A : Nat → Nat} {f bef asd svd pas rf it wt tx od ln : Int → Int} {isS pm th len at_ wr fa om lm : Int} {T : Int} {fm : Nat} (hA : zA A) (hp : zMc A f bef asd svd pas rf it wt tx od ln isS pm th len at_ wr fa om lm h) (hK : zK ρ fm) (hI : zI T f) (hT : T + 20000 ≤ 1000000) (hl : 0 ≤ len ∧ len ≤ 60) (ht : ∀ j : Int, 0 ≤ j → j < 60 → 0 ≤ tx j ∧ tx j < 128) (hro : zr32 od) (hpm : 0 ≤ pm ∧ pm ≤ 8) : js_Con ρ mX3_run 9 0 0 [.ref (A 0)] h (zruQ A f svd pas rf tx ln isS pm lm h (zrun f tx len od)) := by
  refine js_body [(0, .ref (A 0))] rfl (by decide) (Nat.le_of_ble_eq_true rfl) rfl ?_
  obtain ⟨p0, p1, p2, p3, p4, p5, p6, p7, p8, p9, p10, p11⟩ := hp
  refine js_aload_n 0 dX3_run_0 rfl ?_
  refine js_iconst dX3_run_1 ?_
  refine pX3_217 rfl dX3_run_2 p0 (Nat.le_of_ble_eq_true rfl) rfl rfl ?_
  show js_ok ρ mX3_run _ 9 0 0 5 [(0, .ref (A 0))] [] (js_up h (A 0) (js_ob true 2 [.ref (A 1), .ref (A 2), .ref (A 3), .ref (A 4), .int (jI isS), .ref (A 5), .int (jI pm), .int (jI th), .ref (A 6), .ref (A 7), .ref (A 8), .ref (A 9), .int (jI len), .int (jI 0), .int (jI wr), .int (jI fa), .ref (A 10), .int (jI om), .ref (A 11), .int (jI lm)]))
  refine js_aload_n 0 dX3_run_5 rfl ?_
  refine js_iconst dX3_run_6 ?_
  refine pX3_213 rfl dX3_run_7 js_up_s (Nat.le_of_ble_eq_true rfl) (js_nar_boolean (by omega)) (js_fit_boolean (by omega)) ?_
  rw [js_up_up]
  show js_ok ρ mX3_run _ 9 0 0 10 [(0, .ref (A 0))] [] (js_up h (A 0) (js_ob true 2 [.ref (A 1), .ref (A 2), .ref (A 3), .ref (A 4), .int (jI isS), .ref (A 5), .int (jI pm), .int (jI th), .ref (A 6), .ref (A 7), .ref (A 8), .ref (A 9), .int (jI len), .int (jI 0), .int (jI 0), .int (jI fa), .ref (A 10), .int (jI om), .ref (A 11), .int (jI lm)]))
  refine js_aload_n 0 dX3_run_10 rfl ?_
  refine js_iconst dX3_run_11 ?_
  refine pX3_251 rfl dX3_run_12 js_up_s (Nat.le_of_ble_eq_true rfl) rfl rfl ?_
  rw [js_up_up]
  show js_ok ρ mX3_run _ 9 0 0 15 [(0, .ref (A 0))] [] (js_up h (A 0) (js_ob true 2 [.ref (A 1), .ref (A 2), .ref (A 3), .ref (A 4), .int (jI isS), .ref (A 5), .int (jI pm), .int (jI th), .ref (A 6), .ref (A 7), .ref (A 8), .ref (A 9), .int (jI len), .int (jI 0), .int (jI 0), .int (jI fa), .ref (A 10), .int (jI 0), .ref (A 11), .int (jI lm)]))
  refine js_aload_n 0 dX3_run_15 rfl ?_
  refine eX3_296 rfl dX3_run_16 js_up_s (com_readOrder (p := ((0, 0) : zP)) hA ⟨js_up_s, ((js_up_n (Ne.symm (js_nek p0 p1 js_kOA))).trans p1), ((js_up_n (Ne.symm (js_nek p0 p2 js_kOA))).trans p2), ((js_up_n (Ne.symm (js_nek p0 p3 js_kOA))).trans p3), ((js_up_n (Ne.symm (js_nek p0 p4 js_kOA))).trans p4), ((js_up_n (Ne.symm (js_nek p0 p5 js_kOA))).trans p5), ((js_up_n (Ne.symm (js_nek p0 p6 js_kOA))).trans p6), ((js_up_n (Ne.symm (js_nek p0 p7 js_kOA))).trans p7), ((js_up_n (Ne.symm (js_nek p0 p8 js_kOA))).trans p8), ((js_up_n (Ne.symm (js_nek p0 p9 js_kOA))).trans p9), ((js_up_n (Ne.symm (js_nek p0 p10 js_kOA))).trans p10), ((js_up_n (Ne.symm (js_nek p0 p11 js_kOA))).trans p11)⟩ ⟨⟨Int.le_refl 0, hl.1⟩, Or.inl rfl⟩ hl ht hK rfl (by omega)) (Nat.le_of_ble_eq_true rfl) (Nat.le_of_ble_eq_true rfl) ?_
  rw [zH_fr (fun q hq => ((js_up_n (hq 0 (by decide))).trans rfl))]
  obtain ⟨p1_0, p1_1, p1_2, p1_3, p1_4, p1_5, p1_6, p1_7, p1_8, p1_9, p1_10, p1_11⟩ := zH_Mc (h := h) (f := f) (bef := bef) (asd := asd) (svd := svd) (pas := pas) (rf := rf) (it := it) (wt := wt) (tx := tx) (od := zroo tx len (0, 0) od (5 * 0)) (ln := ln) (isS := isS) (pm := pm) (th := th) (len := len) (at_ := (zrop tx len (0, 0)).1) (wr := (zrop tx len (0, 0)).2) (fa := fa) (om := 0 + 1) (lm := lm) hA
  show js_ok ρ mX3_run _ 9 0 0 19 [(0, .ref (A 0))] [] (zH A f bef asd svd pas rf it wt tx (zroo tx len (0, 0) od (5 * 0)) ln isS pm th len ((zrop tx len (0, 0)).1) ((zrop tx len (0, 0)).2) fa (0 + 1) lm h)
  refine js_heq (h' := (zH A f bef asd svd pas rf it wt tx (zroo tx len (0, 0) od (5 * 0)) ln isS pm th len ((zrop tx len (0, 0)).1) ((zrop tx len (0, 0)).2) fa (0 + 1) lm h)) (zH_eq hA p1_0 p1_1 p1_2 p1_3 p1_4 p1_5 p1_6 p1_7 p1_8 p1_9 p1_10 p1_11 (fun q hq => (zH_n hq))).symm ?_
  refine js_loop (σ := Nat) (fun s => s ≤ 60 ∧ ∀ i : Nat, i < s → zis tx len 59 59 (zrp tx len i)) (fun s => 60 - (s)) (fun s => 0) (fun s => 0) 19 (fun s => [(0, .ref (A 0))]) (fun s => []) (fun s => (zH A f bef asd svd pas rf it wt tx (zrq tx len od s) ln isS pm th len ((zrp tx len s).1) ((zrp tx len s).2) fa (((s : Nat) : Int) + 1) lm h)) (fun j hk IHs => ?_) 0 (⟨Nat.zero_le _, fun i z => absurd z (Nat.not_lt_zero i)⟩)
  have hk : j ≤ 60 ∧ ∀ i : Nat, i < j → zis tx len 59 59 (zrp tx len i) := hk
  obtain ⟨p3_0, p3_1, p3_2, p3_3, p3_4, p3_5, p3_6, p3_7, p3_8, p3_9, p3_10, p3_11⟩ := zH_Mc (h := h) (f := f) (bef := bef) (asd := asd) (svd := svd) (pas := pas) (rf := rf) (it := it) (wt := wt) (tx := tx) (od := zrq tx len od j) (ln := ln) (isS := isS) (pm := pm) (th := th) (len := len) (at_ := (zrp tx len j).1) (wr := (zrp tx len j).2) (fa := fa) (om := ((j : Nat) : Int) + 1) (lm := lm) hA
  show js_ok ρ mX3_run _ 9 0 0 19 [(0, .ref (A 0))] [] (zH A f bef asd svd pas rf it wt tx (zrq tx len od j) ln isS pm th len ((zrp tx len j).1) ((zrp tx len j).2) fa (((j : Nat) : Int) + 1) lm h)
  obtain ⟨hj, hJ⟩ := hk
  obtain ⟨jok, j2, j3⟩ := zrp_ok (tx := tx) hl.1 j hJ
  have jo1 := jok.1
  have jo2 := jok.2
  refine js_aload_n 0 dX3_run_19 rfl ?_
  refine js_bipush dX3_run_20 rfl ?_
  refine js_bipush dX3_run_22 rfl ?_
  refine eX3_220 rfl dX3_run_24 p3_0 (com_isHere hA ⟨p3_0, p3_1, p3_2, p3_3, p3_4, p3_5, p3_6, p3_7, p3_8, p3_9, p3_10, p3_11⟩ jok hl ht (by omega) (by omega)) (Nat.le_of_ble_eq_true rfl) (Nat.le_of_ble_eq_true rfl) ?_
  refine js_if_eqB (tgt := 47) dX3_run_27 (by decide) (fun c4 => ?_) (fun c4 => ?_)
  · have hnz : ¬ zis tx len 59 59 (zrp tx len j) := by assumption
    have en : zpn tx len = j := zfst_eq (P := fun j : Nat => zis tx len 59 59 (zrp tx len j)) hJ hnz (by omega)
    have epe : zpe tx len = zrp tx len j := by unfold zpe; rw [en]
    by_cases hz : (zrp tx len j).2 ≠ 0 ∨ (zrp tx len j).1 < len
    · have eu : zrun f tx len od = .inl (zpe tx len).1 := if_pos (by unfold zbad; rw [epe]; exact hz)
      rw [eu, epe]
      refine js_aload_n 0 dX3_run_47 rfl ?_
      refine js_aload_n 0 dX3_run_48 rfl ?_
      refine gX3_213 rfl dX3_run_49 p3_0 rfl ?_
      refine js_if_ne (tgt := 66) dX3_run_52 (by decide) (by omega) (fun c5 => ?_) (fun c5 => ?_)
      · refine js_iconst dX3_run_66 ?_
        refine js_goto (tgt := 71) dX3_run_67 (by decide) ?_
        refine pX3_213 rfl dX3_run_71 p3_0 (Nat.le_of_ble_eq_true rfl) (js_nar_boolean (by omega)) (js_fit_boolean (by omega)) ?_
        show js_ok ρ mX3_run _ 9 0 0 74 [(0, .ref (A 0))] [] (js_up (zH A f bef asd svd pas rf it wt tx (zrq tx len od j) ln isS pm th len ((zrp tx len j).1) ((zrp tx len j).2) fa (((j : Nat) : Int) + 1) lm h) (A 0) (js_ob true 2 [.ref (A 1), .ref (A 2), .ref (A 3), .ref (A 4), .int (jI isS), .ref (A 5), .int (jI pm), .int (jI th), .ref (A 6), .ref (A 7), .ref (A 8), .ref (A 9), .int (jI len), .int (jI ((zrp tx len j).1)), .int (jI 1), .int (jI fa), .ref (A 10), .int (jI (((j : Nat) : Int) + 1)), .ref (A 11), .int (jI lm)]))
        refine js_aload_n 0 dX3_run_74 rfl ?_
        refine js_aload_n 0 dX3_run_75 rfl ?_
        refine gX3_213 rfl dX3_run_76 js_up_s rfl ?_
        refine js_if_eq (tgt := 89) dX3_run_79 (by decide) (by omega) (fun c6 => ?_) (fun c6 => ?_)
        · exfalso; revert c6; decide
        · refine js_aload_n 0 dX3_run_82 rfl ?_
          refine gX3_217 rfl dX3_run_83 js_up_s rfl ?_
          refine js_goto (tgt := 90) dX3_run_86 (by decide) ?_
          refine pX3_39 rfl dX3_run_90 js_up_s (Nat.le_of_ble_eq_true rfl) rfl rfl ?_
          rw [js_up_up]
          show js_ok ρ mX3_run _ 9 0 0 93 [(0, .ref (A 0))] [] (js_up (zH A f bef asd svd pas rf it wt tx (zrq tx len od j) ln isS pm th len ((zrp tx len j).1) ((zrp tx len j).2) fa (((j : Nat) : Int) + 1) lm h) (A 0) (js_ob true 2 [.ref (A 1), .ref (A 2), .ref (A 3), .ref (A 4), .int (jI isS), .ref (A 5), .int (jI pm), .int (jI th), .ref (A 6), .ref (A 7), .ref (A 8), .ref (A 9), .int (jI len), .int (jI ((zrp tx len j).1)), .int (jI 1), .int (jI ((zrp tx len j).1)), .ref (A 10), .int (jI (((j : Nat) : Int) + 1)), .ref (A 11), .int (jI lm)]))
          refine js_aload_n 0 dX3_run_93 rfl ?_
          refine js_iconst dX3_run_94 ?_
          refine pX3_210 rfl dX3_run_95 js_up_s (Nat.le_of_ble_eq_true rfl) rfl rfl ?_
          rw [js_up_up]
          show js_ok ρ mX3_run _ 9 0 0 98 [(0, .ref (A 0))] [] (js_up (zH A f bef asd svd pas rf it wt tx (zrq tx len od j) ln isS pm th len ((zrp tx len j).1) ((zrp tx len j).2) fa (((j : Nat) : Int) + 1) lm h) (A 0) (js_ob true 2 [.ref (A 1), .ref (A 2), .ref (A 3), .ref (A 4), .int (jI isS), .ref (A 5), .int (jI pm), .int (jI th), .ref (A 6), .ref (A 7), .ref (A 8), .ref (A 9), .int (jI 0), .int (jI ((zrp tx len j).1)), .int (jI 1), .int (jI ((zrp tx len j).1)), .ref (A 10), .int (jI (((j : Nat) : Int) + 1)), .ref (A 11), .int (jI lm)]))
          refine js_aload_n 0 dX3_run_98 rfl ?_
          refine gX3_213 rfl dX3_run_99 js_up_s rfl ?_
          refine js_if_eq (tgt := 111) dX3_run_102 (by decide) (by omega) (fun c7 => ?_) (fun c7 => ?_)
          · exfalso; revert c7; decide
          · refine js_aload_n 0 dX3_run_105 rfl ?_
            refine js_iconst dX3_run_106 ?_
            refine eX3_186 rfl dX3_run_107 js_up_s (com_fails hA ⟨js_up_s, ((js_up_n (Ne.symm (js_nek p3_0 p3_1 js_kOA))).trans p3_1), ((js_up_n (Ne.symm (js_nek p3_0 p3_2 js_kOA))).trans p3_2), ((js_up_n (Ne.symm (js_nek p3_0 p3_3 js_kOA))).trans p3_3), ((js_up_n (Ne.symm (js_nek p3_0 p3_4 js_kOA))).trans p3_4), ((js_up_n (Ne.symm (js_nek p3_0 p3_5 js_kOA))).trans p3_5), ((js_up_n (Ne.symm (js_nek p3_0 p3_6 js_kOA))).trans p3_6), ((js_up_n (Ne.symm (js_nek p3_0 p3_7 js_kOA))).trans p3_7), ((js_up_n (Ne.symm (js_nek p3_0 p3_8 js_kOA))).trans p3_8), ((js_up_n (Ne.symm (js_nek p3_0 p3_9 js_kOA))).trans p3_9), ((js_up_n (Ne.symm (js_nek p3_0 p3_10 js_kOA))).trans p3_10), ((js_up_n (Ne.symm (js_nek p3_0 p3_11 js_kOA))).trans p3_11)⟩) (Nat.le_of_ble_eq_true rfl) (Nat.le_of_ble_eq_true rfl) ?_
            rw [zH_fr (fun q hq => ((js_up_n (hq 0 (by decide))).trans (zH_n hq)))]
            obtain ⟨p8_0, p8_1, p8_2, p8_3, p8_4, p8_5, p8_6, p8_7, p8_8, p8_9, p8_10, p8_11⟩ := zH_Mc (h := h) (f := f) (bef := bef) (asd := asd) (svd := svd) (pas := pas) (rf := rf) (it := it) (wt := wt) (tx := tx) (od := zrq tx len od j) (ln := ln) (isS := isS) (pm := pm) (th := 1) (len := 0) (at_ := (zrp tx len j).1) (wr := 1) (fa := (zrp tx len j).1) (om := ((j : Nat) : Int) + 1) (lm := lm) hA
            show js_ok ρ mX3_run _ 9 0 0 110 [(0, .ref (A 0))] [.int (jI 0)] (zH A f bef asd svd pas rf it wt tx (zrq tx len od j) ln isS pm 1 0 ((zrp tx len j).1) 1 ((zrp tx len j).1) (((j : Nat) : Int) + 1) lm h)
            exact js_iret rfl rfl dX3_run_110 ⟨js_reti (by rfl), _, _, _, _, _, _, _, _, (zH_eq hA p8_0 p8_1 p8_2 p8_3 p8_4 p8_5 p8_6 p8_7 p8_8 p8_9 p8_10 p8_11 (fun q hq => (zH_n hq)))⟩
      · refine js_aload_n 0 dX3_run_55 rfl ?_
        refine gX3_217 rfl dX3_run_56 p3_0 rfl ?_
        refine js_aload_n 0 dX3_run_59 rfl ?_
        refine gX3_210 rfl dX3_run_60 p3_0 rfl ?_
        refine js_icmp_ge (tgt := 70) dX3_run_63 (by decide) (by omega) (fun c9 => ?_) (fun c9 => ?_)
        · exfalso; omega
        · refine js_iconst dX3_run_66 ?_
          refine js_goto (tgt := 71) dX3_run_67 (by decide) ?_
          refine pX3_213 rfl dX3_run_71 p3_0 (Nat.le_of_ble_eq_true rfl) (js_nar_boolean (by omega)) (js_fit_boolean (by omega)) ?_
          show js_ok ρ mX3_run _ 9 0 0 74 [(0, .ref (A 0))] [] (js_up (zH A f bef asd svd pas rf it wt tx (zrq tx len od j) ln isS pm th len ((zrp tx len j).1) ((zrp tx len j).2) fa (((j : Nat) : Int) + 1) lm h) (A 0) (js_ob true 2 [.ref (A 1), .ref (A 2), .ref (A 3), .ref (A 4), .int (jI isS), .ref (A 5), .int (jI pm), .int (jI th), .ref (A 6), .ref (A 7), .ref (A 8), .ref (A 9), .int (jI len), .int (jI ((zrp tx len j).1)), .int (jI 1), .int (jI fa), .ref (A 10), .int (jI (((j : Nat) : Int) + 1)), .ref (A 11), .int (jI lm)]))
          refine js_aload_n 0 dX3_run_74 rfl ?_
          refine js_aload_n 0 dX3_run_75 rfl ?_
          refine gX3_213 rfl dX3_run_76 js_up_s rfl ?_
          refine js_if_eq (tgt := 89) dX3_run_79 (by decide) (by omega) (fun c10 => ?_) (fun c10 => ?_)
          · exfalso; revert c10; decide
          · refine js_aload_n 0 dX3_run_82 rfl ?_
            refine gX3_217 rfl dX3_run_83 js_up_s rfl ?_
            refine js_goto (tgt := 90) dX3_run_86 (by decide) ?_
            refine pX3_39 rfl dX3_run_90 js_up_s (Nat.le_of_ble_eq_true rfl) rfl rfl ?_
            rw [js_up_up]
            show js_ok ρ mX3_run _ 9 0 0 93 [(0, .ref (A 0))] [] (js_up (zH A f bef asd svd pas rf it wt tx (zrq tx len od j) ln isS pm th len ((zrp tx len j).1) ((zrp tx len j).2) fa (((j : Nat) : Int) + 1) lm h) (A 0) (js_ob true 2 [.ref (A 1), .ref (A 2), .ref (A 3), .ref (A 4), .int (jI isS), .ref (A 5), .int (jI pm), .int (jI th), .ref (A 6), .ref (A 7), .ref (A 8), .ref (A 9), .int (jI len), .int (jI ((zrp tx len j).1)), .int (jI 1), .int (jI ((zrp tx len j).1)), .ref (A 10), .int (jI (((j : Nat) : Int) + 1)), .ref (A 11), .int (jI lm)]))
            refine js_aload_n 0 dX3_run_93 rfl ?_
            refine js_iconst dX3_run_94 ?_
            refine pX3_210 rfl dX3_run_95 js_up_s (Nat.le_of_ble_eq_true rfl) rfl rfl ?_
            rw [js_up_up]
            show js_ok ρ mX3_run _ 9 0 0 98 [(0, .ref (A 0))] [] (js_up (zH A f bef asd svd pas rf it wt tx (zrq tx len od j) ln isS pm th len ((zrp tx len j).1) ((zrp tx len j).2) fa (((j : Nat) : Int) + 1) lm h) (A 0) (js_ob true 2 [.ref (A 1), .ref (A 2), .ref (A 3), .ref (A 4), .int (jI isS), .ref (A 5), .int (jI pm), .int (jI th), .ref (A 6), .ref (A 7), .ref (A 8), .ref (A 9), .int (jI 0), .int (jI ((zrp tx len j).1)), .int (jI 1), .int (jI ((zrp tx len j).1)), .ref (A 10), .int (jI (((j : Nat) : Int) + 1)), .ref (A 11), .int (jI lm)]))
            refine js_aload_n 0 dX3_run_98 rfl ?_
            refine gX3_213 rfl dX3_run_99 js_up_s rfl ?_
            refine js_if_eq (tgt := 111) dX3_run_102 (by decide) (by omega) (fun c11 => ?_) (fun c11 => ?_)
            · exfalso; revert c11; decide
            · refine js_aload_n 0 dX3_run_105 rfl ?_
              refine js_iconst dX3_run_106 ?_
              refine eX3_186 rfl dX3_run_107 js_up_s (com_fails hA ⟨js_up_s, ((js_up_n (Ne.symm (js_nek p3_0 p3_1 js_kOA))).trans p3_1), ((js_up_n (Ne.symm (js_nek p3_0 p3_2 js_kOA))).trans p3_2), ((js_up_n (Ne.symm (js_nek p3_0 p3_3 js_kOA))).trans p3_3), ((js_up_n (Ne.symm (js_nek p3_0 p3_4 js_kOA))).trans p3_4), ((js_up_n (Ne.symm (js_nek p3_0 p3_5 js_kOA))).trans p3_5), ((js_up_n (Ne.symm (js_nek p3_0 p3_6 js_kOA))).trans p3_6), ((js_up_n (Ne.symm (js_nek p3_0 p3_7 js_kOA))).trans p3_7), ((js_up_n (Ne.symm (js_nek p3_0 p3_8 js_kOA))).trans p3_8), ((js_up_n (Ne.symm (js_nek p3_0 p3_9 js_kOA))).trans p3_9), ((js_up_n (Ne.symm (js_nek p3_0 p3_10 js_kOA))).trans p3_10), ((js_up_n (Ne.symm (js_nek p3_0 p3_11 js_kOA))).trans p3_11)⟩) (Nat.le_of_ble_eq_true rfl) (Nat.le_of_ble_eq_true rfl) ?_
              rw [zH_fr (fun q hq => ((js_up_n (hq 0 (by decide))).trans (zH_n hq)))]
              obtain ⟨p12_0, p12_1, p12_2, p12_3, p12_4, p12_5, p12_6, p12_7, p12_8, p12_9, p12_10, p12_11⟩ := zH_Mc (h := h) (f := f) (bef := bef) (asd := asd) (svd := svd) (pas := pas) (rf := rf) (it := it) (wt := wt) (tx := tx) (od := zrq tx len od j) (ln := ln) (isS := isS) (pm := pm) (th := 1) (len := 0) (at_ := (zrp tx len j).1) (wr := 1) (fa := (zrp tx len j).1) (om := ((j : Nat) : Int) + 1) (lm := lm) hA
              show js_ok ρ mX3_run _ 9 0 0 110 [(0, .ref (A 0))] [.int (jI 0)] (zH A f bef asd svd pas rf it wt tx (zrq tx len od j) ln isS pm 1 0 ((zrp tx len j).1) 1 ((zrp tx len j).1) (((j : Nat) : Int) + 1) lm h)
              exact js_iret rfl rfl dX3_run_110 ⟨js_reti (by rfl), _, _, _, _, _, _, _, _, (zH_eq hA p12_0 p12_1 p12_2 p12_3 p12_4 p12_5 p12_6 p12_7 p12_8 p12_9 p12_10 p12_11 (fun q hq => (zH_n hq)))⟩
    · have eu : zrun f tx len od = zruns f (zrq tx len od (zpn tx len)) (zpn tx len + 1) := if_neg (by unfold zbad; rw [epe]; exact hz)
      rw [eu, en]
      have hod : zr32 (zrq tx len od j) := zrq_r hl ht hro j hJ
      have j30 : j ≤ 30 := by omega
      refine js_aload_n 0 dX3_run_47 rfl ?_
      refine js_aload_n 0 dX3_run_48 rfl ?_
      refine gX3_213 rfl dX3_run_49 p3_0 rfl ?_
      refine js_if_ne (tgt := 66) dX3_run_52 (by decide) (by omega) (fun c13 => ?_) (fun c13 => ?_)
      · exfalso; omega
      · refine js_aload_n 0 dX3_run_55 rfl ?_
        refine gX3_217 rfl dX3_run_56 p3_0 rfl ?_
        refine js_aload_n 0 dX3_run_59 rfl ?_
        refine gX3_210 rfl dX3_run_60 p3_0 rfl ?_
        refine js_icmp_ge (tgt := 70) dX3_run_63 (by decide) (by omega) (fun c14 => ?_) (fun c14 => ?_)
        · refine js_iconst dX3_run_70 ?_
          refine pX3_213 rfl dX3_run_71 p3_0 (Nat.le_of_ble_eq_true rfl) (js_nar_boolean (by omega)) (js_fit_boolean (by omega)) ?_
          show js_ok ρ mX3_run _ 9 0 0 74 [(0, .ref (A 0))] [] (js_up (zH A f bef asd svd pas rf it wt tx (zrq tx len od j) ln isS pm th len ((zrp tx len j).1) ((zrp tx len j).2) fa (((j : Nat) : Int) + 1) lm h) (A 0) (js_ob true 2 [.ref (A 1), .ref (A 2), .ref (A 3), .ref (A 4), .int (jI isS), .ref (A 5), .int (jI pm), .int (jI th), .ref (A 6), .ref (A 7), .ref (A 8), .ref (A 9), .int (jI len), .int (jI ((zrp tx len j).1)), .int (jI 0), .int (jI fa), .ref (A 10), .int (jI (((j : Nat) : Int) + 1)), .ref (A 11), .int (jI lm)]))
          refine js_aload_n 0 dX3_run_74 rfl ?_
          refine js_aload_n 0 dX3_run_75 rfl ?_
          refine gX3_213 rfl dX3_run_76 js_up_s rfl ?_
          refine js_if_eq (tgt := 89) dX3_run_79 (by decide) (by omega) (fun c15 => ?_) (fun c15 => ?_)
          · refine js_iconst dX3_run_89 ?_
            refine pX3_39 rfl dX3_run_90 js_up_s (Nat.le_of_ble_eq_true rfl) rfl rfl ?_
            rw [js_up_up]
            show js_ok ρ mX3_run _ 9 0 0 93 [(0, .ref (A 0))] [] (js_up (zH A f bef asd svd pas rf it wt tx (zrq tx len od j) ln isS pm th len ((zrp tx len j).1) ((zrp tx len j).2) fa (((j : Nat) : Int) + 1) lm h) (A 0) (js_ob true 2 [.ref (A 1), .ref (A 2), .ref (A 3), .ref (A 4), .int (jI isS), .ref (A 5), .int (jI pm), .int (jI th), .ref (A 6), .ref (A 7), .ref (A 8), .ref (A 9), .int (jI len), .int (jI ((zrp tx len j).1)), .int (jI 0), .int (jI (-1)), .ref (A 10), .int (jI (((j : Nat) : Int) + 1)), .ref (A 11), .int (jI lm)]))
            refine js_aload_n 0 dX3_run_93 rfl ?_
            refine js_iconst dX3_run_94 ?_
            refine pX3_210 rfl dX3_run_95 js_up_s (Nat.le_of_ble_eq_true rfl) rfl rfl ?_
            rw [js_up_up]
            show js_ok ρ mX3_run _ 9 0 0 98 [(0, .ref (A 0))] [] (js_up (zH A f bef asd svd pas rf it wt tx (zrq tx len od j) ln isS pm th len ((zrp tx len j).1) ((zrp tx len j).2) fa (((j : Nat) : Int) + 1) lm h) (A 0) (js_ob true 2 [.ref (A 1), .ref (A 2), .ref (A 3), .ref (A 4), .int (jI isS), .ref (A 5), .int (jI pm), .int (jI th), .ref (A 6), .ref (A 7), .ref (A 8), .ref (A 9), .int (jI 0), .int (jI ((zrp tx len j).1)), .int (jI 0), .int (jI (-1)), .ref (A 10), .int (jI (((j : Nat) : Int) + 1)), .ref (A 11), .int (jI lm)]))
            refine js_aload_n 0 dX3_run_98 rfl ?_
            refine gX3_213 rfl dX3_run_99 js_up_s rfl ?_
            refine js_if_eq (tgt := 111) dX3_run_102 (by decide) (by omega) (fun c16 => ?_) (fun c16 => ?_)
            · refine js_aload_n 0 dX3_run_111 rfl ?_
              refine eX3_90 rfl dX3_run_112 js_up_s (com_keep hA ⟨js_up_s, ((js_up_n (Ne.symm (js_nek p3_0 p3_1 js_kOA))).trans p3_1), ((js_up_n (Ne.symm (js_nek p3_0 p3_2 js_kOA))).trans p3_2), ((js_up_n (Ne.symm (js_nek p3_0 p3_3 js_kOA))).trans p3_3), ((js_up_n (Ne.symm (js_nek p3_0 p3_4 js_kOA))).trans p3_4), ((js_up_n (Ne.symm (js_nek p3_0 p3_5 js_kOA))).trans p3_5), ((js_up_n (Ne.symm (js_nek p3_0 p3_6 js_kOA))).trans p3_6), ((js_up_n (Ne.symm (js_nek p3_0 p3_7 js_kOA))).trans p3_7), ((js_up_n (Ne.symm (js_nek p3_0 p3_8 js_kOA))).trans p3_8), ((js_up_n (Ne.symm (js_nek p3_0 p3_9 js_kOA))).trans p3_9), ((js_up_n (Ne.symm (js_nek p3_0 p3_10 js_kOA))).trans p3_10), ((js_up_n (Ne.symm (js_nek p3_0 p3_11 js_kOA))).trans p3_11)⟩) (Nat.le_of_ble_eq_true rfl) (Nat.le_of_ble_eq_true rfl) ?_
              rw [zH_fr (fun q hq => ((js_up_n (hq 0 (by decide))).trans (zH_n hq)))]
              obtain ⟨p17_0, p17_1, p17_2, p17_3, p17_4, p17_5, p17_6, p17_7, p17_8, p17_9, p17_10, p17_11⟩ := zH_Mc (h := h) (f := f) (bef := f) (asd := asd) (svd := svd) (pas := pas) (rf := rf) (it := it) (wt := wt) (tx := tx) (od := zrq tx len od j) (ln := ln) (isS := isS) (pm := pm) (th := 0) (len := 0) (at_ := (zrp tx len j).1) (wr := 0) (fa := -1) (om := ((j : Nat) : Int) + 1) (lm := lm) hA
              show js_ok ρ mX3_run _ 9 0 0 115 [(0, .ref (A 0))] [] (zH A f f asd svd pas rf it wt tx (zrq tx len od j) ln isS pm 0 0 ((zrp tx len j).1) 0 (-1) (((j : Nat) : Int) + 1) lm h)
              refine js_iconst dX3_run_115 ?_
              refine js_istore_n (L' := [(1, .int (jI 0)), (0, .ref (A 0))]) dX3_run_116 (by decide) rfl ?_
              refine js_sub (L' := [(0, .ref (A 0)), (1, .int (jI 0))]) [1, 0] rfl ?_
              refine js_heq (h' := (zH A f f asd svd pas rf it wt tx (zrq tx len od j) ln isS pm 0 0 ((zrp tx len j).1) 0 (-1) (((j : Nat) : Int) + 1) lm h)) (zH_eq hA p17_0 p17_1 p17_2 p17_3 p17_4 p17_5 p17_6 p17_7 p17_8 p17_9 p17_10 p17_11 (fun q hq => (zH_n hq))).symm ?_
              refine js_loop (σ := Nat) (fun s => s ≤ j + 1 ∧ (∀ i : Nat, i < s → zok1 f (zrq tx len od j) i) ∧ zI (T + 400 * ((s : Nat) : Int)) (zex f (zrq tx len od j) s)) (fun s => j + 1 - (s)) (fun s => 0) (fun s => 0) 117 (fun s => [(0, .ref (A 0)), (1, .int (jI (((s : Nat) : Int))))]) (fun s => []) (fun s => (zH A (zex f (zrq tx len od j) s) f asd svd pas rf it wt tx (zrq tx len od j) ln isS pm 0 0 ((zrp tx len j).1) 0 (-1) (((j : Nat) : Int) + 1) lm h)) (fun k hk IHs => ?_) 0 (⟨Nat.zero_le _, fun i z => absurd z (Nat.not_lt_zero i), (by rwa [show T + 400 * ((0 : Nat) : Int) = T by omega])⟩)
              have hk : k ≤ j + 1 ∧ (∀ i : Nat, i < k → zok1 f (zrq tx len od j) i) ∧ zI (T + 400 * ((k : Nat) : Int)) (zex f (zrq tx len od j) k) := hk
              obtain ⟨p19_0, p19_1, p19_2, p19_3, p19_4, p19_5, p19_6, p19_7, p19_8, p19_9, p19_10, p19_11⟩ := zH_Mc (h := h) (f := zex f (zrq tx len od j) k) (bef := f) (asd := asd) (svd := svd) (pas := pas) (rf := rf) (it := it) (wt := wt) (tx := tx) (od := zrq tx len od j) (ln := ln) (isS := isS) (pm := pm) (th := 0) (len := 0) (at_ := (zrp tx len j).1) (wr := 0) (fa := -1) (om := ((j : Nat) : Int) + 1) (lm := lm) hA
              show js_ok ρ mX3_run _ 9 0 0 117 [(0, .ref (A 0)), (1, .int (jI (((k : Nat) : Int))))] [] (zH A (zex f (zrq tx len od j) k) f asd svd pas rf it wt tx (zrq tx len od j) ln isS pm 0 0 ((zrp tx len j).1) 0 (-1) (((j : Nat) : Int) + 1) lm h)
              obtain ⟨hk, kP, kI⟩ := hk
              refine js_iload_n 1 dX3_run_117 rfl ?_
              refine js_aload_n 0 dX3_run_118 rfl ?_
              refine gX3_251 rfl dX3_run_119 p19_0 rfl ?_
              refine js_icmp_ge (tgt := 190) dX3_run_122 (by decide) (by omega) (fun c20 => ?_) (fun c20 => ?_)
              · have ek : j + 1 = k := by omega
                have ex : zxn f (zrq tx len od j) (j + 1) = j + 1 := zfst_all (fun i c => kP i (by omega))
                have eu3 : zruns f (zrq tx len od j) (j + 1) = .inr (.inr (((j + 1 : Nat) : Int), zex f (zrq tx len od j) (j + 1))) := by
                  unfold zruns
                  rw [if_pos ex]
                rw [eu3]
                refine js_heq (h' := (zH A (zex f (zrq tx len od j) (j + 1)) f asd svd pas rf it wt tx (zrq tx len od j) ln isS pm 0 0 ((zrp tx len j).1) 0 (-1) (((j : Nat) : Int) + 1) lm h)) (by rw [ek]) ?_
                obtain ⟨p21_0, p21_1, p21_2, p21_3, p21_4, p21_5, p21_6, p21_7, p21_8, p21_9, p21_10, p21_11⟩ := zH_Mc (h := h) (f := zex f (zrq tx len od j) (j + 1)) (bef := f) (asd := asd) (svd := svd) (pas := pas) (rf := rf) (it := it) (wt := wt) (tx := tx) (od := zrq tx len od j) (ln := ln) (isS := isS) (pm := pm) (th := 0) (len := 0) (at_ := (zrp tx len j).1) (wr := 0) (fa := -1) (om := ((j : Nat) : Int) + 1) (lm := lm) hA
                show js_ok ρ mX3_run _ 9 0 0 190 [(0, .ref (A 0)), (1, .int (jI (((k : Nat) : Int))))] [] (zH A (zex f (zrq tx len od j) (j + 1)) f asd svd pas rf it wt tx (zrq tx len od j) ln isS pm 0 0 ((zrp tx len j).1) 0 (-1) (((j : Nat) : Int) + 1) lm h)
                refine js_aload_n 0 dX3_run_190 rfl ?_
                refine js_aload_n 0 dX3_run_191 rfl ?_
                refine gX3_251 rfl dX3_run_192 p21_0 rfl ?_
                refine eX3_96 rfl dX3_run_195 p21_0 (com_ends0 hA ⟨p21_0, p21_1, p21_2, p21_3, p21_4, p21_5, p21_6, p21_7, p21_8, p21_9, p21_10, p21_11⟩ (by omega) (by omega)) (Nat.le_of_ble_eq_true rfl) (Nat.le_of_ble_eq_true rfl) ?_
                rw [zH_fr (fun q hq => (zH_n hq))]
                obtain ⟨p22_0, p22_1, p22_2, p22_3, p22_4, p22_5, p22_6, p22_7, p22_8, p22_9, p22_10, p22_11⟩ := zH_Mc (h := h) (f := zex f (zrq tx len od j) (j + 1)) (bef := f) (asd := asd) (svd := svd) (pas := zpas f pas pm) (rf := rf) (it := it) (wt := wt) (tx := tx) (od := zrq tx len od j) (ln := ln) (isS := isS) (pm := zpm pm) (th := 0) (len := 0) (at_ := (zrp tx len j).1) (wr := 0) (fa := -1) (om := ((j : Nat) : Int) + 1) (lm := lm) hA
                show js_ok ρ mX3_run _ 9 0 0 198 [(0, .ref (A 0)), (1, .int (jI (((k : Nat) : Int))))] [.int (jI (((j : Nat) : Int) + 1))] (zH A (zex f (zrq tx len od j) (j + 1)) f asd svd (zpas f pas pm) rf it wt tx (zrq tx len od j) ln isS (zpm pm) 0 0 ((zrp tx len j).1) 0 (-1) (((j : Nat) : Int) + 1) lm h)
                exact js_iret rfl rfl dX3_run_198 ⟨js_reti (by rfl), _, _, _, _, _, _, _, _, (zH_eq hA p22_0 p22_1 p22_2 p22_3 p22_4 p22_5 p22_6 p22_7 p22_8 p22_9 p22_10 p22_11 (fun q hq => (zH_n hq)))⟩
              · refine js_aload_n 0 dX3_run_125 rfl ?_
                refine js_iload_n 1 dX3_run_126 rfl ?_
                refine eX3_299 rfl dX3_run_127 p19_0 (com_does hA ⟨p19_0, p19_1, p19_2, p19_3, p19_4, p19_5, p19_6, p19_7, p19_8, p19_9, p19_10, p19_11⟩ kI (by omega) (by omega) (fun i _ _ => hod i)) (Nat.le_of_ble_eq_true rfl) (Nat.le_of_ble_eq_true rfl) ?_
                rcases ho : zdo (zex f (zrq tx len od j) k) (zrq tx len od j) (k : Int) with z | z
                · show js_ok ρ mX3_run _ 9 0 0 130 [(0, .ref (A 0)), (1, .int (jI (((k : Nat) : Int))))] [] (js_up (js_up (zH A (zex f (zrq tx len od j) k) f asd svd pas rf it wt tx (zrq tx len od j) ln isS pm 0 0 ((zrp tx len j).1) 0 (-1) (((j : Nat) : Int) + 1) lm h) (A 0) (js_ob true 2 [.ref (A 1), .ref (A 2), .ref (A 3), .ref (A 4), .int (jI isS), .ref (A 5), .int (jI pm), .int (jI 1), .ref (A 6), .ref (A 7), .ref (A 8), .ref (A 9), .int (jI 0), .int (jI ((zrp tx len j).1)), .int (jI 0), .int (jI (-1)), .ref (A 10), .int (jI (((j : Nat) : Int) + 1)), .ref (A 11), .int (jI lm)])) (A 6) (js_aI true 0 4 (zrf rf z.1 z.2)))
                  have ex : zxn f (zrq tx len od j) (j + 1) = k := zfst_eq (P := zok1 f (zrq tx len od j)) kP (fun ⟨y, hy⟩ => by rw [ho] at hy; cases hy) (by omega)
                  have eu2 : zruns f (zrq tx len od j) (j + 1) = .inr (.inl ((k : Int), z.1, z.2)) := by
                    unfold zruns
                    rw [ex, if_neg (by omega), ho]
                  rw [eu2]
                  refine js_aload_n 0 dX3_run_130 rfl ?_
                  refine gX3_49 rfl dX3_run_131 ((js_up_n (js_nek p19_0 p19_6 js_kOA)).trans js_up_s) rfl ?_
                  refine js_if_le (tgt := 184) dX3_run_134 (by decide) (by omega) (fun c23 => ?_) (fun c23 => ?_)
                  · exfalso; revert c23; decide
                  · refine js_aload_n 0 dX3_run_137 rfl ?_
                    refine gX3_25 rfl dX3_run_138 ((js_up_n (js_nek p19_0 p19_6 js_kOA)).trans js_up_s) rfl ?_
                    refine js_iconst dX3_run_141 ?_
                    refine js_iaload dX3_run_142 js_up_s (by omega) ?_
                    refine js_istore_n (L' := [(2, .int (jI ((zrf rf z.1 z.2) 0))), (0, .ref (A 0)), (1, .int (jI (((k : Nat) : Int))))]) dX3_run_143 (by decide) rfl ?_
                    refine js_aload_n 1 dX3_run_144 rfl ?_
                    refine gX3_25 rfl dX3_run_145 ((js_up_n (js_nek p19_0 p19_6 js_kOA)).trans js_up_s) rfl ?_
                    refine js_iconst dX3_run_148 ?_
                    refine js_iaload dX3_run_149 js_up_s (by omega) ?_
                    refine js_istore_n (L' := [(3, .int (jI ((zrf rf z.1 z.2) 1))), (2, .int (jI ((zrf rf z.1 z.2) 0))), (0, .ref (A 0)), (1, .int (jI (((k : Nat) : Int))))]) dX3_run_150 (by decide) rfl ?_
                    refine js_aload_n 2 dX3_run_151 rfl ?_
                    refine js_bipush dX3_run_152 rfl ?_
                    refine js_iload_n 3 dX3_run_154 rfl ?_
                    refine eX3_83 rfl dX3_run_155 ((js_up_n (js_nek p19_0 p19_6 js_kOA)).trans js_up_s) (com_refuse ((js_up_n (js_nek p19_0 p19_6 js_kOA)).trans js_up_s) ((js_up_n (hA 1 6 (by decide) (by decide) (by decide))).trans ((js_up_n (js_nek p19_1 p19_0 js_kAO)).trans p19_1)) js_up_s (hA 1 6 (by decide) (by decide) (by decide))) (Nat.le_of_ble_eq_true rfl) (Nat.le_of_ble_eq_true rfl) ?_
                    show js_ok ρ mX3_run _ 9 0 0 158 [(3, .int (jI ((zrf rf z.1 z.2) 1))), (2, .int (jI ((zrf rf z.1 z.2) 0))), (0, .ref (A 0)), (1, .int (jI (((k : Nat) : Int))))] [.int (jI 0)] (js_up (js_up (js_up (js_up (zH A (zex f (zrq tx len od j) k) f asd svd pas rf it wt tx (zrq tx len od j) ln isS pm 0 0 ((zrp tx len j).1) 0 (-1) (((j : Nat) : Int) + 1) lm h) (A 0) (js_ob true 2 [.ref (A 1), .ref (A 2), .ref (A 3), .ref (A 4), .int (jI isS), .ref (A 5), .int (jI pm), .int (jI 1), .ref (A 6), .ref (A 7), .ref (A 8), .ref (A 9), .int (jI 0), .int (jI ((zrp tx len j).1)), .int (jI 0), .int (jI (-1)), .ref (A 10), .int (jI (((j : Nat) : Int) + 1)), .ref (A 11), .int (jI lm)])) (A 6) (js_aI true 0 4 (zrf rf z.1 z.2))) (A 0) (js_ob true 2 [.ref (A 1), .ref (A 2), .ref (A 3), .ref (A 4), .int (jI isS), .ref (A 5), .int (jI pm), .int (jI 1), .ref (A 6), .ref (A 7), .ref (A 8), .ref (A 9), .int (jI 0), .int (jI ((zrp tx len j).1)), .int (jI 0), .int (jI (-1)), .ref (A 10), .int (jI (((j : Nat) : Int) + 1)), .ref (A 11), .int (jI lm)])) (A 6) (js_aI true 0 4 (zrf (zrf rf z.1 z.2) 12 (((k : Nat) : Int)))))
                    refine js_istore (L' := [(4, .int (jI 0)), (3, .int (jI ((zrf rf z.1 z.2) 1))), (2, .int (jI ((zrf rf z.1 z.2) 0))), (0, .ref (A 0)), (1, .int (jI (((k : Nat) : Int))))]) dX3_run_158 (by decide) rfl ?_
                    refine js_aload_n 3 dX3_run_160 rfl ?_
                    refine gX3_25 rfl dX3_run_161 ((js_up_n (js_nek p19_0 p19_6 js_kOA)).trans js_up_s) rfl ?_
                    refine js_iconst dX3_run_164 ?_
                    refine js_iload_n 2 dX3_run_165 rfl ?_
                    refine js_iastore dX3_run_166 js_up_s (by omega) ?_
                    rw [js_up_up]
                    show js_ok ρ mX3_run _ 9 0 0 167 [(4, .int (jI 0)), (3, .int (jI ((zrf rf z.1 z.2) 1))), (2, .int (jI ((zrf rf z.1 z.2) 0))), (0, .ref (A 0)), (1, .int (jI (((k : Nat) : Int))))] [] (js_up (js_up (js_up (js_up (zH A (zex f (zrq tx len od j) k) f asd svd pas rf it wt tx (zrq tx len od j) ln isS pm 0 0 ((zrp tx len j).1) 0 (-1) (((j : Nat) : Int) + 1) lm h) (A 0) (js_ob true 2 [.ref (A 1), .ref (A 2), .ref (A 3), .ref (A 4), .int (jI isS), .ref (A 5), .int (jI pm), .int (jI 1), .ref (A 6), .ref (A 7), .ref (A 8), .ref (A 9), .int (jI 0), .int (jI ((zrp tx len j).1)), .int (jI 0), .int (jI (-1)), .ref (A 10), .int (jI (((j : Nat) : Int) + 1)), .ref (A 11), .int (jI lm)])) (A 6) (js_aI true 0 4 (zrf rf z.1 z.2))) (A 0) (js_ob true 2 [.ref (A 1), .ref (A 2), .ref (A 3), .ref (A 4), .int (jI isS), .ref (A 5), .int (jI pm), .int (jI 1), .ref (A 6), .ref (A 7), .ref (A 8), .ref (A 9), .int (jI 0), .int (jI ((zrp tx len j).1)), .int (jI 0), .int (jI (-1)), .ref (A 10), .int (jI (((j : Nat) : Int) + 1)), .ref (A 11), .int (jI lm)])) (A 6) (js_aI true 0 4 (js_uz (zrf (zrf rf z.1 z.2) 12 (((k : Nat) : Int))) 2 ((zrf rf z.1 z.2) 0))))
                    refine js_aload_n 3 dX3_run_167 rfl ?_
                    refine gX3_25 rfl dX3_run_168 ((js_up_n (js_nek p19_0 p19_6 js_kOA)).trans js_up_s) rfl ?_
                    refine js_iconst dX3_run_171 ?_
                    refine js_iload_n 1 dX3_run_172 rfl ?_
                    refine js_iastore dX3_run_173 js_up_s (by omega) ?_
                    rw [js_up_up]
                    show js_ok ρ mX3_run _ 9 0 0 174 [(4, .int (jI 0)), (3, .int (jI ((zrf rf z.1 z.2) 1))), (2, .int (jI ((zrf rf z.1 z.2) 0))), (0, .ref (A 0)), (1, .int (jI (((k : Nat) : Int))))] [] (js_up (js_up (js_up (js_up (zH A (zex f (zrq tx len od j) k) f asd svd pas rf it wt tx (zrq tx len od j) ln isS pm 0 0 ((zrp tx len j).1) 0 (-1) (((j : Nat) : Int) + 1) lm h) (A 0) (js_ob true 2 [.ref (A 1), .ref (A 2), .ref (A 3), .ref (A 4), .int (jI isS), .ref (A 5), .int (jI pm), .int (jI 1), .ref (A 6), .ref (A 7), .ref (A 8), .ref (A 9), .int (jI 0), .int (jI ((zrp tx len j).1)), .int (jI 0), .int (jI (-1)), .ref (A 10), .int (jI (((j : Nat) : Int) + 1)), .ref (A 11), .int (jI lm)])) (A 6) (js_aI true 0 4 (zrf rf z.1 z.2))) (A 0) (js_ob true 2 [.ref (A 1), .ref (A 2), .ref (A 3), .ref (A 4), .int (jI isS), .ref (A 5), .int (jI pm), .int (jI 1), .ref (A 6), .ref (A 7), .ref (A 8), .ref (A 9), .int (jI 0), .int (jI ((zrp tx len j).1)), .int (jI 0), .int (jI (-1)), .ref (A 10), .int (jI (((j : Nat) : Int) + 1)), .ref (A 11), .int (jI lm)])) (A 6) (js_aI true 0 4 (js_uz (js_uz (zrf (zrf rf z.1 z.2) 12 (((k : Nat) : Int))) 2 ((zrf rf z.1 z.2) 0)) 3 ((zrf rf z.1 z.2) 1))))
                    refine js_norm (g' := js_uz (js_uz (zrf rf 12 (k : Int)) 2 z.1) 3 z.2) js_up_s (fun i9 q1 q2 => (by
                      have q4 : i9 = 0 ∨ i9 = 1 ∨ i9 = 2 ∨ i9 = 3 := by omega
                      rcases q4 with rfl | rfl | rfl | rfl <;> rfl)) ?_
                    rw [js_up_up]
                    show js_ok ρ mX3_run _ 9 0 0 174 [(4, .int (jI 0)), (3, .int (jI ((zrf rf z.1 z.2) 1))), (2, .int (jI ((zrf rf z.1 z.2) 0))), (0, .ref (A 0)), (1, .int (jI (((k : Nat) : Int))))] [] (js_up (js_up (js_up (js_up (zH A (zex f (zrq tx len od j) k) f asd svd pas rf it wt tx (zrq tx len od j) ln isS pm 0 0 ((zrp tx len j).1) 0 (-1) (((j : Nat) : Int) + 1) lm h) (A 0) (js_ob true 2 [.ref (A 1), .ref (A 2), .ref (A 3), .ref (A 4), .int (jI isS), .ref (A 5), .int (jI pm), .int (jI 1), .ref (A 6), .ref (A 7), .ref (A 8), .ref (A 9), .int (jI 0), .int (jI ((zrp tx len j).1)), .int (jI 0), .int (jI (-1)), .ref (A 10), .int (jI (((j : Nat) : Int) + 1)), .ref (A 11), .int (jI lm)])) (A 6) (js_aI true 0 4 (zrf rf z.1 z.2))) (A 0) (js_ob true 2 [.ref (A 1), .ref (A 2), .ref (A 3), .ref (A 4), .int (jI isS), .ref (A 5), .int (jI pm), .int (jI 1), .ref (A 6), .ref (A 7), .ref (A 8), .ref (A 9), .int (jI 0), .int (jI ((zrp tx len j).1)), .int (jI 0), .int (jI (-1)), .ref (A 10), .int (jI (((j : Nat) : Int) + 1)), .ref (A 11), .int (jI lm)])) (A 6) (js_aI true 0 4 (js_uz (js_uz (zrf rf 12 (k : Int)) 2 z.1) 3 z.2)))
                    refine js_aload_n 3 dX3_run_174 rfl ?_
                    refine js_aload_n 3 dX3_run_175 rfl ?_
                    refine js_iconst dX3_run_176 ?_
                    refine eX3_186 rfl dX3_run_177 ((js_up_n (js_nek p19_0 p19_6 js_kOA)).trans js_up_s) (com_fails hA ⟨((js_up_n (js_nek p19_0 p19_6 js_kOA)).trans js_up_s), ((js_up_n (hA 1 6 (by decide) (by decide) (by decide))).trans ((js_up_n (Ne.symm (js_nek p19_0 p19_1 js_kOA))).trans ((js_up_n (hA 1 6 (by decide) (by decide) (by decide))).trans ((js_up_n (js_nek p19_1 p19_0 js_kAO)).trans p19_1)))), ((js_up_n (hA 2 6 (by decide) (by decide) (by decide))).trans ((js_up_n (Ne.symm (js_nek p19_0 p19_2 js_kOA))).trans ((js_up_n (hA 2 6 (by decide) (by decide) (by decide))).trans ((js_up_n (js_nek p19_2 p19_0 js_kAO)).trans p19_2)))), ((js_up_n (hA 3 6 (by decide) (by decide) (by decide))).trans ((js_up_n (Ne.symm (js_nek p19_0 p19_3 js_kOA))).trans ((js_up_n (hA 3 6 (by decide) (by decide) (by decide))).trans ((js_up_n (js_nek p19_3 p19_0 js_kAO)).trans p19_3)))), ((js_up_n (hA 4 6 (by decide) (by decide) (by decide))).trans ((js_up_n (Ne.symm (js_nek p19_0 p19_4 js_kOA))).trans ((js_up_n (hA 4 6 (by decide) (by decide) (by decide))).trans ((js_up_n (js_nek p19_4 p19_0 js_kAO)).trans p19_4)))), ((js_up_n (hA 5 6 (by decide) (by decide) (by decide))).trans ((js_up_n (Ne.symm (js_nek p19_0 p19_5 js_kOA))).trans ((js_up_n (hA 5 6 (by decide) (by decide) (by decide))).trans ((js_up_n (js_nek p19_5 p19_0 js_kAO)).trans p19_5)))), js_up_s, ((js_up_n (Ne.symm (hA 6 7 (by decide) (by decide) (by decide)))).trans ((js_up_n (Ne.symm (js_nek p19_0 p19_7 js_kOA))).trans ((js_up_n (Ne.symm (hA 6 7 (by decide) (by decide) (by decide)))).trans ((js_up_n (js_nek p19_7 p19_0 js_kAO)).trans p19_7)))), ((js_up_n (Ne.symm (hA 6 8 (by decide) (by decide) (by decide)))).trans ((js_up_n (Ne.symm (js_nek p19_0 p19_8 js_kOA))).trans ((js_up_n (Ne.symm (hA 6 8 (by decide) (by decide) (by decide)))).trans ((js_up_n (js_nek p19_8 p19_0 js_kAO)).trans p19_8)))), ((js_up_n (Ne.symm (hA 6 9 (by decide) (by decide) (by decide)))).trans ((js_up_n (Ne.symm (js_nek p19_0 p19_9 js_kOA))).trans ((js_up_n (Ne.symm (hA 6 9 (by decide) (by decide) (by decide)))).trans ((js_up_n (js_nek p19_9 p19_0 js_kAO)).trans p19_9)))), ((js_up_n (Ne.symm (hA 6 10 (by decide) (by decide) (by decide)))).trans ((js_up_n (Ne.symm (js_nek p19_0 p19_10 js_kOA))).trans ((js_up_n (Ne.symm (hA 6 10 (by decide) (by decide) (by decide)))).trans ((js_up_n (js_nek p19_10 p19_0 js_kAO)).trans p19_10)))), ((js_up_n (Ne.symm (hA 6 11 (by decide) (by decide) (by decide)))).trans ((js_up_n (Ne.symm (js_nek p19_0 p19_11 js_kOA))).trans ((js_up_n (Ne.symm (hA 6 11 (by decide) (by decide) (by decide)))).trans ((js_up_n (js_nek p19_11 p19_0 js_kAO)).trans p19_11))))⟩) (Nat.le_of_ble_eq_true rfl) (Nat.le_of_ble_eq_true rfl) ?_
                    rw [zH_fr (fun q hq => ((js_up_n (hq 6 (by decide))).trans ((js_up_n (hq 0 (by decide))).trans ((js_up_n (hq 6 (by decide))).trans ((js_up_n (hq 0 (by decide))).trans (zH_n hq))))))]
                    obtain ⟨p24_0, p24_1, p24_2, p24_3, p24_4, p24_5, p24_6, p24_7, p24_8, p24_9, p24_10, p24_11⟩ := zH_Mc (h := h) (f := zex f (zrq tx len od j) k) (bef := f) (asd := asd) (svd := svd) (pas := pas) (rf := js_uz (js_uz (zrf rf 12 (k : Int)) 2 z.1) 3 z.2) (it := it) (wt := wt) (tx := tx) (od := zrq tx len od j) (ln := ln) (isS := isS) (pm := pm) (th := 2) (len := 0) (at_ := (zrp tx len j).1) (wr := 0) (fa := -1) (om := ((j : Nat) : Int) + 1) (lm := lm) hA
                    show js_ok ρ mX3_run _ 9 0 0 180 [(4, .int (jI 0)), (3, .int (jI ((zrf rf z.1 z.2) 1))), (2, .int (jI ((zrf rf z.1 z.2) 0))), (0, .ref (A 0)), (1, .int (jI (((k : Nat) : Int))))] [.int (jI 0), .ref (A 0)] (zH A (zex f (zrq tx len od j) k) f asd svd pas (js_uz (js_uz (zrf rf 12 (k : Int)) 2 z.1) 3 z.2) it wt tx (zrq tx len od j) ln isS pm 2 0 ((zrp tx len j).1) 0 (-1) (((j : Nat) : Int) + 1) lm h)
                    refine eX3_96 rfl dX3_run_180 p24_0 (com_ends2 hA ⟨p24_0, p24_1, p24_2, p24_3, p24_4, p24_5, p24_6, p24_7, p24_8, p24_9, p24_10, p24_11⟩ rfl) (Nat.le_of_ble_eq_true rfl) (Nat.le_of_ble_eq_true rfl) ?_
                    rw [zH_fr (fun q hq => (zH_n hq))]
                    obtain ⟨p25_0, p25_1, p25_2, p25_3, p25_4, p25_5, p25_6, p25_7, p25_8, p25_9, p25_10, p25_11⟩ := zH_Mc (h := h) (f := f) (bef := f) (asd := asd) (svd := svd) (pas := pas) (rf := js_uz (js_uz (zrf rf 12 (k : Int)) 2 z.1) 3 z.2) (it := it) (wt := wt) (tx := tx) (od := zrq tx len od j) (ln := ln) (isS := isS) (pm := pm) (th := 2) (len := 0) (at_ := (zrp tx len j).1) (wr := 0) (fa := -1) (om := ((j : Nat) : Int) + 1) (lm := lm) hA
                    show js_ok ρ mX3_run _ 9 0 0 183 [(4, .int (jI 0)), (3, .int (jI ((zrf rf z.1 z.2) 1))), (2, .int (jI ((zrf rf z.1 z.2) 0))), (0, .ref (A 0)), (1, .int (jI (((k : Nat) : Int))))] [.int (jI 0)] (zH A f f asd svd pas (js_uz (js_uz (zrf rf 12 (k : Int)) 2 z.1) 3 z.2) it wt tx (zrq tx len od j) ln isS pm 2 0 ((zrp tx len j).1) 0 (-1) (((j : Nat) : Int) + 1) lm h)
                    exact js_iret rfl rfl dX3_run_183 ⟨js_reti (by rfl), _, _, _, _, _, _, _, _, (zH_eq hA p25_0 p25_1 p25_2 p25_3 p25_4 p25_5 p25_6 p25_7 p25_8 p25_9 p25_10 p25_11 (fun q hq => (zH_n hq)))⟩
                · show js_ok ρ mX3_run _ 9 0 0 130 [(0, .ref (A 0)), (1, .int (jI (((k : Nat) : Int))))] [] (js_up (zH A (zex f (zrq tx len od j) k) f asd svd pas rf it wt tx (zrq tx len od j) ln isS pm 0 0 ((zrp tx len j).1) 0 (-1) (((j : Nat) : Int) + 1) lm h) (A 1) (js_aI true 0 287 z.2))
                  refine js_aload_n 0 dX3_run_130 rfl ?_
                  refine gX3_49 rfl dX3_run_131 ((js_up_n (js_nek p19_0 p19_1 js_kOA)).trans p19_0) rfl ?_
                  refine js_if_le (tgt := 184) dX3_run_134 (by decide) (by omega) (fun c26 => ?_) (fun c26 => ?_)
                  · refine js_iinc (L' := [(1, .int (jI ((((k : Nat) : Int)) + 1))), (0, .ref (A 0))]) 1 dX3_run_184 rfl (by decide) rfl ?_
                    refine js_goto (tgt := 117) dX3_run_187 (by decide) ?_
                    have e9 : zex f (zrq tx len od j) (k + 1) = z.2 := by
                      show (match zdo (zex f (zrq tx len od j) k) (zrq tx len od j) (k : Int) with
                        | .inl _ => zex f (zrq tx len od j) k
                        | .inr z => z.2) = _
                      rw [ho]
                    refine js_heq (h' := (zH A (zex f (zrq tx len od j) (k + 1)) f asd svd pas rf it wt tx (zrq tx len od j) ln isS pm 0 0 ((zrp tx len j).1) 0 (-1) (((j : Nat) : Int) + 1) lm h)) (by rw [e9]; exact (zH_eq hA ((js_up_n (js_nek p19_0 p19_1 js_kOA)).trans p19_0) js_up_s ((js_up_n (Ne.symm (hA 1 2 (by decide) (by decide) (by decide)))).trans p19_2) ((js_up_n (Ne.symm (hA 1 3 (by decide) (by decide) (by decide)))).trans p19_3) ((js_up_n (Ne.symm (hA 1 4 (by decide) (by decide) (by decide)))).trans p19_4) ((js_up_n (Ne.symm (hA 1 5 (by decide) (by decide) (by decide)))).trans p19_5) ((js_up_n (Ne.symm (hA 1 6 (by decide) (by decide) (by decide)))).trans p19_6) ((js_up_n (Ne.symm (hA 1 7 (by decide) (by decide) (by decide)))).trans p19_7) ((js_up_n (Ne.symm (hA 1 8 (by decide) (by decide) (by decide)))).trans p19_8) ((js_up_n (Ne.symm (hA 1 9 (by decide) (by decide) (by decide)))).trans p19_9) ((js_up_n (Ne.symm (hA 1 10 (by decide) (by decide) (by decide)))).trans p19_10) ((js_up_n (Ne.symm (hA 1 11 (by decide) (by decide) (by decide)))).trans p19_11) (fun q hq => ((js_up_n (hq 1 (by decide))).trans (zH_n hq)))).symm) ?_
                    obtain ⟨p27_0, p27_1, p27_2, p27_3, p27_4, p27_5, p27_6, p27_7, p27_8, p27_9, p27_10, p27_11⟩ := zH_Mc (h := h) (f := zex f (zrq tx len od j) (k + 1)) (bef := f) (asd := asd) (svd := svd) (pas := pas) (rf := rf) (it := it) (wt := wt) (tx := tx) (od := zrq tx len od j) (ln := ln) (isS := isS) (pm := pm) (th := 0) (len := 0) (at_ := (zrp tx len j).1) (wr := 0) (fa := -1) (om := ((j : Nat) : Int) + 1) (lm := lm) hA
                    show js_ok ρ mX3_run _ 9 0 0 117 [(1, .int (jI ((((k : Nat) : Int)) + 1))), (0, .ref (A 0))] [] (zH A (zex f (zrq tx len od j) (k + 1)) f asd svd pas rf it wt tx (zrq tx len od j) ln isS pm 0 0 ((zrp tx len j).1) 0 (-1) (((j : Nat) : Int) + 1) lm h)
                    refine js_sub (L' := [(0, .ref (A 0)), (1, .int (jI ((((k : Nat) : Int)) + 1)))]) [1, 0] rfl ?_
                    refine js_heq (h' := (zH A (zex f (zrq tx len od j) (k + 1)) f asd svd pas rf it wt tx (zrq tx len od j) ln isS pm 0 0 ((zrp tx len j).1) 0 (-1) (((j : Nat) : Int) + 1) lm h)) (zH_eq hA p27_0 p27_1 p27_2 p27_3 p27_4 p27_5 p27_6 p27_7 p27_8 p27_9 p27_10 p27_11 (fun q hq => (zH_n hq))).symm ?_
                    exact IHs (k + 1) (show k + 1 ≤ j + 1 ∧ (∀ i : Nat, i < k + 1 → zok1 f (zrq tx len od j) i) ∧ zI (T + 400 * ((k + 1 : Nat) : Int)) (zex f (zrq tx len od j) (k + 1)) from ⟨by omega, fun i c => by
                        by_cases e : i = k
                        · subst e; exact ⟨z, ho⟩
                        · exact kP i (by omega), by
                        rw [e9]
                        have := zdo_I kI (by omega) ho
                        rwa [show T + 400 * (k : Int) + 400 = T + 400 * ((k + 1 : Nat) : Int) by omega] at this⟩) (show j + 1 - (k + 1) < j + 1 - (k) by omega)
                  · exfalso; revert c26; decide
            · exfalso; revert c16; decide
          · exfalso; revert c15; decide
        · exfalso; omega
  · have hzz : zis tx len 59 59 (zrp tx len j) := by assumption
    have hz0 := hzz.1
    have hz1 := hzz.2.1
    have j4 := j3 hz0
    refine js_aload_n 0 dX3_run_30 rfl ?_
    refine js_dup dX3_run_31 rfl ?_
    refine gX3_217 rfl dX3_run_32 p3_0 rfl ?_
    refine js_iconst dX3_run_35 ?_
    refine js_iadd dX3_run_36 ?_
    refine pX3_217 rfl dX3_run_37 p3_0 (Nat.le_of_ble_eq_true rfl) rfl rfl ?_
    show js_ok ρ mX3_run _ 9 0 0 40 [(0, .ref (A 0))] [] (js_up (zH A f bef asd svd pas rf it wt tx (zrq tx len od j) ln isS pm th len ((zrp tx len j).1) ((zrp tx len j).2) fa (((j : Nat) : Int) + 1) lm h) (A 0) (js_ob true 2 [.ref (A 1), .ref (A 2), .ref (A 3), .ref (A 4), .int (jI isS), .ref (A 5), .int (jI pm), .int (jI th), .ref (A 6), .ref (A 7), .ref (A 8), .ref (A 9), .int (jI len), .int (jI (((zrp tx len j).1) + 1)), .int (jI ((zrp tx len j).2)), .int (jI fa), .ref (A 10), .int (jI (((j : Nat) : Int) + 1)), .ref (A 11), .int (jI lm)]))
    refine js_aload_n 0 dX3_run_40 rfl ?_
    refine eX3_296 rfl dX3_run_41 js_up_s (com_readOrder (p := ((((zrp tx len j).1) + 1, (zrp tx len j).2) : zP)) hA ⟨js_up_s, ((js_up_n (js_nek p3_1 p3_0 js_kAO)).trans p3_1), ((js_up_n (js_nek p3_2 p3_0 js_kAO)).trans p3_2), ((js_up_n (js_nek p3_3 p3_0 js_kAO)).trans p3_3), ((js_up_n (js_nek p3_4 p3_0 js_kAO)).trans p3_4), ((js_up_n (js_nek p3_5 p3_0 js_kAO)).trans p3_5), ((js_up_n (js_nek p3_6 p3_0 js_kAO)).trans p3_6), ((js_up_n (js_nek p3_7 p3_0 js_kAO)).trans p3_7), ((js_up_n (js_nek p3_8 p3_0 js_kAO)).trans p3_8), ((js_up_n (js_nek p3_9 p3_0 js_kAO)).trans p3_9), ((js_up_n (js_nek p3_10 p3_0 js_kAO)).trans p3_10), ((js_up_n (js_nek p3_11 p3_0 js_kAO)).trans p3_11)⟩ ⟨⟨by show 0 ≤ (zrp tx len j).1 + 1; omega, by show (zrp tx len j).1 + 1 ≤ len; omega⟩, jok.2⟩ hl ht hK hz0 (by omega)) (Nat.le_of_ble_eq_true rfl) (Nat.le_of_ble_eq_true rfl) ?_
    rw [zH_fr (fun q hq => ((js_up_n (hq 0 (by decide))).trans (zH_n hq)))]
    obtain ⟨p28_0, p28_1, p28_2, p28_3, p28_4, p28_5, p28_6, p28_7, p28_8, p28_9, p28_10, p28_11⟩ := zH_Mc (h := h) (f := f) (bef := bef) (asd := asd) (svd := svd) (pas := pas) (rf := rf) (it := it) (wt := wt) (tx := tx) (od := zroo tx len (((zrp tx len j).1) + 1, (zrp tx len j).2) (zrq tx len od j) (5 * (((j : Nat) : Int) + 1))) (ln := ln) (isS := isS) (pm := pm) (th := th) (len := len) (at_ := (zrop tx len (((zrp tx len j).1) + 1, (zrp tx len j).2)).1) (wr := (zrop tx len (((zrp tx len j).1) + 1, (zrp tx len j).2)).2) (fa := fa) (om := (((j : Nat) : Int) + 1) + 1) (lm := lm) hA
    show js_ok ρ mX3_run _ 9 0 0 44 [(0, .ref (A 0))] [] (zH A f bef asd svd pas rf it wt tx (zroo tx len (((zrp tx len j).1) + 1, (zrp tx len j).2) (zrq tx len od j) (5 * (((j : Nat) : Int) + 1))) ln isS pm th len ((zrop tx len (((zrp tx len j).1) + 1, (zrp tx len j).2)).1) ((zrop tx len (((zrp tx len j).1) + 1, (zrp tx len j).2)).2) fa ((((j : Nat) : Int) + 1) + 1) lm h)
    refine js_goto (tgt := 19) dX3_run_44 (by decide) ?_
    refine js_heq (h' := (zH A f bef asd svd pas rf it wt tx (zrq tx len od (j + 1)) ln isS pm th len ((zrp tx len (j + 1)).1) ((zrp tx len (j + 1)).2) fa (((j + 1 : Nat) : Int) + 1) lm h)) (zH_eq hA p28_0 p28_1 p28_2 p28_3 p28_4 p28_5 p28_6 p28_7 p28_8 p28_9 p28_10 p28_11 (fun q hq => (zH_n hq))).symm ?_
    exact IHs (j + 1) (show j + 1 ≤ 60 ∧ ∀ i : Nat, i < j + 1 → zis tx len 59 59 (zrp tx len i) from ⟨by omega, fun i z => by
        by_cases e : i = j
        · subst e; exact hzz
        · exact hJ i (by omega)⟩) (show 60 - (j + 1) < 60 - (j) by omega)
