set_option maxRecDepth 100000
/-! BalloonSpiresModel: reading -/
theorem com_isHere {ρ : js_R} {h : js_H} {A : Nat → Nat} {f bef asd svd pas rf it wt tx od ln : Int → Int} {isS pm th len fa om lm : Int} {p : zP} {lo hi : Int} (hA : zA A) (hp : zMc A f bef asd svd pas rf it wt tx od ln isS pm th len p.1 p.2 fa om lm h) (hp0 : zpok len p) (hl : 0 ≤ len ∧ len ≤ 60) (ht : ∀ j : Int, 0 ≤ j → j < 60 → 0 ≤ tx j ∧ tx j < 128) (rlo : 0 ≤ lo ∧ lo < 65536) (rhi : 0 ≤ hi ∧ hi < 65536)  : js_Con ρ mX3_isHere 1 0 0 [.ref (A 0), .int (jI lo), .int (jI hi)] h (js_ret (some (.int (jI (jb (zis tx len lo hi p))))) h) := by
  refine js_body [(0, .ref (A 0)), (1, .int (jI lo)), (2, .int (jI hi))] rfl (by decide) (Nat.le_of_ble_eq_true rfl) rfl ?_
  obtain ⟨p0, p1, p2, p3, p4, p5, p6, p7, p8, p9, p10, p11⟩ := hp
  have k1 := hp0.1
  have k2 := hp0.2
  refine js_aload_n 0 dX3_isHere_0 rfl ?_
  refine gX3_213 rfl dX3_isHere_1 p0 rfl ?_
  refine js_if_ne (tgt := 39) dX3_isHere_4 (by decide) (by omega) (fun c1 => ?_) (fun c1 => ?_)
  · refine js_iconst dX3_isHere_39 ?_
    exact js_iret rfl (js_nar_boolean (by omega)) dX3_isHere_40 ⟨js_reti (jb_f (by unfold zis; omega)).symm, rfl⟩
  · refine js_aload_n 0 dX3_isHere_7 rfl ?_
    refine gX3_217 rfl dX3_isHere_8 p0 rfl ?_
    refine js_aload_n 0 dX3_isHere_11 rfl ?_
    refine gX3_210 rfl dX3_isHere_12 p0 rfl ?_
    refine js_icmp_ge (tgt := 39) dX3_isHere_15 (by decide) (by omega) (fun c2 => ?_) (fun c2 => ?_)
    · refine js_iconst dX3_isHere_39 ?_
      exact js_iret rfl (js_nar_boolean (by omega)) dX3_isHere_40 ⟨js_reti (jb_f (by unfold zis; omega)).symm, rfl⟩
    · have ht1 := ht p.1 (by omega) (by omega)
      refine js_aload_n 0 dX3_isHere_18 rfl ?_
      refine gX3_35 rfl dX3_isHere_19 p0 rfl ?_
      refine js_aload_n 0 dX3_isHere_22 rfl ?_
      refine gX3_217 rfl dX3_isHere_23 p0 rfl ?_
      refine js_caload dX3_isHere_26 p9 (by omega) ?_
      refine js_iload_n 1 dX3_isHere_27 rfl ?_
      refine js_iload_n 2 dX3_isHere_28 rfl ?_
      refine eX3_61 rfl dX3_isHere_29 (com_in (by omega) (by omega) (by omega)) (Nat.le_of_ble_eq_true rfl) (Nat.le_of_ble_eq_true rfl) ?_
      refine js_if_eqB (tgt := 39) dX3_isHere_32 (by decide) (fun c3 => ?_) (fun c3 => ?_)
      · refine js_iconst dX3_isHere_39 ?_
        exact js_iret rfl (js_nar_boolean (by omega)) dX3_isHere_40 ⟨js_reti (jb_f (by unfold zis; omega)).symm, rfl⟩
      · refine js_iconst dX3_isHere_35 ?_
        refine js_goto (tgt := 40) dX3_isHere_36 (by decide) ?_
        exact js_iret rfl (js_nar_boolean (by omega)) dX3_isHere_40 ⟨js_reti (jb_t (by unfold zis; omega)).symm, rfl⟩
theorem com_sign {ρ : js_R} {h : js_H} {A : Nat → Nat} {f bef asd svd pas rf it wt tx od ln : Int → Int} {isS pm th len fa om lm : Int} {p : zP} {lo hi : Int} (hA : zA A) (hp : zMc A f bef asd svd pas rf it wt tx od ln isS pm th len p.1 p.2 fa om lm h) (hp0 : zpok len p) (hl : 0 ≤ len ∧ len ≤ 60) (ht : ∀ j : Int, 0 ≤ j → j < 60 → 0 ≤ tx j ∧ tx j < 128) (rlo : 0 ≤ lo ∧ lo < 65536) (rhi : 0 ≤ hi ∧ hi < 65536) (hlh : lo ≤ hi)  : js_Con ρ mX3_sign 2 0 0 [.ref (A 0), .int (jI lo), .int (jI hi)] h (js_ret (some (.int (jI (zsv tx len lo hi p)))) (zH A f bef asd svd pas rf it wt tx od ln isS pm th len ((zsg tx len lo hi p).1) ((zsg tx len lo hi p).2) fa om lm h)) := by
  refine js_body [(0, .ref (A 0)), (1, .int (jI lo)), (2, .int (jI hi))] rfl (by decide) (Nat.le_of_ble_eq_true rfl) rfl ?_
  obtain ⟨p0, p1, p2, p3, p4, p5, p6, p7, p8, p9, p10, p11⟩ := hp
  have k1 := hp0.1
  have k2 := hp0.2
  by_cases hz : zis tx len lo hi p
  · have ez : zsg tx len lo hi p = (p.1 + 1, 0) := if_pos hz
    have ev : zsv tx len lo hi p = tx p.1 - lo := if_pos hz
    rw [ez, ev]
    have hz0 := hz.1
    have hz1 := hz.2.1
    have ht1 := ht p.1 (by omega) (by omega)
    refine js_aload_n 0 dX3_sign_0 rfl ?_
    refine js_aload_n 0 dX3_sign_1 rfl ?_
    refine gX3_213 rfl dX3_sign_2 p0 rfl ?_
    refine js_if_ne (tgt := 17) dX3_sign_5 (by decide) (by omega) (fun c1 => ?_) (fun c1 => ?_)
    · exfalso; omega
    · refine js_aload_n 0 dX3_sign_8 rfl ?_
      refine js_iload_n 1 dX3_sign_9 rfl ?_
      refine js_iload_n 2 dX3_sign_10 rfl ?_
      refine eX3_220 rfl dX3_sign_11 p0 (com_isHere hA ⟨p0, p1, p2, p3, p4, p5, p6, p7, p8, p9, p10, p11⟩ hp0 hl ht (by omega) (by omega)) (Nat.le_of_ble_eq_true rfl) (Nat.le_of_ble_eq_true rfl) ?_
      refine js_if_neB (tgt := 21) dX3_sign_14 (by decide) (fun c2 => ?_) (fun c2 => ?_)
      · refine js_iconst dX3_sign_21 ?_
        refine pX3_213 rfl dX3_sign_22 p0 (Nat.le_of_ble_eq_true rfl) (js_nar_boolean (by omega)) (js_fit_boolean (by omega)) ?_
        show js_ok ρ mX3_sign _ 2 0 0 25 [(0, .ref (A 0)), (1, .int (jI lo)), (2, .int (jI hi))] [] (js_up h (A 0) (js_ob true 2 [.ref (A 1), .ref (A 2), .ref (A 3), .ref (A 4), .int (jI isS), .ref (A 5), .int (jI pm), .int (jI th), .ref (A 6), .ref (A 7), .ref (A 8), .ref (A 9), .int (jI len), .int (jI p.1), .int (jI 0), .int (jI fa), .ref (A 10), .int (jI om), .ref (A 11), .int (jI lm)]))
        refine js_aload_n 0 dX3_sign_25 rfl ?_
        refine gX3_213 rfl dX3_sign_26 js_up_s rfl ?_
        refine js_if_eq (tgt := 34) dX3_sign_29 (by decide) (by omega) (fun c3 => ?_) (fun c3 => ?_)
        · refine js_aload_n 0 dX3_sign_34 rfl ?_
          refine js_dup dX3_sign_35 rfl ?_
          refine gX3_217 rfl dX3_sign_36 js_up_s rfl ?_
          refine js_iconst dX3_sign_39 ?_
          refine js_iadd dX3_sign_40 ?_
          refine pX3_217 rfl dX3_sign_41 js_up_s (Nat.le_of_ble_eq_true rfl) rfl rfl ?_
          rw [js_up_up]
          show js_ok ρ mX3_sign _ 2 0 0 44 [(0, .ref (A 0)), (1, .int (jI lo)), (2, .int (jI hi))] [] (js_up h (A 0) (js_ob true 2 [.ref (A 1), .ref (A 2), .ref (A 3), .ref (A 4), .int (jI isS), .ref (A 5), .int (jI pm), .int (jI th), .ref (A 6), .ref (A 7), .ref (A 8), .ref (A 9), .int (jI len), .int (jI (p.1 + 1)), .int (jI 0), .int (jI fa), .ref (A 10), .int (jI om), .ref (A 11), .int (jI lm)]))
          refine js_aload_n 0 dX3_sign_44 rfl ?_
          refine gX3_35 rfl dX3_sign_45 js_up_s rfl ?_
          refine js_aload_n 0 dX3_sign_48 rfl ?_
          refine gX3_217 rfl dX3_sign_49 js_up_s rfl ?_
          refine js_iconst dX3_sign_52 ?_
          refine js_isub dX3_sign_53 ?_
          refine js_caload dX3_sign_54 ((js_up_n (Ne.symm (js_nek p0 p9 js_kOA))).trans p9) (by omega) ?_
          refine js_iload_n 1 dX3_sign_55 rfl ?_
          refine js_isub dX3_sign_56 ?_
          exact js_iret rfl rfl dX3_sign_57 ⟨js_reti (by first | rfl | (congr 2; omega)), (zH_eq hA js_up_s ((js_up_n (Ne.symm (js_nek p0 p1 js_kOA))).trans p1) ((js_up_n (Ne.symm (js_nek p0 p2 js_kOA))).trans p2) ((js_up_n (Ne.symm (js_nek p0 p3 js_kOA))).trans p3) ((js_up_n (Ne.symm (js_nek p0 p4 js_kOA))).trans p4) ((js_up_n (Ne.symm (js_nek p0 p5 js_kOA))).trans p5) ((js_up_n (Ne.symm (js_nek p0 p6 js_kOA))).trans p6) ((js_up_n (Ne.symm (js_nek p0 p7 js_kOA))).trans p7) ((js_up_n (Ne.symm (js_nek p0 p8 js_kOA))).trans p8) ((js_up_n (Ne.symm (js_nek p0 p9 js_kOA))).trans p9) ((js_up_n (Ne.symm (js_nek p0 p10 js_kOA))).trans p10) ((js_up_n (Ne.symm (js_nek p0 p11 js_kOA))).trans p11) (fun q hq => ((js_up_n (hq 0 (by decide))).trans rfl)))⟩
        · exfalso; revert c3; decide
      · exfalso; exact absurd hz c2
  · have ez : zsg tx len lo hi p = (p.1, 1) := if_neg hz
    have ev : zsv tx len lo hi p = 0 := if_neg hz
    rw [ez, ev]
    refine js_aload_n 0 dX3_sign_0 rfl ?_
    refine js_aload_n 0 dX3_sign_1 rfl ?_
    refine gX3_213 rfl dX3_sign_2 p0 rfl ?_
    refine js_if_ne (tgt := 17) dX3_sign_5 (by decide) (by omega) (fun c4 => ?_) (fun c4 => ?_)
    · refine js_iconst dX3_sign_17 ?_
      refine js_goto (tgt := 22) dX3_sign_18 (by decide) ?_
      refine pX3_213 rfl dX3_sign_22 p0 (Nat.le_of_ble_eq_true rfl) (js_nar_boolean (by omega)) (js_fit_boolean (by omega)) ?_
      show js_ok ρ mX3_sign _ 2 0 0 25 [(0, .ref (A 0)), (1, .int (jI lo)), (2, .int (jI hi))] [] (js_up h (A 0) (js_ob true 2 [.ref (A 1), .ref (A 2), .ref (A 3), .ref (A 4), .int (jI isS), .ref (A 5), .int (jI pm), .int (jI th), .ref (A 6), .ref (A 7), .ref (A 8), .ref (A 9), .int (jI len), .int (jI p.1), .int (jI 1), .int (jI fa), .ref (A 10), .int (jI om), .ref (A 11), .int (jI lm)]))
      refine js_aload_n 0 dX3_sign_25 rfl ?_
      refine gX3_213 rfl dX3_sign_26 js_up_s rfl ?_
      refine js_if_eq (tgt := 34) dX3_sign_29 (by decide) (by omega) (fun c5 => ?_) (fun c5 => ?_)
      · exfalso; revert c5; decide
      · refine js_iconst dX3_sign_32 ?_
        exact js_iret rfl rfl dX3_sign_33 ⟨js_reti (by first | rfl | (congr 2; omega)), (zH_eq hA js_up_s ((js_up_n (js_nek p1 p0 js_kAO)).trans p1) ((js_up_n (js_nek p2 p0 js_kAO)).trans p2) ((js_up_n (js_nek p3 p0 js_kAO)).trans p3) ((js_up_n (js_nek p4 p0 js_kAO)).trans p4) ((js_up_n (js_nek p5 p0 js_kAO)).trans p5) ((js_up_n (js_nek p6 p0 js_kAO)).trans p6) ((js_up_n (js_nek p7 p0 js_kAO)).trans p7) ((js_up_n (js_nek p8 p0 js_kAO)).trans p8) ((js_up_n (js_nek p9 p0 js_kAO)).trans p9) ((js_up_n (js_nek p10 p0 js_kAO)).trans p10) ((js_up_n (js_nek p11 p0 js_kAO)).trans p11) (fun q hq => ((js_up_n (hq 0 (by decide))).trans rfl)))⟩
    · refine js_aload_n 0 dX3_sign_8 rfl ?_
      refine js_iload_n 1 dX3_sign_9 rfl ?_
      refine js_iload_n 2 dX3_sign_10 rfl ?_
      refine eX3_220 rfl dX3_sign_11 p0 (com_isHere hA ⟨p0, p1, p2, p3, p4, p5, p6, p7, p8, p9, p10, p11⟩ hp0 hl ht (by omega) (by omega)) (Nat.le_of_ble_eq_true rfl) (Nat.le_of_ble_eq_true rfl) ?_
      refine js_if_neB (tgt := 21) dX3_sign_14 (by decide) (fun c6 => ?_) (fun c6 => ?_)
      · exfalso; exact absurd c6 hz
      · refine js_iconst dX3_sign_17 ?_
        refine js_goto (tgt := 22) dX3_sign_18 (by decide) ?_
        refine pX3_213 rfl dX3_sign_22 p0 (Nat.le_of_ble_eq_true rfl) (js_nar_boolean (by omega)) (js_fit_boolean (by omega)) ?_
        show js_ok ρ mX3_sign _ 2 0 0 25 [(0, .ref (A 0)), (1, .int (jI lo)), (2, .int (jI hi))] [] (js_up h (A 0) (js_ob true 2 [.ref (A 1), .ref (A 2), .ref (A 3), .ref (A 4), .int (jI isS), .ref (A 5), .int (jI pm), .int (jI th), .ref (A 6), .ref (A 7), .ref (A 8), .ref (A 9), .int (jI len), .int (jI p.1), .int (jI 1), .int (jI fa), .ref (A 10), .int (jI om), .ref (A 11), .int (jI lm)]))
        refine js_aload_n 0 dX3_sign_25 rfl ?_
        refine gX3_213 rfl dX3_sign_26 js_up_s rfl ?_
        refine js_if_eq (tgt := 34) dX3_sign_29 (by decide) (by omega) (fun c7 => ?_) (fun c7 => ?_)
        · exfalso; revert c7; decide
        · refine js_iconst dX3_sign_32 ?_
          exact js_iret rfl rfl dX3_sign_33 ⟨js_reti (by first | rfl | (congr 2; omega)), (zH_eq hA js_up_s ((js_up_n (js_nek p1 p0 js_kAO)).trans p1) ((js_up_n (js_nek p2 p0 js_kAO)).trans p2) ((js_up_n (js_nek p3 p0 js_kAO)).trans p3) ((js_up_n (js_nek p4 p0 js_kAO)).trans p4) ((js_up_n (js_nek p5 p0 js_kAO)).trans p5) ((js_up_n (js_nek p6 p0 js_kAO)).trans p6) ((js_up_n (js_nek p7 p0 js_kAO)).trans p7) ((js_up_n (js_nek p8 p0 js_kAO)).trans p8) ((js_up_n (js_nek p9 p0 js_kAO)).trans p9) ((js_up_n (js_nek p10 p0 js_kAO)).trans p10) ((js_up_n (js_nek p11 p0 js_kAO)).trans p11) (fun q hq => ((js_up_n (hq 0 (by decide))).trans rfl)))⟩
theorem com_digit {ρ : js_R} {h : js_H} {A : Nat → Nat} {f bef asd svd pas rf it wt tx od ln : Int → Int} {isS pm th len fa om lm : Int} {p : zP}  (hA : zA A) (hp : zMc A f bef asd svd pas rf it wt tx od ln isS pm th len p.1 p.2 fa om lm h) (hp0 : zpok len p) (hl : 0 ≤ len ∧ len ≤ 60) (ht : ∀ j : Int, 0 ≤ j → j < 60 → 0 ≤ tx j ∧ tx j < 128)  : js_Con ρ mX3_digit 3 0 0 [.ref (A 0)] h (js_ret (some (.int (jI (zsv tx len 48 57 p)))) (zH A f bef asd svd pas rf it wt tx od ln isS pm th len ((zsg tx len 48 57 p).1) ((zsg tx len 48 57 p).2) fa om lm h)) := by
  refine js_body [(0, .ref (A 0))] rfl (by decide) (Nat.le_of_ble_eq_true rfl) rfl ?_
  obtain ⟨p0, p1, p2, p3, p4, p5, p6, p7, p8, p9, p10, p11⟩ := hp
  have k1 := hp0.1
  have k2 := hp0.2
  refine js_aload_n 0 dX3_digit_0 rfl ?_
  refine js_bipush dX3_digit_1 rfl ?_
  refine js_bipush dX3_digit_3 rfl ?_
  refine eX3_233 rfl dX3_digit_5 p0 (com_sign hA ⟨p0, p1, p2, p3, p4, p5, p6, p7, p8, p9, p10, p11⟩ hp0 hl ht (by omega) (by omega) (by omega)) (Nat.le_of_ble_eq_true rfl) (Nat.le_of_ble_eq_true rfl) ?_
  rw [zH_fr (fun q hq => rfl)]
  obtain ⟨p1_0, p1_1, p1_2, p1_3, p1_4, p1_5, p1_6, p1_7, p1_8, p1_9, p1_10, p1_11⟩ := zH_Mc (h := h) (f := f) (bef := bef) (asd := asd) (svd := svd) (pas := pas) (rf := rf) (it := it) (wt := wt) (tx := tx) (od := od) (ln := ln) (isS := isS) (pm := pm) (th := th) (len := len) (at_ := (zsg tx len 48 57 p).1) (wr := (zsg tx len 48 57 p).2) (fa := fa) (om := om) (lm := lm) hA
  show js_ok ρ mX3_digit _ 3 0 0 8 [(0, .ref (A 0))] [.int (jI (zsv tx len 48 57 p))] (zH A f bef asd svd pas rf it wt tx od ln isS pm th len ((zsg tx len 48 57 p).1) ((zsg tx len 48 57 p).2) fa om lm h)
  have ok2 : zpok len (zsg tx len 48 57 p) := zsg_ok hp0
  have kk2 := ok2.1
  have km2 := ok2.2
  have kv2 := zsv_r (tx := tx) (len := len) (lo := 48) (hi := 57) (p := p) (by omega)
  exact js_iret rfl rfl dX3_digit_8 ⟨js_reti (by rfl), (zH_eq hA p1_0 p1_1 p1_2 p1_3 p1_4 p1_5 p1_6 p1_7 p1_8 p1_9 p1_10 p1_11 (fun q hq => (zH_n hq)))⟩
theorem com_number {ρ : js_R} {h : js_H} {A : Nat → Nat} {f bef asd svd pas rf it wt tx od ln : Int → Int} {isS pm th len fa om lm : Int} {p : zP}  (hA : zA A) (hp : zMc A f bef asd svd pas rf it wt tx od ln isS pm th len p.1 p.2 fa om lm h) (hp0 : zpok len p) (hl : 0 ≤ len ∧ len ≤ 60) (ht : ∀ j : Int, 0 ≤ j → j < 60 → 0 ≤ tx j ∧ tx j < 128)  : js_Con ρ mX3_number 4 0 0 [.ref (A 0)] h (js_ret (some (.int (jI (znv tx len p)))) (zH A f bef asd svd pas rf it wt tx od ln isS pm th len ((znp tx len p).1) ((znp tx len p).2) fa om lm h)) := by
  refine js_body [(0, .ref (A 0))] rfl (by decide) (Nat.le_of_ble_eq_true rfl) rfl ?_
  obtain ⟨p0, p1, p2, p3, p4, p5, p6, p7, p8, p9, p10, p11⟩ := hp
  have k1 := hp0.1
  have k2 := hp0.2
  by_cases hz : zis tx len 48 57 (zsg tx len 48 57 p)
  · have ez : znp tx len p = zsg tx len 48 57 (zsg tx len 48 57 p) := if_pos hz
    have ev : znv tx len p = 10 * zsv tx len 48 57 p + zsv tx len 48 57 (zsg tx len 48 57 p) := if_pos hz
    rw [ez, ev]
    refine js_aload_n 0 dX3_number_0 rfl ?_
    refine eX3_237 rfl dX3_number_1 p0 (com_digit hA ⟨p0, p1, p2, p3, p4, p5, p6, p7, p8, p9, p10, p11⟩ hp0 hl ht) (Nat.le_of_ble_eq_true rfl) (Nat.le_of_ble_eq_true rfl) ?_
    rw [zH_fr (fun q hq => rfl)]
    obtain ⟨p1_0, p1_1, p1_2, p1_3, p1_4, p1_5, p1_6, p1_7, p1_8, p1_9, p1_10, p1_11⟩ := zH_Mc (h := h) (f := f) (bef := bef) (asd := asd) (svd := svd) (pas := pas) (rf := rf) (it := it) (wt := wt) (tx := tx) (od := od) (ln := ln) (isS := isS) (pm := pm) (th := th) (len := len) (at_ := (zsg tx len 48 57 p).1) (wr := (zsg tx len 48 57 p).2) (fa := fa) (om := om) (lm := lm) hA
    show js_ok ρ mX3_number _ 4 0 0 4 [(0, .ref (A 0))] [.int (jI (zsv tx len 48 57 p))] (zH A f bef asd svd pas rf it wt tx od ln isS pm th len ((zsg tx len 48 57 p).1) ((zsg tx len 48 57 p).2) fa om lm h)
    have ok2 : zpok len (zsg tx len 48 57 p) := zsg_ok hp0
    have kk2 := ok2.1
    have km2 := ok2.2
    refine js_istore_n (L' := [(1, .int (jI (zsv tx len 48 57 p))), (0, .ref (A 0))]) dX3_number_4 (by decide) rfl ?_
    refine js_aload_n 1 dX3_number_5 rfl ?_
    refine js_bipush dX3_number_6 rfl ?_
    refine js_bipush dX3_number_8 rfl ?_
    refine eX3_220 rfl dX3_number_10 p1_0 (com_isHere hA ⟨p1_0, p1_1, p1_2, p1_3, p1_4, p1_5, p1_6, p1_7, p1_8, p1_9, p1_10, p1_11⟩ ok2 hl ht (by omega) (by omega)) (Nat.le_of_ble_eq_true rfl) (Nat.le_of_ble_eq_true rfl) ?_
    refine js_if_eqB (tgt := 28) dX3_number_13 (by decide) (fun c3 => ?_) (fun c3 => ?_)
    · exfalso; exact absurd hz c3
    · refine js_bipush dX3_number_16 rfl ?_
      refine js_iload_n 0 dX3_number_18 rfl ?_
      refine js_imul dX3_number_19 ?_
      refine js_aload_n 1 dX3_number_20 rfl ?_
      refine eX3_237 rfl dX3_number_21 p1_0 (com_digit hA ⟨p1_0, p1_1, p1_2, p1_3, p1_4, p1_5, p1_6, p1_7, p1_8, p1_9, p1_10, p1_11⟩ ok2 hl ht) (Nat.le_of_ble_eq_true rfl) (Nat.le_of_ble_eq_true rfl) ?_
      rw [zH_fr (fun q hq => (zH_n hq))]
      obtain ⟨p4_0, p4_1, p4_2, p4_3, p4_4, p4_5, p4_6, p4_7, p4_8, p4_9, p4_10, p4_11⟩ := zH_Mc (h := h) (f := f) (bef := bef) (asd := asd) (svd := svd) (pas := pas) (rf := rf) (it := it) (wt := wt) (tx := tx) (od := od) (ln := ln) (isS := isS) (pm := pm) (th := th) (len := len) (at_ := (zsg tx len 48 57 (zsg tx len 48 57 p)).1) (wr := (zsg tx len 48 57 (zsg tx len 48 57 p)).2) (fa := fa) (om := om) (lm := lm) hA
      show js_ok ρ mX3_number _ 4 0 0 24 [(1, .int (jI (zsv tx len 48 57 p))), (0, .ref (A 0))] [.int (jI (zsv tx len 48 57 (zsg tx len 48 57 p))), .int (jI (10 * (zsv tx len 48 57 p)))] (zH A f bef asd svd pas rf it wt tx od ln isS pm th len ((zsg tx len 48 57 (zsg tx len 48 57 p)).1) ((zsg tx len 48 57 (zsg tx len 48 57 p)).2) fa om lm h)
      have ok5 : zpok len (zsg tx len 48 57 (zsg tx len 48 57 p)) := zsg_ok ok2
      have kk5 := ok5.1
      have km5 := ok5.2
      refine js_iadd dX3_number_24 ?_
      refine js_goto (tgt := 29) dX3_number_25 (by decide) ?_
      exact js_iret rfl rfl dX3_number_29 ⟨js_reti (by rfl), (zH_eq hA p4_0 p4_1 p4_2 p4_3 p4_4 p4_5 p4_6 p4_7 p4_8 p4_9 p4_10 p4_11 (fun q hq => (zH_n hq)))⟩
  · have ez : znp tx len p = zsg tx len 48 57 p := if_neg hz
    have ev : znv tx len p = zsv tx len 48 57 p := if_neg hz
    rw [ez, ev]
    refine js_aload_n 0 dX3_number_0 rfl ?_
    refine eX3_237 rfl dX3_number_1 p0 (com_digit hA ⟨p0, p1, p2, p3, p4, p5, p6, p7, p8, p9, p10, p11⟩ hp0 hl ht) (Nat.le_of_ble_eq_true rfl) (Nat.le_of_ble_eq_true rfl) ?_
    rw [zH_fr (fun q hq => rfl)]
    obtain ⟨p6_0, p6_1, p6_2, p6_3, p6_4, p6_5, p6_6, p6_7, p6_8, p6_9, p6_10, p6_11⟩ := zH_Mc (h := h) (f := f) (bef := bef) (asd := asd) (svd := svd) (pas := pas) (rf := rf) (it := it) (wt := wt) (tx := tx) (od := od) (ln := ln) (isS := isS) (pm := pm) (th := th) (len := len) (at_ := (zsg tx len 48 57 p).1) (wr := (zsg tx len 48 57 p).2) (fa := fa) (om := om) (lm := lm) hA
    show js_ok ρ mX3_number _ 4 0 0 4 [(0, .ref (A 0))] [.int (jI (zsv tx len 48 57 p))] (zH A f bef asd svd pas rf it wt tx od ln isS pm th len ((zsg tx len 48 57 p).1) ((zsg tx len 48 57 p).2) fa om lm h)
    have ok7 : zpok len (zsg tx len 48 57 p) := zsg_ok hp0
    have kk7 := ok7.1
    have km7 := ok7.2
    refine js_istore_n (L' := [(1, .int (jI (zsv tx len 48 57 p))), (0, .ref (A 0))]) dX3_number_4 (by decide) rfl ?_
    refine js_aload_n 1 dX3_number_5 rfl ?_
    refine js_bipush dX3_number_6 rfl ?_
    refine js_bipush dX3_number_8 rfl ?_
    refine eX3_220 rfl dX3_number_10 p6_0 (com_isHere hA ⟨p6_0, p6_1, p6_2, p6_3, p6_4, p6_5, p6_6, p6_7, p6_8, p6_9, p6_10, p6_11⟩ ok7 hl ht (by omega) (by omega)) (Nat.le_of_ble_eq_true rfl) (Nat.le_of_ble_eq_true rfl) ?_
    refine js_if_eqB (tgt := 28) dX3_number_13 (by decide) (fun c8 => ?_) (fun c8 => ?_)
    · refine js_iload_n 0 dX3_number_28 rfl ?_
      exact js_iret rfl rfl dX3_number_29 ⟨js_reti (by rfl), (zH_eq hA p6_0 p6_1 p6_2 p6_3 p6_4 p6_5 p6_6 p6_7 p6_8 p6_9 p6_10 p6_11 (fun q hq => (zH_n hq)))⟩
    · exfalso; exact absurd c8 hz
theorem com_skip {ρ : js_R} {h : js_H} {A : Nat → Nat} {f bef asd svd pas rf it wt tx od ln : Int → Int} {isS pm th len fa om lm : Int} {p : zP} {a b : Nat} {x y : Value} {n : Nat} {g : Int → Int} {fm : Nat}  (hA : zA A) (hp : zMc A f bef asd svd pas rf it wt tx od ln isS pm th len p.1 p.2 fa om lm h) (hp0 : zpok len p) (hl : 0 ≤ len ∧ len ≤ 60) (ht : ∀ j : Int, 0 ≤ j → j < 60 → 0 ≤ tx j ∧ tx j < 128) (hK : zK ρ fm) (hc : zcs ρ a b x y n g) (hn : n < 1000) (hg : ∀ j : Int, 0 ≤ g j ∧ g j < 128)  : js_Con ρ mX3_skip 4 0 0 [.ref (A 0), .ref a] h (js_ret none (zH A f bef asd svd pas rf it wt tx od ln isS pm th len ((zskp tx len g p n).1) ((zskp tx len g p n).2) fa om lm h)) := by
  refine js_body [(0, .ref (A 0)), (1, .ref a)] rfl (by decide) (Nat.le_of_ble_eq_true rfl) rfl ?_
  obtain ⟨p0, p1, p2, p3, p4, p5, p6, p7, p8, p9, p10, p11⟩ := hp
  have k1 := hp0.1
  have k2 := hp0.2
  refine js_old (fun o1 => ?_)
  refine js_iconst dX3_skip_0 ?_
  refine js_istore_n (L' := [(2, .int (jI 0)), (0, .ref (A 0)), (1, .ref a)]) dX3_skip_1 (by decide) rfl ?_
  refine js_sub (L' := [(0, .ref (A 0)), (1, .ref a), (2, .int (jI 0))]) [1, 2, 0] rfl ?_
  refine js_heq (h' := (zH A f bef asd svd pas rf it wt tx od ln isS pm th len p.1 p.2 fa om lm h)) (zH_eq hA p0 p1 p2 p3 p4 p5 p6 p7 p8 p9 p10 p11 (fun q hq => rfl)).symm ?_
  refine js_loop (σ := Nat) (fun s => s ≤ n) (fun s => n - (s)) (fun s => 0) (fun s => 0) 2 (fun s => [(0, .ref (A 0)), (1, .ref a), (2, .int (jI (((s : Nat) : Int))))]) (fun s => []) (fun s => (zH A f bef asd svd pas rf it wt tx od ln isS pm th len ((zskp tx len g p s).1) ((zskp tx len g p s).2) fa om lm h)) (fun k hk IHs => ?_) 0 ((Nat.zero_le n))
  have hk : k ≤ n := hk
  obtain ⟨p3_0, p3_1, p3_2, p3_3, p3_4, p3_5, p3_6, p3_7, p3_8, p3_9, p3_10, p3_11⟩ := zH_Mc (h := h) (f := f) (bef := bef) (asd := asd) (svd := svd) (pas := pas) (rf := rf) (it := it) (wt := wt) (tx := tx) (od := od) (ln := ln) (isS := isS) (pm := pm) (th := th) (len := len) (at_ := (zskp tx len g p k).1) (wr := (zskp tx len g p k).2) (fa := fa) (om := om) (lm := lm) hA
  show js_ok ρ mX3_skip _ 4 0 0 2 [(0, .ref (A 0)), (1, .ref a), (2, .int (jI (((k : Nat) : Int))))] [] (zH A f bef asd svd pas rf it wt tx od ln isS pm th len ((zskp tx len g p k).1) ((zskp tx len g p k).2) fa om lm h)
  have ok4 : zpok len (zskp tx len g p k) := zskp_ok hp0 k
  have kk4 := ok4.1
  have km4 := ok4.2
  refine js_old (fun o5 => ?_)
  refine js_iload_n 2 dX3_skip_2 rfl ?_
  refine js_aload_n 1 dX3_skip_3 rfl ?_
  refine eX3_224 rfl dX3_skip_4 (o5 _ _ hc.1).2 (con_slen hK.1 (o5 _ _ hc.1).2 (o5 _ _ hc.2).2 (by omega)) (Nat.le_of_ble_eq_true rfl) (Nat.le_of_ble_eq_true rfl) ?_
  refine js_icmp_ge (tgt := 38) dX3_skip_7 (by decide) (by omega) (fun c6 => ?_) (fun c6 => ?_)
  · exact js_vret rfl dX3_skip_38 ⟨rfl, (by rw [show zskp tx len g p n = zskp tx len g p k from by first | (exact zskp_stop (by omega) n (by omega)) | (rw [show n = k by omega])])⟩
  · have hgk := hg (k : Int)
    refine js_aload_n 0 dX3_skip_10 rfl ?_
    refine gX3_213 rfl dX3_skip_11 p3_0 rfl ?_
    refine js_if_ne (tgt := 38) dX3_skip_14 (by decide) (by omega) (fun c7 => ?_) (fun c7 => ?_)
    · exact js_vret rfl dX3_skip_38 ⟨rfl, (by rw [show zskp tx len g p n = zskp tx len g p k from by first | (exact zskp_stop (by omega) n (by omega)) | (rw [show n = k by omega])])⟩
    · refine js_aload_n 0 dX3_skip_17 rfl ?_
      refine js_aload_n 1 dX3_skip_18 rfl ?_
      refine js_iload_n 2 dX3_skip_19 rfl ?_
      refine eX3_229 rfl dX3_skip_20 (o5 _ _ hc.1).2 (con_charAt hK.1 (o5 _ _ hc.1).2 (o5 _ _ hc.2).2 (by omega) hK.2.1 (by omega) (hg _)) (Nat.le_of_ble_eq_true rfl) (Nat.le_of_ble_eq_true rfl) ?_
      refine js_aload_n 1 dX3_skip_23 rfl ?_
      refine js_iload_n 2 dX3_skip_24 rfl ?_
      refine eX3_229 rfl dX3_skip_25 (o5 _ _ hc.1).2 (con_charAt hK.1 (o5 _ _ hc.1).2 (o5 _ _ hc.2).2 (by omega) hK.2.1 (by omega) (hg _)) (Nat.le_of_ble_eq_true rfl) (Nat.le_of_ble_eq_true rfl) ?_
      refine eX3_233 rfl dX3_skip_28 p3_0 (com_sign hA ⟨p3_0, p3_1, p3_2, p3_3, p3_4, p3_5, p3_6, p3_7, p3_8, p3_9, p3_10, p3_11⟩ ok4 hl ht (by omega) (by omega) (by omega)) (Nat.le_of_ble_eq_true rfl) (Nat.le_of_ble_eq_true rfl) ?_
      rw [zH_fr (fun q hq => (zH_n hq))]
      obtain ⟨p8_0, p8_1, p8_2, p8_3, p8_4, p8_5, p8_6, p8_7, p8_8, p8_9, p8_10, p8_11⟩ := zH_Mc (h := h) (f := f) (bef := bef) (asd := asd) (svd := svd) (pas := pas) (rf := rf) (it := it) (wt := wt) (tx := tx) (od := od) (ln := ln) (isS := isS) (pm := pm) (th := th) (len := len) (at_ := (zsg tx len (g (((k : Nat) : Int))) (g (((k : Nat) : Int))) (zskp tx len g p k)).1) (wr := (zsg tx len (g (((k : Nat) : Int))) (g (((k : Nat) : Int))) (zskp tx len g p k)).2) (fa := fa) (om := om) (lm := lm) hA
      show js_ok ρ mX3_skip _ 4 0 0 31 [(0, .ref (A 0)), (1, .ref a), (2, .int (jI (((k : Nat) : Int))))] [.int (jI (zsv tx len (g (((k : Nat) : Int))) (g (((k : Nat) : Int))) (zskp tx len g p k)))] (zH A f bef asd svd pas rf it wt tx od ln isS pm th len ((zsg tx len (g (((k : Nat) : Int))) (g (((k : Nat) : Int))) (zskp tx len g p k)).1) ((zsg tx len (g (((k : Nat) : Int))) (g (((k : Nat) : Int))) (zskp tx len g p k)).2) fa om lm h)
      have ok9 : zpok len (zsg tx len (g (((k : Nat) : Int))) (g (((k : Nat) : Int))) (zskp tx len g p k)) := zsg_ok ok4
      have kk9 := ok9.1
      have km9 := ok9.2
      have kv9 := zsv_r (tx := tx) (len := len) (lo := (g (((k : Nat) : Int)))) (hi := (g (((k : Nat) : Int)))) (p := zskp tx len g p k) (by omega)
      refine js_old (fun o10 => ?_)
      refine js_istore_n (L' := [(3, .int (jI (zsv tx len (g (((k : Nat) : Int))) (g (((k : Nat) : Int))) (zskp tx len g p k)))), (0, .ref (A 0)), (1, .ref a), (2, .int (jI (((k : Nat) : Int))))]) dX3_skip_31 (by decide) rfl ?_
      refine js_iinc (L' := [(2, .int (jI ((((k : Nat) : Int)) + 1))), (3, .int (jI (zsv tx len (g (((k : Nat) : Int))) (g (((k : Nat) : Int))) (zskp tx len g p k)))), (0, .ref (A 0)), (1, .ref a)]) 3 dX3_skip_32 rfl (by decide) rfl ?_
      refine js_goto (tgt := 2) dX3_skip_35 (by decide) ?_
      have e1 : zskp tx len g p (k + 1) = zsg tx len (g (k : Int)) (g (k : Int)) (zskp tx len g p k) := if_pos (by omega)
      refine js_heq (h' := (zH A f bef asd svd pas rf it wt tx od ln isS pm th len ((zskp tx len g p (k + 1)).1) ((zskp tx len g p (k + 1)).2) fa om lm h)) (by rw [e1]) ?_
      obtain ⟨p11_0, p11_1, p11_2, p11_3, p11_4, p11_5, p11_6, p11_7, p11_8, p11_9, p11_10, p11_11⟩ := zH_Mc (h := h) (f := f) (bef := bef) (asd := asd) (svd := svd) (pas := pas) (rf := rf) (it := it) (wt := wt) (tx := tx) (od := od) (ln := ln) (isS := isS) (pm := pm) (th := th) (len := len) (at_ := (zskp tx len g p (k + 1)).1) (wr := (zskp tx len g p (k + 1)).2) (fa := fa) (om := om) (lm := lm) hA
      show js_ok ρ mX3_skip _ 4 0 0 2 [(2, .int (jI ((((k : Nat) : Int)) + 1))), (3, .int (jI (zsv tx len (g (((k : Nat) : Int))) (g (((k : Nat) : Int))) (zskp tx len g p k)))), (0, .ref (A 0)), (1, .ref a)] [] (zH A f bef asd svd pas rf it wt tx od ln isS pm th len ((zskp tx len g p (k + 1)).1) ((zskp tx len g p (k + 1)).2) fa om lm h)
      refine js_sub (L' := [(0, .ref (A 0)), (1, .ref a), (2, .int (jI ((((k : Nat) : Int)) + 1)))]) [2, 3, 0] rfl ?_
      refine js_heq (h' := (zH A f bef asd svd pas rf it wt tx od ln isS pm th len ((zskp tx len g p (k + 1)).1) ((zskp tx len g p (k + 1)).2) fa om lm h)) (zH_eq hA p11_0 p11_1 p11_2 p11_3 p11_4 p11_5 p11_6 p11_7 p11_8 p11_9 p11_10 p11_11 (fun q hq => (zH_n hq))).symm ?_
      exact IHs (k + 1) (show k + 1 ≤ n from (by omega)) (show n - (k + 1) < n - (k) by omega)
