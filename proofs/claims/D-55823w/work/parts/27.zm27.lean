set_option maxRecDepth 100000
/-! BalloonSpiresModel: orders are read -/
theorem com_side {ρ : js_R} {h : js_H} {A : Nat → Nat} {f bef asd svd pas rf it wt tx od ln : Int → Int} {isS pm th len fa om lm : Int} {p : zP} {a b : Nat} {x y : Value} {n : Nat} {g : Int → Int} {fm : Nat}  (hA : zA A) (hp : zMc A f bef asd svd pas rf it wt tx od ln isS pm th len p.1 p.2 fa om lm h) (hp0 : zpok len p) (hl : 0 ≤ len ∧ len ≤ 60) (ht : ∀ j : Int, 0 ≤ j → j < 60 → 0 ≤ tx j ∧ tx j < 128) (hK : zK ρ fm) (hc : zcs ρ a b x y n g) (hn : n < 1000) (hg : ∀ j : Int, 0 ≤ g j ∧ g j < 128)  : js_Con ρ mX3_side 4 0 0 [.ref (A 0), .ref a] h (js_ret (some (.int (jI (zsdv tx len g n p)))) (zH A f bef asd svd pas rf it wt tx od ln isS pm th len ((zsdp tx len g n p).1) ((zsdp tx len g n p).2) fa om lm h)) := by
  refine js_body [(0, .ref (A 0)), (1, .ref a)] rfl (by decide) (Nat.le_of_ble_eq_true rfl) rfl ?_
  obtain ⟨p0, p1, p2, p3, p4, p5, p6, p7, p8, p9, p10, p11⟩ := hp
  have k1 := hp0.1
  have k2 := hp0.2
  have hga : zasc n g := fun j _ _ => hg j
  have hzr := zidx_r g (tx p.1) n 0
  have hsr : -1 ≤ zsdv tx len g n p ∧ zsdv tx len g n p < 1000 := by unfold zsdv; split <;> omega
  by_cases hz : p.2 = 0 ∧ 0 ≤ zsdv tx len g n p
  · have ez : zsdp tx len g n p = (p.1 + 1, 0) := if_pos hz
    rw [ez]
    refine js_join 28 [(0, .ref (A 0)), (1, .ref a)] [] h (zsdv tx len g n p) (fun z hz => ?_) (fun J1 => ?_)
    · subst hz
      refine js_old (fun o2 => ?_)
      refine js_istore_n (L' := [(2, .int (jI (zsdv tx len g n p))), (0, .ref (A 0)), (1, .ref a)]) dX3_side_28 (by decide) rfl ?_
      refine js_aload_n 1 dX3_side_29 rfl ?_
      refine js_aload_n 1 dX3_side_30 rfl ?_
      refine gX3_213 rfl dX3_side_31 p0 rfl ?_
      refine js_if_ne (tgt := 41) dX3_side_34 (by decide) (by omega) (fun c3 => ?_) (fun c3 => ?_)
      · exfalso; omega
      · refine js_iload_n 0 dX3_side_37 rfl ?_
        refine js_if_ge (tgt := 45) dX3_side_38 (by decide) (by omega) (fun c4 => ?_) (fun c4 => ?_)
        · refine js_iconst dX3_side_45 ?_
          refine pX3_213 rfl dX3_side_46 p0 (Nat.le_of_ble_eq_true rfl) (js_nar_boolean (by omega)) (js_fit_boolean (by omega)) ?_
          show js_ok ρ mX3_side _ 4 0 0 49 [(2, .int (jI (zsdv tx len g n p))), (0, .ref (A 0)), (1, .ref a)] [] (js_up h (A 0) (js_ob true 2 [.ref (A 1), .ref (A 2), .ref (A 3), .ref (A 4), .int (jI isS), .ref (A 5), .int (jI pm), .int (jI th), .ref (A 6), .ref (A 7), .ref (A 8), .ref (A 9), .int (jI len), .int (jI p.1), .int (jI 0), .int (jI fa), .ref (A 10), .int (jI om), .ref (A 11), .int (jI lm)]))
          refine js_aload_n 1 dX3_side_49 rfl ?_
          refine js_dup dX3_side_50 rfl ?_
          refine gX3_217 rfl dX3_side_51 js_up_s rfl ?_
          refine js_aload_n 1 dX3_side_54 rfl ?_
          refine gX3_213 rfl dX3_side_55 js_up_s rfl ?_
          refine js_if_eq (tgt := 65) dX3_side_58 (by decide) (by omega) (fun c5 => ?_) (fun c5 => ?_)
          · refine js_iconst dX3_side_65 ?_
            refine js_iadd dX3_side_66 ?_
            refine pX3_217 rfl dX3_side_67 js_up_s (Nat.le_of_ble_eq_true rfl) rfl rfl ?_
            rw [js_up_up]
            show js_ok ρ mX3_side _ 4 0 0 70 [(2, .int (jI (zsdv tx len g n p))), (0, .ref (A 0)), (1, .ref a)] [] (js_up h (A 0) (js_ob true 2 [.ref (A 1), .ref (A 2), .ref (A 3), .ref (A 4), .int (jI isS), .ref (A 5), .int (jI pm), .int (jI th), .ref (A 6), .ref (A 7), .ref (A 8), .ref (A 9), .int (jI len), .int (jI (p.1 + 1)), .int (jI 0), .int (jI fa), .ref (A 10), .int (jI om), .ref (A 11), .int (jI lm)]))
            refine js_iload_n 0 dX3_side_70 rfl ?_
            exact js_iret rfl rfl dX3_side_71 ⟨js_reti (by rfl), (zH_eq hA js_up_s ((js_up_n (Ne.symm (js_nek p0 p1 js_kOA))).trans p1) ((js_up_n (Ne.symm (js_nek p0 p2 js_kOA))).trans p2) ((js_up_n (Ne.symm (js_nek p0 p3 js_kOA))).trans p3) ((js_up_n (Ne.symm (js_nek p0 p4 js_kOA))).trans p4) ((js_up_n (Ne.symm (js_nek p0 p5 js_kOA))).trans p5) ((js_up_n (Ne.symm (js_nek p0 p6 js_kOA))).trans p6) ((js_up_n (Ne.symm (js_nek p0 p7 js_kOA))).trans p7) ((js_up_n (Ne.symm (js_nek p0 p8 js_kOA))).trans p8) ((js_up_n (Ne.symm (js_nek p0 p9 js_kOA))).trans p9) ((js_up_n (Ne.symm (js_nek p0 p10 js_kOA))).trans p10) ((js_up_n (Ne.symm (js_nek p0 p11 js_kOA))).trans p11) (fun q hq => ((js_up_n (hq 0 (by decide))).trans rfl)))⟩
          · exfalso; revert c5; decide
        · exfalso; omega
    · refine js_old (fun o6 => ?_)
      refine js_aload_n 0 dX3_side_0 rfl ?_
      refine gX3_217 rfl dX3_side_1 p0 rfl ?_
      refine js_aload_n 0 dX3_side_4 rfl ?_
      refine gX3_210 rfl dX3_side_5 p0 rfl ?_
      refine js_icmp_ge (tgt := 27) dX3_side_8 (by decide) (by omega) (fun c7 => ?_) (fun c7 => ?_)
      · refine js_iconst dX3_side_27 ?_
        exact J1 _ (by unfold zsdv; split <;> omega)
      · have ht1 := ht p.1 (by omega) (by omega)
        refine js_aload_n 1 dX3_side_11 rfl ?_
        refine js_aload_n 0 dX3_side_12 rfl ?_
        refine gX3_35 rfl dX3_side_13 p0 rfl ?_
        refine js_aload_n 0 dX3_side_16 rfl ?_
        refine gX3_217 rfl dX3_side_17 p0 rfl ?_
        refine js_caload dX3_side_20 p9 (by omega) ?_
        refine eX3_240 rfl dX3_side_21 (o6 _ _ hc.1).2 (con_indexOf hK.1 (o6 _ _ hc.1).2 (o6 _ _ hc.2).2 (by omega) hga (by omega)) (Nat.le_of_ble_eq_true rfl) (Nat.le_of_ble_eq_true rfl) ?_
        refine js_goto (tgt := 28) dX3_side_24 (by decide) ?_
        exact J1 _ (by unfold zsdv; split <;> omega)
  · have ez : zsdp tx len g n p = (p.1 + 0, 1) := (if_neg hz).trans (by rw [Int.add_zero])
    rw [ez]
    refine js_join 28 [(0, .ref (A 0)), (1, .ref a)] [] h (zsdv tx len g n p) (fun z hz => ?_) (fun J8 => ?_)
    · subst hz
      refine js_old (fun o9 => ?_)
      refine js_istore_n (L' := [(2, .int (jI (zsdv tx len g n p))), (0, .ref (A 0)), (1, .ref a)]) dX3_side_28 (by decide) rfl ?_
      refine js_aload_n 1 dX3_side_29 rfl ?_
      refine js_aload_n 1 dX3_side_30 rfl ?_
      refine gX3_213 rfl dX3_side_31 p0 rfl ?_
      refine js_if_ne (tgt := 41) dX3_side_34 (by decide) (by omega) (fun c10 => ?_) (fun c10 => ?_)
      · refine js_iconst dX3_side_41 ?_
        refine js_goto (tgt := 46) dX3_side_42 (by decide) ?_
        refine pX3_213 rfl dX3_side_46 p0 (Nat.le_of_ble_eq_true rfl) (js_nar_boolean (by omega)) (js_fit_boolean (by omega)) ?_
        show js_ok ρ mX3_side _ 4 0 0 49 [(2, .int (jI (zsdv tx len g n p))), (0, .ref (A 0)), (1, .ref a)] [] (js_up h (A 0) (js_ob true 2 [.ref (A 1), .ref (A 2), .ref (A 3), .ref (A 4), .int (jI isS), .ref (A 5), .int (jI pm), .int (jI th), .ref (A 6), .ref (A 7), .ref (A 8), .ref (A 9), .int (jI len), .int (jI p.1), .int (jI 1), .int (jI fa), .ref (A 10), .int (jI om), .ref (A 11), .int (jI lm)]))
        refine js_aload_n 1 dX3_side_49 rfl ?_
        refine js_dup dX3_side_50 rfl ?_
        refine gX3_217 rfl dX3_side_51 js_up_s rfl ?_
        refine js_aload_n 1 dX3_side_54 rfl ?_
        refine gX3_213 rfl dX3_side_55 js_up_s rfl ?_
        refine js_if_eq (tgt := 65) dX3_side_58 (by decide) (by omega) (fun c11 => ?_) (fun c11 => ?_)
        · exfalso; revert c11; decide
        · refine js_iconst dX3_side_61 ?_
          refine js_goto (tgt := 66) dX3_side_62 (by decide) ?_
          refine js_iadd dX3_side_66 ?_
          refine pX3_217 rfl dX3_side_67 js_up_s (Nat.le_of_ble_eq_true rfl) rfl rfl ?_
          rw [js_up_up]
          show js_ok ρ mX3_side _ 4 0 0 70 [(2, .int (jI (zsdv tx len g n p))), (0, .ref (A 0)), (1, .ref a)] [] (js_up h (A 0) (js_ob true 2 [.ref (A 1), .ref (A 2), .ref (A 3), .ref (A 4), .int (jI isS), .ref (A 5), .int (jI pm), .int (jI th), .ref (A 6), .ref (A 7), .ref (A 8), .ref (A 9), .int (jI len), .int (jI (p.1 + 0)), .int (jI 1), .int (jI fa), .ref (A 10), .int (jI om), .ref (A 11), .int (jI lm)]))
          refine js_iload_n 0 dX3_side_70 rfl ?_
          exact js_iret rfl rfl dX3_side_71 ⟨js_reti (by rfl), (zH_eq hA js_up_s ((js_up_n (Ne.symm (js_nek p0 p1 js_kOA))).trans p1) ((js_up_n (Ne.symm (js_nek p0 p2 js_kOA))).trans p2) ((js_up_n (Ne.symm (js_nek p0 p3 js_kOA))).trans p3) ((js_up_n (Ne.symm (js_nek p0 p4 js_kOA))).trans p4) ((js_up_n (Ne.symm (js_nek p0 p5 js_kOA))).trans p5) ((js_up_n (Ne.symm (js_nek p0 p6 js_kOA))).trans p6) ((js_up_n (Ne.symm (js_nek p0 p7 js_kOA))).trans p7) ((js_up_n (Ne.symm (js_nek p0 p8 js_kOA))).trans p8) ((js_up_n (Ne.symm (js_nek p0 p9 js_kOA))).trans p9) ((js_up_n (Ne.symm (js_nek p0 p10 js_kOA))).trans p10) ((js_up_n (Ne.symm (js_nek p0 p11 js_kOA))).trans p11) (fun q hq => ((js_up_n (hq 0 (by decide))).trans rfl)))⟩
      · refine js_iload_n 0 dX3_side_37 rfl ?_
        refine js_if_ge (tgt := 45) dX3_side_38 (by decide) (by omega) (fun c12 => ?_) (fun c12 => ?_)
        · exfalso; omega
        · refine js_iconst dX3_side_41 ?_
          refine js_goto (tgt := 46) dX3_side_42 (by decide) ?_
          refine pX3_213 rfl dX3_side_46 p0 (Nat.le_of_ble_eq_true rfl) (js_nar_boolean (by omega)) (js_fit_boolean (by omega)) ?_
          show js_ok ρ mX3_side _ 4 0 0 49 [(2, .int (jI (zsdv tx len g n p))), (0, .ref (A 0)), (1, .ref a)] [] (js_up h (A 0) (js_ob true 2 [.ref (A 1), .ref (A 2), .ref (A 3), .ref (A 4), .int (jI isS), .ref (A 5), .int (jI pm), .int (jI th), .ref (A 6), .ref (A 7), .ref (A 8), .ref (A 9), .int (jI len), .int (jI p.1), .int (jI 1), .int (jI fa), .ref (A 10), .int (jI om), .ref (A 11), .int (jI lm)]))
          refine js_aload_n 1 dX3_side_49 rfl ?_
          refine js_dup dX3_side_50 rfl ?_
          refine gX3_217 rfl dX3_side_51 js_up_s rfl ?_
          refine js_aload_n 1 dX3_side_54 rfl ?_
          refine gX3_213 rfl dX3_side_55 js_up_s rfl ?_
          refine js_if_eq (tgt := 65) dX3_side_58 (by decide) (by omega) (fun c13 => ?_) (fun c13 => ?_)
          · exfalso; revert c13; decide
          · refine js_iconst dX3_side_61 ?_
            refine js_goto (tgt := 66) dX3_side_62 (by decide) ?_
            refine js_iadd dX3_side_66 ?_
            refine pX3_217 rfl dX3_side_67 js_up_s (Nat.le_of_ble_eq_true rfl) rfl rfl ?_
            rw [js_up_up]
            show js_ok ρ mX3_side _ 4 0 0 70 [(2, .int (jI (zsdv tx len g n p))), (0, .ref (A 0)), (1, .ref a)] [] (js_up h (A 0) (js_ob true 2 [.ref (A 1), .ref (A 2), .ref (A 3), .ref (A 4), .int (jI isS), .ref (A 5), .int (jI pm), .int (jI th), .ref (A 6), .ref (A 7), .ref (A 8), .ref (A 9), .int (jI len), .int (jI (p.1 + 0)), .int (jI 1), .int (jI fa), .ref (A 10), .int (jI om), .ref (A 11), .int (jI lm)]))
            refine js_iload_n 0 dX3_side_70 rfl ?_
            exact js_iret rfl rfl dX3_side_71 ⟨js_reti (by rfl), (zH_eq hA js_up_s ((js_up_n (Ne.symm (js_nek p0 p1 js_kOA))).trans p1) ((js_up_n (Ne.symm (js_nek p0 p2 js_kOA))).trans p2) ((js_up_n (Ne.symm (js_nek p0 p3 js_kOA))).trans p3) ((js_up_n (Ne.symm (js_nek p0 p4 js_kOA))).trans p4) ((js_up_n (Ne.symm (js_nek p0 p5 js_kOA))).trans p5) ((js_up_n (Ne.symm (js_nek p0 p6 js_kOA))).trans p6) ((js_up_n (Ne.symm (js_nek p0 p7 js_kOA))).trans p7) ((js_up_n (Ne.symm (js_nek p0 p8 js_kOA))).trans p8) ((js_up_n (Ne.symm (js_nek p0 p9 js_kOA))).trans p9) ((js_up_n (Ne.symm (js_nek p0 p10 js_kOA))).trans p10) ((js_up_n (Ne.symm (js_nek p0 p11 js_kOA))).trans p11) (fun q hq => ((js_up_n (hq 0 (by decide))).trans rfl)))⟩
    · refine js_old (fun o14 => ?_)
      refine js_aload_n 0 dX3_side_0 rfl ?_
      refine gX3_217 rfl dX3_side_1 p0 rfl ?_
      refine js_aload_n 0 dX3_side_4 rfl ?_
      refine gX3_210 rfl dX3_side_5 p0 rfl ?_
      refine js_icmp_ge (tgt := 27) dX3_side_8 (by decide) (by omega) (fun c15 => ?_) (fun c15 => ?_)
      · refine js_iconst dX3_side_27 ?_
        exact J8 _ (by unfold zsdv; split <;> omega)
      · have ht1 := ht p.1 (by omega) (by omega)
        refine js_aload_n 1 dX3_side_11 rfl ?_
        refine js_aload_n 0 dX3_side_12 rfl ?_
        refine gX3_35 rfl dX3_side_13 p0 rfl ?_
        refine js_aload_n 0 dX3_side_16 rfl ?_
        refine gX3_217 rfl dX3_side_17 p0 rfl ?_
        refine js_caload dX3_side_20 p9 (by omega) ?_
        refine eX3_240 rfl dX3_side_21 (o14 _ _ hc.1).2 (con_indexOf hK.1 (o14 _ _ hc.1).2 (o14 _ _ hc.2).2 (by omega) hga (by omega)) (Nat.le_of_ble_eq_true rfl) (Nat.le_of_ble_eq_true rfl) ?_
        refine js_goto (tgt := 28) dX3_side_24 (by decide) ?_
        exact J8 _ (by unfold zsdv; split <;> omega)
theorem com_point {ρ : js_R} {h : js_H} {A : Nat → Nat} {f bef asd svd pas rf it wt tx od ln : Int → Int} {isS pm th len fa om lm : Int} {p : zP} {to : Int} {fm : Nat}  (hA : zA A) (hp : zMc A f bef asd svd pas rf it wt tx od ln isS pm th len p.1 p.2 fa om lm h) (hp0 : zpok len p) (hl : 0 ≤ len ∧ len ≤ 60) (ht : ∀ j : Int, 0 ≤ j → j < 60 → 0 ≤ tx j ∧ tx j < 128) (hK : zK ρ fm) (hto : 0 ≤ to ∧ to + 5 ≤ 300)  : js_Con ρ mX3_point 5 0 0 [.ref (A 0), .int (jI to)] h (js_ret none (zH A f bef asd svd pas rf it wt tx (zpto tx len p od to) ln isS pm th len ((zptp tx len p).1) ((zptp tx len p).2) fa om lm h)) := by
  refine js_body [(0, .ref (A 0)), (1, .int (jI to))] rfl (by decide) (Nat.le_of_ble_eq_true rfl) rfl ?_
  obtain ⟨p0, p1, p2, p3, p4, p5, p6, p7, p8, p9, p10, p11⟩ := hp
  have k1 := hp0.1
  have k2 := hp0.2
  refine js_aload_n 0 dX3_point_0 rfl ?_
  refine gX3_43 rfl dX3_point_1 p0 rfl ?_
  refine js_iload_n 1 dX3_point_4 rfl ?_
  refine js_iconst dX3_point_5 ?_
  refine js_iadd dX3_point_6 ?_
  refine js_aload_n 0 dX3_point_7 rfl ?_
  refine eX3_237 rfl dX3_point_8 p0 (com_digit hA ⟨p0, p1, p2, p3, p4, p5, p6, p7, p8, p9, p10, p11⟩ hp0 hl ht) (Nat.le_of_ble_eq_true rfl) (Nat.le_of_ble_eq_true rfl) ?_
  rw [zH_fr (fun q hq => rfl)]
  obtain ⟨p1_0, p1_1, p1_2, p1_3, p1_4, p1_5, p1_6, p1_7, p1_8, p1_9, p1_10, p1_11⟩ := zH_Mc (h := h) (f := f) (bef := bef) (asd := asd) (svd := svd) (pas := pas) (rf := rf) (it := it) (wt := wt) (tx := tx) (od := od) (ln := ln) (isS := isS) (pm := pm) (th := th) (len := len) (at_ := (zdp tx len p).1) (wr := (zdp tx len p).2) (fa := fa) (om := om) (lm := lm) hA
  show js_ok ρ mX3_point _ 5 0 0 11 [(0, .ref (A 0)), (1, .int (jI to))] [.int (jI (zdv tx len p)), .int (jI (to + 1)), .ref (A 10)] (zH A f bef asd svd pas rf it wt tx od ln isS pm th len ((zdp tx len p).1) ((zdp tx len p).2) fa om lm h)
  have ok2 : zpok len (zdp tx len p) := zdp_ok hp0
  have kk2 := ok2.1
  have km2 := ok2.2
  show js_ok ρ mX3_point _ 5 0 0 11 [(0, .ref (A 0)), (1, .int (jI to))] [.int (jI (zdv tx len p)), .int (jI (to + 1)), .ref (A 10)] (zH A f bef asd svd pas rf it wt tx od ln isS pm th len ((zdp tx len p).1) ((zdp tx len p).2) fa om lm h)
  refine js_iastore dX3_point_11 p1_10 (by omega) ?_
  show js_ok ρ mX3_point _ 5 0 0 12 [(0, .ref (A 0)), (1, .int (jI to))] [] (js_up (zH A f bef asd svd pas rf it wt tx od ln isS pm th len ((zdp tx len p).1) ((zdp tx len p).2) fa om lm h) (A 10) (js_aI true 0 300 (js_uz od (to + 1) (zdv tx len p))))
  refine js_aload_n 0 dX3_point_12 rfl ?_
  refine gX3_43 rfl dX3_point_13 ((js_up_n (js_nek p1_0 p1_10 js_kOA)).trans p1_0) rfl ?_
  refine js_iload_n 1 dX3_point_16 rfl ?_
  refine js_iconst dX3_point_17 ?_
  refine js_iadd dX3_point_18 ?_
  refine js_aload_n 0 dX3_point_19 rfl ?_
  refine eX3_237 rfl dX3_point_20 ((js_up_n (js_nek p1_0 p1_10 js_kOA)).trans p1_0) (com_digit hA ⟨((js_up_n (js_nek p1_0 p1_10 js_kOA)).trans p1_0), ((js_up_n (hA 1 10 (by decide) (by decide) (by decide))).trans p1_1), ((js_up_n (hA 2 10 (by decide) (by decide) (by decide))).trans p1_2), ((js_up_n (hA 3 10 (by decide) (by decide) (by decide))).trans p1_3), ((js_up_n (hA 4 10 (by decide) (by decide) (by decide))).trans p1_4), ((js_up_n (hA 5 10 (by decide) (by decide) (by decide))).trans p1_5), ((js_up_n (hA 6 10 (by decide) (by decide) (by decide))).trans p1_6), ((js_up_n (hA 7 10 (by decide) (by decide) (by decide))).trans p1_7), ((js_up_n (hA 8 10 (by decide) (by decide) (by decide))).trans p1_8), ((js_up_n (hA 9 10 (by decide) (by decide) (by decide))).trans p1_9), js_up_s, ((js_up_n (Ne.symm (hA 10 11 (by decide) (by decide) (by decide)))).trans p1_11)⟩ ok2 hl ht) (Nat.le_of_ble_eq_true rfl) (Nat.le_of_ble_eq_true rfl) ?_
  rw [zH_fr (fun q hq => ((js_up_n (hq 10 (by decide))).trans (zH_n hq)))]
  obtain ⟨p3_0, p3_1, p3_2, p3_3, p3_4, p3_5, p3_6, p3_7, p3_8, p3_9, p3_10, p3_11⟩ := zH_Mc (h := h) (f := f) (bef := bef) (asd := asd) (svd := svd) (pas := pas) (rf := rf) (it := it) (wt := wt) (tx := tx) (od := js_uz od (to + 1) (zdv tx len p)) (ln := ln) (isS := isS) (pm := pm) (th := th) (len := len) (at_ := (zdp tx len (zdp tx len p)).1) (wr := (zdp tx len (zdp tx len p)).2) (fa := fa) (om := om) (lm := lm) hA
  show js_ok ρ mX3_point _ 5 0 0 23 [(0, .ref (A 0)), (1, .int (jI to))] [.int (jI (zdv tx len (zdp tx len p))), .int (jI (to + 2)), .ref (A 10)] (zH A f bef asd svd pas rf it wt tx (js_uz od (to + 1) (zdv tx len p)) ln isS pm th len ((zdp tx len (zdp tx len p)).1) ((zdp tx len (zdp tx len p)).2) fa om lm h)
  have ok4 : zpok len (zdp tx len (zdp tx len p)) := zdp_ok ok2
  have kk4 := ok4.1
  have km4 := ok4.2
  show js_ok ρ mX3_point _ 5 0 0 23 [(0, .ref (A 0)), (1, .int (jI to))] [.int (jI (zdv tx len (zdp tx len p))), .int (jI (to + 2)), .ref (A 10)] (zH A f bef asd svd pas rf it wt tx (js_uz od (to + 1) (zdv tx len p)) ln isS pm th len ((zdp tx len (zdp tx len p)).1) ((zdp tx len (zdp tx len p)).2) fa om lm h)
  refine js_iastore dX3_point_23 p3_10 (by omega) ?_
  show js_ok ρ mX3_point _ 5 0 0 24 [(0, .ref (A 0)), (1, .int (jI to))] [] (js_up (zH A f bef asd svd pas rf it wt tx (js_uz od (to + 1) (zdv tx len p)) ln isS pm th len ((zdp tx len (zdp tx len p)).1) ((zdp tx len (zdp tx len p)).2) fa om lm h) (A 10) (js_aI true 0 300 (js_uz (js_uz od (to + 1) (zdv tx len p)) (to + 2) (zdv tx len (zdp tx len p)))))
  refine js_aload_n 0 dX3_point_24 rfl ?_
  obtain ⟨ka19, kb19, kx19, ky19, kv19, kh19, ki19⟩ := hK.2.2 19 " " rfl
  refine js_ldcS 19 rfl kv19 dX3_point_25 ?_
  refine js_old (fun o5 => ?_)
  refine eX3_247 rfl dX3_point_27 ((js_up_n (js_nek p3_0 p3_10 js_kOA)).trans p3_0) (com_skip hA ⟨((js_up_n (js_nek p3_0 p3_10 js_kOA)).trans p3_0), ((js_up_n (hA 1 10 (by decide) (by decide) (by decide))).trans p3_1), ((js_up_n (hA 2 10 (by decide) (by decide) (by decide))).trans p3_2), ((js_up_n (hA 3 10 (by decide) (by decide) (by decide))).trans p3_3), ((js_up_n (hA 4 10 (by decide) (by decide) (by decide))).trans p3_4), ((js_up_n (hA 5 10 (by decide) (by decide) (by decide))).trans p3_5), ((js_up_n (hA 6 10 (by decide) (by decide) (by decide))).trans p3_6), ((js_up_n (hA 7 10 (by decide) (by decide) (by decide))).trans p3_7), ((js_up_n (hA 8 10 (by decide) (by decide) (by decide))).trans p3_8), ((js_up_n (hA 9 10 (by decide) (by decide) (by decide))).trans p3_9), js_up_s, ((js_up_n (Ne.symm (hA 10 11 (by decide) (by decide) (by decide)))).trans p3_11)⟩ ok4 hl ht hK ⟨kh19, ki19⟩ (by decide) (zcl_r _ (by decide))) (Nat.le_of_ble_eq_true rfl) (Nat.le_of_ble_eq_true rfl) ?_
  rw [zH_fr (fun q hq => ((js_up_n (hq 10 (by decide))).trans (zH_n hq)))]
  obtain ⟨p6_0, p6_1, p6_2, p6_3, p6_4, p6_5, p6_6, p6_7, p6_8, p6_9, p6_10, p6_11⟩ := zH_Mc (h := h) (f := f) (bef := bef) (asd := asd) (svd := svd) (pas := pas) (rf := rf) (it := it) (wt := wt) (tx := tx) (od := js_uz (js_uz od (to + 1) (zdv tx len p)) (to + 2) (zdv tx len (zdp tx len p))) (ln := ln) (isS := isS) (pm := pm) (th := th) (len := len) (at_ := (zsk tx len " " (zdp tx len (zdp tx len p))).1) (wr := (zsk tx len " " (zdp tx len (zdp tx len p))).2) (fa := fa) (om := om) (lm := lm) hA
  show js_ok ρ mX3_point _ 5 0 0 30 [(0, .ref (A 0)), (1, .int (jI to))] [] (zH A f bef asd svd pas rf it wt tx (js_uz (js_uz od (to + 1) (zdv tx len p)) (to + 2) (zdv tx len (zdp tx len p))) ln isS pm th len ((zsk tx len " " (zdp tx len (zdp tx len p))).1) ((zsk tx len " " (zdp tx len (zdp tx len p))).2) fa om lm h)
  have ok7 : zpok len (zsk tx len " " (zdp tx len (zdp tx len p))) := zsk_ok ok4
  have kk7 := ok7.1
  have km7 := ok7.2
  refine js_old (fun o8 => ?_)
  exact js_vret rfl dX3_point_30 ⟨rfl, (zH_eq hA p6_0 p6_1 p6_2 p6_3 p6_4 p6_5 p6_6 p6_7 p6_8 p6_9 p6_10 p6_11 (fun q hq => (zH_n hq)))⟩
theorem com_digits1 {ρ : js_R} {h : js_H} {A : Nat → Nat} {f bef asd svd pas rf it wt tx od ln : Int → Int} {isS pm th len fa om lm : Int} {p : zP} {to : Int} {fm : Nat}  (hA : zA A) (hp : zMc A f bef asd svd pas rf it wt tx od ln isS pm th len p.1 p.2 fa om lm h) (hp0 : zpok len p) (hl : 0 ≤ len ∧ len ≤ 60) (ht : ∀ j : Int, 0 ≤ j → j < 60 → 0 ≤ tx j ∧ tx j < 128) (hK : zK ρ fm) (hto : 0 ≤ to ∧ to + 5 ≤ 300)  : js_Con ρ mX3_digits 5 0 0 [.ref (A 0), .int (jI to), .int (jI 1)] h (js_ret none (zH A f bef asd svd pas rf it wt tx (zdgo tx len p od to 1) ln isS pm th len ((zdgp tx len p 1).1) ((zdgp tx len p 1).2) fa om lm h)) := by
  refine js_body [(0, .ref (A 0)), (1, .int (jI to)), (2, .int (jI 1))] rfl (by decide) (Nat.le_of_ble_eq_true rfl) rfl ?_
  obtain ⟨p0, p1, p2, p3, p4, p5, p6, p7, p8, p9, p10, p11⟩ := hp
  have k1 := hp0.1
  have k2 := hp0.2
  refine js_iconst dX3_digits_0 ?_
  refine js_istore_n (L' := [(3, .int (jI 0)), (0, .ref (A 0)), (1, .int (jI to)), (2, .int (jI 1))]) dX3_digits_1 (by decide) rfl ?_
  refine js_iload_n 0 dX3_digits_2 rfl ?_
  refine js_iload_n 3 dX3_digits_3 rfl ?_
  refine js_icmp_ge (tgt := 42) dX3_digits_4 (by decide) (by omega) (fun c1 => ?_) (fun c1 => ?_)
  · exfalso; revert c1; decide
  · refine js_aload_n 1 dX3_digits_7 rfl ?_
    refine js_iload_n 0 dX3_digits_8 rfl ?_
    refine js_if_le (tgt := 17) dX3_digits_9 (by decide) (by omega) (fun c2 => ?_) (fun c2 => ?_)
    · obtain ⟨ka20, kb20, kx20, ky20, kv20, kh20, ki20⟩ := hK.2.2 20 "" rfl
      refine js_ldcS 20 rfl kv20 dX3_digits_17 ?_
      refine js_old (fun o3 => ?_)
      refine eX3_247 rfl dX3_digits_19 p0 (com_skip hA ⟨p0, p1, p2, p3, p4, p5, p6, p7, p8, p9, p10, p11⟩ hp0 hl ht hK ⟨kh20, ki20⟩ (by decide) (zcl_r _ (by decide))) (Nat.le_of_ble_eq_true rfl) (Nat.le_of_ble_eq_true rfl) ?_
      rw [zH_fr (fun q hq => rfl)]
      obtain ⟨p4_0, p4_1, p4_2, p4_3, p4_4, p4_5, p4_6, p4_7, p4_8, p4_9, p4_10, p4_11⟩ := zH_Mc (h := h) (f := f) (bef := bef) (asd := asd) (svd := svd) (pas := pas) (rf := rf) (it := it) (wt := wt) (tx := tx) (od := od) (ln := ln) (isS := isS) (pm := pm) (th := th) (len := len) (at_ := (p).1) (wr := (p).2) (fa := fa) (om := om) (lm := lm) hA
      show js_ok ρ mX3_digits _ 5 0 0 22 [(3, .int (jI 0)), (0, .ref (A 0)), (1, .int (jI to)), (2, .int (jI 1))] [] (zH A f bef asd svd pas rf it wt tx od ln isS pm th len ((p).1) ((p).2) fa om lm h)
      refine js_old (fun o5 => ?_)
      refine js_aload_n 1 dX3_digits_22 rfl ?_
      refine gX3_43 rfl dX3_digits_23 p4_0 rfl ?_
      refine js_iload_n 2 dX3_digits_26 rfl ?_
      refine js_iconst dX3_digits_27 ?_
      refine js_iadd dX3_digits_28 ?_
      refine js_iload_n 0 dX3_digits_29 rfl ?_
      refine js_iadd dX3_digits_30 ?_
      refine js_aload_n 1 dX3_digits_31 rfl ?_
      refine eX3_237 rfl dX3_digits_32 p4_0 (com_digit hA ⟨p4_0, p4_1, p4_2, p4_3, p4_4, p4_5, p4_6, p4_7, p4_8, p4_9, p4_10, p4_11⟩ hp0 hl ht) (Nat.le_of_ble_eq_true rfl) (Nat.le_of_ble_eq_true rfl) ?_
      rw [zH_fr (fun q hq => (zH_n hq))]
      obtain ⟨p6_0, p6_1, p6_2, p6_3, p6_4, p6_5, p6_6, p6_7, p6_8, p6_9, p6_10, p6_11⟩ := zH_Mc (h := h) (f := f) (bef := bef) (asd := asd) (svd := svd) (pas := pas) (rf := rf) (it := it) (wt := wt) (tx := tx) (od := od) (ln := ln) (isS := isS) (pm := pm) (th := th) (len := len) (at_ := (zdp tx len p).1) (wr := (zdp tx len p).2) (fa := fa) (om := om) (lm := lm) hA
      show js_ok ρ mX3_digits _ 5 0 0 35 [(3, .int (jI 0)), (0, .ref (A 0)), (1, .int (jI to)), (2, .int (jI 1))] [.int (jI (zdv tx len p)), .int (jI ((to + 1) + 0)), .ref (A 10)] (zH A f bef asd svd pas rf it wt tx od ln isS pm th len ((zdp tx len p).1) ((zdp tx len p).2) fa om lm h)
      have ok7 : zpok len (zdp tx len p) := zdp_ok hp0
      have kk7 := ok7.1
      have km7 := ok7.2
      show js_ok ρ mX3_digits _ 5 0 0 35 [(3, .int (jI 0)), (0, .ref (A 0)), (1, .int (jI to)), (2, .int (jI 1))] [.int (jI (zdv tx len p)), .int (jI ((to + 1) + 0)), .ref (A 10)] (zH A f bef asd svd pas rf it wt tx od ln isS pm th len ((zdp tx len p).1) ((zdp tx len p).2) fa om lm h)
      refine js_old (fun o8 => ?_)
      refine js_iastore dX3_digits_35 p6_10 (by omega) ?_
      show js_ok ρ mX3_digits _ 5 0 0 36 [(3, .int (jI 0)), (0, .ref (A 0)), (1, .int (jI to)), (2, .int (jI 1))] [] (js_up (zH A f bef asd svd pas rf it wt tx od ln isS pm th len ((zdp tx len p).1) ((zdp tx len p).2) fa om lm h) (A 10) (js_aI true 0 300 (js_uz od ((to + 1) + 0) (zdv tx len p))))
      refine js_iinc (L' := [(3, .int (jI (0 + 1))), (0, .ref (A 0)), (1, .int (jI to)), (2, .int (jI 1))]) 0 dX3_digits_36 rfl (by decide) rfl ?_
      refine js_goto (tgt := 2) dX3_digits_39 (by decide) ?_
      refine js_iload_n 0 dX3_digits_2 rfl ?_
      refine js_iload_n 3 dX3_digits_3 rfl ?_
      refine js_icmp_ge (tgt := 42) dX3_digits_4 (by decide) (by omega) (fun c9 => ?_) (fun c9 => ?_)
      · exact js_vret rfl dX3_digits_42 ⟨rfl, (zH_eq hA ((js_up_n (js_nek p6_0 p6_10 js_kOA)).trans p6_0) ((js_up_n (hA 1 10 (by decide) (by decide) (by decide))).trans p6_1) ((js_up_n (hA 2 10 (by decide) (by decide) (by decide))).trans p6_2) ((js_up_n (hA 3 10 (by decide) (by decide) (by decide))).trans p6_3) ((js_up_n (hA 4 10 (by decide) (by decide) (by decide))).trans p6_4) ((js_up_n (hA 5 10 (by decide) (by decide) (by decide))).trans p6_5) ((js_up_n (hA 6 10 (by decide) (by decide) (by decide))).trans p6_6) ((js_up_n (hA 7 10 (by decide) (by decide) (by decide))).trans p6_7) ((js_up_n (hA 8 10 (by decide) (by decide) (by decide))).trans p6_8) ((js_up_n (hA 9 10 (by decide) (by decide) (by decide))).trans p6_9) js_up_s ((js_up_n (Ne.symm (hA 10 11 (by decide) (by decide) (by decide)))).trans p6_11) (fun q hq => ((js_up_n (hq 10 (by decide))).trans (zH_n hq))))⟩
      · exfalso; revert c9; decide
    · exfalso; revert c2; decide
theorem com_digits2 {ρ : js_R} {h : js_H} {A : Nat → Nat} {f bef asd svd pas rf it wt tx od ln : Int → Int} {isS pm th len fa om lm : Int} {p : zP} {to : Int} {fm : Nat}  (hA : zA A) (hp : zMc A f bef asd svd pas rf it wt tx od ln isS pm th len p.1 p.2 fa om lm h) (hp0 : zpok len p) (hl : 0 ≤ len ∧ len ≤ 60) (ht : ∀ j : Int, 0 ≤ j → j < 60 → 0 ≤ tx j ∧ tx j < 128) (hK : zK ρ fm) (hto : 0 ≤ to ∧ to + 5 ≤ 300)  : js_Con ρ mX3_digits 5 0 0 [.ref (A 0), .int (jI to), .int (jI 2)] h (js_ret none (zH A f bef asd svd pas rf it wt tx (zdgo tx len p od to 2) ln isS pm th len ((zdgp tx len p 2).1) ((zdgp tx len p 2).2) fa om lm h)) := by
  refine js_body [(0, .ref (A 0)), (1, .int (jI to)), (2, .int (jI 2))] rfl (by decide) (Nat.le_of_ble_eq_true rfl) rfl ?_
  obtain ⟨p0, p1, p2, p3, p4, p5, p6, p7, p8, p9, p10, p11⟩ := hp
  have k1 := hp0.1
  have k2 := hp0.2
  refine js_iconst dX3_digits_0 ?_
  refine js_istore_n (L' := [(3, .int (jI 0)), (0, .ref (A 0)), (1, .int (jI to)), (2, .int (jI 2))]) dX3_digits_1 (by decide) rfl ?_
  refine js_iload_n 0 dX3_digits_2 rfl ?_
  refine js_iload_n 3 dX3_digits_3 rfl ?_
  refine js_icmp_ge (tgt := 42) dX3_digits_4 (by decide) (by omega) (fun c1 => ?_) (fun c1 => ?_)
  · exfalso; revert c1; decide
  · refine js_aload_n 1 dX3_digits_7 rfl ?_
    refine js_iload_n 0 dX3_digits_8 rfl ?_
    refine js_if_le (tgt := 17) dX3_digits_9 (by decide) (by omega) (fun c2 => ?_) (fun c2 => ?_)
    · obtain ⟨ka20, kb20, kx20, ky20, kv20, kh20, ki20⟩ := hK.2.2 20 "" rfl
      refine js_ldcS 20 rfl kv20 dX3_digits_17 ?_
      refine js_old (fun o3 => ?_)
      refine eX3_247 rfl dX3_digits_19 p0 (com_skip hA ⟨p0, p1, p2, p3, p4, p5, p6, p7, p8, p9, p10, p11⟩ hp0 hl ht hK ⟨kh20, ki20⟩ (by decide) (zcl_r _ (by decide))) (Nat.le_of_ble_eq_true rfl) (Nat.le_of_ble_eq_true rfl) ?_
      rw [zH_fr (fun q hq => rfl)]
      obtain ⟨p4_0, p4_1, p4_2, p4_3, p4_4, p4_5, p4_6, p4_7, p4_8, p4_9, p4_10, p4_11⟩ := zH_Mc (h := h) (f := f) (bef := bef) (asd := asd) (svd := svd) (pas := pas) (rf := rf) (it := it) (wt := wt) (tx := tx) (od := od) (ln := ln) (isS := isS) (pm := pm) (th := th) (len := len) (at_ := (p).1) (wr := (p).2) (fa := fa) (om := om) (lm := lm) hA
      show js_ok ρ mX3_digits _ 5 0 0 22 [(3, .int (jI 0)), (0, .ref (A 0)), (1, .int (jI to)), (2, .int (jI 2))] [] (zH A f bef asd svd pas rf it wt tx od ln isS pm th len ((p).1) ((p).2) fa om lm h)
      refine js_old (fun o5 => ?_)
      refine js_aload_n 1 dX3_digits_22 rfl ?_
      refine gX3_43 rfl dX3_digits_23 p4_0 rfl ?_
      refine js_iload_n 2 dX3_digits_26 rfl ?_
      refine js_iconst dX3_digits_27 ?_
      refine js_iadd dX3_digits_28 ?_
      refine js_iload_n 0 dX3_digits_29 rfl ?_
      refine js_iadd dX3_digits_30 ?_
      refine js_aload_n 1 dX3_digits_31 rfl ?_
      refine eX3_237 rfl dX3_digits_32 p4_0 (com_digit hA ⟨p4_0, p4_1, p4_2, p4_3, p4_4, p4_5, p4_6, p4_7, p4_8, p4_9, p4_10, p4_11⟩ hp0 hl ht) (Nat.le_of_ble_eq_true rfl) (Nat.le_of_ble_eq_true rfl) ?_
      rw [zH_fr (fun q hq => (zH_n hq))]
      obtain ⟨p6_0, p6_1, p6_2, p6_3, p6_4, p6_5, p6_6, p6_7, p6_8, p6_9, p6_10, p6_11⟩ := zH_Mc (h := h) (f := f) (bef := bef) (asd := asd) (svd := svd) (pas := pas) (rf := rf) (it := it) (wt := wt) (tx := tx) (od := od) (ln := ln) (isS := isS) (pm := pm) (th := th) (len := len) (at_ := (zdp tx len p).1) (wr := (zdp tx len p).2) (fa := fa) (om := om) (lm := lm) hA
      show js_ok ρ mX3_digits _ 5 0 0 35 [(3, .int (jI 0)), (0, .ref (A 0)), (1, .int (jI to)), (2, .int (jI 2))] [.int (jI (zdv tx len p)), .int (jI ((to + 1) + 0)), .ref (A 10)] (zH A f bef asd svd pas rf it wt tx od ln isS pm th len ((zdp tx len p).1) ((zdp tx len p).2) fa om lm h)
      have ok7 : zpok len (zdp tx len p) := zdp_ok hp0
      have kk7 := ok7.1
      have km7 := ok7.2
      show js_ok ρ mX3_digits _ 5 0 0 35 [(3, .int (jI 0)), (0, .ref (A 0)), (1, .int (jI to)), (2, .int (jI 2))] [.int (jI (zdv tx len p)), .int (jI ((to + 1) + 0)), .ref (A 10)] (zH A f bef asd svd pas rf it wt tx od ln isS pm th len ((zdp tx len p).1) ((zdp tx len p).2) fa om lm h)
      refine js_old (fun o8 => ?_)
      refine js_iastore dX3_digits_35 p6_10 (by omega) ?_
      show js_ok ρ mX3_digits _ 5 0 0 36 [(3, .int (jI 0)), (0, .ref (A 0)), (1, .int (jI to)), (2, .int (jI 2))] [] (js_up (zH A f bef asd svd pas rf it wt tx od ln isS pm th len ((zdp tx len p).1) ((zdp tx len p).2) fa om lm h) (A 10) (js_aI true 0 300 (js_uz od ((to + 1) + 0) (zdv tx len p))))
      refine js_iinc (L' := [(3, .int (jI (0 + 1))), (0, .ref (A 0)), (1, .int (jI to)), (2, .int (jI 2))]) 0 dX3_digits_36 rfl (by decide) rfl ?_
      refine js_goto (tgt := 2) dX3_digits_39 (by decide) ?_
      refine js_iload_n 0 dX3_digits_2 rfl ?_
      refine js_iload_n 3 dX3_digits_3 rfl ?_
      refine js_icmp_ge (tgt := 42) dX3_digits_4 (by decide) (by omega) (fun c9 => ?_) (fun c9 => ?_)
      · exfalso; revert c9; decide
      · refine js_aload_n 1 dX3_digits_7 rfl ?_
        refine js_iload_n 0 dX3_digits_8 rfl ?_
        refine js_if_le (tgt := 17) dX3_digits_9 (by decide) (by omega) (fun c10 => ?_) (fun c10 => ?_)
        · exfalso; revert c10; decide
        · obtain ⟨ka19, kb19, kx19, ky19, kv19, kh19, ki19⟩ := hK.2.2 19 " " rfl
          refine js_ldcS 19 rfl kv19 dX3_digits_12 ?_
          refine js_old (fun o11 => ?_)
          refine js_goto (tgt := 19) dX3_digits_14 (by decide) ?_
          refine eX3_247 rfl dX3_digits_19 ((js_up_n (js_nek p6_0 p6_10 js_kOA)).trans p6_0) (com_skip hA ⟨((js_up_n (js_nek p6_0 p6_10 js_kOA)).trans p6_0), ((js_up_n (hA 1 10 (by decide) (by decide) (by decide))).trans p6_1), ((js_up_n (hA 2 10 (by decide) (by decide) (by decide))).trans p6_2), ((js_up_n (hA 3 10 (by decide) (by decide) (by decide))).trans p6_3), ((js_up_n (hA 4 10 (by decide) (by decide) (by decide))).trans p6_4), ((js_up_n (hA 5 10 (by decide) (by decide) (by decide))).trans p6_5), ((js_up_n (hA 6 10 (by decide) (by decide) (by decide))).trans p6_6), ((js_up_n (hA 7 10 (by decide) (by decide) (by decide))).trans p6_7), ((js_up_n (hA 8 10 (by decide) (by decide) (by decide))).trans p6_8), ((js_up_n (hA 9 10 (by decide) (by decide) (by decide))).trans p6_9), js_up_s, ((js_up_n (Ne.symm (hA 10 11 (by decide) (by decide) (by decide)))).trans p6_11)⟩ ok7 hl ht hK ⟨kh19, ki19⟩ (by decide) (zcl_r _ (by decide))) (Nat.le_of_ble_eq_true rfl) (Nat.le_of_ble_eq_true rfl) ?_
          rw [zH_fr (fun q hq => ((js_up_n (hq 10 (by decide))).trans (zH_n hq)))]
          obtain ⟨p12_0, p12_1, p12_2, p12_3, p12_4, p12_5, p12_6, p12_7, p12_8, p12_9, p12_10, p12_11⟩ := zH_Mc (h := h) (f := f) (bef := bef) (asd := asd) (svd := svd) (pas := pas) (rf := rf) (it := it) (wt := wt) (tx := tx) (od := js_uz od ((to + 1) + 0) (zdv tx len p)) (ln := ln) (isS := isS) (pm := pm) (th := th) (len := len) (at_ := (zsk tx len " " (zdp tx len p)).1) (wr := (zsk tx len " " (zdp tx len p)).2) (fa := fa) (om := om) (lm := lm) hA
          show js_ok ρ mX3_digits _ 5 0 0 22 [(3, .int (jI (0 + 1))), (0, .ref (A 0)), (1, .int (jI to)), (2, .int (jI 2))] [] (zH A f bef asd svd pas rf it wt tx (js_uz od ((to + 1) + 0) (zdv tx len p)) ln isS pm th len ((zsk tx len " " (zdp tx len p)).1) ((zsk tx len " " (zdp tx len p)).2) fa om lm h)
          have ok13 : zpok len (zsk tx len " " (zdp tx len p)) := zsk_ok ok7
          have kk13 := ok13.1
          have km13 := ok13.2
          refine js_old (fun o14 => ?_)
          refine js_aload_n 1 dX3_digits_22 rfl ?_
          refine gX3_43 rfl dX3_digits_23 p12_0 rfl ?_
          refine js_iload_n 2 dX3_digits_26 rfl ?_
          refine js_iconst dX3_digits_27 ?_
          refine js_iadd dX3_digits_28 ?_
          refine js_iload_n 0 dX3_digits_29 rfl ?_
          refine js_iadd dX3_digits_30 ?_
          refine js_aload_n 1 dX3_digits_31 rfl ?_
          refine eX3_237 rfl dX3_digits_32 p12_0 (com_digit hA ⟨p12_0, p12_1, p12_2, p12_3, p12_4, p12_5, p12_6, p12_7, p12_8, p12_9, p12_10, p12_11⟩ ok13 hl ht) (Nat.le_of_ble_eq_true rfl) (Nat.le_of_ble_eq_true rfl) ?_
          rw [zH_fr (fun q hq => (zH_n hq))]
          obtain ⟨p15_0, p15_1, p15_2, p15_3, p15_4, p15_5, p15_6, p15_7, p15_8, p15_9, p15_10, p15_11⟩ := zH_Mc (h := h) (f := f) (bef := bef) (asd := asd) (svd := svd) (pas := pas) (rf := rf) (it := it) (wt := wt) (tx := tx) (od := js_uz od ((to + 1) + 0) (zdv tx len p)) (ln := ln) (isS := isS) (pm := pm) (th := th) (len := len) (at_ := (zdp tx len (zsk tx len " " (zdp tx len p))).1) (wr := (zdp tx len (zsk tx len " " (zdp tx len p))).2) (fa := fa) (om := om) (lm := lm) hA
          show js_ok ρ mX3_digits _ 5 0 0 35 [(3, .int (jI (0 + 1))), (0, .ref (A 0)), (1, .int (jI to)), (2, .int (jI 2))] [.int (jI (zdv tx len (zsk tx len " " (zdp tx len p)))), .int (jI ((to + 1) + (0 + 1))), .ref (A 10)] (zH A f bef asd svd pas rf it wt tx (js_uz od ((to + 1) + 0) (zdv tx len p)) ln isS pm th len ((zdp tx len (zsk tx len " " (zdp tx len p))).1) ((zdp tx len (zsk tx len " " (zdp tx len p))).2) fa om lm h)
          have ok16 : zpok len (zdp tx len (zsk tx len " " (zdp tx len p))) := zdp_ok ok13
          have kk16 := ok16.1
          have km16 := ok16.2
          show js_ok ρ mX3_digits _ 5 0 0 35 [(3, .int (jI (0 + 1))), (0, .ref (A 0)), (1, .int (jI to)), (2, .int (jI 2))] [.int (jI (zdv tx len (zsk tx len " " (zdp tx len p)))), .int (jI ((to + 1) + (0 + 1))), .ref (A 10)] (zH A f bef asd svd pas rf it wt tx (js_uz od ((to + 1) + 0) (zdv tx len p)) ln isS pm th len ((zdp tx len (zsk tx len " " (zdp tx len p))).1) ((zdp tx len (zsk tx len " " (zdp tx len p))).2) fa om lm h)
          refine js_old (fun o17 => ?_)
          refine js_iastore dX3_digits_35 p15_10 (by omega) ?_
          show js_ok ρ mX3_digits _ 5 0 0 36 [(3, .int (jI (0 + 1))), (0, .ref (A 0)), (1, .int (jI to)), (2, .int (jI 2))] [] (js_up (zH A f bef asd svd pas rf it wt tx (js_uz od ((to + 1) + 0) (zdv tx len p)) ln isS pm th len ((zdp tx len (zsk tx len " " (zdp tx len p))).1) ((zdp tx len (zsk tx len " " (zdp tx len p))).2) fa om lm h) (A 10) (js_aI true 0 300 (js_uz (js_uz od ((to + 1) + 0) (zdv tx len p)) ((to + 1) + (0 + 1)) (zdv tx len (zsk tx len " " (zdp tx len p))))))
          refine js_iinc (L' := [(3, .int (jI ((0 + 1) + 1))), (0, .ref (A 0)), (1, .int (jI to)), (2, .int (jI 2))]) 0 dX3_digits_36 rfl (by decide) rfl ?_
          refine js_goto (tgt := 2) dX3_digits_39 (by decide) ?_
          refine js_iload_n 0 dX3_digits_2 rfl ?_
          refine js_iload_n 3 dX3_digits_3 rfl ?_
          refine js_icmp_ge (tgt := 42) dX3_digits_4 (by decide) (by omega) (fun c18 => ?_) (fun c18 => ?_)
          · exact js_vret rfl dX3_digits_42 ⟨rfl, (zH_eq hA ((js_up_n (js_nek p15_0 p15_10 js_kOA)).trans p15_0) ((js_up_n (hA 1 10 (by decide) (by decide) (by decide))).trans p15_1) ((js_up_n (hA 2 10 (by decide) (by decide) (by decide))).trans p15_2) ((js_up_n (hA 3 10 (by decide) (by decide) (by decide))).trans p15_3) ((js_up_n (hA 4 10 (by decide) (by decide) (by decide))).trans p15_4) ((js_up_n (hA 5 10 (by decide) (by decide) (by decide))).trans p15_5) ((js_up_n (hA 6 10 (by decide) (by decide) (by decide))).trans p15_6) ((js_up_n (hA 7 10 (by decide) (by decide) (by decide))).trans p15_7) ((js_up_n (hA 8 10 (by decide) (by decide) (by decide))).trans p15_8) ((js_up_n (hA 9 10 (by decide) (by decide) (by decide))).trans p15_9) js_up_s ((js_up_n (Ne.symm (hA 10 11 (by decide) (by decide) (by decide)))).trans p15_11) (fun q hq => ((js_up_n (hq 10 (by decide))).trans (zH_n hq))))⟩
          · exfalso; revert c18; decide
    · exfalso; revert c2; decide
theorem com_digits3 {ρ : js_R} {h : js_H} {A : Nat → Nat} {f bef asd svd pas rf it wt tx od ln : Int → Int} {isS pm th len fa om lm : Int} {p : zP} {to : Int} {fm : Nat}  (hA : zA A) (hp : zMc A f bef asd svd pas rf it wt tx od ln isS pm th len p.1 p.2 fa om lm h) (hp0 : zpok len p) (hl : 0 ≤ len ∧ len ≤ 60) (ht : ∀ j : Int, 0 ≤ j → j < 60 → 0 ≤ tx j ∧ tx j < 128) (hK : zK ρ fm) (hto : 0 ≤ to ∧ to + 5 ≤ 300)  : js_Con ρ mX3_digits 5 0 0 [.ref (A 0), .int (jI to), .int (jI 3)] h (js_ret none (zH A f bef asd svd pas rf it wt tx (zdgo tx len p od to 3) ln isS pm th len ((zdgp tx len p 3).1) ((zdgp tx len p 3).2) fa om lm h)) := by
  refine js_body [(0, .ref (A 0)), (1, .int (jI to)), (2, .int (jI 3))] rfl (by decide) (Nat.le_of_ble_eq_true rfl) rfl ?_
  obtain ⟨p0, p1, p2, p3, p4, p5, p6, p7, p8, p9, p10, p11⟩ := hp
  have k1 := hp0.1
  have k2 := hp0.2
  refine js_iconst dX3_digits_0 ?_
  refine js_istore_n (L' := [(3, .int (jI 0)), (0, .ref (A 0)), (1, .int (jI to)), (2, .int (jI 3))]) dX3_digits_1 (by decide) rfl ?_
  refine js_iload_n 0 dX3_digits_2 rfl ?_
  refine js_iload_n 3 dX3_digits_3 rfl ?_
  refine js_icmp_ge (tgt := 42) dX3_digits_4 (by decide) (by omega) (fun c1 => ?_) (fun c1 => ?_)
  · exfalso; revert c1; decide
  · refine js_aload_n 1 dX3_digits_7 rfl ?_
    refine js_iload_n 0 dX3_digits_8 rfl ?_
    refine js_if_le (tgt := 17) dX3_digits_9 (by decide) (by omega) (fun c2 => ?_) (fun c2 => ?_)
    · obtain ⟨ka20, kb20, kx20, ky20, kv20, kh20, ki20⟩ := hK.2.2 20 "" rfl
      refine js_ldcS 20 rfl kv20 dX3_digits_17 ?_
      refine js_old (fun o3 => ?_)
      refine eX3_247 rfl dX3_digits_19 p0 (com_skip hA ⟨p0, p1, p2, p3, p4, p5, p6, p7, p8, p9, p10, p11⟩ hp0 hl ht hK ⟨kh20, ki20⟩ (by decide) (zcl_r _ (by decide))) (Nat.le_of_ble_eq_true rfl) (Nat.le_of_ble_eq_true rfl) ?_
      rw [zH_fr (fun q hq => rfl)]
      obtain ⟨p4_0, p4_1, p4_2, p4_3, p4_4, p4_5, p4_6, p4_7, p4_8, p4_9, p4_10, p4_11⟩ := zH_Mc (h := h) (f := f) (bef := bef) (asd := asd) (svd := svd) (pas := pas) (rf := rf) (it := it) (wt := wt) (tx := tx) (od := od) (ln := ln) (isS := isS) (pm := pm) (th := th) (len := len) (at_ := (p).1) (wr := (p).2) (fa := fa) (om := om) (lm := lm) hA
      show js_ok ρ mX3_digits _ 5 0 0 22 [(3, .int (jI 0)), (0, .ref (A 0)), (1, .int (jI to)), (2, .int (jI 3))] [] (zH A f bef asd svd pas rf it wt tx od ln isS pm th len ((p).1) ((p).2) fa om lm h)
      refine js_old (fun o5 => ?_)
      refine js_aload_n 1 dX3_digits_22 rfl ?_
      refine gX3_43 rfl dX3_digits_23 p4_0 rfl ?_
      refine js_iload_n 2 dX3_digits_26 rfl ?_
      refine js_iconst dX3_digits_27 ?_
      refine js_iadd dX3_digits_28 ?_
      refine js_iload_n 0 dX3_digits_29 rfl ?_
      refine js_iadd dX3_digits_30 ?_
      refine js_aload_n 1 dX3_digits_31 rfl ?_
      refine eX3_237 rfl dX3_digits_32 p4_0 (com_digit hA ⟨p4_0, p4_1, p4_2, p4_3, p4_4, p4_5, p4_6, p4_7, p4_8, p4_9, p4_10, p4_11⟩ hp0 hl ht) (Nat.le_of_ble_eq_true rfl) (Nat.le_of_ble_eq_true rfl) ?_
      rw [zH_fr (fun q hq => (zH_n hq))]
      obtain ⟨p6_0, p6_1, p6_2, p6_3, p6_4, p6_5, p6_6, p6_7, p6_8, p6_9, p6_10, p6_11⟩ := zH_Mc (h := h) (f := f) (bef := bef) (asd := asd) (svd := svd) (pas := pas) (rf := rf) (it := it) (wt := wt) (tx := tx) (od := od) (ln := ln) (isS := isS) (pm := pm) (th := th) (len := len) (at_ := (zdp tx len p).1) (wr := (zdp tx len p).2) (fa := fa) (om := om) (lm := lm) hA
      show js_ok ρ mX3_digits _ 5 0 0 35 [(3, .int (jI 0)), (0, .ref (A 0)), (1, .int (jI to)), (2, .int (jI 3))] [.int (jI (zdv tx len p)), .int (jI ((to + 1) + 0)), .ref (A 10)] (zH A f bef asd svd pas rf it wt tx od ln isS pm th len ((zdp tx len p).1) ((zdp tx len p).2) fa om lm h)
      have ok7 : zpok len (zdp tx len p) := zdp_ok hp0
      have kk7 := ok7.1
      have km7 := ok7.2
      show js_ok ρ mX3_digits _ 5 0 0 35 [(3, .int (jI 0)), (0, .ref (A 0)), (1, .int (jI to)), (2, .int (jI 3))] [.int (jI (zdv tx len p)), .int (jI ((to + 1) + 0)), .ref (A 10)] (zH A f bef asd svd pas rf it wt tx od ln isS pm th len ((zdp tx len p).1) ((zdp tx len p).2) fa om lm h)
      refine js_old (fun o8 => ?_)
      refine js_iastore dX3_digits_35 p6_10 (by omega) ?_
      show js_ok ρ mX3_digits _ 5 0 0 36 [(3, .int (jI 0)), (0, .ref (A 0)), (1, .int (jI to)), (2, .int (jI 3))] [] (js_up (zH A f bef asd svd pas rf it wt tx od ln isS pm th len ((zdp tx len p).1) ((zdp tx len p).2) fa om lm h) (A 10) (js_aI true 0 300 (js_uz od ((to + 1) + 0) (zdv tx len p))))
      refine js_iinc (L' := [(3, .int (jI (0 + 1))), (0, .ref (A 0)), (1, .int (jI to)), (2, .int (jI 3))]) 0 dX3_digits_36 rfl (by decide) rfl ?_
      refine js_goto (tgt := 2) dX3_digits_39 (by decide) ?_
      refine js_iload_n 0 dX3_digits_2 rfl ?_
      refine js_iload_n 3 dX3_digits_3 rfl ?_
      refine js_icmp_ge (tgt := 42) dX3_digits_4 (by decide) (by omega) (fun c9 => ?_) (fun c9 => ?_)
      · exfalso; revert c9; decide
      · refine js_aload_n 1 dX3_digits_7 rfl ?_
        refine js_iload_n 0 dX3_digits_8 rfl ?_
        refine js_if_le (tgt := 17) dX3_digits_9 (by decide) (by omega) (fun c10 => ?_) (fun c10 => ?_)
        · exfalso; revert c10; decide
        · obtain ⟨ka19, kb19, kx19, ky19, kv19, kh19, ki19⟩ := hK.2.2 19 " " rfl
          refine js_ldcS 19 rfl kv19 dX3_digits_12 ?_
          refine js_old (fun o11 => ?_)
          refine js_goto (tgt := 19) dX3_digits_14 (by decide) ?_
          refine eX3_247 rfl dX3_digits_19 ((js_up_n (js_nek p6_0 p6_10 js_kOA)).trans p6_0) (com_skip hA ⟨((js_up_n (js_nek p6_0 p6_10 js_kOA)).trans p6_0), ((js_up_n (hA 1 10 (by decide) (by decide) (by decide))).trans p6_1), ((js_up_n (hA 2 10 (by decide) (by decide) (by decide))).trans p6_2), ((js_up_n (hA 3 10 (by decide) (by decide) (by decide))).trans p6_3), ((js_up_n (hA 4 10 (by decide) (by decide) (by decide))).trans p6_4), ((js_up_n (hA 5 10 (by decide) (by decide) (by decide))).trans p6_5), ((js_up_n (hA 6 10 (by decide) (by decide) (by decide))).trans p6_6), ((js_up_n (hA 7 10 (by decide) (by decide) (by decide))).trans p6_7), ((js_up_n (hA 8 10 (by decide) (by decide) (by decide))).trans p6_8), ((js_up_n (hA 9 10 (by decide) (by decide) (by decide))).trans p6_9), js_up_s, ((js_up_n (Ne.symm (hA 10 11 (by decide) (by decide) (by decide)))).trans p6_11)⟩ ok7 hl ht hK ⟨kh19, ki19⟩ (by decide) (zcl_r _ (by decide))) (Nat.le_of_ble_eq_true rfl) (Nat.le_of_ble_eq_true rfl) ?_
          rw [zH_fr (fun q hq => ((js_up_n (hq 10 (by decide))).trans (zH_n hq)))]
          obtain ⟨p12_0, p12_1, p12_2, p12_3, p12_4, p12_5, p12_6, p12_7, p12_8, p12_9, p12_10, p12_11⟩ := zH_Mc (h := h) (f := f) (bef := bef) (asd := asd) (svd := svd) (pas := pas) (rf := rf) (it := it) (wt := wt) (tx := tx) (od := js_uz od ((to + 1) + 0) (zdv tx len p)) (ln := ln) (isS := isS) (pm := pm) (th := th) (len := len) (at_ := (zsk tx len " " (zdp tx len p)).1) (wr := (zsk tx len " " (zdp tx len p)).2) (fa := fa) (om := om) (lm := lm) hA
          show js_ok ρ mX3_digits _ 5 0 0 22 [(3, .int (jI (0 + 1))), (0, .ref (A 0)), (1, .int (jI to)), (2, .int (jI 3))] [] (zH A f bef asd svd pas rf it wt tx (js_uz od ((to + 1) + 0) (zdv tx len p)) ln isS pm th len ((zsk tx len " " (zdp tx len p)).1) ((zsk tx len " " (zdp tx len p)).2) fa om lm h)
          have ok13 : zpok len (zsk tx len " " (zdp tx len p)) := zsk_ok ok7
          have kk13 := ok13.1
          have km13 := ok13.2
          refine js_old (fun o14 => ?_)
          refine js_aload_n 1 dX3_digits_22 rfl ?_
          refine gX3_43 rfl dX3_digits_23 p12_0 rfl ?_
          refine js_iload_n 2 dX3_digits_26 rfl ?_
          refine js_iconst dX3_digits_27 ?_
          refine js_iadd dX3_digits_28 ?_
          refine js_iload_n 0 dX3_digits_29 rfl ?_
          refine js_iadd dX3_digits_30 ?_
          refine js_aload_n 1 dX3_digits_31 rfl ?_
          refine eX3_237 rfl dX3_digits_32 p12_0 (com_digit hA ⟨p12_0, p12_1, p12_2, p12_3, p12_4, p12_5, p12_6, p12_7, p12_8, p12_9, p12_10, p12_11⟩ ok13 hl ht) (Nat.le_of_ble_eq_true rfl) (Nat.le_of_ble_eq_true rfl) ?_
          rw [zH_fr (fun q hq => (zH_n hq))]
          obtain ⟨p15_0, p15_1, p15_2, p15_3, p15_4, p15_5, p15_6, p15_7, p15_8, p15_9, p15_10, p15_11⟩ := zH_Mc (h := h) (f := f) (bef := bef) (asd := asd) (svd := svd) (pas := pas) (rf := rf) (it := it) (wt := wt) (tx := tx) (od := js_uz od ((to + 1) + 0) (zdv tx len p)) (ln := ln) (isS := isS) (pm := pm) (th := th) (len := len) (at_ := (zdp tx len (zsk tx len " " (zdp tx len p))).1) (wr := (zdp tx len (zsk tx len " " (zdp tx len p))).2) (fa := fa) (om := om) (lm := lm) hA
          show js_ok ρ mX3_digits _ 5 0 0 35 [(3, .int (jI (0 + 1))), (0, .ref (A 0)), (1, .int (jI to)), (2, .int (jI 3))] [.int (jI (zdv tx len (zsk tx len " " (zdp tx len p)))), .int (jI ((to + 1) + (0 + 1))), .ref (A 10)] (zH A f bef asd svd pas rf it wt tx (js_uz od ((to + 1) + 0) (zdv tx len p)) ln isS pm th len ((zdp tx len (zsk tx len " " (zdp tx len p))).1) ((zdp tx len (zsk tx len " " (zdp tx len p))).2) fa om lm h)
          have ok16 : zpok len (zdp tx len (zsk tx len " " (zdp tx len p))) := zdp_ok ok13
          have kk16 := ok16.1
          have km16 := ok16.2
          show js_ok ρ mX3_digits _ 5 0 0 35 [(3, .int (jI (0 + 1))), (0, .ref (A 0)), (1, .int (jI to)), (2, .int (jI 3))] [.int (jI (zdv tx len (zsk tx len " " (zdp tx len p)))), .int (jI ((to + 1) + (0 + 1))), .ref (A 10)] (zH A f bef asd svd pas rf it wt tx (js_uz od ((to + 1) + 0) (zdv tx len p)) ln isS pm th len ((zdp tx len (zsk tx len " " (zdp tx len p))).1) ((zdp tx len (zsk tx len " " (zdp tx len p))).2) fa om lm h)
          refine js_old (fun o17 => ?_)
          refine js_iastore dX3_digits_35 p15_10 (by omega) ?_
          show js_ok ρ mX3_digits _ 5 0 0 36 [(3, .int (jI (0 + 1))), (0, .ref (A 0)), (1, .int (jI to)), (2, .int (jI 3))] [] (js_up (zH A f bef asd svd pas rf it wt tx (js_uz od ((to + 1) + 0) (zdv tx len p)) ln isS pm th len ((zdp tx len (zsk tx len " " (zdp tx len p))).1) ((zdp tx len (zsk tx len " " (zdp tx len p))).2) fa om lm h) (A 10) (js_aI true 0 300 (js_uz (js_uz od ((to + 1) + 0) (zdv tx len p)) ((to + 1) + (0 + 1)) (zdv tx len (zsk tx len " " (zdp tx len p))))))
          refine js_iinc (L' := [(3, .int (jI ((0 + 1) + 1))), (0, .ref (A 0)), (1, .int (jI to)), (2, .int (jI 3))]) 0 dX3_digits_36 rfl (by decide) rfl ?_
          refine js_goto (tgt := 2) dX3_digits_39 (by decide) ?_
          refine js_iload_n 0 dX3_digits_2 rfl ?_
          refine js_iload_n 3 dX3_digits_3 rfl ?_
          refine js_icmp_ge (tgt := 42) dX3_digits_4 (by decide) (by omega) (fun c18 => ?_) (fun c18 => ?_)
          · exfalso; revert c18; decide
          · refine js_aload_n 1 dX3_digits_7 rfl ?_
            refine js_iload_n 0 dX3_digits_8 rfl ?_
            refine js_if_le (tgt := 17) dX3_digits_9 (by decide) (by omega) (fun c19 => ?_) (fun c19 => ?_)
            · exfalso; revert c19; decide
            · obtain ⟨ka19, kb19, kx19, ky19, kv19, kh19, ki19⟩ := hK.2.2 19 " " rfl
              refine js_ldcS 19 rfl kv19 dX3_digits_12 ?_
              refine js_goto (tgt := 19) dX3_digits_14 (by decide) ?_
              refine eX3_247 rfl dX3_digits_19 ((js_up_n (js_nek p15_0 p15_10 js_kOA)).trans p15_0) (com_skip hA ⟨((js_up_n (js_nek p15_0 p15_10 js_kOA)).trans p15_0), ((js_up_n (hA 1 10 (by decide) (by decide) (by decide))).trans p15_1), ((js_up_n (hA 2 10 (by decide) (by decide) (by decide))).trans p15_2), ((js_up_n (hA 3 10 (by decide) (by decide) (by decide))).trans p15_3), ((js_up_n (hA 4 10 (by decide) (by decide) (by decide))).trans p15_4), ((js_up_n (hA 5 10 (by decide) (by decide) (by decide))).trans p15_5), ((js_up_n (hA 6 10 (by decide) (by decide) (by decide))).trans p15_6), ((js_up_n (hA 7 10 (by decide) (by decide) (by decide))).trans p15_7), ((js_up_n (hA 8 10 (by decide) (by decide) (by decide))).trans p15_8), ((js_up_n (hA 9 10 (by decide) (by decide) (by decide))).trans p15_9), js_up_s, ((js_up_n (Ne.symm (hA 10 11 (by decide) (by decide) (by decide)))).trans p15_11)⟩ ok16 hl ht hK ⟨kh19, ki19⟩ (by decide) (zcl_r _ (by decide))) (Nat.le_of_ble_eq_true rfl) (Nat.le_of_ble_eq_true rfl) ?_
              rw [zH_fr (fun q hq => ((js_up_n (hq 10 (by decide))).trans (zH_n hq)))]
              obtain ⟨p20_0, p20_1, p20_2, p20_3, p20_4, p20_5, p20_6, p20_7, p20_8, p20_9, p20_10, p20_11⟩ := zH_Mc (h := h) (f := f) (bef := bef) (asd := asd) (svd := svd) (pas := pas) (rf := rf) (it := it) (wt := wt) (tx := tx) (od := js_uz (js_uz od ((to + 1) + 0) (zdv tx len p)) ((to + 1) + (0 + 1)) (zdv tx len (zsk tx len " " (zdp tx len p)))) (ln := ln) (isS := isS) (pm := pm) (th := th) (len := len) (at_ := (zsk tx len " " (zdp tx len (zsk tx len " " (zdp tx len p)))).1) (wr := (zsk tx len " " (zdp tx len (zsk tx len " " (zdp tx len p)))).2) (fa := fa) (om := om) (lm := lm) hA
              show js_ok ρ mX3_digits _ 5 0 0 22 [(3, .int (jI ((0 + 1) + 1))), (0, .ref (A 0)), (1, .int (jI to)), (2, .int (jI 3))] [] (zH A f bef asd svd pas rf it wt tx (js_uz (js_uz od ((to + 1) + 0) (zdv tx len p)) ((to + 1) + (0 + 1)) (zdv tx len (zsk tx len " " (zdp tx len p)))) ln isS pm th len ((zsk tx len " " (zdp tx len (zsk tx len " " (zdp tx len p)))).1) ((zsk tx len " " (zdp tx len (zsk tx len " " (zdp tx len p)))).2) fa om lm h)
              have ok21 : zpok len (zsk tx len " " (zdp tx len (zsk tx len " " (zdp tx len p)))) := zsk_ok ok16
              have kk21 := ok21.1
              have km21 := ok21.2
              refine js_old (fun o22 => ?_)
              refine js_aload_n 1 dX3_digits_22 rfl ?_
              refine gX3_43 rfl dX3_digits_23 p20_0 rfl ?_
              refine js_iload_n 2 dX3_digits_26 rfl ?_
              refine js_iconst dX3_digits_27 ?_
              refine js_iadd dX3_digits_28 ?_
              refine js_iload_n 0 dX3_digits_29 rfl ?_
              refine js_iadd dX3_digits_30 ?_
              refine js_aload_n 1 dX3_digits_31 rfl ?_
              refine eX3_237 rfl dX3_digits_32 p20_0 (com_digit hA ⟨p20_0, p20_1, p20_2, p20_3, p20_4, p20_5, p20_6, p20_7, p20_8, p20_9, p20_10, p20_11⟩ ok21 hl ht) (Nat.le_of_ble_eq_true rfl) (Nat.le_of_ble_eq_true rfl) ?_
              rw [zH_fr (fun q hq => (zH_n hq))]
              obtain ⟨p23_0, p23_1, p23_2, p23_3, p23_4, p23_5, p23_6, p23_7, p23_8, p23_9, p23_10, p23_11⟩ := zH_Mc (h := h) (f := f) (bef := bef) (asd := asd) (svd := svd) (pas := pas) (rf := rf) (it := it) (wt := wt) (tx := tx) (od := js_uz (js_uz od ((to + 1) + 0) (zdv tx len p)) ((to + 1) + (0 + 1)) (zdv tx len (zsk tx len " " (zdp tx len p)))) (ln := ln) (isS := isS) (pm := pm) (th := th) (len := len) (at_ := (zdp tx len (zsk tx len " " (zdp tx len (zsk tx len " " (zdp tx len p))))).1) (wr := (zdp tx len (zsk tx len " " (zdp tx len (zsk tx len " " (zdp tx len p))))).2) (fa := fa) (om := om) (lm := lm) hA
              show js_ok ρ mX3_digits _ 5 0 0 35 [(3, .int (jI ((0 + 1) + 1))), (0, .ref (A 0)), (1, .int (jI to)), (2, .int (jI 3))] [.int (jI (zdv tx len (zsk tx len " " (zdp tx len (zsk tx len " " (zdp tx len p)))))), .int (jI ((to + 1) + ((0 + 1) + 1))), .ref (A 10)] (zH A f bef asd svd pas rf it wt tx (js_uz (js_uz od ((to + 1) + 0) (zdv tx len p)) ((to + 1) + (0 + 1)) (zdv tx len (zsk tx len " " (zdp tx len p)))) ln isS pm th len ((zdp tx len (zsk tx len " " (zdp tx len (zsk tx len " " (zdp tx len p))))).1) ((zdp tx len (zsk tx len " " (zdp tx len (zsk tx len " " (zdp tx len p))))).2) fa om lm h)
              have ok24 : zpok len (zdp tx len (zsk tx len " " (zdp tx len (zsk tx len " " (zdp tx len p))))) := zdp_ok ok21
              have kk24 := ok24.1
              have km24 := ok24.2
              show js_ok ρ mX3_digits _ 5 0 0 35 [(3, .int (jI ((0 + 1) + 1))), (0, .ref (A 0)), (1, .int (jI to)), (2, .int (jI 3))] [.int (jI (zdv tx len (zsk tx len " " (zdp tx len (zsk tx len " " (zdp tx len p)))))), .int (jI ((to + 1) + ((0 + 1) + 1))), .ref (A 10)] (zH A f bef asd svd pas rf it wt tx (js_uz (js_uz od ((to + 1) + 0) (zdv tx len p)) ((to + 1) + (0 + 1)) (zdv tx len (zsk tx len " " (zdp tx len p)))) ln isS pm th len ((zdp tx len (zsk tx len " " (zdp tx len (zsk tx len " " (zdp tx len p))))).1) ((zdp tx len (zsk tx len " " (zdp tx len (zsk tx len " " (zdp tx len p))))).2) fa om lm h)
              refine js_old (fun o25 => ?_)
              refine js_iastore dX3_digits_35 p23_10 (by omega) ?_
              show js_ok ρ mX3_digits _ 5 0 0 36 [(3, .int (jI ((0 + 1) + 1))), (0, .ref (A 0)), (1, .int (jI to)), (2, .int (jI 3))] [] (js_up (zH A f bef asd svd pas rf it wt tx (js_uz (js_uz od ((to + 1) + 0) (zdv tx len p)) ((to + 1) + (0 + 1)) (zdv tx len (zsk tx len " " (zdp tx len p)))) ln isS pm th len ((zdp tx len (zsk tx len " " (zdp tx len (zsk tx len " " (zdp tx len p))))).1) ((zdp tx len (zsk tx len " " (zdp tx len (zsk tx len " " (zdp tx len p))))).2) fa om lm h) (A 10) (js_aI true 0 300 (js_uz (js_uz (js_uz od ((to + 1) + 0) (zdv tx len p)) ((to + 1) + (0 + 1)) (zdv tx len (zsk tx len " " (zdp tx len p)))) ((to + 1) + ((0 + 1) + 1)) (zdv tx len (zsk tx len " " (zdp tx len (zsk tx len " " (zdp tx len p))))))))
              refine js_iinc (L' := [(3, .int (jI (((0 + 1) + 1) + 1))), (0, .ref (A 0)), (1, .int (jI to)), (2, .int (jI 3))]) 0 dX3_digits_36 rfl (by decide) rfl ?_
              refine js_goto (tgt := 2) dX3_digits_39 (by decide) ?_
              refine js_iload_n 0 dX3_digits_2 rfl ?_
              refine js_iload_n 3 dX3_digits_3 rfl ?_
              refine js_icmp_ge (tgt := 42) dX3_digits_4 (by decide) (by omega) (fun c26 => ?_) (fun c26 => ?_)
              · exact js_vret rfl dX3_digits_42 ⟨rfl, (zH_eq hA ((js_up_n (js_nek p23_0 p23_10 js_kOA)).trans p23_0) ((js_up_n (hA 1 10 (by decide) (by decide) (by decide))).trans p23_1) ((js_up_n (hA 2 10 (by decide) (by decide) (by decide))).trans p23_2) ((js_up_n (hA 3 10 (by decide) (by decide) (by decide))).trans p23_3) ((js_up_n (hA 4 10 (by decide) (by decide) (by decide))).trans p23_4) ((js_up_n (hA 5 10 (by decide) (by decide) (by decide))).trans p23_5) ((js_up_n (hA 6 10 (by decide) (by decide) (by decide))).trans p23_6) ((js_up_n (hA 7 10 (by decide) (by decide) (by decide))).trans p23_7) ((js_up_n (hA 8 10 (by decide) (by decide) (by decide))).trans p23_8) ((js_up_n (hA 9 10 (by decide) (by decide) (by decide))).trans p23_9) js_up_s ((js_up_n (Ne.symm (hA 10 11 (by decide) (by decide) (by decide)))).trans p23_11) (fun q hq => ((js_up_n (hq 10 (by decide))).trans (zH_n hq))))⟩
              · exfalso; revert c26; decide
    · exfalso; revert c2; decide
theorem com_ss {ρ : js_R} {h : js_H} {A : Nat → Nat} {f bef asd svd pas rf it wt tx od ln : Int → Int} {isS pm th len fa om lm : Int} {p : zP} {to : Int} {fm : Nat}  (hA : zA A) (hp : zMc A f bef asd svd pas rf it wt tx od ln isS pm th len p.1 p.2 fa om lm h) (hp0 : zpok len p) (hl : 0 ≤ len ∧ len ≤ 60) (ht : ∀ j : Int, 0 ≤ j → j < 60 → 0 ≤ tx j ∧ tx j < 128) (hK : zK ρ fm) (hto : 0 ≤ to ∧ to + 5 ≤ 300)  : js_Con ρ mX3_readSpireOrSeal 6 0 0 [.ref (A 0), .int (jI to)] h (js_ret none (zH A f bef asd svd pas rf it wt tx (zsso tx len p od to) ln isS pm th len ((zssp tx len p).1) ((zssp tx len p).2) fa om lm h)) := by
  refine js_body [(0, .ref (A 0)), (1, .int (jI to))] rfl (by decide) (Nat.le_of_ble_eq_true rfl) rfl ?_
  obtain ⟨p0, p1, p2, p3, p4, p5, p6, p7, p8, p9, p10, p11⟩ := hp
  have k1 := hp0.1
  have k2 := hp0.2
  by_cases hz : zis tx len 112 112 (zsk tx len "s" p)
  · have ez : zssp tx len p = zsp1 tx len "nesw" (zptp tx len (zsk tx len "pire " (zsk tx len "s" p))) := if_pos hz
    have eo : zsso tx len p od to = js_uz (zpto tx len (zsk tx len "pire " (zsk tx len "s" p)) od to) (to + 3) (zsv1 tx len "nesw" (zptp tx len (zsk tx len "pire " (zsk tx len "s" p))) + 1) := if_pos hz
    rw [ez, eo]
    refine js_aload_n 0 dX3_readSpireOrSeal_0 rfl ?_
    obtain ⟨ka30, kb30, kx30, ky30, kv30, kh30, ki30⟩ := hK.2.2 30 "s" rfl
    refine js_ldcwS 30 rfl kv30 dX3_readSpireOrSeal_1 ?_
    refine js_old (fun o1 => ?_)
    refine eX3_247 rfl dX3_readSpireOrSeal_4 p0 (com_skip hA ⟨p0, p1, p2, p3, p4, p5, p6, p7, p8, p9, p10, p11⟩ hp0 hl ht hK ⟨kh30, ki30⟩ (by decide) (zcl_r _ (by decide))) (Nat.le_of_ble_eq_true rfl) (Nat.le_of_ble_eq_true rfl) ?_
    rw [zH_fr (fun q hq => rfl)]
    obtain ⟨p2_0, p2_1, p2_2, p2_3, p2_4, p2_5, p2_6, p2_7, p2_8, p2_9, p2_10, p2_11⟩ := zH_Mc (h := h) (f := f) (bef := bef) (asd := asd) (svd := svd) (pas := pas) (rf := rf) (it := it) (wt := wt) (tx := tx) (od := od) (ln := ln) (isS := isS) (pm := pm) (th := th) (len := len) (at_ := (zsk tx len "s" p).1) (wr := (zsk tx len "s" p).2) (fa := fa) (om := om) (lm := lm) hA
    show js_ok ρ mX3_readSpireOrSeal _ 6 0 0 7 [(0, .ref (A 0)), (1, .int (jI to))] [] (zH A f bef asd svd pas rf it wt tx od ln isS pm th len ((zsk tx len "s" p).1) ((zsk tx len "s" p).2) fa om lm h)
    have ok3 : zpok len (zsk tx len "s" p) := zsk_ok hp0
    have kk3 := ok3.1
    have km3 := ok3.2
    refine js_old (fun o4 => ?_)
    refine js_aload_n 0 dX3_readSpireOrSeal_7 rfl ?_
    refine js_bipush dX3_readSpireOrSeal_8 rfl ?_
    refine js_bipush dX3_readSpireOrSeal_10 rfl ?_
    refine eX3_220 rfl dX3_readSpireOrSeal_12 p2_0 (com_isHere hA ⟨p2_0, p2_1, p2_2, p2_3, p2_4, p2_5, p2_6, p2_7, p2_8, p2_9, p2_10, p2_11⟩ ok3 hl ht (by omega) (by omega)) (Nat.le_of_ble_eq_true rfl) (Nat.le_of_ble_eq_true rfl) ?_
    refine js_if_eqB (tgt := 50) dX3_readSpireOrSeal_15 (by decide) (fun c5 => ?_) (fun c5 => ?_)
    · exfalso; exact absurd hz c5
    · refine js_aload_n 0 dX3_readSpireOrSeal_18 rfl ?_
      obtain ⟨ka31, kb31, kx31, ky31, kv31, kh31, ki31⟩ := hK.2.2 31 "pire " rfl
      refine js_ldcwS 31 rfl kv31 dX3_readSpireOrSeal_19 ?_
      refine js_old (fun o6 => ?_)
      refine eX3_247 rfl dX3_readSpireOrSeal_22 p2_0 (com_skip hA ⟨p2_0, p2_1, p2_2, p2_3, p2_4, p2_5, p2_6, p2_7, p2_8, p2_9, p2_10, p2_11⟩ ok3 hl ht hK ⟨kh31, ki31⟩ (by decide) (zcl_r _ (by decide))) (Nat.le_of_ble_eq_true rfl) (Nat.le_of_ble_eq_true rfl) ?_
      rw [zH_fr (fun q hq => (zH_n hq))]
      obtain ⟨p7_0, p7_1, p7_2, p7_3, p7_4, p7_5, p7_6, p7_7, p7_8, p7_9, p7_10, p7_11⟩ := zH_Mc (h := h) (f := f) (bef := bef) (asd := asd) (svd := svd) (pas := pas) (rf := rf) (it := it) (wt := wt) (tx := tx) (od := od) (ln := ln) (isS := isS) (pm := pm) (th := th) (len := len) (at_ := (zsk tx len "pire " (zsk tx len "s" p)).1) (wr := (zsk tx len "pire " (zsk tx len "s" p)).2) (fa := fa) (om := om) (lm := lm) hA
      show js_ok ρ mX3_readSpireOrSeal _ 6 0 0 25 [(0, .ref (A 0)), (1, .int (jI to))] [] (zH A f bef asd svd pas rf it wt tx od ln isS pm th len ((zsk tx len "pire " (zsk tx len "s" p)).1) ((zsk tx len "pire " (zsk tx len "s" p)).2) fa om lm h)
      have ok8 : zpok len (zsk tx len "pire " (zsk tx len "s" p)) := zsk_ok ok3
      have kk8 := ok8.1
      have km8 := ok8.2
      refine js_old (fun o9 => ?_)
      refine js_aload_n 0 dX3_readSpireOrSeal_25 rfl ?_
      refine js_iload_n 1 dX3_readSpireOrSeal_26 rfl ?_
      refine eX3_256 rfl dX3_readSpireOrSeal_27 p7_0 (com_point hA ⟨p7_0, p7_1, p7_2, p7_3, p7_4, p7_5, p7_6, p7_7, p7_8, p7_9, p7_10, p7_11⟩ ok8 hl ht hK (by omega)) (Nat.le_of_ble_eq_true rfl) (Nat.le_of_ble_eq_true rfl) ?_
      rw [zH_fr (fun q hq => (zH_n hq))]
      obtain ⟨p10_0, p10_1, p10_2, p10_3, p10_4, p10_5, p10_6, p10_7, p10_8, p10_9, p10_10, p10_11⟩ := zH_Mc (h := h) (f := f) (bef := bef) (asd := asd) (svd := svd) (pas := pas) (rf := rf) (it := it) (wt := wt) (tx := tx) (od := zpto tx len (zsk tx len "pire " (zsk tx len "s" p)) od to) (ln := ln) (isS := isS) (pm := pm) (th := th) (len := len) (at_ := (zptp tx len (zsk tx len "pire " (zsk tx len "s" p))).1) (wr := (zptp tx len (zsk tx len "pire " (zsk tx len "s" p))).2) (fa := fa) (om := om) (lm := lm) hA
      show js_ok ρ mX3_readSpireOrSeal _ 6 0 0 30 [(0, .ref (A 0)), (1, .int (jI to))] [] (zH A f bef asd svd pas rf it wt tx (zpto tx len (zsk tx len "pire " (zsk tx len "s" p)) od to) ln isS pm th len ((zptp tx len (zsk tx len "pire " (zsk tx len "s" p))).1) ((zptp tx len (zsk tx len "pire " (zsk tx len "s" p))).2) fa om lm h)
      have ok11 : zpok len (zptp tx len (zsk tx len "pire " (zsk tx len "s" p))) := zptp_ok ok8
      have kk11 := ok11.1
      have km11 := ok11.2
      refine js_old (fun o12 => ?_)
      refine js_aload_n 0 dX3_readSpireOrSeal_30 rfl ?_
      refine gX3_43 rfl dX3_readSpireOrSeal_31 p10_0 rfl ?_
      refine js_iload_n 1 dX3_readSpireOrSeal_34 rfl ?_
      refine js_iconst dX3_readSpireOrSeal_35 ?_
      refine js_iadd dX3_readSpireOrSeal_36 ?_
      refine js_aload_n 0 dX3_readSpireOrSeal_37 rfl ?_
      obtain ⟨ka32, kb32, kx32, ky32, kv32, kh32, ki32⟩ := hK.2.2 32 "nesw" rfl
      refine js_ldcwS 32 rfl kv32 dX3_readSpireOrSeal_38 ?_
      refine js_old (fun o13 => ?_)
      refine eX3_271 rfl dX3_readSpireOrSeal_41 p10_0 (com_side hA ⟨p10_0, p10_1, p10_2, p10_3, p10_4, p10_5, p10_6, p10_7, p10_8, p10_9, p10_10, p10_11⟩ ok11 hl ht hK ⟨kh32, ki32⟩ (by decide) (zcl_r _ (by decide))) (Nat.le_of_ble_eq_true rfl) (Nat.le_of_ble_eq_true rfl) ?_
      rw [zH_fr (fun q hq => (zH_n hq))]
      obtain ⟨p14_0, p14_1, p14_2, p14_3, p14_4, p14_5, p14_6, p14_7, p14_8, p14_9, p14_10, p14_11⟩ := zH_Mc (h := h) (f := f) (bef := bef) (asd := asd) (svd := svd) (pas := pas) (rf := rf) (it := it) (wt := wt) (tx := tx) (od := zpto tx len (zsk tx len "pire " (zsk tx len "s" p)) od to) (ln := ln) (isS := isS) (pm := pm) (th := th) (len := len) (at_ := (zsp1 tx len "nesw" (zptp tx len (zsk tx len "pire " (zsk tx len "s" p)))).1) (wr := (zsp1 tx len "nesw" (zptp tx len (zsk tx len "pire " (zsk tx len "s" p)))).2) (fa := fa) (om := om) (lm := lm) hA
      show js_ok ρ mX3_readSpireOrSeal _ 6 0 0 44 [(0, .ref (A 0)), (1, .int (jI to))] [.int (jI (zsv1 tx len "nesw" (zptp tx len (zsk tx len "pire " (zsk tx len "s" p))))), .int (jI (to + 3)), .ref (A 10)] (zH A f bef asd svd pas rf it wt tx (zpto tx len (zsk tx len "pire " (zsk tx len "s" p)) od to) ln isS pm th len ((zsp1 tx len "nesw" (zptp tx len (zsk tx len "pire " (zsk tx len "s" p)))).1) ((zsp1 tx len "nesw" (zptp tx len (zsk tx len "pire " (zsk tx len "s" p)))).2) fa om lm h)
      have ok15 : zpok len (zsp1 tx len "nesw" (zptp tx len (zsk tx len "pire " (zsk tx len "s" p)))) := zsp1_ok ok11
      have kk15 := ok15.1
      have km15 := ok15.2
      show js_ok ρ mX3_readSpireOrSeal _ 6 0 0 44 [(0, .ref (A 0)), (1, .int (jI to))] [.int (jI (zsv1 tx len "nesw" (zptp tx len (zsk tx len "pire " (zsk tx len "s" p))))), .int (jI (to + 3)), .ref (A 10)] (zH A f bef asd svd pas rf it wt tx (zpto tx len (zsk tx len "pire " (zsk tx len "s" p)) od to) ln isS pm th len ((zsp1 tx len "nesw" (zptp tx len (zsk tx len "pire " (zsk tx len "s" p)))).1) ((zsp1 tx len "nesw" (zptp tx len (zsk tx len "pire " (zsk tx len "s" p)))).2) fa om lm h)
      refine js_old (fun o16 => ?_)
      refine js_iconst dX3_readSpireOrSeal_44 ?_
      refine js_iadd dX3_readSpireOrSeal_45 ?_
      refine js_iastore dX3_readSpireOrSeal_46 p14_10 (by omega) ?_
      show js_ok ρ mX3_readSpireOrSeal _ 6 0 0 47 [(0, .ref (A 0)), (1, .int (jI to))] [] (js_up (zH A f bef asd svd pas rf it wt tx (zpto tx len (zsk tx len "pire " (zsk tx len "s" p)) od to) ln isS pm th len ((zsp1 tx len "nesw" (zptp tx len (zsk tx len "pire " (zsk tx len "s" p)))).1) ((zsp1 tx len "nesw" (zptp tx len (zsk tx len "pire " (zsk tx len "s" p)))).2) fa om lm h) (A 10) (js_aI true 0 300 (js_uz (zpto tx len (zsk tx len "pire " (zsk tx len "s" p)) od to) (to + 3) ((zsv1 tx len "nesw" (zptp tx len (zsk tx len "pire " (zsk tx len "s" p)))) + 1))))
      refine js_goto (tgt := 71) dX3_readSpireOrSeal_47 (by decide) ?_
      exact js_vret rfl dX3_readSpireOrSeal_71 ⟨rfl, (zH_eq hA ((js_up_n (js_nek p14_0 p14_10 js_kOA)).trans p14_0) ((js_up_n (hA 1 10 (by decide) (by decide) (by decide))).trans p14_1) ((js_up_n (hA 2 10 (by decide) (by decide) (by decide))).trans p14_2) ((js_up_n (hA 3 10 (by decide) (by decide) (by decide))).trans p14_3) ((js_up_n (hA 4 10 (by decide) (by decide) (by decide))).trans p14_4) ((js_up_n (hA 5 10 (by decide) (by decide) (by decide))).trans p14_5) ((js_up_n (hA 6 10 (by decide) (by decide) (by decide))).trans p14_6) ((js_up_n (hA 7 10 (by decide) (by decide) (by decide))).trans p14_7) ((js_up_n (hA 8 10 (by decide) (by decide) (by decide))).trans p14_8) ((js_up_n (hA 9 10 (by decide) (by decide) (by decide))).trans p14_9) js_up_s ((js_up_n (Ne.symm (hA 10 11 (by decide) (by decide) (by decide)))).trans p14_11) (fun q hq => ((js_up_n (hq 10 (by decide))).trans (zH_n hq))))⟩
  · have ez : zssp tx len p = zdgp tx len (zsk tx len "eal " (zsk tx len "s" p)) 2 := if_neg hz
    have eo : zsso tx len p od to = zdgo tx len (zsk tx len "eal " (zsk tx len "s" p)) (js_uz od to 108) to 2 := if_neg hz
    rw [ez, eo]
    refine js_old (fun o17 => ?_)
    refine js_aload_n 0 dX3_readSpireOrSeal_0 rfl ?_
    obtain ⟨ka30, kb30, kx30, ky30, kv30, kh30, ki30⟩ := hK.2.2 30 "s" rfl
    refine js_ldcwS 30 rfl kv30 dX3_readSpireOrSeal_1 ?_
    refine eX3_247 rfl dX3_readSpireOrSeal_4 p0 (com_skip hA ⟨p0, p1, p2, p3, p4, p5, p6, p7, p8, p9, p10, p11⟩ hp0 hl ht hK ⟨kh30, ki30⟩ (by decide) (zcl_r _ (by decide))) (Nat.le_of_ble_eq_true rfl) (Nat.le_of_ble_eq_true rfl) ?_
    rw [zH_fr (fun q hq => rfl)]
    obtain ⟨p18_0, p18_1, p18_2, p18_3, p18_4, p18_5, p18_6, p18_7, p18_8, p18_9, p18_10, p18_11⟩ := zH_Mc (h := h) (f := f) (bef := bef) (asd := asd) (svd := svd) (pas := pas) (rf := rf) (it := it) (wt := wt) (tx := tx) (od := od) (ln := ln) (isS := isS) (pm := pm) (th := th) (len := len) (at_ := (zsk tx len "s" p).1) (wr := (zsk tx len "s" p).2) (fa := fa) (om := om) (lm := lm) hA
    show js_ok ρ mX3_readSpireOrSeal _ 6 0 0 7 [(0, .ref (A 0)), (1, .int (jI to))] [] (zH A f bef asd svd pas rf it wt tx od ln isS pm th len ((zsk tx len "s" p).1) ((zsk tx len "s" p).2) fa om lm h)
    have ok19 : zpok len (zsk tx len "s" p) := zsk_ok hp0
    have kk19 := ok19.1
    have km19 := ok19.2
    refine js_old (fun o20 => ?_)
    refine js_aload_n 0 dX3_readSpireOrSeal_7 rfl ?_
    refine js_bipush dX3_readSpireOrSeal_8 rfl ?_
    refine js_bipush dX3_readSpireOrSeal_10 rfl ?_
    refine eX3_220 rfl dX3_readSpireOrSeal_12 p18_0 (com_isHere hA ⟨p18_0, p18_1, p18_2, p18_3, p18_4, p18_5, p18_6, p18_7, p18_8, p18_9, p18_10, p18_11⟩ ok19 hl ht (by omega) (by omega)) (Nat.le_of_ble_eq_true rfl) (Nat.le_of_ble_eq_true rfl) ?_
    refine js_if_eqB (tgt := 50) dX3_readSpireOrSeal_15 (by decide) (fun c21 => ?_) (fun c21 => ?_)
    · refine js_aload_n 0 dX3_readSpireOrSeal_50 rfl ?_
      refine gX3_43 rfl dX3_readSpireOrSeal_51 p18_0 rfl ?_
      refine js_iload_n 1 dX3_readSpireOrSeal_54 rfl ?_
      refine js_bipush dX3_readSpireOrSeal_55 rfl ?_
      refine js_iastore dX3_readSpireOrSeal_57 p18_10 (by omega) ?_
      show js_ok ρ mX3_readSpireOrSeal _ 6 0 0 58 [(0, .ref (A 0)), (1, .int (jI to))] [] (js_up (zH A f bef asd svd pas rf it wt tx od ln isS pm th len ((zsk tx len "s" p).1) ((zsk tx len "s" p).2) fa om lm h) (A 10) (js_aI true 0 300 (js_uz od to 108)))
      refine js_aload_n 0 dX3_readSpireOrSeal_58 rfl ?_
      obtain ⟨ka33, kb33, kx33, ky33, kv33, kh33, ki33⟩ := hK.2.2 33 "eal " rfl
      refine js_ldcwS 33 rfl kv33 dX3_readSpireOrSeal_59 ?_
      refine js_old (fun o22 => ?_)
      refine eX3_247 rfl dX3_readSpireOrSeal_62 ((js_up_n (js_nek p18_0 p18_10 js_kOA)).trans p18_0) (com_skip hA ⟨((js_up_n (js_nek p18_0 p18_10 js_kOA)).trans p18_0), ((js_up_n (hA 1 10 (by decide) (by decide) (by decide))).trans p18_1), ((js_up_n (hA 2 10 (by decide) (by decide) (by decide))).trans p18_2), ((js_up_n (hA 3 10 (by decide) (by decide) (by decide))).trans p18_3), ((js_up_n (hA 4 10 (by decide) (by decide) (by decide))).trans p18_4), ((js_up_n (hA 5 10 (by decide) (by decide) (by decide))).trans p18_5), ((js_up_n (hA 6 10 (by decide) (by decide) (by decide))).trans p18_6), ((js_up_n (hA 7 10 (by decide) (by decide) (by decide))).trans p18_7), ((js_up_n (hA 8 10 (by decide) (by decide) (by decide))).trans p18_8), ((js_up_n (hA 9 10 (by decide) (by decide) (by decide))).trans p18_9), js_up_s, ((js_up_n (Ne.symm (hA 10 11 (by decide) (by decide) (by decide)))).trans p18_11)⟩ ok19 hl ht hK ⟨kh33, ki33⟩ (by decide) (zcl_r _ (by decide))) (Nat.le_of_ble_eq_true rfl) (Nat.le_of_ble_eq_true rfl) ?_
      rw [zH_fr (fun q hq => ((js_up_n (hq 10 (by decide))).trans (zH_n hq)))]
      obtain ⟨p23_0, p23_1, p23_2, p23_3, p23_4, p23_5, p23_6, p23_7, p23_8, p23_9, p23_10, p23_11⟩ := zH_Mc (h := h) (f := f) (bef := bef) (asd := asd) (svd := svd) (pas := pas) (rf := rf) (it := it) (wt := wt) (tx := tx) (od := js_uz od to 108) (ln := ln) (isS := isS) (pm := pm) (th := th) (len := len) (at_ := (zsk tx len "eal " (zsk tx len "s" p)).1) (wr := (zsk tx len "eal " (zsk tx len "s" p)).2) (fa := fa) (om := om) (lm := lm) hA
      show js_ok ρ mX3_readSpireOrSeal _ 6 0 0 65 [(0, .ref (A 0)), (1, .int (jI to))] [] (zH A f bef asd svd pas rf it wt tx (js_uz od to 108) ln isS pm th len ((zsk tx len "eal " (zsk tx len "s" p)).1) ((zsk tx len "eal " (zsk tx len "s" p)).2) fa om lm h)
      have ok24 : zpok len (zsk tx len "eal " (zsk tx len "s" p)) := zsk_ok ok19
      have kk24 := ok24.1
      have km24 := ok24.2
      refine js_old (fun o25 => ?_)
      refine js_aload_n 0 dX3_readSpireOrSeal_65 rfl ?_
      refine js_iload_n 1 dX3_readSpireOrSeal_66 rfl ?_
      refine js_iconst dX3_readSpireOrSeal_67 ?_
      refine eX3_277 rfl dX3_readSpireOrSeal_68 p23_0 (com_digits2 hA ⟨p23_0, p23_1, p23_2, p23_3, p23_4, p23_5, p23_6, p23_7, p23_8, p23_9, p23_10, p23_11⟩ ok24 hl ht hK (by omega)) (Nat.le_of_ble_eq_true rfl) (Nat.le_of_ble_eq_true rfl) ?_
      rw [zH_fr (fun q hq => (zH_n hq))]
      obtain ⟨p26_0, p26_1, p26_2, p26_3, p26_4, p26_5, p26_6, p26_7, p26_8, p26_9, p26_10, p26_11⟩ := zH_Mc (h := h) (f := f) (bef := bef) (asd := asd) (svd := svd) (pas := pas) (rf := rf) (it := it) (wt := wt) (tx := tx) (od := zdgo tx len (zsk tx len "eal " (zsk tx len "s" p)) (js_uz od to 108) to 2) (ln := ln) (isS := isS) (pm := pm) (th := th) (len := len) (at_ := (zdgp tx len (zsk tx len "eal " (zsk tx len "s" p)) 2).1) (wr := (zdgp tx len (zsk tx len "eal " (zsk tx len "s" p)) 2).2) (fa := fa) (om := om) (lm := lm) hA
      show js_ok ρ mX3_readSpireOrSeal _ 6 0 0 71 [(0, .ref (A 0)), (1, .int (jI to))] [] (zH A f bef asd svd pas rf it wt tx (zdgo tx len (zsk tx len "eal " (zsk tx len "s" p)) (js_uz od to 108) to 2) ln isS pm th len ((zdgp tx len (zsk tx len "eal " (zsk tx len "s" p)) 2).1) ((zdgp tx len (zsk tx len "eal " (zsk tx len "s" p)) 2).2) fa om lm h)
      have ok27 : zpok len (zdgp tx len (zsk tx len "eal " (zsk tx len "s" p)) 2) := zdgp_ok 2 ok24
      have kk27 := ok27.1
      have km27 := ok27.2
      refine js_old (fun o28 => ?_)
      exact js_vret rfl dX3_readSpireOrSeal_71 ⟨rfl, (zH_eq hA p26_0 p26_1 p26_2 p26_3 p26_4 p26_5 p26_6 p26_7 p26_8 p26_9 p26_10 p26_11 (fun q hq => (zH_n hq)))⟩
    · exfalso; exact absurd c21 hz
theorem com_readOrder {ρ : js_R} {h : js_H} {A : Nat → Nat} {f bef asd svd pas rf it wt tx od ln : Int → Int} {isS pm th len fa om lm : Int} {p : zP} {fm : Nat}  (hA : zA A) (hp : zMc A f bef asd svd pas rf it wt tx od ln isS pm th len p.1 p.2 fa om lm h) (hp0 : zpok len p) (hl : 0 ≤ len ∧ len ≤ 60) (ht : ∀ j : Int, 0 ≤ j → j < 60 → 0 ≤ tx j ∧ tx j < 128) (hK : zK ρ fm) (h0 : p.2 = 0) (hom : 0 ≤ om ∧ om < 60)  : js_Con ρ mX3_readOrder 7 0 0 [.ref (A 0)] h (js_ret none (zH A f bef asd svd pas rf it wt tx (zroo tx len p od (5 * om)) ln isS pm th len ((zrop tx len p).1) ((zrop tx len p).2) fa (om + 1) lm h)) := by
  refine js_body [(0, .ref (A 0))] rfl (by decide) (Nat.le_of_ble_eq_true rfl) rfl ?_
  obtain ⟨p0, p1, p2, p3, p4, p5, p6, p7, p8, p9, p10, p11⟩ := hp
  have k1 := hp0.1
  have k2 := hp0.2
  have hh : 0 ≤ zhere tx len p ∧ zhere tx len p < 128 := by
      unfold zhere
      split
      · exact ht p.1 (by omega) (by omega)
      · exact ⟨by decide, by decide⟩
  refine js_aload_n 0 dX3_readOrder_0 rfl ?_
  refine gX3_213 rfl dX3_readOrder_1 p0 rfl ?_
  refine js_if_eq (tgt := 8) dX3_readOrder_4 (by decide) (by omega) (fun c1 => ?_) (fun c1 => ?_)
  · refine js_iconst dX3_readOrder_8 ?_
    refine js_aload_n 0 dX3_readOrder_9 rfl ?_
    refine gX3_251 rfl dX3_readOrder_10 p0 rfl ?_
    refine js_imul dX3_readOrder_13 ?_
    refine js_istore_n (L' := [(1, .int (jI (5 * om))), (0, .ref (A 0))]) dX3_readOrder_14 (by decide) rfl ?_
    refine js_aload_n 1 dX3_readOrder_15 rfl ?_
    refine js_dup dX3_readOrder_16 rfl ?_
    refine gX3_251 rfl dX3_readOrder_17 p0 rfl ?_
    refine js_iconst dX3_readOrder_20 ?_
    refine js_iadd dX3_readOrder_21 ?_
    refine pX3_251 rfl dX3_readOrder_22 p0 (Nat.le_of_ble_eq_true rfl) rfl rfl ?_
    show js_ok ρ mX3_readOrder _ 7 0 0 25 [(1, .int (jI (5 * om))), (0, .ref (A 0))] [] (js_up h (A 0) (js_ob true 2 [.ref (A 1), .ref (A 2), .ref (A 3), .ref (A 4), .int (jI isS), .ref (A 5), .int (jI pm), .int (jI th), .ref (A 6), .ref (A 7), .ref (A 8), .ref (A 9), .int (jI len), .int (jI p.1), .int (jI p.2), .int (jI fa), .ref (A 10), .int (jI (om + 1)), .ref (A 11), .int (jI lm)]))
    refine js_join 49 [(1, .int (jI (5 * om))), (0, .ref (A 0))] [] (js_up h (A 0) (js_ob true 2 [.ref (A 1), .ref (A 2), .ref (A 3), .ref (A 4), .int (jI isS), .ref (A 5), .int (jI pm), .int (jI th), .ref (A 6), .ref (A 7), .ref (A 8), .ref (A 9), .int (jI len), .int (jI p.1), .int (jI p.2), .int (jI fa), .ref (A 10), .int (jI (om + 1)), .ref (A 11), .int (jI lm)])) (zhere tx len p) (fun z hz => ?_) (fun J2 => ?_)
    · subst hz
      refine js_istore_n (L' := [(2, .int (jI (zhere tx len p))), (1, .int (jI (5 * om))), (0, .ref (A 0))]) dX3_readOrder_49 (by decide) rfl ?_
      refine js_aload_n 2 dX3_readOrder_50 rfl ?_
      refine gX3_43 rfl dX3_readOrder_51 js_up_s rfl ?_
      refine js_iload_n 1 dX3_readOrder_54 rfl ?_
      refine js_iload_n 0 dX3_readOrder_55 rfl ?_
      refine js_iastore dX3_readOrder_56 ((js_up_n (js_nek p10 p0 js_kAO)).trans p10) (by omega) ?_
      show js_ok ρ mX3_readOrder _ 7 0 0 57 [(2, .int (jI (zhere tx len p))), (1, .int (jI (5 * om))), (0, .ref (A 0))] [] (js_up (js_up h (A 0) (js_ob true 2 [.ref (A 1), .ref (A 2), .ref (A 3), .ref (A 4), .int (jI isS), .ref (A 5), .int (jI pm), .int (jI th), .ref (A 6), .ref (A 7), .ref (A 8), .ref (A 9), .int (jI len), .int (jI p.1), .int (jI p.2), .int (jI fa), .ref (A 10), .int (jI (om + 1)), .ref (A 11), .int (jI lm)])) (A 10) (js_aI true 0 300 (js_uz od (5 * om) (zhere tx len p))))
      refine js_iload_n 0 dX3_readOrder_57 rfl ?_
      rcases (show ((zhere tx len p : Int) < 100 ∨ 119 < (zhere tx len p : Int)) ∨ (zhere tx len p : Int) = 100 ∨ (zhere tx len p : Int) = 101 ∨ (zhere tx len p : Int) = 102 ∨ (zhere tx len p : Int) = 103 ∨ (zhere tx len p : Int) = 104 ∨ (zhere tx len p : Int) = 105 ∨ (zhere tx len p : Int) = 106 ∨ (zhere tx len p : Int) = 107 ∨ (zhere tx len p : Int) = 108 ∨ (zhere tx len p : Int) = 109 ∨ (zhere tx len p : Int) = 110 ∨ (zhere tx len p : Int) = 111 ∨ (zhere tx len p : Int) = 112 ∨ (zhere tx len p : Int) = 113 ∨ (zhere tx len p : Int) = 114 ∨ (zhere tx len p : Int) = 115 ∨ (zhere tx len p : Int) = 116 ∨ (zhere tx len p : Int) = 117 ∨ (zhere tx len p : Int) = 118 ∨ (zhere tx len p : Int) = 119 from by omega) with t3 | t3 | t3 | t3 | t3 | t3 | t3 | t3 | t3 | t3 | t3 | t3 | t3 | t3 | t3 | t3 | t3 | t3 | t3 | t3 | t3
      · refine js_tableOut (tgt := 338) dX3_readOrder_58 (by omega) (by omega) (by decide) ?_
        refine js_aload_n 2 dX3_readOrder_338 rfl ?_
        obtain ⟨ka29, kb29, kx29, ky29, kv29, kh29, ki29⟩ := hK.2.2 29 "retire " rfl
        refine js_ldcwS 29 rfl kv29 dX3_readOrder_339 ?_
        refine js_old (fun o4 => ?_)
        refine eX3_247 rfl dX3_readOrder_342 ((js_up_n (js_nek p0 p10 js_kOA)).trans js_up_s) (com_skip hA ⟨((js_up_n (js_nek p0 p10 js_kOA)).trans js_up_s), ((js_up_n (hA 1 10 (by decide) (by decide) (by decide))).trans ((js_up_n (js_nek p1 p0 js_kAO)).trans p1)), ((js_up_n (hA 2 10 (by decide) (by decide) (by decide))).trans ((js_up_n (js_nek p2 p0 js_kAO)).trans p2)), ((js_up_n (hA 3 10 (by decide) (by decide) (by decide))).trans ((js_up_n (js_nek p3 p0 js_kAO)).trans p3)), ((js_up_n (hA 4 10 (by decide) (by decide) (by decide))).trans ((js_up_n (js_nek p4 p0 js_kAO)).trans p4)), ((js_up_n (hA 5 10 (by decide) (by decide) (by decide))).trans ((js_up_n (js_nek p5 p0 js_kAO)).trans p5)), ((js_up_n (hA 6 10 (by decide) (by decide) (by decide))).trans ((js_up_n (js_nek p6 p0 js_kAO)).trans p6)), ((js_up_n (hA 7 10 (by decide) (by decide) (by decide))).trans ((js_up_n (js_nek p7 p0 js_kAO)).trans p7)), ((js_up_n (hA 8 10 (by decide) (by decide) (by decide))).trans ((js_up_n (js_nek p8 p0 js_kAO)).trans p8)), ((js_up_n (hA 9 10 (by decide) (by decide) (by decide))).trans ((js_up_n (js_nek p9 p0 js_kAO)).trans p9)), js_up_s, ((js_up_n (Ne.symm (hA 10 11 (by decide) (by decide) (by decide)))).trans ((js_up_n (js_nek p11 p0 js_kAO)).trans p11))⟩ hp0 hl ht hK ⟨kh29, ki29⟩ (by decide) (zcl_r _ (by decide))) (Nat.le_of_ble_eq_true rfl) (Nat.le_of_ble_eq_true rfl) ?_
        rw [zH_fr (fun q hq => ((js_up_n (hq 10 (by decide))).trans ((js_up_n (hq 0 (by decide))).trans rfl)))]
        obtain ⟨p5_0, p5_1, p5_2, p5_3, p5_4, p5_5, p5_6, p5_7, p5_8, p5_9, p5_10, p5_11⟩ := zH_Mc (h := h) (f := f) (bef := bef) (asd := asd) (svd := svd) (pas := pas) (rf := rf) (it := it) (wt := wt) (tx := tx) (od := js_uz od (5 * om) (zhere tx len p)) (ln := ln) (isS := isS) (pm := pm) (th := th) (len := len) (at_ := (zsk tx len "retire " p).1) (wr := (zsk tx len "retire " p).2) (fa := fa) (om := om + 1) (lm := lm) hA
        show js_ok ρ mX3_readOrder _ 7 0 0 345 [(2, .int (jI (zhere tx len p))), (1, .int (jI (5 * om))), (0, .ref (A 0))] [] (zH A f bef asd svd pas rf it wt tx (js_uz od (5 * om) (zhere tx len p)) ln isS pm th len ((zsk tx len "retire " p).1) ((zsk tx len "retire " p).2) fa (om + 1) lm h)
        have ok6 : zpok len (zsk tx len "retire " p) := zsk_ok hp0
        have kk6 := ok6.1
        have km6 := ok6.2
        refine js_old (fun o7 => ?_)
        refine js_aload_n 2 dX3_readOrder_345 rfl ?_
        refine js_iload_n 1 dX3_readOrder_346 rfl ?_
        refine js_iconst dX3_readOrder_347 ?_
        refine eX3_277 rfl dX3_readOrder_348 p5_0 (com_digits1 hA ⟨p5_0, p5_1, p5_2, p5_3, p5_4, p5_5, p5_6, p5_7, p5_8, p5_9, p5_10, p5_11⟩ ok6 hl ht hK (by omega)) (Nat.le_of_ble_eq_true rfl) (Nat.le_of_ble_eq_true rfl) ?_
        rw [zH_fr (fun q hq => (zH_n hq))]
        obtain ⟨p8_0, p8_1, p8_2, p8_3, p8_4, p8_5, p8_6, p8_7, p8_8, p8_9, p8_10, p8_11⟩ := zH_Mc (h := h) (f := f) (bef := bef) (asd := asd) (svd := svd) (pas := pas) (rf := rf) (it := it) (wt := wt) (tx := tx) (od := zdgo tx len (zsk tx len "retire " p) (js_uz od (5 * om) (zhere tx len p)) (5 * om) 1) (ln := ln) (isS := isS) (pm := pm) (th := th) (len := len) (at_ := (zdgp tx len (zsk tx len "retire " p) 1).1) (wr := (zdgp tx len (zsk tx len "retire " p) 1).2) (fa := fa) (om := om + 1) (lm := lm) hA
        show js_ok ρ mX3_readOrder _ 7 0 0 351 [(2, .int (jI (zhere tx len p))), (1, .int (jI (5 * om))), (0, .ref (A 0))] [] (zH A f bef asd svd pas rf it wt tx (zdgo tx len (zsk tx len "retire " p) (js_uz od (5 * om) (zhere tx len p)) (5 * om) 1) ln isS pm th len ((zdgp tx len (zsk tx len "retire " p) 1).1) ((zdgp tx len (zsk tx len "retire " p) 1).2) fa (om + 1) lm h)
        have ok9 : zpok len (zdgp tx len (zsk tx len "retire " p) 1) := zdgp_ok 1 ok6
        have kk9 := ok9.1
        have km9 := ok9.2
        have e1 : zrop tx len p = zdgp tx len (zsk tx len "retire " p) 1 := by unfold zrop; rw [if_neg (by omega), if_neg (by omega), if_neg (by omega), if_neg (by omega), if_neg (by omega), if_neg (by omega), if_neg (by omega), if_neg (by omega)]
        have e2 : zroo tx len p od (5 * om) = zdgo tx len (zsk tx len "retire " p) (js_uz od (5 * om) (zhere tx len p)) (5 * om) 1 := by unfold zroo; rw [if_neg (by omega), if_neg (by omega), if_neg (by omega), if_neg (by omega), if_neg (by omega), if_neg (by omega), if_neg (by omega), if_neg (by omega)]
        rw [e1, e2]
        refine js_old (fun o10 => ?_)
        exact js_vret rfl dX3_readOrder_351 ⟨rfl, (zH_eq hA p8_0 p8_1 p8_2 p8_3 p8_4 p8_5 p8_6 p8_7 p8_8 p8_9 p8_10 p8_11 (fun q hq => (zH_n hq)))⟩
      · refine js_top (b := 100) t3 ?_
        refine js_tableIn (off := 210) (tgt := 268) dX3_readOrder_58 (by decide) (by decide) (by decide) rfl (by decide) ?_
        refine js_old (fun o11 => ?_)
        refine js_aload_n 2 dX3_readOrder_268 rfl ?_
        obtain ⟨ka25, kb25, kx25, ky25, kv25, kh25, ki25⟩ := hK.2.2 25 "drop " rfl
        refine js_ldcwS 25 rfl kv25 dX3_readOrder_269 ?_
        refine js_old (fun o12 => ?_)
        refine eX3_247 rfl dX3_readOrder_272 ((js_up_n (js_nek p0 p10 js_kOA)).trans js_up_s) (com_skip hA ⟨((js_up_n (js_nek p0 p10 js_kOA)).trans js_up_s), ((js_up_n (hA 1 10 (by decide) (by decide) (by decide))).trans ((js_up_n (js_nek p1 p0 js_kAO)).trans p1)), ((js_up_n (hA 2 10 (by decide) (by decide) (by decide))).trans ((js_up_n (js_nek p2 p0 js_kAO)).trans p2)), ((js_up_n (hA 3 10 (by decide) (by decide) (by decide))).trans ((js_up_n (js_nek p3 p0 js_kAO)).trans p3)), ((js_up_n (hA 4 10 (by decide) (by decide) (by decide))).trans ((js_up_n (js_nek p4 p0 js_kAO)).trans p4)), ((js_up_n (hA 5 10 (by decide) (by decide) (by decide))).trans ((js_up_n (js_nek p5 p0 js_kAO)).trans p5)), ((js_up_n (hA 6 10 (by decide) (by decide) (by decide))).trans ((js_up_n (js_nek p6 p0 js_kAO)).trans p6)), ((js_up_n (hA 7 10 (by decide) (by decide) (by decide))).trans ((js_up_n (js_nek p7 p0 js_kAO)).trans p7)), ((js_up_n (hA 8 10 (by decide) (by decide) (by decide))).trans ((js_up_n (js_nek p8 p0 js_kAO)).trans p8)), ((js_up_n (hA 9 10 (by decide) (by decide) (by decide))).trans ((js_up_n (js_nek p9 p0 js_kAO)).trans p9)), js_up_s, ((js_up_n (Ne.symm (hA 10 11 (by decide) (by decide) (by decide)))).trans ((js_up_n (js_nek p11 p0 js_kAO)).trans p11))⟩ hp0 hl ht hK ⟨kh25, ki25⟩ (by decide) (zcl_r _ (by decide))) (Nat.le_of_ble_eq_true rfl) (Nat.le_of_ble_eq_true rfl) ?_
        rw [zH_fr (fun q hq => ((js_up_n (hq 10 (by decide))).trans ((js_up_n (hq 0 (by decide))).trans rfl)))]
        obtain ⟨p13_0, p13_1, p13_2, p13_3, p13_4, p13_5, p13_6, p13_7, p13_8, p13_9, p13_10, p13_11⟩ := zH_Mc (h := h) (f := f) (bef := bef) (asd := asd) (svd := svd) (pas := pas) (rf := rf) (it := it) (wt := wt) (tx := tx) (od := js_uz od (5 * om) (zhere tx len p)) (ln := ln) (isS := isS) (pm := pm) (th := th) (len := len) (at_ := (zsk tx len "drop " p).1) (wr := (zsk tx len "drop " p).2) (fa := fa) (om := om + 1) (lm := lm) hA
        show js_ok ρ mX3_readOrder _ 7 0 0 275 [(2, .int (jI (zhere tx len p))), (1, .int (jI (5 * om))), (0, .ref (A 0))] [] (zH A f bef asd svd pas rf it wt tx (js_uz od (5 * om) (zhere tx len p)) ln isS pm th len ((zsk tx len "drop " p).1) ((zsk tx len "drop " p).2) fa (om + 1) lm h)
        have ok14 : zpok len (zsk tx len "drop " p) := zsk_ok hp0
        have kk14 := ok14.1
        have km14 := ok14.2
        refine js_old (fun o15 => ?_)
        refine js_aload_n 2 dX3_readOrder_275 rfl ?_
        refine js_iload_n 1 dX3_readOrder_276 rfl ?_
        refine js_iconst dX3_readOrder_277 ?_
        refine eX3_277 rfl dX3_readOrder_278 p13_0 (com_digits2 hA ⟨p13_0, p13_1, p13_2, p13_3, p13_4, p13_5, p13_6, p13_7, p13_8, p13_9, p13_10, p13_11⟩ ok14 hl ht hK (by omega)) (Nat.le_of_ble_eq_true rfl) (Nat.le_of_ble_eq_true rfl) ?_
        rw [zH_fr (fun q hq => (zH_n hq))]
        obtain ⟨p16_0, p16_1, p16_2, p16_3, p16_4, p16_5, p16_6, p16_7, p16_8, p16_9, p16_10, p16_11⟩ := zH_Mc (h := h) (f := f) (bef := bef) (asd := asd) (svd := svd) (pas := pas) (rf := rf) (it := it) (wt := wt) (tx := tx) (od := zdgo tx len (zsk tx len "drop " p) (js_uz od (5 * om) (zhere tx len p)) (5 * om) 2) (ln := ln) (isS := isS) (pm := pm) (th := th) (len := len) (at_ := (zdgp tx len (zsk tx len "drop " p) 2).1) (wr := (zdgp tx len (zsk tx len "drop " p) 2).2) (fa := fa) (om := om + 1) (lm := lm) hA
        show js_ok ρ mX3_readOrder _ 7 0 0 281 [(2, .int (jI (zhere tx len p))), (1, .int (jI (5 * om))), (0, .ref (A 0))] [] (zH A f bef asd svd pas rf it wt tx (zdgo tx len (zsk tx len "drop " p) (js_uz od (5 * om) (zhere tx len p)) (5 * om) 2) ln isS pm th len ((zdgp tx len (zsk tx len "drop " p) 2).1) ((zdgp tx len (zsk tx len "drop " p) 2).2) fa (om + 1) lm h)
        have ok17 : zpok len (zdgp tx len (zsk tx len "drop " p) 2) := zdgp_ok 2 ok14
        have kk17 := ok17.1
        have km17 := ok17.2
        refine js_old (fun o18 => ?_)
        refine js_goto (tgt := 351) dX3_readOrder_281 (by decide) ?_
        have e1 : zrop tx len p = zdgp tx len (zsk tx len "drop " p) 2 := by unfold zrop; rw [if_pos (by omega)]
        have e2 : zroo tx len p od (5 * om) = zdgo tx len (zsk tx len "drop " p) (js_uz od (5 * om) (zhere tx len p)) (5 * om) 2 := by unfold zroo; rw [if_pos (by omega)]
        rw [e1, e2]
        exact js_vret rfl dX3_readOrder_351 ⟨rfl, (zH_eq hA p16_0 p16_1 p16_2 p16_3 p16_4 p16_5 p16_6 p16_7 p16_8 p16_9 p16_10 p16_11 (fun q hq => (zH_n hq)))⟩
      · refine js_top (b := 101) t3 ?_
        refine js_tableIn (off := 94) (tgt := 152) dX3_readOrder_58 (by decide) (by decide) (by decide) rfl (by decide) ?_
        refine js_old (fun o19 => ?_)
        refine js_aload_n 2 dX3_readOrder_152 rfl ?_
        obtain ⟨ka21, kb21, kx21, ky21, kv21, kh21, ki21⟩ := hK.2.2 21 "enter " rfl
        refine js_ldcS 21 rfl kv21 dX3_readOrder_153 ?_
        refine js_old (fun o20 => ?_)
        refine eX3_247 rfl dX3_readOrder_155 ((js_up_n (js_nek p0 p10 js_kOA)).trans js_up_s) (com_skip hA ⟨((js_up_n (js_nek p0 p10 js_kOA)).trans js_up_s), ((js_up_n (hA 1 10 (by decide) (by decide) (by decide))).trans ((js_up_n (js_nek p1 p0 js_kAO)).trans p1)), ((js_up_n (hA 2 10 (by decide) (by decide) (by decide))).trans ((js_up_n (js_nek p2 p0 js_kAO)).trans p2)), ((js_up_n (hA 3 10 (by decide) (by decide) (by decide))).trans ((js_up_n (js_nek p3 p0 js_kAO)).trans p3)), ((js_up_n (hA 4 10 (by decide) (by decide) (by decide))).trans ((js_up_n (js_nek p4 p0 js_kAO)).trans p4)), ((js_up_n (hA 5 10 (by decide) (by decide) (by decide))).trans ((js_up_n (js_nek p5 p0 js_kAO)).trans p5)), ((js_up_n (hA 6 10 (by decide) (by decide) (by decide))).trans ((js_up_n (js_nek p6 p0 js_kAO)).trans p6)), ((js_up_n (hA 7 10 (by decide) (by decide) (by decide))).trans ((js_up_n (js_nek p7 p0 js_kAO)).trans p7)), ((js_up_n (hA 8 10 (by decide) (by decide) (by decide))).trans ((js_up_n (js_nek p8 p0 js_kAO)).trans p8)), ((js_up_n (hA 9 10 (by decide) (by decide) (by decide))).trans ((js_up_n (js_nek p9 p0 js_kAO)).trans p9)), js_up_s, ((js_up_n (Ne.symm (hA 10 11 (by decide) (by decide) (by decide)))).trans ((js_up_n (js_nek p11 p0 js_kAO)).trans p11))⟩ hp0 hl ht hK ⟨kh21, ki21⟩ (by decide) (zcl_r _ (by decide))) (Nat.le_of_ble_eq_true rfl) (Nat.le_of_ble_eq_true rfl) ?_
        rw [zH_fr (fun q hq => ((js_up_n (hq 10 (by decide))).trans ((js_up_n (hq 0 (by decide))).trans rfl)))]
        obtain ⟨p21_0, p21_1, p21_2, p21_3, p21_4, p21_5, p21_6, p21_7, p21_8, p21_9, p21_10, p21_11⟩ := zH_Mc (h := h) (f := f) (bef := bef) (asd := asd) (svd := svd) (pas := pas) (rf := rf) (it := it) (wt := wt) (tx := tx) (od := js_uz od (5 * om) (zhere tx len p)) (ln := ln) (isS := isS) (pm := pm) (th := th) (len := len) (at_ := (zsk tx len "enter " p).1) (wr := (zsk tx len "enter " p).2) (fa := fa) (om := om + 1) (lm := lm) hA
        show js_ok ρ mX3_readOrder _ 7 0 0 158 [(2, .int (jI (zhere tx len p))), (1, .int (jI (5 * om))), (0, .ref (A 0))] [] (zH A f bef asd svd pas rf it wt tx (js_uz od (5 * om) (zhere tx len p)) ln isS pm th len ((zsk tx len "enter " p).1) ((zsk tx len "enter " p).2) fa (om + 1) lm h)
        have ok22 : zpok len (zsk tx len "enter " p) := zsk_ok hp0
        have kk22 := ok22.1
        have km22 := ok22.2
        refine js_old (fun o23 => ?_)
        refine js_aload_n 2 dX3_readOrder_158 rfl ?_
        refine js_iload_n 1 dX3_readOrder_159 rfl ?_
        refine eX3_256 rfl dX3_readOrder_160 p21_0 (com_point hA ⟨p21_0, p21_1, p21_2, p21_3, p21_4, p21_5, p21_6, p21_7, p21_8, p21_9, p21_10, p21_11⟩ ok22 hl ht hK (by omega)) (Nat.le_of_ble_eq_true rfl) (Nat.le_of_ble_eq_true rfl) ?_
        rw [zH_fr (fun q hq => (zH_n hq))]
        obtain ⟨p24_0, p24_1, p24_2, p24_3, p24_4, p24_5, p24_6, p24_7, p24_8, p24_9, p24_10, p24_11⟩ := zH_Mc (h := h) (f := f) (bef := bef) (asd := asd) (svd := svd) (pas := pas) (rf := rf) (it := it) (wt := wt) (tx := tx) (od := zpto tx len (zsk tx len "enter " p) (js_uz od (5 * om) (zhere tx len p)) (5 * om)) (ln := ln) (isS := isS) (pm := pm) (th := th) (len := len) (at_ := (zptp tx len (zsk tx len "enter " p)).1) (wr := (zptp tx len (zsk tx len "enter " p)).2) (fa := fa) (om := om + 1) (lm := lm) hA
        show js_ok ρ mX3_readOrder _ 7 0 0 163 [(2, .int (jI (zhere tx len p))), (1, .int (jI (5 * om))), (0, .ref (A 0))] [] (zH A f bef asd svd pas rf it wt tx (zpto tx len (zsk tx len "enter " p) (js_uz od (5 * om) (zhere tx len p)) (5 * om)) ln isS pm th len ((zptp tx len (zsk tx len "enter " p)).1) ((zptp tx len (zsk tx len "enter " p)).2) fa (om + 1) lm h)
        have ok25 : zpok len (zptp tx len (zsk tx len "enter " p)) := zptp_ok ok22
        have kk25 := ok25.1
        have km25 := ok25.2
        refine js_old (fun o26 => ?_)
        refine js_aload_n 2 dX3_readOrder_163 rfl ?_
        refine gX3_43 rfl dX3_readOrder_164 p24_0 rfl ?_
        refine js_iload_n 1 dX3_readOrder_167 rfl ?_
        refine js_iconst dX3_readOrder_168 ?_
        refine js_iadd dX3_readOrder_169 ?_
        refine js_aload_n 2 dX3_readOrder_170 rfl ?_
        refine eX3_259 rfl dX3_readOrder_171 p24_0 (com_number hA ⟨p24_0, p24_1, p24_2, p24_3, p24_4, p24_5, p24_6, p24_7, p24_8, p24_9, p24_10, p24_11⟩ ok25 hl ht) (Nat.le_of_ble_eq_true rfl) (Nat.le_of_ble_eq_true rfl) ?_
        rw [zH_fr (fun q hq => (zH_n hq))]
        obtain ⟨p27_0, p27_1, p27_2, p27_3, p27_4, p27_5, p27_6, p27_7, p27_8, p27_9, p27_10, p27_11⟩ := zH_Mc (h := h) (f := f) (bef := bef) (asd := asd) (svd := svd) (pas := pas) (rf := rf) (it := it) (wt := wt) (tx := tx) (od := zpto tx len (zsk tx len "enter " p) (js_uz od (5 * om) (zhere tx len p)) (5 * om)) (ln := ln) (isS := isS) (pm := pm) (th := th) (len := len) (at_ := (znp tx len (zptp tx len (zsk tx len "enter " p))).1) (wr := (znp tx len (zptp tx len (zsk tx len "enter " p))).2) (fa := fa) (om := om + 1) (lm := lm) hA
        show js_ok ρ mX3_readOrder _ 7 0 0 174 [(2, .int (jI (zhere tx len p))), (1, .int (jI (5 * om))), (0, .ref (A 0))] [.int (jI (znv tx len (zptp tx len (zsk tx len "enter " p)))), .int (jI ((5 * om) + 3)), .ref (A 10)] (zH A f bef asd svd pas rf it wt tx (zpto tx len (zsk tx len "enter " p) (js_uz od (5 * om) (zhere tx len p)) (5 * om)) ln isS pm th len ((znp tx len (zptp tx len (zsk tx len "enter " p))).1) ((znp tx len (zptp tx len (zsk tx len "enter " p))).2) fa (om + 1) lm h)
        have ok28 : zpok len (znp tx len (zptp tx len (zsk tx len "enter " p))) := znp_ok ok25
        have kk28 := ok28.1
        have km28 := ok28.2
        refine js_old (fun o29 => ?_)
        refine js_iastore dX3_readOrder_174 p27_10 (by omega) ?_
        show js_ok ρ mX3_readOrder _ 7 0 0 175 [(2, .int (jI (zhere tx len p))), (1, .int (jI (5 * om))), (0, .ref (A 0))] [] (js_up (zH A f bef asd svd pas rf it wt tx (zpto tx len (zsk tx len "enter " p) (js_uz od (5 * om) (zhere tx len p)) (5 * om)) ln isS pm th len ((znp tx len (zptp tx len (zsk tx len "enter " p))).1) ((znp tx len (zptp tx len (zsk tx len "enter " p))).2) fa (om + 1) lm h) (A 10) (js_aI true 0 300 (js_uz (zpto tx len (zsk tx len "enter " p) (js_uz od (5 * om) (zhere tx len p)) (5 * om)) ((5 * om) + 3) (znv tx len (zptp tx len (zsk tx len "enter " p))))))
        refine js_aload_n 2 dX3_readOrder_175 rfl ?_
        obtain ⟨ka19, kb19, kx19, ky19, kv19, kh19, ki19⟩ := hK.2.2 19 " " rfl
        refine js_ldcS 19 rfl kv19 dX3_readOrder_176 ?_
        refine js_old (fun o30 => ?_)
        refine eX3_247 rfl dX3_readOrder_178 ((js_up_n (js_nek p27_0 p27_10 js_kOA)).trans p27_0) (com_skip hA ⟨((js_up_n (js_nek p27_0 p27_10 js_kOA)).trans p27_0), ((js_up_n (hA 1 10 (by decide) (by decide) (by decide))).trans p27_1), ((js_up_n (hA 2 10 (by decide) (by decide) (by decide))).trans p27_2), ((js_up_n (hA 3 10 (by decide) (by decide) (by decide))).trans p27_3), ((js_up_n (hA 4 10 (by decide) (by decide) (by decide))).trans p27_4), ((js_up_n (hA 5 10 (by decide) (by decide) (by decide))).trans p27_5), ((js_up_n (hA 6 10 (by decide) (by decide) (by decide))).trans p27_6), ((js_up_n (hA 7 10 (by decide) (by decide) (by decide))).trans p27_7), ((js_up_n (hA 8 10 (by decide) (by decide) (by decide))).trans p27_8), ((js_up_n (hA 9 10 (by decide) (by decide) (by decide))).trans p27_9), js_up_s, ((js_up_n (Ne.symm (hA 10 11 (by decide) (by decide) (by decide)))).trans p27_11)⟩ ok28 hl ht hK ⟨kh19, ki19⟩ (by decide) (zcl_r _ (by decide))) (Nat.le_of_ble_eq_true rfl) (Nat.le_of_ble_eq_true rfl) ?_
        rw [zH_fr (fun q hq => ((js_up_n (hq 10 (by decide))).trans (zH_n hq)))]
        obtain ⟨p31_0, p31_1, p31_2, p31_3, p31_4, p31_5, p31_6, p31_7, p31_8, p31_9, p31_10, p31_11⟩ := zH_Mc (h := h) (f := f) (bef := bef) (asd := asd) (svd := svd) (pas := pas) (rf := rf) (it := it) (wt := wt) (tx := tx) (od := js_uz (zpto tx len (zsk tx len "enter " p) (js_uz od (5 * om) (zhere tx len p)) (5 * om)) ((5 * om) + 3) (znv tx len (zptp tx len (zsk tx len "enter " p)))) (ln := ln) (isS := isS) (pm := pm) (th := th) (len := len) (at_ := (zsk tx len " " (znp tx len (zptp tx len (zsk tx len "enter " p)))).1) (wr := (zsk tx len " " (znp tx len (zptp tx len (zsk tx len "enter " p)))).2) (fa := fa) (om := om + 1) (lm := lm) hA
        show js_ok ρ mX3_readOrder _ 7 0 0 181 [(2, .int (jI (zhere tx len p))), (1, .int (jI (5 * om))), (0, .ref (A 0))] [] (zH A f bef asd svd pas rf it wt tx (js_uz (zpto tx len (zsk tx len "enter " p) (js_uz od (5 * om) (zhere tx len p)) (5 * om)) ((5 * om) + 3) (znv tx len (zptp tx len (zsk tx len "enter " p)))) ln isS pm th len ((zsk tx len " " (znp tx len (zptp tx len (zsk tx len "enter " p)))).1) ((zsk tx len " " (znp tx len (zptp tx len (zsk tx len "enter " p)))).2) fa (om + 1) lm h)
        have ok32 : zpok len (zsk tx len " " (znp tx len (zptp tx len (zsk tx len "enter " p)))) := zsk_ok ok28
        have kk32 := ok32.1
        have km32 := ok32.2
        refine js_old (fun o33 => ?_)
        refine js_aload_n 2 dX3_readOrder_181 rfl ?_
        refine gX3_43 rfl dX3_readOrder_182 p31_0 rfl ?_
        refine js_iload_n 1 dX3_readOrder_185 rfl ?_
        refine js_iconst dX3_readOrder_186 ?_
        refine js_iadd dX3_readOrder_187 ?_
        refine js_aload_n 2 dX3_readOrder_188 rfl ?_
        refine eX3_259 rfl dX3_readOrder_189 p31_0 (com_number hA ⟨p31_0, p31_1, p31_2, p31_3, p31_4, p31_5, p31_6, p31_7, p31_8, p31_9, p31_10, p31_11⟩ ok32 hl ht) (Nat.le_of_ble_eq_true rfl) (Nat.le_of_ble_eq_true rfl) ?_
        rw [zH_fr (fun q hq => (zH_n hq))]
        obtain ⟨p34_0, p34_1, p34_2, p34_3, p34_4, p34_5, p34_6, p34_7, p34_8, p34_9, p34_10, p34_11⟩ := zH_Mc (h := h) (f := f) (bef := bef) (asd := asd) (svd := svd) (pas := pas) (rf := rf) (it := it) (wt := wt) (tx := tx) (od := js_uz (zpto tx len (zsk tx len "enter " p) (js_uz od (5 * om) (zhere tx len p)) (5 * om)) ((5 * om) + 3) (znv tx len (zptp tx len (zsk tx len "enter " p)))) (ln := ln) (isS := isS) (pm := pm) (th := th) (len := len) (at_ := (znp tx len (zsk tx len " " (znp tx len (zptp tx len (zsk tx len "enter " p))))).1) (wr := (znp tx len (zsk tx len " " (znp tx len (zptp tx len (zsk tx len "enter " p))))).2) (fa := fa) (om := om + 1) (lm := lm) hA
        show js_ok ρ mX3_readOrder _ 7 0 0 192 [(2, .int (jI (zhere tx len p))), (1, .int (jI (5 * om))), (0, .ref (A 0))] [.int (jI (znv tx len (zsk tx len " " (znp tx len (zptp tx len (zsk tx len "enter " p)))))), .int (jI ((5 * om) + 4)), .ref (A 10)] (zH A f bef asd svd pas rf it wt tx (js_uz (zpto tx len (zsk tx len "enter " p) (js_uz od (5 * om) (zhere tx len p)) (5 * om)) ((5 * om) + 3) (znv tx len (zptp tx len (zsk tx len "enter " p)))) ln isS pm th len ((znp tx len (zsk tx len " " (znp tx len (zptp tx len (zsk tx len "enter " p))))).1) ((znp tx len (zsk tx len " " (znp tx len (zptp tx len (zsk tx len "enter " p))))).2) fa (om + 1) lm h)
        have ok35 : zpok len (znp tx len (zsk tx len " " (znp tx len (zptp tx len (zsk tx len "enter " p))))) := znp_ok ok32
        have kk35 := ok35.1
        have km35 := ok35.2
        refine js_old (fun o36 => ?_)
        refine js_iastore dX3_readOrder_192 p34_10 (by omega) ?_
        show js_ok ρ mX3_readOrder _ 7 0 0 193 [(2, .int (jI (zhere tx len p))), (1, .int (jI (5 * om))), (0, .ref (A 0))] [] (js_up (zH A f bef asd svd pas rf it wt tx (js_uz (zpto tx len (zsk tx len "enter " p) (js_uz od (5 * om) (zhere tx len p)) (5 * om)) ((5 * om) + 3) (znv tx len (zptp tx len (zsk tx len "enter " p)))) ln isS pm th len ((znp tx len (zsk tx len " " (znp tx len (zptp tx len (zsk tx len "enter " p))))).1) ((znp tx len (zsk tx len " " (znp tx len (zptp tx len (zsk tx len "enter " p))))).2) fa (om + 1) lm h) (A 10) (js_aI true 0 300 (js_uz (js_uz (zpto tx len (zsk tx len "enter " p) (js_uz od (5 * om) (zhere tx len p)) (5 * om)) ((5 * om) + 3) (znv tx len (zptp tx len (zsk tx len "enter " p)))) ((5 * om) + 4) (znv tx len (zsk tx len " " (znp tx len (zptp tx len (zsk tx len "enter " p))))))))
        refine js_goto (tgt := 351) dX3_readOrder_193 (by decide) ?_
        have e1 : zrop tx len p = znp tx len (zsk tx len " " (znp tx len (zptp tx len (zsk tx len "enter " p)))) := by unfold zrop; rw [if_neg (by omega), if_pos (by omega)]
        have e2 : zroo tx len p od (5 * om) = js_uz (js_uz (zpto tx len (zsk tx len "enter " p) (js_uz od (5 * om) (zhere tx len p)) (5 * om)) ((5 * om) + 3) (znv tx len (zptp tx len (zsk tx len "enter " p)))) ((5 * om) + 4) (znv tx len (zsk tx len " " (znp tx len (zptp tx len (zsk tx len "enter " p))))) := by unfold zroo; rw [if_neg (by omega), if_pos (by omega)]
        rw [e1, e2]
        exact js_vret rfl dX3_readOrder_351 ⟨rfl, (zH_eq hA ((js_up_n (js_nek p34_0 p34_10 js_kOA)).trans p34_0) ((js_up_n (hA 1 10 (by decide) (by decide) (by decide))).trans p34_1) ((js_up_n (hA 2 10 (by decide) (by decide) (by decide))).trans p34_2) ((js_up_n (hA 3 10 (by decide) (by decide) (by decide))).trans p34_3) ((js_up_n (hA 4 10 (by decide) (by decide) (by decide))).trans p34_4) ((js_up_n (hA 5 10 (by decide) (by decide) (by decide))).trans p34_5) ((js_up_n (hA 6 10 (by decide) (by decide) (by decide))).trans p34_6) ((js_up_n (hA 7 10 (by decide) (by decide) (by decide))).trans p34_7) ((js_up_n (hA 8 10 (by decide) (by decide) (by decide))).trans p34_8) ((js_up_n (hA 9 10 (by decide) (by decide) (by decide))).trans p34_9) js_up_s ((js_up_n (Ne.symm (hA 10 11 (by decide) (by decide) (by decide)))).trans p34_11) (fun q hq => ((js_up_n (hq 10 (by decide))).trans (zH_n hq))))⟩
      · refine js_top (b := 102) t3 ?_
        refine js_tableIn (off := 146) (tgt := 204) dX3_readOrder_58 (by decide) (by decide) (by decide) rfl (by decide) ?_
        refine js_old (fun o37 => ?_)
        refine js_aload_n 2 dX3_readOrder_204 rfl ?_
        obtain ⟨ka22, kb22, kx22, ky22, kv22, kh22, ki22⟩ := hK.2.2 22 "farm " rfl
        refine js_ldcwS 22 rfl kv22 dX3_readOrder_205 ?_
        refine js_old (fun o38 => ?_)
        refine eX3_247 rfl dX3_readOrder_208 ((js_up_n (js_nek p0 p10 js_kOA)).trans js_up_s) (com_skip hA ⟨((js_up_n (js_nek p0 p10 js_kOA)).trans js_up_s), ((js_up_n (hA 1 10 (by decide) (by decide) (by decide))).trans ((js_up_n (js_nek p1 p0 js_kAO)).trans p1)), ((js_up_n (hA 2 10 (by decide) (by decide) (by decide))).trans ((js_up_n (js_nek p2 p0 js_kAO)).trans p2)), ((js_up_n (hA 3 10 (by decide) (by decide) (by decide))).trans ((js_up_n (js_nek p3 p0 js_kAO)).trans p3)), ((js_up_n (hA 4 10 (by decide) (by decide) (by decide))).trans ((js_up_n (js_nek p4 p0 js_kAO)).trans p4)), ((js_up_n (hA 5 10 (by decide) (by decide) (by decide))).trans ((js_up_n (js_nek p5 p0 js_kAO)).trans p5)), ((js_up_n (hA 6 10 (by decide) (by decide) (by decide))).trans ((js_up_n (js_nek p6 p0 js_kAO)).trans p6)), ((js_up_n (hA 7 10 (by decide) (by decide) (by decide))).trans ((js_up_n (js_nek p7 p0 js_kAO)).trans p7)), ((js_up_n (hA 8 10 (by decide) (by decide) (by decide))).trans ((js_up_n (js_nek p8 p0 js_kAO)).trans p8)), ((js_up_n (hA 9 10 (by decide) (by decide) (by decide))).trans ((js_up_n (js_nek p9 p0 js_kAO)).trans p9)), js_up_s, ((js_up_n (Ne.symm (hA 10 11 (by decide) (by decide) (by decide)))).trans ((js_up_n (js_nek p11 p0 js_kAO)).trans p11))⟩ hp0 hl ht hK ⟨kh22, ki22⟩ (by decide) (zcl_r _ (by decide))) (Nat.le_of_ble_eq_true rfl) (Nat.le_of_ble_eq_true rfl) ?_
        rw [zH_fr (fun q hq => ((js_up_n (hq 10 (by decide))).trans ((js_up_n (hq 0 (by decide))).trans rfl)))]
        obtain ⟨p39_0, p39_1, p39_2, p39_3, p39_4, p39_5, p39_6, p39_7, p39_8, p39_9, p39_10, p39_11⟩ := zH_Mc (h := h) (f := f) (bef := bef) (asd := asd) (svd := svd) (pas := pas) (rf := rf) (it := it) (wt := wt) (tx := tx) (od := js_uz od (5 * om) (zhere tx len p)) (ln := ln) (isS := isS) (pm := pm) (th := th) (len := len) (at_ := (zsk tx len "farm " p).1) (wr := (zsk tx len "farm " p).2) (fa := fa) (om := om + 1) (lm := lm) hA
        show js_ok ρ mX3_readOrder _ 7 0 0 211 [(2, .int (jI (zhere tx len p))), (1, .int (jI (5 * om))), (0, .ref (A 0))] [] (zH A f bef asd svd pas rf it wt tx (js_uz od (5 * om) (zhere tx len p)) ln isS pm th len ((zsk tx len "farm " p).1) ((zsk tx len "farm " p).2) fa (om + 1) lm h)
        have ok40 : zpok len (zsk tx len "farm " p) := zsk_ok hp0
        have kk40 := ok40.1
        have km40 := ok40.2
        refine js_old (fun o41 => ?_)
        refine js_aload_n 2 dX3_readOrder_211 rfl ?_
        refine js_iload_n 1 dX3_readOrder_212 rfl ?_
        refine eX3_256 rfl dX3_readOrder_213 p39_0 (com_point hA ⟨p39_0, p39_1, p39_2, p39_3, p39_4, p39_5, p39_6, p39_7, p39_8, p39_9, p39_10, p39_11⟩ ok40 hl ht hK (by omega)) (Nat.le_of_ble_eq_true rfl) (Nat.le_of_ble_eq_true rfl) ?_
        rw [zH_fr (fun q hq => (zH_n hq))]
        obtain ⟨p42_0, p42_1, p42_2, p42_3, p42_4, p42_5, p42_6, p42_7, p42_8, p42_9, p42_10, p42_11⟩ := zH_Mc (h := h) (f := f) (bef := bef) (asd := asd) (svd := svd) (pas := pas) (rf := rf) (it := it) (wt := wt) (tx := tx) (od := zpto tx len (zsk tx len "farm " p) (js_uz od (5 * om) (zhere tx len p)) (5 * om)) (ln := ln) (isS := isS) (pm := pm) (th := th) (len := len) (at_ := (zptp tx len (zsk tx len "farm " p)).1) (wr := (zptp tx len (zsk tx len "farm " p)).2) (fa := fa) (om := om + 1) (lm := lm) hA
        show js_ok ρ mX3_readOrder _ 7 0 0 216 [(2, .int (jI (zhere tx len p))), (1, .int (jI (5 * om))), (0, .ref (A 0))] [] (zH A f bef asd svd pas rf it wt tx (zpto tx len (zsk tx len "farm " p) (js_uz od (5 * om) (zhere tx len p)) (5 * om)) ln isS pm th len ((zptp tx len (zsk tx len "farm " p)).1) ((zptp tx len (zsk tx len "farm " p)).2) fa (om + 1) lm h)
        have ok43 : zpok len (zptp tx len (zsk tx len "farm " p)) := zptp_ok ok40
        have kk43 := ok43.1
        have km43 := ok43.2
        refine js_old (fun o44 => ?_)
        refine js_aload_n 2 dX3_readOrder_216 rfl ?_
        refine gX3_43 rfl dX3_readOrder_217 p42_0 rfl ?_
        refine js_iload_n 1 dX3_readOrder_220 rfl ?_
        refine js_iconst dX3_readOrder_221 ?_
        refine js_iadd dX3_readOrder_222 ?_
        refine js_aload_n 2 dX3_readOrder_223 rfl ?_
        refine eX3_237 rfl dX3_readOrder_224 p42_0 (com_digit hA ⟨p42_0, p42_1, p42_2, p42_3, p42_4, p42_5, p42_6, p42_7, p42_8, p42_9, p42_10, p42_11⟩ ok43 hl ht) (Nat.le_of_ble_eq_true rfl) (Nat.le_of_ble_eq_true rfl) ?_
        rw [zH_fr (fun q hq => (zH_n hq))]
        obtain ⟨p45_0, p45_1, p45_2, p45_3, p45_4, p45_5, p45_6, p45_7, p45_8, p45_9, p45_10, p45_11⟩ := zH_Mc (h := h) (f := f) (bef := bef) (asd := asd) (svd := svd) (pas := pas) (rf := rf) (it := it) (wt := wt) (tx := tx) (od := zpto tx len (zsk tx len "farm " p) (js_uz od (5 * om) (zhere tx len p)) (5 * om)) (ln := ln) (isS := isS) (pm := pm) (th := th) (len := len) (at_ := (zdp tx len (zptp tx len (zsk tx len "farm " p))).1) (wr := (zdp tx len (zptp tx len (zsk tx len "farm " p))).2) (fa := fa) (om := om + 1) (lm := lm) hA
        show js_ok ρ mX3_readOrder _ 7 0 0 227 [(2, .int (jI (zhere tx len p))), (1, .int (jI (5 * om))), (0, .ref (A 0))] [.int (jI (zdv tx len (zptp tx len (zsk tx len "farm " p)))), .int (jI ((5 * om) + 3)), .ref (A 10)] (zH A f bef asd svd pas rf it wt tx (zpto tx len (zsk tx len "farm " p) (js_uz od (5 * om) (zhere tx len p)) (5 * om)) ln isS pm th len ((zdp tx len (zptp tx len (zsk tx len "farm " p))).1) ((zdp tx len (zptp tx len (zsk tx len "farm " p))).2) fa (om + 1) lm h)
        have ok46 : zpok len (zdp tx len (zptp tx len (zsk tx len "farm " p))) := zdp_ok ok43
        have kk46 := ok46.1
        have km46 := ok46.2
        show js_ok ρ mX3_readOrder _ 7 0 0 227 [(2, .int (jI (zhere tx len p))), (1, .int (jI (5 * om))), (0, .ref (A 0))] [.int (jI (zdv tx len (zptp tx len (zsk tx len "farm " p)))), .int (jI ((5 * om) + 3)), .ref (A 10)] (zH A f bef asd svd pas rf it wt tx (zpto tx len (zsk tx len "farm " p) (js_uz od (5 * om) (zhere tx len p)) (5 * om)) ln isS pm th len ((zdp tx len (zptp tx len (zsk tx len "farm " p))).1) ((zdp tx len (zptp tx len (zsk tx len "farm " p))).2) fa (om + 1) lm h)
        refine js_old (fun o47 => ?_)
        refine js_iastore dX3_readOrder_227 p45_10 (by omega) ?_
        show js_ok ρ mX3_readOrder _ 7 0 0 228 [(2, .int (jI (zhere tx len p))), (1, .int (jI (5 * om))), (0, .ref (A 0))] [] (js_up (zH A f bef asd svd pas rf it wt tx (zpto tx len (zsk tx len "farm " p) (js_uz od (5 * om) (zhere tx len p)) (5 * om)) ln isS pm th len ((zdp tx len (zptp tx len (zsk tx len "farm " p))).1) ((zdp tx len (zptp tx len (zsk tx len "farm " p))).2) fa (om + 1) lm h) (A 10) (js_aI true 0 300 (js_uz (zpto tx len (zsk tx len "farm " p) (js_uz od (5 * om) (zhere tx len p)) (5 * om)) ((5 * om) + 3) (zdv tx len (zptp tx len (zsk tx len "farm " p))))))
        refine js_goto (tgt := 351) dX3_readOrder_228 (by decide) ?_
        have e1 : zrop tx len p = zdp tx len (zptp tx len (zsk tx len "farm " p)) := by unfold zrop; rw [if_neg (by omega), if_neg (by omega), if_pos (by omega)]
        have e2 : zroo tx len p od (5 * om) = js_uz (zpto tx len (zsk tx len "farm " p) (js_uz od (5 * om) (zhere tx len p)) (5 * om)) ((5 * om) + 3) (zdv tx len (zptp tx len (zsk tx len "farm " p))) := by unfold zroo; rw [if_neg (by omega), if_neg (by omega), if_pos (by omega)]
        rw [e1, e2]
        exact js_vret rfl dX3_readOrder_351 ⟨rfl, (zH_eq hA ((js_up_n (js_nek p45_0 p45_10 js_kOA)).trans p45_0) ((js_up_n (hA 1 10 (by decide) (by decide) (by decide))).trans p45_1) ((js_up_n (hA 2 10 (by decide) (by decide) (by decide))).trans p45_2) ((js_up_n (hA 3 10 (by decide) (by decide) (by decide))).trans p45_3) ((js_up_n (hA 4 10 (by decide) (by decide) (by decide))).trans p45_4) ((js_up_n (hA 5 10 (by decide) (by decide) (by decide))).trans p45_5) ((js_up_n (hA 6 10 (by decide) (by decide) (by decide))).trans p45_6) ((js_up_n (hA 7 10 (by decide) (by decide) (by decide))).trans p45_7) ((js_up_n (hA 8 10 (by decide) (by decide) (by decide))).trans p45_8) ((js_up_n (hA 9 10 (by decide) (by decide) (by decide))).trans p45_9) js_up_s ((js_up_n (Ne.symm (hA 10 11 (by decide) (by decide) (by decide)))).trans p45_11) (fun q hq => ((js_up_n (hq 10 (by decide))).trans (zH_n hq))))⟩
      · refine js_top (b := 103) t3 ?_
        refine js_tableIn (off := 280) (tgt := 338) dX3_readOrder_58 (by decide) (by decide) (by decide) rfl (by decide) ?_
        refine js_old (fun o48 => ?_)
        refine js_aload_n 2 dX3_readOrder_338 rfl ?_
        obtain ⟨ka29, kb29, kx29, ky29, kv29, kh29, ki29⟩ := hK.2.2 29 "retire " rfl
        refine js_ldcwS 29 rfl kv29 dX3_readOrder_339 ?_
        refine eX3_247 rfl dX3_readOrder_342 ((js_up_n (js_nek p0 p10 js_kOA)).trans js_up_s) (com_skip hA ⟨((js_up_n (js_nek p0 p10 js_kOA)).trans js_up_s), ((js_up_n (hA 1 10 (by decide) (by decide) (by decide))).trans ((js_up_n (js_nek p1 p0 js_kAO)).trans p1)), ((js_up_n (hA 2 10 (by decide) (by decide) (by decide))).trans ((js_up_n (js_nek p2 p0 js_kAO)).trans p2)), ((js_up_n (hA 3 10 (by decide) (by decide) (by decide))).trans ((js_up_n (js_nek p3 p0 js_kAO)).trans p3)), ((js_up_n (hA 4 10 (by decide) (by decide) (by decide))).trans ((js_up_n (js_nek p4 p0 js_kAO)).trans p4)), ((js_up_n (hA 5 10 (by decide) (by decide) (by decide))).trans ((js_up_n (js_nek p5 p0 js_kAO)).trans p5)), ((js_up_n (hA 6 10 (by decide) (by decide) (by decide))).trans ((js_up_n (js_nek p6 p0 js_kAO)).trans p6)), ((js_up_n (hA 7 10 (by decide) (by decide) (by decide))).trans ((js_up_n (js_nek p7 p0 js_kAO)).trans p7)), ((js_up_n (hA 8 10 (by decide) (by decide) (by decide))).trans ((js_up_n (js_nek p8 p0 js_kAO)).trans p8)), ((js_up_n (hA 9 10 (by decide) (by decide) (by decide))).trans ((js_up_n (js_nek p9 p0 js_kAO)).trans p9)), js_up_s, ((js_up_n (Ne.symm (hA 10 11 (by decide) (by decide) (by decide)))).trans ((js_up_n (js_nek p11 p0 js_kAO)).trans p11))⟩ hp0 hl ht hK ⟨kh29, ki29⟩ (by decide) (zcl_r _ (by decide))) (Nat.le_of_ble_eq_true rfl) (Nat.le_of_ble_eq_true rfl) ?_
        rw [zH_fr (fun q hq => ((js_up_n (hq 10 (by decide))).trans ((js_up_n (hq 0 (by decide))).trans rfl)))]
        obtain ⟨p49_0, p49_1, p49_2, p49_3, p49_4, p49_5, p49_6, p49_7, p49_8, p49_9, p49_10, p49_11⟩ := zH_Mc (h := h) (f := f) (bef := bef) (asd := asd) (svd := svd) (pas := pas) (rf := rf) (it := it) (wt := wt) (tx := tx) (od := js_uz od (5 * om) (zhere tx len p)) (ln := ln) (isS := isS) (pm := pm) (th := th) (len := len) (at_ := (zsk tx len "retire " p).1) (wr := (zsk tx len "retire " p).2) (fa := fa) (om := om + 1) (lm := lm) hA
        show js_ok ρ mX3_readOrder _ 7 0 0 345 [(2, .int (jI (zhere tx len p))), (1, .int (jI (5 * om))), (0, .ref (A 0))] [] (zH A f bef asd svd pas rf it wt tx (js_uz od (5 * om) (zhere tx len p)) ln isS pm th len ((zsk tx len "retire " p).1) ((zsk tx len "retire " p).2) fa (om + 1) lm h)
        have ok50 : zpok len (zsk tx len "retire " p) := zsk_ok hp0
        have kk50 := ok50.1
        have km50 := ok50.2
        refine js_old (fun o51 => ?_)
        refine js_aload_n 2 dX3_readOrder_345 rfl ?_
        refine js_iload_n 1 dX3_readOrder_346 rfl ?_
        refine js_iconst dX3_readOrder_347 ?_
        refine eX3_277 rfl dX3_readOrder_348 p49_0 (com_digits1 hA ⟨p49_0, p49_1, p49_2, p49_3, p49_4, p49_5, p49_6, p49_7, p49_8, p49_9, p49_10, p49_11⟩ ok50 hl ht hK (by omega)) (Nat.le_of_ble_eq_true rfl) (Nat.le_of_ble_eq_true rfl) ?_
        rw [zH_fr (fun q hq => (zH_n hq))]
        obtain ⟨p52_0, p52_1, p52_2, p52_3, p52_4, p52_5, p52_6, p52_7, p52_8, p52_9, p52_10, p52_11⟩ := zH_Mc (h := h) (f := f) (bef := bef) (asd := asd) (svd := svd) (pas := pas) (rf := rf) (it := it) (wt := wt) (tx := tx) (od := zdgo tx len (zsk tx len "retire " p) (js_uz od (5 * om) (zhere tx len p)) (5 * om) 1) (ln := ln) (isS := isS) (pm := pm) (th := th) (len := len) (at_ := (zdgp tx len (zsk tx len "retire " p) 1).1) (wr := (zdgp tx len (zsk tx len "retire " p) 1).2) (fa := fa) (om := om + 1) (lm := lm) hA
        show js_ok ρ mX3_readOrder _ 7 0 0 351 [(2, .int (jI (zhere tx len p))), (1, .int (jI (5 * om))), (0, .ref (A 0))] [] (zH A f bef asd svd pas rf it wt tx (zdgo tx len (zsk tx len "retire " p) (js_uz od (5 * om) (zhere tx len p)) (5 * om) 1) ln isS pm th len ((zdgp tx len (zsk tx len "retire " p) 1).1) ((zdgp tx len (zsk tx len "retire " p) 1).2) fa (om + 1) lm h)
        have ok53 : zpok len (zdgp tx len (zsk tx len "retire " p) 1) := zdgp_ok 1 ok50
        have kk53 := ok53.1
        have km53 := ok53.2
        have e1 : zrop tx len p = zdgp tx len (zsk tx len "retire " p) 1 := by unfold zrop; rw [if_neg (by omega), if_neg (by omega), if_neg (by omega), if_neg (by omega), if_neg (by omega), if_neg (by omega), if_neg (by omega), if_neg (by omega)]
        have e2 : zroo tx len p od (5 * om) = zdgo tx len (zsk tx len "retire " p) (js_uz od (5 * om) (zhere tx len p)) (5 * om) 1 := by unfold zroo; rw [if_neg (by omega), if_neg (by omega), if_neg (by omega), if_neg (by omega), if_neg (by omega), if_neg (by omega), if_neg (by omega), if_neg (by omega)]
        rw [e1, e2]
        refine js_old (fun o54 => ?_)
        exact js_vret rfl dX3_readOrder_351 ⟨rfl, (zH_eq hA p52_0 p52_1 p52_2 p52_3 p52_4 p52_5 p52_6 p52_7 p52_8 p52_9 p52_10 p52_11 (fun q hq => (zH_n hq)))⟩
      · refine js_top (b := 104) t3 ?_
        refine js_tableIn (off := 258) (tgt := 316) dX3_readOrder_58 (by decide) (by decide) (by decide) rfl (by decide) ?_
        refine js_old (fun o55 => ?_)
        refine js_aload_n 2 dX3_readOrder_316 rfl ?_
        obtain ⟨ka28, kb28, kx28, ky28, kv28, kh28, ki28⟩ := hK.2.2 28 "hour " rfl
        refine js_ldcwS 28 rfl kv28 dX3_readOrder_317 ?_
        refine js_old (fun o56 => ?_)
        refine eX3_247 rfl dX3_readOrder_320 ((js_up_n (js_nek p0 p10 js_kOA)).trans js_up_s) (com_skip hA ⟨((js_up_n (js_nek p0 p10 js_kOA)).trans js_up_s), ((js_up_n (hA 1 10 (by decide) (by decide) (by decide))).trans ((js_up_n (js_nek p1 p0 js_kAO)).trans p1)), ((js_up_n (hA 2 10 (by decide) (by decide) (by decide))).trans ((js_up_n (js_nek p2 p0 js_kAO)).trans p2)), ((js_up_n (hA 3 10 (by decide) (by decide) (by decide))).trans ((js_up_n (js_nek p3 p0 js_kAO)).trans p3)), ((js_up_n (hA 4 10 (by decide) (by decide) (by decide))).trans ((js_up_n (js_nek p4 p0 js_kAO)).trans p4)), ((js_up_n (hA 5 10 (by decide) (by decide) (by decide))).trans ((js_up_n (js_nek p5 p0 js_kAO)).trans p5)), ((js_up_n (hA 6 10 (by decide) (by decide) (by decide))).trans ((js_up_n (js_nek p6 p0 js_kAO)).trans p6)), ((js_up_n (hA 7 10 (by decide) (by decide) (by decide))).trans ((js_up_n (js_nek p7 p0 js_kAO)).trans p7)), ((js_up_n (hA 8 10 (by decide) (by decide) (by decide))).trans ((js_up_n (js_nek p8 p0 js_kAO)).trans p8)), ((js_up_n (hA 9 10 (by decide) (by decide) (by decide))).trans ((js_up_n (js_nek p9 p0 js_kAO)).trans p9)), js_up_s, ((js_up_n (Ne.symm (hA 10 11 (by decide) (by decide) (by decide)))).trans ((js_up_n (js_nek p11 p0 js_kAO)).trans p11))⟩ hp0 hl ht hK ⟨kh28, ki28⟩ (by decide) (zcl_r _ (by decide))) (Nat.le_of_ble_eq_true rfl) (Nat.le_of_ble_eq_true rfl) ?_
        rw [zH_fr (fun q hq => ((js_up_n (hq 10 (by decide))).trans ((js_up_n (hq 0 (by decide))).trans rfl)))]
        obtain ⟨p57_0, p57_1, p57_2, p57_3, p57_4, p57_5, p57_6, p57_7, p57_8, p57_9, p57_10, p57_11⟩ := zH_Mc (h := h) (f := f) (bef := bef) (asd := asd) (svd := svd) (pas := pas) (rf := rf) (it := it) (wt := wt) (tx := tx) (od := js_uz od (5 * om) (zhere tx len p)) (ln := ln) (isS := isS) (pm := pm) (th := th) (len := len) (at_ := (zsk tx len "hour " p).1) (wr := (zsk tx len "hour " p).2) (fa := fa) (om := om + 1) (lm := lm) hA
        show js_ok ρ mX3_readOrder _ 7 0 0 323 [(2, .int (jI (zhere tx len p))), (1, .int (jI (5 * om))), (0, .ref (A 0))] [] (zH A f bef asd svd pas rf it wt tx (js_uz od (5 * om) (zhere tx len p)) ln isS pm th len ((zsk tx len "hour " p).1) ((zsk tx len "hour " p).2) fa (om + 1) lm h)
        have ok58 : zpok len (zsk tx len "hour " p) := zsk_ok hp0
        have kk58 := ok58.1
        have km58 := ok58.2
        refine js_old (fun o59 => ?_)
        refine js_aload_n 2 dX3_readOrder_323 rfl ?_
        refine gX3_43 rfl dX3_readOrder_324 p57_0 rfl ?_
        refine js_iload_n 1 dX3_readOrder_327 rfl ?_
        refine js_iconst dX3_readOrder_328 ?_
        refine js_iadd dX3_readOrder_329 ?_
        refine js_aload_n 2 dX3_readOrder_330 rfl ?_
        refine eX3_259 rfl dX3_readOrder_331 p57_0 (com_number hA ⟨p57_0, p57_1, p57_2, p57_3, p57_4, p57_5, p57_6, p57_7, p57_8, p57_9, p57_10, p57_11⟩ ok58 hl ht) (Nat.le_of_ble_eq_true rfl) (Nat.le_of_ble_eq_true rfl) ?_
        rw [zH_fr (fun q hq => (zH_n hq))]
        obtain ⟨p60_0, p60_1, p60_2, p60_3, p60_4, p60_5, p60_6, p60_7, p60_8, p60_9, p60_10, p60_11⟩ := zH_Mc (h := h) (f := f) (bef := bef) (asd := asd) (svd := svd) (pas := pas) (rf := rf) (it := it) (wt := wt) (tx := tx) (od := js_uz od (5 * om) (zhere tx len p)) (ln := ln) (isS := isS) (pm := pm) (th := th) (len := len) (at_ := (znp tx len (zsk tx len "hour " p)).1) (wr := (znp tx len (zsk tx len "hour " p)).2) (fa := fa) (om := om + 1) (lm := lm) hA
        show js_ok ρ mX3_readOrder _ 7 0 0 334 [(2, .int (jI (zhere tx len p))), (1, .int (jI (5 * om))), (0, .ref (A 0))] [.int (jI (znv tx len (zsk tx len "hour " p))), .int (jI ((5 * om) + 1)), .ref (A 10)] (zH A f bef asd svd pas rf it wt tx (js_uz od (5 * om) (zhere tx len p)) ln isS pm th len ((znp tx len (zsk tx len "hour " p)).1) ((znp tx len (zsk tx len "hour " p)).2) fa (om + 1) lm h)
        have ok61 : zpok len (znp tx len (zsk tx len "hour " p)) := znp_ok ok58
        have kk61 := ok61.1
        have km61 := ok61.2
        refine js_old (fun o62 => ?_)
        refine js_iastore dX3_readOrder_334 p60_10 (by omega) ?_
        show js_ok ρ mX3_readOrder _ 7 0 0 335 [(2, .int (jI (zhere tx len p))), (1, .int (jI (5 * om))), (0, .ref (A 0))] [] (js_up (zH A f bef asd svd pas rf it wt tx (js_uz od (5 * om) (zhere tx len p)) ln isS pm th len ((znp tx len (zsk tx len "hour " p)).1) ((znp tx len (zsk tx len "hour " p)).2) fa (om + 1) lm h) (A 10) (js_aI true 0 300 (js_uz (js_uz od (5 * om) (zhere tx len p)) ((5 * om) + 1) (znv tx len (zsk tx len "hour " p)))))
        refine js_goto (tgt := 351) dX3_readOrder_335 (by decide) ?_
        have e1 : zrop tx len p = znp tx len (zsk tx len "hour " p) := by unfold zrop; rw [if_neg (by omega), if_neg (by omega), if_neg (by omega), if_pos (by omega)]
        have e2 : zroo tx len p od (5 * om) = js_uz (js_uz od (5 * om) (zhere tx len p)) ((5 * om) + 1) (znv tx len (zsk tx len "hour " p)) := by unfold zroo; rw [if_neg (by omega), if_neg (by omega), if_neg (by omega), if_pos (by omega)]
        rw [e1, e2]
        exact js_vret rfl dX3_readOrder_351 ⟨rfl, (zH_eq hA ((js_up_n (js_nek p60_0 p60_10 js_kOA)).trans p60_0) ((js_up_n (hA 1 10 (by decide) (by decide) (by decide))).trans p60_1) ((js_up_n (hA 2 10 (by decide) (by decide) (by decide))).trans p60_2) ((js_up_n (hA 3 10 (by decide) (by decide) (by decide))).trans p60_3) ((js_up_n (hA 4 10 (by decide) (by decide) (by decide))).trans p60_4) ((js_up_n (hA 5 10 (by decide) (by decide) (by decide))).trans p60_5) ((js_up_n (hA 6 10 (by decide) (by decide) (by decide))).trans p60_6) ((js_up_n (hA 7 10 (by decide) (by decide) (by decide))).trans p60_7) ((js_up_n (hA 8 10 (by decide) (by decide) (by decide))).trans p60_8) ((js_up_n (hA 9 10 (by decide) (by decide) (by decide))).trans p60_9) js_up_s ((js_up_n (Ne.symm (hA 10 11 (by decide) (by decide) (by decide)))).trans p60_11) (fun q hq => ((js_up_n (hq 10 (by decide))).trans (zH_n hq))))⟩
      · refine js_top (b := 105) t3 ?_
        refine js_tableIn (off := 280) (tgt := 338) dX3_readOrder_58 (by decide) (by decide) (by decide) rfl (by decide) ?_
        refine js_old (fun o63 => ?_)
        refine js_aload_n 2 dX3_readOrder_338 rfl ?_
        obtain ⟨ka29, kb29, kx29, ky29, kv29, kh29, ki29⟩ := hK.2.2 29 "retire " rfl
        refine js_ldcwS 29 rfl kv29 dX3_readOrder_339 ?_
        refine eX3_247 rfl dX3_readOrder_342 ((js_up_n (js_nek p0 p10 js_kOA)).trans js_up_s) (com_skip hA ⟨((js_up_n (js_nek p0 p10 js_kOA)).trans js_up_s), ((js_up_n (hA 1 10 (by decide) (by decide) (by decide))).trans ((js_up_n (js_nek p1 p0 js_kAO)).trans p1)), ((js_up_n (hA 2 10 (by decide) (by decide) (by decide))).trans ((js_up_n (js_nek p2 p0 js_kAO)).trans p2)), ((js_up_n (hA 3 10 (by decide) (by decide) (by decide))).trans ((js_up_n (js_nek p3 p0 js_kAO)).trans p3)), ((js_up_n (hA 4 10 (by decide) (by decide) (by decide))).trans ((js_up_n (js_nek p4 p0 js_kAO)).trans p4)), ((js_up_n (hA 5 10 (by decide) (by decide) (by decide))).trans ((js_up_n (js_nek p5 p0 js_kAO)).trans p5)), ((js_up_n (hA 6 10 (by decide) (by decide) (by decide))).trans ((js_up_n (js_nek p6 p0 js_kAO)).trans p6)), ((js_up_n (hA 7 10 (by decide) (by decide) (by decide))).trans ((js_up_n (js_nek p7 p0 js_kAO)).trans p7)), ((js_up_n (hA 8 10 (by decide) (by decide) (by decide))).trans ((js_up_n (js_nek p8 p0 js_kAO)).trans p8)), ((js_up_n (hA 9 10 (by decide) (by decide) (by decide))).trans ((js_up_n (js_nek p9 p0 js_kAO)).trans p9)), js_up_s, ((js_up_n (Ne.symm (hA 10 11 (by decide) (by decide) (by decide)))).trans ((js_up_n (js_nek p11 p0 js_kAO)).trans p11))⟩ hp0 hl ht hK ⟨kh29, ki29⟩ (by decide) (zcl_r _ (by decide))) (Nat.le_of_ble_eq_true rfl) (Nat.le_of_ble_eq_true rfl) ?_
        rw [zH_fr (fun q hq => ((js_up_n (hq 10 (by decide))).trans ((js_up_n (hq 0 (by decide))).trans rfl)))]
        obtain ⟨p64_0, p64_1, p64_2, p64_3, p64_4, p64_5, p64_6, p64_7, p64_8, p64_9, p64_10, p64_11⟩ := zH_Mc (h := h) (f := f) (bef := bef) (asd := asd) (svd := svd) (pas := pas) (rf := rf) (it := it) (wt := wt) (tx := tx) (od := js_uz od (5 * om) (zhere tx len p)) (ln := ln) (isS := isS) (pm := pm) (th := th) (len := len) (at_ := (zsk tx len "retire " p).1) (wr := (zsk tx len "retire " p).2) (fa := fa) (om := om + 1) (lm := lm) hA
        show js_ok ρ mX3_readOrder _ 7 0 0 345 [(2, .int (jI (zhere tx len p))), (1, .int (jI (5 * om))), (0, .ref (A 0))] [] (zH A f bef asd svd pas rf it wt tx (js_uz od (5 * om) (zhere tx len p)) ln isS pm th len ((zsk tx len "retire " p).1) ((zsk tx len "retire " p).2) fa (om + 1) lm h)
        have ok65 : zpok len (zsk tx len "retire " p) := zsk_ok hp0
        have kk65 := ok65.1
        have km65 := ok65.2
        refine js_old (fun o66 => ?_)
        refine js_aload_n 2 dX3_readOrder_345 rfl ?_
        refine js_iload_n 1 dX3_readOrder_346 rfl ?_
        refine js_iconst dX3_readOrder_347 ?_
        refine eX3_277 rfl dX3_readOrder_348 p64_0 (com_digits1 hA ⟨p64_0, p64_1, p64_2, p64_3, p64_4, p64_5, p64_6, p64_7, p64_8, p64_9, p64_10, p64_11⟩ ok65 hl ht hK (by omega)) (Nat.le_of_ble_eq_true rfl) (Nat.le_of_ble_eq_true rfl) ?_
        rw [zH_fr (fun q hq => (zH_n hq))]
        obtain ⟨p67_0, p67_1, p67_2, p67_3, p67_4, p67_5, p67_6, p67_7, p67_8, p67_9, p67_10, p67_11⟩ := zH_Mc (h := h) (f := f) (bef := bef) (asd := asd) (svd := svd) (pas := pas) (rf := rf) (it := it) (wt := wt) (tx := tx) (od := zdgo tx len (zsk tx len "retire " p) (js_uz od (5 * om) (zhere tx len p)) (5 * om) 1) (ln := ln) (isS := isS) (pm := pm) (th := th) (len := len) (at_ := (zdgp tx len (zsk tx len "retire " p) 1).1) (wr := (zdgp tx len (zsk tx len "retire " p) 1).2) (fa := fa) (om := om + 1) (lm := lm) hA
        show js_ok ρ mX3_readOrder _ 7 0 0 351 [(2, .int (jI (zhere tx len p))), (1, .int (jI (5 * om))), (0, .ref (A 0))] [] (zH A f bef asd svd pas rf it wt tx (zdgo tx len (zsk tx len "retire " p) (js_uz od (5 * om) (zhere tx len p)) (5 * om) 1) ln isS pm th len ((zdgp tx len (zsk tx len "retire " p) 1).1) ((zdgp tx len (zsk tx len "retire " p) 1).2) fa (om + 1) lm h)
        have ok68 : zpok len (zdgp tx len (zsk tx len "retire " p) 1) := zdgp_ok 1 ok65
        have kk68 := ok68.1
        have km68 := ok68.2
        have e1 : zrop tx len p = zdgp tx len (zsk tx len "retire " p) 1 := by unfold zrop; rw [if_neg (by omega), if_neg (by omega), if_neg (by omega), if_neg (by omega), if_neg (by omega), if_neg (by omega), if_neg (by omega), if_neg (by omega)]
        have e2 : zroo tx len p od (5 * om) = zdgo tx len (zsk tx len "retire " p) (js_uz od (5 * om) (zhere tx len p)) (5 * om) 1 := by unfold zroo; rw [if_neg (by omega), if_neg (by omega), if_neg (by omega), if_neg (by omega), if_neg (by omega), if_neg (by omega), if_neg (by omega), if_neg (by omega)]
        rw [e1, e2]
        refine js_old (fun o69 => ?_)
        exact js_vret rfl dX3_readOrder_351 ⟨rfl, (zH_eq hA p67_0 p67_1 p67_2 p67_3 p67_4 p67_5 p67_6 p67_7 p67_8 p67_9 p67_10 p67_11 (fun q hq => (zH_n hq)))⟩
      · refine js_top (b := 106) t3 ?_
        refine js_tableIn (off := 280) (tgt := 338) dX3_readOrder_58 (by decide) (by decide) (by decide) rfl (by decide) ?_
        refine js_old (fun o70 => ?_)
        refine js_aload_n 2 dX3_readOrder_338 rfl ?_
        obtain ⟨ka29, kb29, kx29, ky29, kv29, kh29, ki29⟩ := hK.2.2 29 "retire " rfl
        refine js_ldcwS 29 rfl kv29 dX3_readOrder_339 ?_
        refine eX3_247 rfl dX3_readOrder_342 ((js_up_n (js_nek p0 p10 js_kOA)).trans js_up_s) (com_skip hA ⟨((js_up_n (js_nek p0 p10 js_kOA)).trans js_up_s), ((js_up_n (hA 1 10 (by decide) (by decide) (by decide))).trans ((js_up_n (js_nek p1 p0 js_kAO)).trans p1)), ((js_up_n (hA 2 10 (by decide) (by decide) (by decide))).trans ((js_up_n (js_nek p2 p0 js_kAO)).trans p2)), ((js_up_n (hA 3 10 (by decide) (by decide) (by decide))).trans ((js_up_n (js_nek p3 p0 js_kAO)).trans p3)), ((js_up_n (hA 4 10 (by decide) (by decide) (by decide))).trans ((js_up_n (js_nek p4 p0 js_kAO)).trans p4)), ((js_up_n (hA 5 10 (by decide) (by decide) (by decide))).trans ((js_up_n (js_nek p5 p0 js_kAO)).trans p5)), ((js_up_n (hA 6 10 (by decide) (by decide) (by decide))).trans ((js_up_n (js_nek p6 p0 js_kAO)).trans p6)), ((js_up_n (hA 7 10 (by decide) (by decide) (by decide))).trans ((js_up_n (js_nek p7 p0 js_kAO)).trans p7)), ((js_up_n (hA 8 10 (by decide) (by decide) (by decide))).trans ((js_up_n (js_nek p8 p0 js_kAO)).trans p8)), ((js_up_n (hA 9 10 (by decide) (by decide) (by decide))).trans ((js_up_n (js_nek p9 p0 js_kAO)).trans p9)), js_up_s, ((js_up_n (Ne.symm (hA 10 11 (by decide) (by decide) (by decide)))).trans ((js_up_n (js_nek p11 p0 js_kAO)).trans p11))⟩ hp0 hl ht hK ⟨kh29, ki29⟩ (by decide) (zcl_r _ (by decide))) (Nat.le_of_ble_eq_true rfl) (Nat.le_of_ble_eq_true rfl) ?_
        rw [zH_fr (fun q hq => ((js_up_n (hq 10 (by decide))).trans ((js_up_n (hq 0 (by decide))).trans rfl)))]
        obtain ⟨p71_0, p71_1, p71_2, p71_3, p71_4, p71_5, p71_6, p71_7, p71_8, p71_9, p71_10, p71_11⟩ := zH_Mc (h := h) (f := f) (bef := bef) (asd := asd) (svd := svd) (pas := pas) (rf := rf) (it := it) (wt := wt) (tx := tx) (od := js_uz od (5 * om) (zhere tx len p)) (ln := ln) (isS := isS) (pm := pm) (th := th) (len := len) (at_ := (zsk tx len "retire " p).1) (wr := (zsk tx len "retire " p).2) (fa := fa) (om := om + 1) (lm := lm) hA
        show js_ok ρ mX3_readOrder _ 7 0 0 345 [(2, .int (jI (zhere tx len p))), (1, .int (jI (5 * om))), (0, .ref (A 0))] [] (zH A f bef asd svd pas rf it wt tx (js_uz od (5 * om) (zhere tx len p)) ln isS pm th len ((zsk tx len "retire " p).1) ((zsk tx len "retire " p).2) fa (om + 1) lm h)
        have ok72 : zpok len (zsk tx len "retire " p) := zsk_ok hp0
        have kk72 := ok72.1
        have km72 := ok72.2
        refine js_old (fun o73 => ?_)
        refine js_aload_n 2 dX3_readOrder_345 rfl ?_
        refine js_iload_n 1 dX3_readOrder_346 rfl ?_
        refine js_iconst dX3_readOrder_347 ?_
        refine eX3_277 rfl dX3_readOrder_348 p71_0 (com_digits1 hA ⟨p71_0, p71_1, p71_2, p71_3, p71_4, p71_5, p71_6, p71_7, p71_8, p71_9, p71_10, p71_11⟩ ok72 hl ht hK (by omega)) (Nat.le_of_ble_eq_true rfl) (Nat.le_of_ble_eq_true rfl) ?_
        rw [zH_fr (fun q hq => (zH_n hq))]
        obtain ⟨p74_0, p74_1, p74_2, p74_3, p74_4, p74_5, p74_6, p74_7, p74_8, p74_9, p74_10, p74_11⟩ := zH_Mc (h := h) (f := f) (bef := bef) (asd := asd) (svd := svd) (pas := pas) (rf := rf) (it := it) (wt := wt) (tx := tx) (od := zdgo tx len (zsk tx len "retire " p) (js_uz od (5 * om) (zhere tx len p)) (5 * om) 1) (ln := ln) (isS := isS) (pm := pm) (th := th) (len := len) (at_ := (zdgp tx len (zsk tx len "retire " p) 1).1) (wr := (zdgp tx len (zsk tx len "retire " p) 1).2) (fa := fa) (om := om + 1) (lm := lm) hA
        show js_ok ρ mX3_readOrder _ 7 0 0 351 [(2, .int (jI (zhere tx len p))), (1, .int (jI (5 * om))), (0, .ref (A 0))] [] (zH A f bef asd svd pas rf it wt tx (zdgo tx len (zsk tx len "retire " p) (js_uz od (5 * om) (zhere tx len p)) (5 * om) 1) ln isS pm th len ((zdgp tx len (zsk tx len "retire " p) 1).1) ((zdgp tx len (zsk tx len "retire " p) 1).2) fa (om + 1) lm h)
        have ok75 : zpok len (zdgp tx len (zsk tx len "retire " p) 1) := zdgp_ok 1 ok72
        have kk75 := ok75.1
        have km75 := ok75.2
        have e1 : zrop tx len p = zdgp tx len (zsk tx len "retire " p) 1 := by unfold zrop; rw [if_neg (by omega), if_neg (by omega), if_neg (by omega), if_neg (by omega), if_neg (by omega), if_neg (by omega), if_neg (by omega), if_neg (by omega)]
        have e2 : zroo tx len p od (5 * om) = zdgo tx len (zsk tx len "retire " p) (js_uz od (5 * om) (zhere tx len p)) (5 * om) 1 := by unfold zroo; rw [if_neg (by omega), if_neg (by omega), if_neg (by omega), if_neg (by omega), if_neg (by omega), if_neg (by omega), if_neg (by omega), if_neg (by omega)]
        rw [e1, e2]
        refine js_old (fun o76 => ?_)
        exact js_vret rfl dX3_readOrder_351 ⟨rfl, (zH_eq hA p74_0 p74_1 p74_2 p74_3 p74_4 p74_5 p74_6 p74_7 p74_8 p74_9 p74_10 p74_11 (fun q hq => (zH_n hq)))⟩
      · refine js_top (b := 107) t3 ?_
        refine js_tableIn (off := 280) (tgt := 338) dX3_readOrder_58 (by decide) (by decide) (by decide) rfl (by decide) ?_
        refine js_old (fun o77 => ?_)
        refine js_aload_n 2 dX3_readOrder_338 rfl ?_
        obtain ⟨ka29, kb29, kx29, ky29, kv29, kh29, ki29⟩ := hK.2.2 29 "retire " rfl
        refine js_ldcwS 29 rfl kv29 dX3_readOrder_339 ?_
        refine eX3_247 rfl dX3_readOrder_342 ((js_up_n (js_nek p0 p10 js_kOA)).trans js_up_s) (com_skip hA ⟨((js_up_n (js_nek p0 p10 js_kOA)).trans js_up_s), ((js_up_n (hA 1 10 (by decide) (by decide) (by decide))).trans ((js_up_n (js_nek p1 p0 js_kAO)).trans p1)), ((js_up_n (hA 2 10 (by decide) (by decide) (by decide))).trans ((js_up_n (js_nek p2 p0 js_kAO)).trans p2)), ((js_up_n (hA 3 10 (by decide) (by decide) (by decide))).trans ((js_up_n (js_nek p3 p0 js_kAO)).trans p3)), ((js_up_n (hA 4 10 (by decide) (by decide) (by decide))).trans ((js_up_n (js_nek p4 p0 js_kAO)).trans p4)), ((js_up_n (hA 5 10 (by decide) (by decide) (by decide))).trans ((js_up_n (js_nek p5 p0 js_kAO)).trans p5)), ((js_up_n (hA 6 10 (by decide) (by decide) (by decide))).trans ((js_up_n (js_nek p6 p0 js_kAO)).trans p6)), ((js_up_n (hA 7 10 (by decide) (by decide) (by decide))).trans ((js_up_n (js_nek p7 p0 js_kAO)).trans p7)), ((js_up_n (hA 8 10 (by decide) (by decide) (by decide))).trans ((js_up_n (js_nek p8 p0 js_kAO)).trans p8)), ((js_up_n (hA 9 10 (by decide) (by decide) (by decide))).trans ((js_up_n (js_nek p9 p0 js_kAO)).trans p9)), js_up_s, ((js_up_n (Ne.symm (hA 10 11 (by decide) (by decide) (by decide)))).trans ((js_up_n (js_nek p11 p0 js_kAO)).trans p11))⟩ hp0 hl ht hK ⟨kh29, ki29⟩ (by decide) (zcl_r _ (by decide))) (Nat.le_of_ble_eq_true rfl) (Nat.le_of_ble_eq_true rfl) ?_
        rw [zH_fr (fun q hq => ((js_up_n (hq 10 (by decide))).trans ((js_up_n (hq 0 (by decide))).trans rfl)))]
        obtain ⟨p78_0, p78_1, p78_2, p78_3, p78_4, p78_5, p78_6, p78_7, p78_8, p78_9, p78_10, p78_11⟩ := zH_Mc (h := h) (f := f) (bef := bef) (asd := asd) (svd := svd) (pas := pas) (rf := rf) (it := it) (wt := wt) (tx := tx) (od := js_uz od (5 * om) (zhere tx len p)) (ln := ln) (isS := isS) (pm := pm) (th := th) (len := len) (at_ := (zsk tx len "retire " p).1) (wr := (zsk tx len "retire " p).2) (fa := fa) (om := om + 1) (lm := lm) hA
        show js_ok ρ mX3_readOrder _ 7 0 0 345 [(2, .int (jI (zhere tx len p))), (1, .int (jI (5 * om))), (0, .ref (A 0))] [] (zH A f bef asd svd pas rf it wt tx (js_uz od (5 * om) (zhere tx len p)) ln isS pm th len ((zsk tx len "retire " p).1) ((zsk tx len "retire " p).2) fa (om + 1) lm h)
        have ok79 : zpok len (zsk tx len "retire " p) := zsk_ok hp0
        have kk79 := ok79.1
        have km79 := ok79.2
        refine js_old (fun o80 => ?_)
        refine js_aload_n 2 dX3_readOrder_345 rfl ?_
        refine js_iload_n 1 dX3_readOrder_346 rfl ?_
        refine js_iconst dX3_readOrder_347 ?_
        refine eX3_277 rfl dX3_readOrder_348 p78_0 (com_digits1 hA ⟨p78_0, p78_1, p78_2, p78_3, p78_4, p78_5, p78_6, p78_7, p78_8, p78_9, p78_10, p78_11⟩ ok79 hl ht hK (by omega)) (Nat.le_of_ble_eq_true rfl) (Nat.le_of_ble_eq_true rfl) ?_
        rw [zH_fr (fun q hq => (zH_n hq))]
        obtain ⟨p81_0, p81_1, p81_2, p81_3, p81_4, p81_5, p81_6, p81_7, p81_8, p81_9, p81_10, p81_11⟩ := zH_Mc (h := h) (f := f) (bef := bef) (asd := asd) (svd := svd) (pas := pas) (rf := rf) (it := it) (wt := wt) (tx := tx) (od := zdgo tx len (zsk tx len "retire " p) (js_uz od (5 * om) (zhere tx len p)) (5 * om) 1) (ln := ln) (isS := isS) (pm := pm) (th := th) (len := len) (at_ := (zdgp tx len (zsk tx len "retire " p) 1).1) (wr := (zdgp tx len (zsk tx len "retire " p) 1).2) (fa := fa) (om := om + 1) (lm := lm) hA
        show js_ok ρ mX3_readOrder _ 7 0 0 351 [(2, .int (jI (zhere tx len p))), (1, .int (jI (5 * om))), (0, .ref (A 0))] [] (zH A f bef asd svd pas rf it wt tx (zdgo tx len (zsk tx len "retire " p) (js_uz od (5 * om) (zhere tx len p)) (5 * om) 1) ln isS pm th len ((zdgp tx len (zsk tx len "retire " p) 1).1) ((zdgp tx len (zsk tx len "retire " p) 1).2) fa (om + 1) lm h)
        have ok82 : zpok len (zdgp tx len (zsk tx len "retire " p) 1) := zdgp_ok 1 ok79
        have kk82 := ok82.1
        have km82 := ok82.2
        have e1 : zrop tx len p = zdgp tx len (zsk tx len "retire " p) 1 := by unfold zrop; rw [if_neg (by omega), if_neg (by omega), if_neg (by omega), if_neg (by omega), if_neg (by omega), if_neg (by omega), if_neg (by omega), if_neg (by omega)]
        have e2 : zroo tx len p od (5 * om) = zdgo tx len (zsk tx len "retire " p) (js_uz od (5 * om) (zhere tx len p)) (5 * om) 1 := by unfold zroo; rw [if_neg (by omega), if_neg (by omega), if_neg (by omega), if_neg (by omega), if_neg (by omega), if_neg (by omega), if_neg (by omega), if_neg (by omega)]
        rw [e1, e2]
        refine js_old (fun o83 => ?_)
        exact js_vret rfl dX3_readOrder_351 ⟨rfl, (zH_eq hA p81_0 p81_1 p81_2 p81_3 p81_4 p81_5 p81_6 p81_7 p81_8 p81_9 p81_10 p81_11 (fun q hq => (zH_n hq)))⟩
      · refine js_top (b := 108) t3 ?_
        refine js_tableIn (off := 280) (tgt := 338) dX3_readOrder_58 (by decide) (by decide) (by decide) rfl (by decide) ?_
        refine js_old (fun o84 => ?_)
        refine js_aload_n 2 dX3_readOrder_338 rfl ?_
        obtain ⟨ka29, kb29, kx29, ky29, kv29, kh29, ki29⟩ := hK.2.2 29 "retire " rfl
        refine js_ldcwS 29 rfl kv29 dX3_readOrder_339 ?_
        refine eX3_247 rfl dX3_readOrder_342 ((js_up_n (js_nek p0 p10 js_kOA)).trans js_up_s) (com_skip hA ⟨((js_up_n (js_nek p0 p10 js_kOA)).trans js_up_s), ((js_up_n (hA 1 10 (by decide) (by decide) (by decide))).trans ((js_up_n (js_nek p1 p0 js_kAO)).trans p1)), ((js_up_n (hA 2 10 (by decide) (by decide) (by decide))).trans ((js_up_n (js_nek p2 p0 js_kAO)).trans p2)), ((js_up_n (hA 3 10 (by decide) (by decide) (by decide))).trans ((js_up_n (js_nek p3 p0 js_kAO)).trans p3)), ((js_up_n (hA 4 10 (by decide) (by decide) (by decide))).trans ((js_up_n (js_nek p4 p0 js_kAO)).trans p4)), ((js_up_n (hA 5 10 (by decide) (by decide) (by decide))).trans ((js_up_n (js_nek p5 p0 js_kAO)).trans p5)), ((js_up_n (hA 6 10 (by decide) (by decide) (by decide))).trans ((js_up_n (js_nek p6 p0 js_kAO)).trans p6)), ((js_up_n (hA 7 10 (by decide) (by decide) (by decide))).trans ((js_up_n (js_nek p7 p0 js_kAO)).trans p7)), ((js_up_n (hA 8 10 (by decide) (by decide) (by decide))).trans ((js_up_n (js_nek p8 p0 js_kAO)).trans p8)), ((js_up_n (hA 9 10 (by decide) (by decide) (by decide))).trans ((js_up_n (js_nek p9 p0 js_kAO)).trans p9)), js_up_s, ((js_up_n (Ne.symm (hA 10 11 (by decide) (by decide) (by decide)))).trans ((js_up_n (js_nek p11 p0 js_kAO)).trans p11))⟩ hp0 hl ht hK ⟨kh29, ki29⟩ (by decide) (zcl_r _ (by decide))) (Nat.le_of_ble_eq_true rfl) (Nat.le_of_ble_eq_true rfl) ?_
        rw [zH_fr (fun q hq => ((js_up_n (hq 10 (by decide))).trans ((js_up_n (hq 0 (by decide))).trans rfl)))]
        obtain ⟨p85_0, p85_1, p85_2, p85_3, p85_4, p85_5, p85_6, p85_7, p85_8, p85_9, p85_10, p85_11⟩ := zH_Mc (h := h) (f := f) (bef := bef) (asd := asd) (svd := svd) (pas := pas) (rf := rf) (it := it) (wt := wt) (tx := tx) (od := js_uz od (5 * om) (zhere tx len p)) (ln := ln) (isS := isS) (pm := pm) (th := th) (len := len) (at_ := (zsk tx len "retire " p).1) (wr := (zsk tx len "retire " p).2) (fa := fa) (om := om + 1) (lm := lm) hA
        show js_ok ρ mX3_readOrder _ 7 0 0 345 [(2, .int (jI (zhere tx len p))), (1, .int (jI (5 * om))), (0, .ref (A 0))] [] (zH A f bef asd svd pas rf it wt tx (js_uz od (5 * om) (zhere tx len p)) ln isS pm th len ((zsk tx len "retire " p).1) ((zsk tx len "retire " p).2) fa (om + 1) lm h)
        have ok86 : zpok len (zsk tx len "retire " p) := zsk_ok hp0
        have kk86 := ok86.1
        have km86 := ok86.2
        refine js_old (fun o87 => ?_)
        refine js_aload_n 2 dX3_readOrder_345 rfl ?_
        refine js_iload_n 1 dX3_readOrder_346 rfl ?_
        refine js_iconst dX3_readOrder_347 ?_
        refine eX3_277 rfl dX3_readOrder_348 p85_0 (com_digits1 hA ⟨p85_0, p85_1, p85_2, p85_3, p85_4, p85_5, p85_6, p85_7, p85_8, p85_9, p85_10, p85_11⟩ ok86 hl ht hK (by omega)) (Nat.le_of_ble_eq_true rfl) (Nat.le_of_ble_eq_true rfl) ?_
        rw [zH_fr (fun q hq => (zH_n hq))]
        obtain ⟨p88_0, p88_1, p88_2, p88_3, p88_4, p88_5, p88_6, p88_7, p88_8, p88_9, p88_10, p88_11⟩ := zH_Mc (h := h) (f := f) (bef := bef) (asd := asd) (svd := svd) (pas := pas) (rf := rf) (it := it) (wt := wt) (tx := tx) (od := zdgo tx len (zsk tx len "retire " p) (js_uz od (5 * om) (zhere tx len p)) (5 * om) 1) (ln := ln) (isS := isS) (pm := pm) (th := th) (len := len) (at_ := (zdgp tx len (zsk tx len "retire " p) 1).1) (wr := (zdgp tx len (zsk tx len "retire " p) 1).2) (fa := fa) (om := om + 1) (lm := lm) hA
        show js_ok ρ mX3_readOrder _ 7 0 0 351 [(2, .int (jI (zhere tx len p))), (1, .int (jI (5 * om))), (0, .ref (A 0))] [] (zH A f bef asd svd pas rf it wt tx (zdgo tx len (zsk tx len "retire " p) (js_uz od (5 * om) (zhere tx len p)) (5 * om) 1) ln isS pm th len ((zdgp tx len (zsk tx len "retire " p) 1).1) ((zdgp tx len (zsk tx len "retire " p) 1).2) fa (om + 1) lm h)
        have ok89 : zpok len (zdgp tx len (zsk tx len "retire " p) 1) := zdgp_ok 1 ok86
        have kk89 := ok89.1
        have km89 := ok89.2
        have e1 : zrop tx len p = zdgp tx len (zsk tx len "retire " p) 1 := by unfold zrop; rw [if_neg (by omega), if_neg (by omega), if_neg (by omega), if_neg (by omega), if_neg (by omega), if_neg (by omega), if_neg (by omega), if_neg (by omega)]
        have e2 : zroo tx len p od (5 * om) = zdgo tx len (zsk tx len "retire " p) (js_uz od (5 * om) (zhere tx len p)) (5 * om) 1 := by unfold zroo; rw [if_neg (by omega), if_neg (by omega), if_neg (by omega), if_neg (by omega), if_neg (by omega), if_neg (by omega), if_neg (by omega), if_neg (by omega)]
        rw [e1, e2]
        refine js_old (fun o90 => ?_)
        exact js_vret rfl dX3_readOrder_351 ⟨rfl, (zH_eq hA p88_0 p88_1 p88_2 p88_3 p88_4 p88_5 p88_6 p88_7 p88_8 p88_9 p88_10 p88_11 (fun q hq => (zH_n hq)))⟩
      · refine js_top (b := 109) t3 ?_
        refine js_tableIn (off := 280) (tgt := 338) dX3_readOrder_58 (by decide) (by decide) (by decide) rfl (by decide) ?_
        refine js_old (fun o91 => ?_)
        refine js_aload_n 2 dX3_readOrder_338 rfl ?_
        obtain ⟨ka29, kb29, kx29, ky29, kv29, kh29, ki29⟩ := hK.2.2 29 "retire " rfl
        refine js_ldcwS 29 rfl kv29 dX3_readOrder_339 ?_
        refine eX3_247 rfl dX3_readOrder_342 ((js_up_n (js_nek p0 p10 js_kOA)).trans js_up_s) (com_skip hA ⟨((js_up_n (js_nek p0 p10 js_kOA)).trans js_up_s), ((js_up_n (hA 1 10 (by decide) (by decide) (by decide))).trans ((js_up_n (js_nek p1 p0 js_kAO)).trans p1)), ((js_up_n (hA 2 10 (by decide) (by decide) (by decide))).trans ((js_up_n (js_nek p2 p0 js_kAO)).trans p2)), ((js_up_n (hA 3 10 (by decide) (by decide) (by decide))).trans ((js_up_n (js_nek p3 p0 js_kAO)).trans p3)), ((js_up_n (hA 4 10 (by decide) (by decide) (by decide))).trans ((js_up_n (js_nek p4 p0 js_kAO)).trans p4)), ((js_up_n (hA 5 10 (by decide) (by decide) (by decide))).trans ((js_up_n (js_nek p5 p0 js_kAO)).trans p5)), ((js_up_n (hA 6 10 (by decide) (by decide) (by decide))).trans ((js_up_n (js_nek p6 p0 js_kAO)).trans p6)), ((js_up_n (hA 7 10 (by decide) (by decide) (by decide))).trans ((js_up_n (js_nek p7 p0 js_kAO)).trans p7)), ((js_up_n (hA 8 10 (by decide) (by decide) (by decide))).trans ((js_up_n (js_nek p8 p0 js_kAO)).trans p8)), ((js_up_n (hA 9 10 (by decide) (by decide) (by decide))).trans ((js_up_n (js_nek p9 p0 js_kAO)).trans p9)), js_up_s, ((js_up_n (Ne.symm (hA 10 11 (by decide) (by decide) (by decide)))).trans ((js_up_n (js_nek p11 p0 js_kAO)).trans p11))⟩ hp0 hl ht hK ⟨kh29, ki29⟩ (by decide) (zcl_r _ (by decide))) (Nat.le_of_ble_eq_true rfl) (Nat.le_of_ble_eq_true rfl) ?_
        rw [zH_fr (fun q hq => ((js_up_n (hq 10 (by decide))).trans ((js_up_n (hq 0 (by decide))).trans rfl)))]
        obtain ⟨p92_0, p92_1, p92_2, p92_3, p92_4, p92_5, p92_6, p92_7, p92_8, p92_9, p92_10, p92_11⟩ := zH_Mc (h := h) (f := f) (bef := bef) (asd := asd) (svd := svd) (pas := pas) (rf := rf) (it := it) (wt := wt) (tx := tx) (od := js_uz od (5 * om) (zhere tx len p)) (ln := ln) (isS := isS) (pm := pm) (th := th) (len := len) (at_ := (zsk tx len "retire " p).1) (wr := (zsk tx len "retire " p).2) (fa := fa) (om := om + 1) (lm := lm) hA
        show js_ok ρ mX3_readOrder _ 7 0 0 345 [(2, .int (jI (zhere tx len p))), (1, .int (jI (5 * om))), (0, .ref (A 0))] [] (zH A f bef asd svd pas rf it wt tx (js_uz od (5 * om) (zhere tx len p)) ln isS pm th len ((zsk tx len "retire " p).1) ((zsk tx len "retire " p).2) fa (om + 1) lm h)
        have ok93 : zpok len (zsk tx len "retire " p) := zsk_ok hp0
        have kk93 := ok93.1
        have km93 := ok93.2
        refine js_old (fun o94 => ?_)
        refine js_aload_n 2 dX3_readOrder_345 rfl ?_
        refine js_iload_n 1 dX3_readOrder_346 rfl ?_
        refine js_iconst dX3_readOrder_347 ?_
        refine eX3_277 rfl dX3_readOrder_348 p92_0 (com_digits1 hA ⟨p92_0, p92_1, p92_2, p92_3, p92_4, p92_5, p92_6, p92_7, p92_8, p92_9, p92_10, p92_11⟩ ok93 hl ht hK (by omega)) (Nat.le_of_ble_eq_true rfl) (Nat.le_of_ble_eq_true rfl) ?_
        rw [zH_fr (fun q hq => (zH_n hq))]
        obtain ⟨p95_0, p95_1, p95_2, p95_3, p95_4, p95_5, p95_6, p95_7, p95_8, p95_9, p95_10, p95_11⟩ := zH_Mc (h := h) (f := f) (bef := bef) (asd := asd) (svd := svd) (pas := pas) (rf := rf) (it := it) (wt := wt) (tx := tx) (od := zdgo tx len (zsk tx len "retire " p) (js_uz od (5 * om) (zhere tx len p)) (5 * om) 1) (ln := ln) (isS := isS) (pm := pm) (th := th) (len := len) (at_ := (zdgp tx len (zsk tx len "retire " p) 1).1) (wr := (zdgp tx len (zsk tx len "retire " p) 1).2) (fa := fa) (om := om + 1) (lm := lm) hA
        show js_ok ρ mX3_readOrder _ 7 0 0 351 [(2, .int (jI (zhere tx len p))), (1, .int (jI (5 * om))), (0, .ref (A 0))] [] (zH A f bef asd svd pas rf it wt tx (zdgo tx len (zsk tx len "retire " p) (js_uz od (5 * om) (zhere tx len p)) (5 * om) 1) ln isS pm th len ((zdgp tx len (zsk tx len "retire " p) 1).1) ((zdgp tx len (zsk tx len "retire " p) 1).2) fa (om + 1) lm h)
        have ok96 : zpok len (zdgp tx len (zsk tx len "retire " p) 1) := zdgp_ok 1 ok93
        have kk96 := ok96.1
        have km96 := ok96.2
        have e1 : zrop tx len p = zdgp tx len (zsk tx len "retire " p) 1 := by unfold zrop; rw [if_neg (by omega), if_neg (by omega), if_neg (by omega), if_neg (by omega), if_neg (by omega), if_neg (by omega), if_neg (by omega), if_neg (by omega)]
        have e2 : zroo tx len p od (5 * om) = zdgo tx len (zsk tx len "retire " p) (js_uz od (5 * om) (zhere tx len p)) (5 * om) 1 := by unfold zroo; rw [if_neg (by omega), if_neg (by omega), if_neg (by omega), if_neg (by omega), if_neg (by omega), if_neg (by omega), if_neg (by omega), if_neg (by omega)]
        rw [e1, e2]
        refine js_old (fun o97 => ?_)
        exact js_vret rfl dX3_readOrder_351 ⟨rfl, (zH_eq hA p95_0 p95_1 p95_2 p95_3 p95_4 p95_5 p95_6 p95_7 p95_8 p95_9 p95_10 p95_11 (fun q hq => (zH_n hq)))⟩
      · refine js_top (b := 110) t3 ?_
        refine js_tableIn (off := 280) (tgt := 338) dX3_readOrder_58 (by decide) (by decide) (by decide) rfl (by decide) ?_
        refine js_old (fun o98 => ?_)
        refine js_aload_n 2 dX3_readOrder_338 rfl ?_
        obtain ⟨ka29, kb29, kx29, ky29, kv29, kh29, ki29⟩ := hK.2.2 29 "retire " rfl
        refine js_ldcwS 29 rfl kv29 dX3_readOrder_339 ?_
        refine eX3_247 rfl dX3_readOrder_342 ((js_up_n (js_nek p0 p10 js_kOA)).trans js_up_s) (com_skip hA ⟨((js_up_n (js_nek p0 p10 js_kOA)).trans js_up_s), ((js_up_n (hA 1 10 (by decide) (by decide) (by decide))).trans ((js_up_n (js_nek p1 p0 js_kAO)).trans p1)), ((js_up_n (hA 2 10 (by decide) (by decide) (by decide))).trans ((js_up_n (js_nek p2 p0 js_kAO)).trans p2)), ((js_up_n (hA 3 10 (by decide) (by decide) (by decide))).trans ((js_up_n (js_nek p3 p0 js_kAO)).trans p3)), ((js_up_n (hA 4 10 (by decide) (by decide) (by decide))).trans ((js_up_n (js_nek p4 p0 js_kAO)).trans p4)), ((js_up_n (hA 5 10 (by decide) (by decide) (by decide))).trans ((js_up_n (js_nek p5 p0 js_kAO)).trans p5)), ((js_up_n (hA 6 10 (by decide) (by decide) (by decide))).trans ((js_up_n (js_nek p6 p0 js_kAO)).trans p6)), ((js_up_n (hA 7 10 (by decide) (by decide) (by decide))).trans ((js_up_n (js_nek p7 p0 js_kAO)).trans p7)), ((js_up_n (hA 8 10 (by decide) (by decide) (by decide))).trans ((js_up_n (js_nek p8 p0 js_kAO)).trans p8)), ((js_up_n (hA 9 10 (by decide) (by decide) (by decide))).trans ((js_up_n (js_nek p9 p0 js_kAO)).trans p9)), js_up_s, ((js_up_n (Ne.symm (hA 10 11 (by decide) (by decide) (by decide)))).trans ((js_up_n (js_nek p11 p0 js_kAO)).trans p11))⟩ hp0 hl ht hK ⟨kh29, ki29⟩ (by decide) (zcl_r _ (by decide))) (Nat.le_of_ble_eq_true rfl) (Nat.le_of_ble_eq_true rfl) ?_
        rw [zH_fr (fun q hq => ((js_up_n (hq 10 (by decide))).trans ((js_up_n (hq 0 (by decide))).trans rfl)))]
        obtain ⟨p99_0, p99_1, p99_2, p99_3, p99_4, p99_5, p99_6, p99_7, p99_8, p99_9, p99_10, p99_11⟩ := zH_Mc (h := h) (f := f) (bef := bef) (asd := asd) (svd := svd) (pas := pas) (rf := rf) (it := it) (wt := wt) (tx := tx) (od := js_uz od (5 * om) (zhere tx len p)) (ln := ln) (isS := isS) (pm := pm) (th := th) (len := len) (at_ := (zsk tx len "retire " p).1) (wr := (zsk tx len "retire " p).2) (fa := fa) (om := om + 1) (lm := lm) hA
        show js_ok ρ mX3_readOrder _ 7 0 0 345 [(2, .int (jI (zhere tx len p))), (1, .int (jI (5 * om))), (0, .ref (A 0))] [] (zH A f bef asd svd pas rf it wt tx (js_uz od (5 * om) (zhere tx len p)) ln isS pm th len ((zsk tx len "retire " p).1) ((zsk tx len "retire " p).2) fa (om + 1) lm h)
        have ok100 : zpok len (zsk tx len "retire " p) := zsk_ok hp0
        have kk100 := ok100.1
        have km100 := ok100.2
        refine js_old (fun o101 => ?_)
        refine js_aload_n 2 dX3_readOrder_345 rfl ?_
        refine js_iload_n 1 dX3_readOrder_346 rfl ?_
        refine js_iconst dX3_readOrder_347 ?_
        refine eX3_277 rfl dX3_readOrder_348 p99_0 (com_digits1 hA ⟨p99_0, p99_1, p99_2, p99_3, p99_4, p99_5, p99_6, p99_7, p99_8, p99_9, p99_10, p99_11⟩ ok100 hl ht hK (by omega)) (Nat.le_of_ble_eq_true rfl) (Nat.le_of_ble_eq_true rfl) ?_
        rw [zH_fr (fun q hq => (zH_n hq))]
        obtain ⟨p102_0, p102_1, p102_2, p102_3, p102_4, p102_5, p102_6, p102_7, p102_8, p102_9, p102_10, p102_11⟩ := zH_Mc (h := h) (f := f) (bef := bef) (asd := asd) (svd := svd) (pas := pas) (rf := rf) (it := it) (wt := wt) (tx := tx) (od := zdgo tx len (zsk tx len "retire " p) (js_uz od (5 * om) (zhere tx len p)) (5 * om) 1) (ln := ln) (isS := isS) (pm := pm) (th := th) (len := len) (at_ := (zdgp tx len (zsk tx len "retire " p) 1).1) (wr := (zdgp tx len (zsk tx len "retire " p) 1).2) (fa := fa) (om := om + 1) (lm := lm) hA
        show js_ok ρ mX3_readOrder _ 7 0 0 351 [(2, .int (jI (zhere tx len p))), (1, .int (jI (5 * om))), (0, .ref (A 0))] [] (zH A f bef asd svd pas rf it wt tx (zdgo tx len (zsk tx len "retire " p) (js_uz od (5 * om) (zhere tx len p)) (5 * om) 1) ln isS pm th len ((zdgp tx len (zsk tx len "retire " p) 1).1) ((zdgp tx len (zsk tx len "retire " p) 1).2) fa (om + 1) lm h)
        have ok103 : zpok len (zdgp tx len (zsk tx len "retire " p) 1) := zdgp_ok 1 ok100
        have kk103 := ok103.1
        have km103 := ok103.2
        have e1 : zrop tx len p = zdgp tx len (zsk tx len "retire " p) 1 := by unfold zrop; rw [if_neg (by omega), if_neg (by omega), if_neg (by omega), if_neg (by omega), if_neg (by omega), if_neg (by omega), if_neg (by omega), if_neg (by omega)]
        have e2 : zroo tx len p od (5 * om) = zdgo tx len (zsk tx len "retire " p) (js_uz od (5 * om) (zhere tx len p)) (5 * om) 1 := by unfold zroo; rw [if_neg (by omega), if_neg (by omega), if_neg (by omega), if_neg (by omega), if_neg (by omega), if_neg (by omega), if_neg (by omega), if_neg (by omega)]
        rw [e1, e2]
        refine js_old (fun o104 => ?_)
        exact js_vret rfl dX3_readOrder_351 ⟨rfl, (zH_eq hA p102_0 p102_1 p102_2 p102_3 p102_4 p102_5 p102_6 p102_7 p102_8 p102_9 p102_10 p102_11 (fun q hq => (zH_n hq)))⟩
      · refine js_top (b := 111) t3 ?_
        refine js_tableIn (off := 280) (tgt := 338) dX3_readOrder_58 (by decide) (by decide) (by decide) rfl (by decide) ?_
        refine js_old (fun o105 => ?_)
        refine js_aload_n 2 dX3_readOrder_338 rfl ?_
        obtain ⟨ka29, kb29, kx29, ky29, kv29, kh29, ki29⟩ := hK.2.2 29 "retire " rfl
        refine js_ldcwS 29 rfl kv29 dX3_readOrder_339 ?_
        refine eX3_247 rfl dX3_readOrder_342 ((js_up_n (js_nek p0 p10 js_kOA)).trans js_up_s) (com_skip hA ⟨((js_up_n (js_nek p0 p10 js_kOA)).trans js_up_s), ((js_up_n (hA 1 10 (by decide) (by decide) (by decide))).trans ((js_up_n (js_nek p1 p0 js_kAO)).trans p1)), ((js_up_n (hA 2 10 (by decide) (by decide) (by decide))).trans ((js_up_n (js_nek p2 p0 js_kAO)).trans p2)), ((js_up_n (hA 3 10 (by decide) (by decide) (by decide))).trans ((js_up_n (js_nek p3 p0 js_kAO)).trans p3)), ((js_up_n (hA 4 10 (by decide) (by decide) (by decide))).trans ((js_up_n (js_nek p4 p0 js_kAO)).trans p4)), ((js_up_n (hA 5 10 (by decide) (by decide) (by decide))).trans ((js_up_n (js_nek p5 p0 js_kAO)).trans p5)), ((js_up_n (hA 6 10 (by decide) (by decide) (by decide))).trans ((js_up_n (js_nek p6 p0 js_kAO)).trans p6)), ((js_up_n (hA 7 10 (by decide) (by decide) (by decide))).trans ((js_up_n (js_nek p7 p0 js_kAO)).trans p7)), ((js_up_n (hA 8 10 (by decide) (by decide) (by decide))).trans ((js_up_n (js_nek p8 p0 js_kAO)).trans p8)), ((js_up_n (hA 9 10 (by decide) (by decide) (by decide))).trans ((js_up_n (js_nek p9 p0 js_kAO)).trans p9)), js_up_s, ((js_up_n (Ne.symm (hA 10 11 (by decide) (by decide) (by decide)))).trans ((js_up_n (js_nek p11 p0 js_kAO)).trans p11))⟩ hp0 hl ht hK ⟨kh29, ki29⟩ (by decide) (zcl_r _ (by decide))) (Nat.le_of_ble_eq_true rfl) (Nat.le_of_ble_eq_true rfl) ?_
        rw [zH_fr (fun q hq => ((js_up_n (hq 10 (by decide))).trans ((js_up_n (hq 0 (by decide))).trans rfl)))]
        obtain ⟨p106_0, p106_1, p106_2, p106_3, p106_4, p106_5, p106_6, p106_7, p106_8, p106_9, p106_10, p106_11⟩ := zH_Mc (h := h) (f := f) (bef := bef) (asd := asd) (svd := svd) (pas := pas) (rf := rf) (it := it) (wt := wt) (tx := tx) (od := js_uz od (5 * om) (zhere tx len p)) (ln := ln) (isS := isS) (pm := pm) (th := th) (len := len) (at_ := (zsk tx len "retire " p).1) (wr := (zsk tx len "retire " p).2) (fa := fa) (om := om + 1) (lm := lm) hA
        show js_ok ρ mX3_readOrder _ 7 0 0 345 [(2, .int (jI (zhere tx len p))), (1, .int (jI (5 * om))), (0, .ref (A 0))] [] (zH A f bef asd svd pas rf it wt tx (js_uz od (5 * om) (zhere tx len p)) ln isS pm th len ((zsk tx len "retire " p).1) ((zsk tx len "retire " p).2) fa (om + 1) lm h)
        have ok107 : zpok len (zsk tx len "retire " p) := zsk_ok hp0
        have kk107 := ok107.1
        have km107 := ok107.2
        refine js_old (fun o108 => ?_)
        refine js_aload_n 2 dX3_readOrder_345 rfl ?_
        refine js_iload_n 1 dX3_readOrder_346 rfl ?_
        refine js_iconst dX3_readOrder_347 ?_
        refine eX3_277 rfl dX3_readOrder_348 p106_0 (com_digits1 hA ⟨p106_0, p106_1, p106_2, p106_3, p106_4, p106_5, p106_6, p106_7, p106_8, p106_9, p106_10, p106_11⟩ ok107 hl ht hK (by omega)) (Nat.le_of_ble_eq_true rfl) (Nat.le_of_ble_eq_true rfl) ?_
        rw [zH_fr (fun q hq => (zH_n hq))]
        obtain ⟨p109_0, p109_1, p109_2, p109_3, p109_4, p109_5, p109_6, p109_7, p109_8, p109_9, p109_10, p109_11⟩ := zH_Mc (h := h) (f := f) (bef := bef) (asd := asd) (svd := svd) (pas := pas) (rf := rf) (it := it) (wt := wt) (tx := tx) (od := zdgo tx len (zsk tx len "retire " p) (js_uz od (5 * om) (zhere tx len p)) (5 * om) 1) (ln := ln) (isS := isS) (pm := pm) (th := th) (len := len) (at_ := (zdgp tx len (zsk tx len "retire " p) 1).1) (wr := (zdgp tx len (zsk tx len "retire " p) 1).2) (fa := fa) (om := om + 1) (lm := lm) hA
        show js_ok ρ mX3_readOrder _ 7 0 0 351 [(2, .int (jI (zhere tx len p))), (1, .int (jI (5 * om))), (0, .ref (A 0))] [] (zH A f bef asd svd pas rf it wt tx (zdgo tx len (zsk tx len "retire " p) (js_uz od (5 * om) (zhere tx len p)) (5 * om) 1) ln isS pm th len ((zdgp tx len (zsk tx len "retire " p) 1).1) ((zdgp tx len (zsk tx len "retire " p) 1).2) fa (om + 1) lm h)
        have ok110 : zpok len (zdgp tx len (zsk tx len "retire " p) 1) := zdgp_ok 1 ok107
        have kk110 := ok110.1
        have km110 := ok110.2
        have e1 : zrop tx len p = zdgp tx len (zsk tx len "retire " p) 1 := by unfold zrop; rw [if_neg (by omega), if_neg (by omega), if_neg (by omega), if_neg (by omega), if_neg (by omega), if_neg (by omega), if_neg (by omega), if_neg (by omega)]
        have e2 : zroo tx len p od (5 * om) = zdgo tx len (zsk tx len "retire " p) (js_uz od (5 * om) (zhere tx len p)) (5 * om) 1 := by unfold zroo; rw [if_neg (by omega), if_neg (by omega), if_neg (by omega), if_neg (by omega), if_neg (by omega), if_neg (by omega), if_neg (by omega), if_neg (by omega)]
        rw [e1, e2]
        refine js_old (fun o111 => ?_)
        exact js_vret rfl dX3_readOrder_351 ⟨rfl, (zH_eq hA p109_0 p109_1 p109_2 p109_3 p109_4 p109_5 p109_6 p109_7 p109_8 p109_9 p109_10 p109_11 (fun q hq => (zH_n hq)))⟩
      · refine js_top (b := 112) t3 ?_
        refine js_tableIn (off := 280) (tgt := 338) dX3_readOrder_58 (by decide) (by decide) (by decide) rfl (by decide) ?_
        refine js_old (fun o112 => ?_)
        refine js_aload_n 2 dX3_readOrder_338 rfl ?_
        obtain ⟨ka29, kb29, kx29, ky29, kv29, kh29, ki29⟩ := hK.2.2 29 "retire " rfl
        refine js_ldcwS 29 rfl kv29 dX3_readOrder_339 ?_
        refine eX3_247 rfl dX3_readOrder_342 ((js_up_n (js_nek p0 p10 js_kOA)).trans js_up_s) (com_skip hA ⟨((js_up_n (js_nek p0 p10 js_kOA)).trans js_up_s), ((js_up_n (hA 1 10 (by decide) (by decide) (by decide))).trans ((js_up_n (js_nek p1 p0 js_kAO)).trans p1)), ((js_up_n (hA 2 10 (by decide) (by decide) (by decide))).trans ((js_up_n (js_nek p2 p0 js_kAO)).trans p2)), ((js_up_n (hA 3 10 (by decide) (by decide) (by decide))).trans ((js_up_n (js_nek p3 p0 js_kAO)).trans p3)), ((js_up_n (hA 4 10 (by decide) (by decide) (by decide))).trans ((js_up_n (js_nek p4 p0 js_kAO)).trans p4)), ((js_up_n (hA 5 10 (by decide) (by decide) (by decide))).trans ((js_up_n (js_nek p5 p0 js_kAO)).trans p5)), ((js_up_n (hA 6 10 (by decide) (by decide) (by decide))).trans ((js_up_n (js_nek p6 p0 js_kAO)).trans p6)), ((js_up_n (hA 7 10 (by decide) (by decide) (by decide))).trans ((js_up_n (js_nek p7 p0 js_kAO)).trans p7)), ((js_up_n (hA 8 10 (by decide) (by decide) (by decide))).trans ((js_up_n (js_nek p8 p0 js_kAO)).trans p8)), ((js_up_n (hA 9 10 (by decide) (by decide) (by decide))).trans ((js_up_n (js_nek p9 p0 js_kAO)).trans p9)), js_up_s, ((js_up_n (Ne.symm (hA 10 11 (by decide) (by decide) (by decide)))).trans ((js_up_n (js_nek p11 p0 js_kAO)).trans p11))⟩ hp0 hl ht hK ⟨kh29, ki29⟩ (by decide) (zcl_r _ (by decide))) (Nat.le_of_ble_eq_true rfl) (Nat.le_of_ble_eq_true rfl) ?_
        rw [zH_fr (fun q hq => ((js_up_n (hq 10 (by decide))).trans ((js_up_n (hq 0 (by decide))).trans rfl)))]
        obtain ⟨p113_0, p113_1, p113_2, p113_3, p113_4, p113_5, p113_6, p113_7, p113_8, p113_9, p113_10, p113_11⟩ := zH_Mc (h := h) (f := f) (bef := bef) (asd := asd) (svd := svd) (pas := pas) (rf := rf) (it := it) (wt := wt) (tx := tx) (od := js_uz od (5 * om) (zhere tx len p)) (ln := ln) (isS := isS) (pm := pm) (th := th) (len := len) (at_ := (zsk tx len "retire " p).1) (wr := (zsk tx len "retire " p).2) (fa := fa) (om := om + 1) (lm := lm) hA
        show js_ok ρ mX3_readOrder _ 7 0 0 345 [(2, .int (jI (zhere tx len p))), (1, .int (jI (5 * om))), (0, .ref (A 0))] [] (zH A f bef asd svd pas rf it wt tx (js_uz od (5 * om) (zhere tx len p)) ln isS pm th len ((zsk tx len "retire " p).1) ((zsk tx len "retire " p).2) fa (om + 1) lm h)
        have ok114 : zpok len (zsk tx len "retire " p) := zsk_ok hp0
        have kk114 := ok114.1
        have km114 := ok114.2
        refine js_old (fun o115 => ?_)
        refine js_aload_n 2 dX3_readOrder_345 rfl ?_
        refine js_iload_n 1 dX3_readOrder_346 rfl ?_
        refine js_iconst dX3_readOrder_347 ?_
        refine eX3_277 rfl dX3_readOrder_348 p113_0 (com_digits1 hA ⟨p113_0, p113_1, p113_2, p113_3, p113_4, p113_5, p113_6, p113_7, p113_8, p113_9, p113_10, p113_11⟩ ok114 hl ht hK (by omega)) (Nat.le_of_ble_eq_true rfl) (Nat.le_of_ble_eq_true rfl) ?_
        rw [zH_fr (fun q hq => (zH_n hq))]
        obtain ⟨p116_0, p116_1, p116_2, p116_3, p116_4, p116_5, p116_6, p116_7, p116_8, p116_9, p116_10, p116_11⟩ := zH_Mc (h := h) (f := f) (bef := bef) (asd := asd) (svd := svd) (pas := pas) (rf := rf) (it := it) (wt := wt) (tx := tx) (od := zdgo tx len (zsk tx len "retire " p) (js_uz od (5 * om) (zhere tx len p)) (5 * om) 1) (ln := ln) (isS := isS) (pm := pm) (th := th) (len := len) (at_ := (zdgp tx len (zsk tx len "retire " p) 1).1) (wr := (zdgp tx len (zsk tx len "retire " p) 1).2) (fa := fa) (om := om + 1) (lm := lm) hA
        show js_ok ρ mX3_readOrder _ 7 0 0 351 [(2, .int (jI (zhere tx len p))), (1, .int (jI (5 * om))), (0, .ref (A 0))] [] (zH A f bef asd svd pas rf it wt tx (zdgo tx len (zsk tx len "retire " p) (js_uz od (5 * om) (zhere tx len p)) (5 * om) 1) ln isS pm th len ((zdgp tx len (zsk tx len "retire " p) 1).1) ((zdgp tx len (zsk tx len "retire " p) 1).2) fa (om + 1) lm h)
        have ok117 : zpok len (zdgp tx len (zsk tx len "retire " p) 1) := zdgp_ok 1 ok114
        have kk117 := ok117.1
        have km117 := ok117.2
        have e1 : zrop tx len p = zdgp tx len (zsk tx len "retire " p) 1 := by unfold zrop; rw [if_neg (by omega), if_neg (by omega), if_neg (by omega), if_neg (by omega), if_neg (by omega), if_neg (by omega), if_neg (by omega), if_neg (by omega)]
        have e2 : zroo tx len p od (5 * om) = zdgo tx len (zsk tx len "retire " p) (js_uz od (5 * om) (zhere tx len p)) (5 * om) 1 := by unfold zroo; rw [if_neg (by omega), if_neg (by omega), if_neg (by omega), if_neg (by omega), if_neg (by omega), if_neg (by omega), if_neg (by omega), if_neg (by omega)]
        rw [e1, e2]
        refine js_old (fun o118 => ?_)
        exact js_vret rfl dX3_readOrder_351 ⟨rfl, (zH_eq hA p116_0 p116_1 p116_2 p116_3 p116_4 p116_5 p116_6 p116_7 p116_8 p116_9 p116_10 p116_11 (fun q hq => (zH_n hq)))⟩
      · refine js_top (b := 113) t3 ?_
        refine js_tableIn (off := 280) (tgt := 338) dX3_readOrder_58 (by decide) (by decide) (by decide) rfl (by decide) ?_
        refine js_old (fun o119 => ?_)
        refine js_aload_n 2 dX3_readOrder_338 rfl ?_
        obtain ⟨ka29, kb29, kx29, ky29, kv29, kh29, ki29⟩ := hK.2.2 29 "retire " rfl
        refine js_ldcwS 29 rfl kv29 dX3_readOrder_339 ?_
        refine eX3_247 rfl dX3_readOrder_342 ((js_up_n (js_nek p0 p10 js_kOA)).trans js_up_s) (com_skip hA ⟨((js_up_n (js_nek p0 p10 js_kOA)).trans js_up_s), ((js_up_n (hA 1 10 (by decide) (by decide) (by decide))).trans ((js_up_n (js_nek p1 p0 js_kAO)).trans p1)), ((js_up_n (hA 2 10 (by decide) (by decide) (by decide))).trans ((js_up_n (js_nek p2 p0 js_kAO)).trans p2)), ((js_up_n (hA 3 10 (by decide) (by decide) (by decide))).trans ((js_up_n (js_nek p3 p0 js_kAO)).trans p3)), ((js_up_n (hA 4 10 (by decide) (by decide) (by decide))).trans ((js_up_n (js_nek p4 p0 js_kAO)).trans p4)), ((js_up_n (hA 5 10 (by decide) (by decide) (by decide))).trans ((js_up_n (js_nek p5 p0 js_kAO)).trans p5)), ((js_up_n (hA 6 10 (by decide) (by decide) (by decide))).trans ((js_up_n (js_nek p6 p0 js_kAO)).trans p6)), ((js_up_n (hA 7 10 (by decide) (by decide) (by decide))).trans ((js_up_n (js_nek p7 p0 js_kAO)).trans p7)), ((js_up_n (hA 8 10 (by decide) (by decide) (by decide))).trans ((js_up_n (js_nek p8 p0 js_kAO)).trans p8)), ((js_up_n (hA 9 10 (by decide) (by decide) (by decide))).trans ((js_up_n (js_nek p9 p0 js_kAO)).trans p9)), js_up_s, ((js_up_n (Ne.symm (hA 10 11 (by decide) (by decide) (by decide)))).trans ((js_up_n (js_nek p11 p0 js_kAO)).trans p11))⟩ hp0 hl ht hK ⟨kh29, ki29⟩ (by decide) (zcl_r _ (by decide))) (Nat.le_of_ble_eq_true rfl) (Nat.le_of_ble_eq_true rfl) ?_
        rw [zH_fr (fun q hq => ((js_up_n (hq 10 (by decide))).trans ((js_up_n (hq 0 (by decide))).trans rfl)))]
        obtain ⟨p120_0, p120_1, p120_2, p120_3, p120_4, p120_5, p120_6, p120_7, p120_8, p120_9, p120_10, p120_11⟩ := zH_Mc (h := h) (f := f) (bef := bef) (asd := asd) (svd := svd) (pas := pas) (rf := rf) (it := it) (wt := wt) (tx := tx) (od := js_uz od (5 * om) (zhere tx len p)) (ln := ln) (isS := isS) (pm := pm) (th := th) (len := len) (at_ := (zsk tx len "retire " p).1) (wr := (zsk tx len "retire " p).2) (fa := fa) (om := om + 1) (lm := lm) hA
        show js_ok ρ mX3_readOrder _ 7 0 0 345 [(2, .int (jI (zhere tx len p))), (1, .int (jI (5 * om))), (0, .ref (A 0))] [] (zH A f bef asd svd pas rf it wt tx (js_uz od (5 * om) (zhere tx len p)) ln isS pm th len ((zsk tx len "retire " p).1) ((zsk tx len "retire " p).2) fa (om + 1) lm h)
        have ok121 : zpok len (zsk tx len "retire " p) := zsk_ok hp0
        have kk121 := ok121.1
        have km121 := ok121.2
        refine js_old (fun o122 => ?_)
        refine js_aload_n 2 dX3_readOrder_345 rfl ?_
        refine js_iload_n 1 dX3_readOrder_346 rfl ?_
        refine js_iconst dX3_readOrder_347 ?_
        refine eX3_277 rfl dX3_readOrder_348 p120_0 (com_digits1 hA ⟨p120_0, p120_1, p120_2, p120_3, p120_4, p120_5, p120_6, p120_7, p120_8, p120_9, p120_10, p120_11⟩ ok121 hl ht hK (by omega)) (Nat.le_of_ble_eq_true rfl) (Nat.le_of_ble_eq_true rfl) ?_
        rw [zH_fr (fun q hq => (zH_n hq))]
        obtain ⟨p123_0, p123_1, p123_2, p123_3, p123_4, p123_5, p123_6, p123_7, p123_8, p123_9, p123_10, p123_11⟩ := zH_Mc (h := h) (f := f) (bef := bef) (asd := asd) (svd := svd) (pas := pas) (rf := rf) (it := it) (wt := wt) (tx := tx) (od := zdgo tx len (zsk tx len "retire " p) (js_uz od (5 * om) (zhere tx len p)) (5 * om) 1) (ln := ln) (isS := isS) (pm := pm) (th := th) (len := len) (at_ := (zdgp tx len (zsk tx len "retire " p) 1).1) (wr := (zdgp tx len (zsk tx len "retire " p) 1).2) (fa := fa) (om := om + 1) (lm := lm) hA
        show js_ok ρ mX3_readOrder _ 7 0 0 351 [(2, .int (jI (zhere tx len p))), (1, .int (jI (5 * om))), (0, .ref (A 0))] [] (zH A f bef asd svd pas rf it wt tx (zdgo tx len (zsk tx len "retire " p) (js_uz od (5 * om) (zhere tx len p)) (5 * om) 1) ln isS pm th len ((zdgp tx len (zsk tx len "retire " p) 1).1) ((zdgp tx len (zsk tx len "retire " p) 1).2) fa (om + 1) lm h)
        have ok124 : zpok len (zdgp tx len (zsk tx len "retire " p) 1) := zdgp_ok 1 ok121
        have kk124 := ok124.1
        have km124 := ok124.2
        have e1 : zrop tx len p = zdgp tx len (zsk tx len "retire " p) 1 := by unfold zrop; rw [if_neg (by omega), if_neg (by omega), if_neg (by omega), if_neg (by omega), if_neg (by omega), if_neg (by omega), if_neg (by omega), if_neg (by omega)]
        have e2 : zroo tx len p od (5 * om) = zdgo tx len (zsk tx len "retire " p) (js_uz od (5 * om) (zhere tx len p)) (5 * om) 1 := by unfold zroo; rw [if_neg (by omega), if_neg (by omega), if_neg (by omega), if_neg (by omega), if_neg (by omega), if_neg (by omega), if_neg (by omega), if_neg (by omega)]
        rw [e1, e2]
        refine js_old (fun o125 => ?_)
        exact js_vret rfl dX3_readOrder_351 ⟨rfl, (zH_eq hA p123_0 p123_1 p123_2 p123_3 p123_4 p123_5 p123_6 p123_7 p123_8 p123_9 p123_10 p123_11 (fun q hq => (zH_n hq)))⟩
      · refine js_top (b := 114) t3 ?_
        refine js_tableIn (off := 280) (tgt := 338) dX3_readOrder_58 (by decide) (by decide) (by decide) rfl (by decide) ?_
        refine js_old (fun o126 => ?_)
        refine js_aload_n 2 dX3_readOrder_338 rfl ?_
        obtain ⟨ka29, kb29, kx29, ky29, kv29, kh29, ki29⟩ := hK.2.2 29 "retire " rfl
        refine js_ldcwS 29 rfl kv29 dX3_readOrder_339 ?_
        refine eX3_247 rfl dX3_readOrder_342 ((js_up_n (js_nek p0 p10 js_kOA)).trans js_up_s) (com_skip hA ⟨((js_up_n (js_nek p0 p10 js_kOA)).trans js_up_s), ((js_up_n (hA 1 10 (by decide) (by decide) (by decide))).trans ((js_up_n (js_nek p1 p0 js_kAO)).trans p1)), ((js_up_n (hA 2 10 (by decide) (by decide) (by decide))).trans ((js_up_n (js_nek p2 p0 js_kAO)).trans p2)), ((js_up_n (hA 3 10 (by decide) (by decide) (by decide))).trans ((js_up_n (js_nek p3 p0 js_kAO)).trans p3)), ((js_up_n (hA 4 10 (by decide) (by decide) (by decide))).trans ((js_up_n (js_nek p4 p0 js_kAO)).trans p4)), ((js_up_n (hA 5 10 (by decide) (by decide) (by decide))).trans ((js_up_n (js_nek p5 p0 js_kAO)).trans p5)), ((js_up_n (hA 6 10 (by decide) (by decide) (by decide))).trans ((js_up_n (js_nek p6 p0 js_kAO)).trans p6)), ((js_up_n (hA 7 10 (by decide) (by decide) (by decide))).trans ((js_up_n (js_nek p7 p0 js_kAO)).trans p7)), ((js_up_n (hA 8 10 (by decide) (by decide) (by decide))).trans ((js_up_n (js_nek p8 p0 js_kAO)).trans p8)), ((js_up_n (hA 9 10 (by decide) (by decide) (by decide))).trans ((js_up_n (js_nek p9 p0 js_kAO)).trans p9)), js_up_s, ((js_up_n (Ne.symm (hA 10 11 (by decide) (by decide) (by decide)))).trans ((js_up_n (js_nek p11 p0 js_kAO)).trans p11))⟩ hp0 hl ht hK ⟨kh29, ki29⟩ (by decide) (zcl_r _ (by decide))) (Nat.le_of_ble_eq_true rfl) (Nat.le_of_ble_eq_true rfl) ?_
        rw [zH_fr (fun q hq => ((js_up_n (hq 10 (by decide))).trans ((js_up_n (hq 0 (by decide))).trans rfl)))]
        obtain ⟨p127_0, p127_1, p127_2, p127_3, p127_4, p127_5, p127_6, p127_7, p127_8, p127_9, p127_10, p127_11⟩ := zH_Mc (h := h) (f := f) (bef := bef) (asd := asd) (svd := svd) (pas := pas) (rf := rf) (it := it) (wt := wt) (tx := tx) (od := js_uz od (5 * om) (zhere tx len p)) (ln := ln) (isS := isS) (pm := pm) (th := th) (len := len) (at_ := (zsk tx len "retire " p).1) (wr := (zsk tx len "retire " p).2) (fa := fa) (om := om + 1) (lm := lm) hA
        show js_ok ρ mX3_readOrder _ 7 0 0 345 [(2, .int (jI (zhere tx len p))), (1, .int (jI (5 * om))), (0, .ref (A 0))] [] (zH A f bef asd svd pas rf it wt tx (js_uz od (5 * om) (zhere tx len p)) ln isS pm th len ((zsk tx len "retire " p).1) ((zsk tx len "retire " p).2) fa (om + 1) lm h)
        have ok128 : zpok len (zsk tx len "retire " p) := zsk_ok hp0
        have kk128 := ok128.1
        have km128 := ok128.2
        refine js_old (fun o129 => ?_)
        refine js_aload_n 2 dX3_readOrder_345 rfl ?_
        refine js_iload_n 1 dX3_readOrder_346 rfl ?_
        refine js_iconst dX3_readOrder_347 ?_
        refine eX3_277 rfl dX3_readOrder_348 p127_0 (com_digits1 hA ⟨p127_0, p127_1, p127_2, p127_3, p127_4, p127_5, p127_6, p127_7, p127_8, p127_9, p127_10, p127_11⟩ ok128 hl ht hK (by omega)) (Nat.le_of_ble_eq_true rfl) (Nat.le_of_ble_eq_true rfl) ?_
        rw [zH_fr (fun q hq => (zH_n hq))]
        obtain ⟨p130_0, p130_1, p130_2, p130_3, p130_4, p130_5, p130_6, p130_7, p130_8, p130_9, p130_10, p130_11⟩ := zH_Mc (h := h) (f := f) (bef := bef) (asd := asd) (svd := svd) (pas := pas) (rf := rf) (it := it) (wt := wt) (tx := tx) (od := zdgo tx len (zsk tx len "retire " p) (js_uz od (5 * om) (zhere tx len p)) (5 * om) 1) (ln := ln) (isS := isS) (pm := pm) (th := th) (len := len) (at_ := (zdgp tx len (zsk tx len "retire " p) 1).1) (wr := (zdgp tx len (zsk tx len "retire " p) 1).2) (fa := fa) (om := om + 1) (lm := lm) hA
        show js_ok ρ mX3_readOrder _ 7 0 0 351 [(2, .int (jI (zhere tx len p))), (1, .int (jI (5 * om))), (0, .ref (A 0))] [] (zH A f bef asd svd pas rf it wt tx (zdgo tx len (zsk tx len "retire " p) (js_uz od (5 * om) (zhere tx len p)) (5 * om) 1) ln isS pm th len ((zdgp tx len (zsk tx len "retire " p) 1).1) ((zdgp tx len (zsk tx len "retire " p) 1).2) fa (om + 1) lm h)
        have ok131 : zpok len (zdgp tx len (zsk tx len "retire " p) 1) := zdgp_ok 1 ok128
        have kk131 := ok131.1
        have km131 := ok131.2
        have e1 : zrop tx len p = zdgp tx len (zsk tx len "retire " p) 1 := by unfold zrop; rw [if_neg (by omega), if_neg (by omega), if_neg (by omega), if_neg (by omega), if_neg (by omega), if_neg (by omega), if_neg (by omega), if_neg (by omega)]
        have e2 : zroo tx len p od (5 * om) = zdgo tx len (zsk tx len "retire " p) (js_uz od (5 * om) (zhere tx len p)) (5 * om) 1 := by unfold zroo; rw [if_neg (by omega), if_neg (by omega), if_neg (by omega), if_neg (by omega), if_neg (by omega), if_neg (by omega), if_neg (by omega), if_neg (by omega)]
        rw [e1, e2]
        refine js_old (fun o132 => ?_)
        exact js_vret rfl dX3_readOrder_351 ⟨rfl, (zH_eq hA p130_0 p130_1 p130_2 p130_3 p130_4 p130_5 p130_6 p130_7 p130_8 p130_9 p130_10 p130_11 (fun q hq => (zH_n hq)))⟩
      · refine js_top (b := 115) t3 ?_
        refine js_tableIn (off := 138) (tgt := 196) dX3_readOrder_58 (by decide) (by decide) (by decide) rfl (by decide) ?_
        refine js_old (fun o133 => ?_)
        refine js_aload_n 2 dX3_readOrder_196 rfl ?_
        refine js_iload_n 1 dX3_readOrder_197 rfl ?_
        refine eX3_262 rfl dX3_readOrder_198 ((js_up_n (js_nek p0 p10 js_kOA)).trans js_up_s) (com_ss hA ⟨((js_up_n (js_nek p0 p10 js_kOA)).trans js_up_s), ((js_up_n (hA 1 10 (by decide) (by decide) (by decide))).trans ((js_up_n (js_nek p1 p0 js_kAO)).trans p1)), ((js_up_n (hA 2 10 (by decide) (by decide) (by decide))).trans ((js_up_n (js_nek p2 p0 js_kAO)).trans p2)), ((js_up_n (hA 3 10 (by decide) (by decide) (by decide))).trans ((js_up_n (js_nek p3 p0 js_kAO)).trans p3)), ((js_up_n (hA 4 10 (by decide) (by decide) (by decide))).trans ((js_up_n (js_nek p4 p0 js_kAO)).trans p4)), ((js_up_n (hA 5 10 (by decide) (by decide) (by decide))).trans ((js_up_n (js_nek p5 p0 js_kAO)).trans p5)), ((js_up_n (hA 6 10 (by decide) (by decide) (by decide))).trans ((js_up_n (js_nek p6 p0 js_kAO)).trans p6)), ((js_up_n (hA 7 10 (by decide) (by decide) (by decide))).trans ((js_up_n (js_nek p7 p0 js_kAO)).trans p7)), ((js_up_n (hA 8 10 (by decide) (by decide) (by decide))).trans ((js_up_n (js_nek p8 p0 js_kAO)).trans p8)), ((js_up_n (hA 9 10 (by decide) (by decide) (by decide))).trans ((js_up_n (js_nek p9 p0 js_kAO)).trans p9)), js_up_s, ((js_up_n (Ne.symm (hA 10 11 (by decide) (by decide) (by decide)))).trans ((js_up_n (js_nek p11 p0 js_kAO)).trans p11))⟩ hp0 hl ht hK (by omega)) (Nat.le_of_ble_eq_true rfl) (Nat.le_of_ble_eq_true rfl) ?_
        rw [zH_fr (fun q hq => ((js_up_n (hq 10 (by decide))).trans ((js_up_n (hq 0 (by decide))).trans rfl)))]
        obtain ⟨p134_0, p134_1, p134_2, p134_3, p134_4, p134_5, p134_6, p134_7, p134_8, p134_9, p134_10, p134_11⟩ := zH_Mc (h := h) (f := f) (bef := bef) (asd := asd) (svd := svd) (pas := pas) (rf := rf) (it := it) (wt := wt) (tx := tx) (od := zsso tx len p (js_uz od (5 * om) (zhere tx len p)) (5 * om)) (ln := ln) (isS := isS) (pm := pm) (th := th) (len := len) (at_ := (zssp tx len p).1) (wr := (zssp tx len p).2) (fa := fa) (om := om + 1) (lm := lm) hA
        show js_ok ρ mX3_readOrder _ 7 0 0 201 [(2, .int (jI (zhere tx len p))), (1, .int (jI (5 * om))), (0, .ref (A 0))] [] (zH A f bef asd svd pas rf it wt tx (zsso tx len p (js_uz od (5 * om) (zhere tx len p)) (5 * om)) ln isS pm th len ((zssp tx len p).1) ((zssp tx len p).2) fa (om + 1) lm h)
        have ok135 : zpok len (zssp tx len p) := zssp_ok hp0
        have kk135 := ok135.1
        have km135 := ok135.2
        refine js_old (fun o136 => ?_)
        refine js_goto (tgt := 351) dX3_readOrder_201 (by decide) ?_
        have e1 : zrop tx len p = zssp tx len p := by unfold zrop; rw [if_neg (by omega), if_neg (by omega), if_neg (by omega), if_neg (by omega), if_pos (by omega)]
        have e2 : zroo tx len p od (5 * om) = zsso tx len p (js_uz od (5 * om) (zhere tx len p)) (5 * om) := by unfold zroo; rw [if_neg (by omega), if_neg (by omega), if_neg (by omega), if_neg (by omega), if_pos (by omega)]
        rw [e1, e2]
        exact js_vret rfl dX3_readOrder_351 ⟨rfl, (zH_eq hA p134_0 p134_1 p134_2 p134_3 p134_4 p134_5 p134_6 p134_7 p134_8 p134_9 p134_10 p134_11 (fun q hq => (zH_n hq)))⟩
      · refine js_top (b := 116) t3 ?_
        refine js_tableIn (off := 242) (tgt := 300) dX3_readOrder_58 (by decide) (by decide) (by decide) rfl (by decide) ?_
        refine js_old (fun o137 => ?_)
        refine js_aload_n 2 dX3_readOrder_300 rfl ?_
        obtain ⟨ka27, kb27, kx27, ky27, kv27, kh27, ki27⟩ := hK.2.2 27 "trade " rfl
        refine js_ldcwS 27 rfl kv27 dX3_readOrder_301 ?_
        refine js_old (fun o138 => ?_)
        refine eX3_247 rfl dX3_readOrder_304 ((js_up_n (js_nek p0 p10 js_kOA)).trans js_up_s) (com_skip hA ⟨((js_up_n (js_nek p0 p10 js_kOA)).trans js_up_s), ((js_up_n (hA 1 10 (by decide) (by decide) (by decide))).trans ((js_up_n (js_nek p1 p0 js_kAO)).trans p1)), ((js_up_n (hA 2 10 (by decide) (by decide) (by decide))).trans ((js_up_n (js_nek p2 p0 js_kAO)).trans p2)), ((js_up_n (hA 3 10 (by decide) (by decide) (by decide))).trans ((js_up_n (js_nek p3 p0 js_kAO)).trans p3)), ((js_up_n (hA 4 10 (by decide) (by decide) (by decide))).trans ((js_up_n (js_nek p4 p0 js_kAO)).trans p4)), ((js_up_n (hA 5 10 (by decide) (by decide) (by decide))).trans ((js_up_n (js_nek p5 p0 js_kAO)).trans p5)), ((js_up_n (hA 6 10 (by decide) (by decide) (by decide))).trans ((js_up_n (js_nek p6 p0 js_kAO)).trans p6)), ((js_up_n (hA 7 10 (by decide) (by decide) (by decide))).trans ((js_up_n (js_nek p7 p0 js_kAO)).trans p7)), ((js_up_n (hA 8 10 (by decide) (by decide) (by decide))).trans ((js_up_n (js_nek p8 p0 js_kAO)).trans p8)), ((js_up_n (hA 9 10 (by decide) (by decide) (by decide))).trans ((js_up_n (js_nek p9 p0 js_kAO)).trans p9)), js_up_s, ((js_up_n (Ne.symm (hA 10 11 (by decide) (by decide) (by decide)))).trans ((js_up_n (js_nek p11 p0 js_kAO)).trans p11))⟩ hp0 hl ht hK ⟨kh27, ki27⟩ (by decide) (zcl_r _ (by decide))) (Nat.le_of_ble_eq_true rfl) (Nat.le_of_ble_eq_true rfl) ?_
        rw [zH_fr (fun q hq => ((js_up_n (hq 10 (by decide))).trans ((js_up_n (hq 0 (by decide))).trans rfl)))]
        obtain ⟨p139_0, p139_1, p139_2, p139_3, p139_4, p139_5, p139_6, p139_7, p139_8, p139_9, p139_10, p139_11⟩ := zH_Mc (h := h) (f := f) (bef := bef) (asd := asd) (svd := svd) (pas := pas) (rf := rf) (it := it) (wt := wt) (tx := tx) (od := js_uz od (5 * om) (zhere tx len p)) (ln := ln) (isS := isS) (pm := pm) (th := th) (len := len) (at_ := (zsk tx len "trade " p).1) (wr := (zsk tx len "trade " p).2) (fa := fa) (om := om + 1) (lm := lm) hA
        show js_ok ρ mX3_readOrder _ 7 0 0 307 [(2, .int (jI (zhere tx len p))), (1, .int (jI (5 * om))), (0, .ref (A 0))] [] (zH A f bef asd svd pas rf it wt tx (js_uz od (5 * om) (zhere tx len p)) ln isS pm th len ((zsk tx len "trade " p).1) ((zsk tx len "trade " p).2) fa (om + 1) lm h)
        have ok140 : zpok len (zsk tx len "trade " p) := zsk_ok hp0
        have kk140 := ok140.1
        have km140 := ok140.2
        refine js_old (fun o141 => ?_)
        refine js_aload_n 2 dX3_readOrder_307 rfl ?_
        refine js_iload_n 1 dX3_readOrder_308 rfl ?_
        refine js_iconst dX3_readOrder_309 ?_
        refine eX3_277 rfl dX3_readOrder_310 p139_0 (com_digits3 hA ⟨p139_0, p139_1, p139_2, p139_3, p139_4, p139_5, p139_6, p139_7, p139_8, p139_9, p139_10, p139_11⟩ ok140 hl ht hK (by omega)) (Nat.le_of_ble_eq_true rfl) (Nat.le_of_ble_eq_true rfl) ?_
        rw [zH_fr (fun q hq => (zH_n hq))]
        obtain ⟨p142_0, p142_1, p142_2, p142_3, p142_4, p142_5, p142_6, p142_7, p142_8, p142_9, p142_10, p142_11⟩ := zH_Mc (h := h) (f := f) (bef := bef) (asd := asd) (svd := svd) (pas := pas) (rf := rf) (it := it) (wt := wt) (tx := tx) (od := zdgo tx len (zsk tx len "trade " p) (js_uz od (5 * om) (zhere tx len p)) (5 * om) 3) (ln := ln) (isS := isS) (pm := pm) (th := th) (len := len) (at_ := (zdgp tx len (zsk tx len "trade " p) 3).1) (wr := (zdgp tx len (zsk tx len "trade " p) 3).2) (fa := fa) (om := om + 1) (lm := lm) hA
        show js_ok ρ mX3_readOrder _ 7 0 0 313 [(2, .int (jI (zhere tx len p))), (1, .int (jI (5 * om))), (0, .ref (A 0))] [] (zH A f bef asd svd pas rf it wt tx (zdgo tx len (zsk tx len "trade " p) (js_uz od (5 * om) (zhere tx len p)) (5 * om) 3) ln isS pm th len ((zdgp tx len (zsk tx len "trade " p) 3).1) ((zdgp tx len (zsk tx len "trade " p) 3).2) fa (om + 1) lm h)
        have ok143 : zpok len (zdgp tx len (zsk tx len "trade " p) 3) := zdgp_ok 3 ok140
        have kk143 := ok143.1
        have km143 := ok143.2
        refine js_old (fun o144 => ?_)
        refine js_goto (tgt := 351) dX3_readOrder_313 (by decide) ?_
        have e1 : zrop tx len p = zdgp tx len (zsk tx len "trade " p) 3 := by unfold zrop; rw [if_neg (by omega), if_neg (by omega), if_neg (by omega), if_neg (by omega), if_neg (by omega), if_pos (by omega)]
        have e2 : zroo tx len p od (5 * om) = zdgo tx len (zsk tx len "trade " p) (js_uz od (5 * om) (zhere tx len p)) (5 * om) 3 := by unfold zroo; rw [if_neg (by omega), if_neg (by omega), if_neg (by omega), if_neg (by omega), if_neg (by omega), if_pos (by omega)]
        rw [e1, e2]
        exact js_vret rfl dX3_readOrder_351 ⟨rfl, (zH_eq hA p142_0 p142_1 p142_2 p142_3 p142_4 p142_5 p142_6 p142_7 p142_8 p142_9 p142_10 p142_11 (fun q hq => (zH_n hq)))⟩
      · refine js_top (b := 117) t3 ?_
        refine js_tableIn (off := 280) (tgt := 338) dX3_readOrder_58 (by decide) (by decide) (by decide) rfl (by decide) ?_
        refine js_old (fun o145 => ?_)
        refine js_aload_n 2 dX3_readOrder_338 rfl ?_
        obtain ⟨ka29, kb29, kx29, ky29, kv29, kh29, ki29⟩ := hK.2.2 29 "retire " rfl
        refine js_ldcwS 29 rfl kv29 dX3_readOrder_339 ?_
        refine eX3_247 rfl dX3_readOrder_342 ((js_up_n (js_nek p0 p10 js_kOA)).trans js_up_s) (com_skip hA ⟨((js_up_n (js_nek p0 p10 js_kOA)).trans js_up_s), ((js_up_n (hA 1 10 (by decide) (by decide) (by decide))).trans ((js_up_n (js_nek p1 p0 js_kAO)).trans p1)), ((js_up_n (hA 2 10 (by decide) (by decide) (by decide))).trans ((js_up_n (js_nek p2 p0 js_kAO)).trans p2)), ((js_up_n (hA 3 10 (by decide) (by decide) (by decide))).trans ((js_up_n (js_nek p3 p0 js_kAO)).trans p3)), ((js_up_n (hA 4 10 (by decide) (by decide) (by decide))).trans ((js_up_n (js_nek p4 p0 js_kAO)).trans p4)), ((js_up_n (hA 5 10 (by decide) (by decide) (by decide))).trans ((js_up_n (js_nek p5 p0 js_kAO)).trans p5)), ((js_up_n (hA 6 10 (by decide) (by decide) (by decide))).trans ((js_up_n (js_nek p6 p0 js_kAO)).trans p6)), ((js_up_n (hA 7 10 (by decide) (by decide) (by decide))).trans ((js_up_n (js_nek p7 p0 js_kAO)).trans p7)), ((js_up_n (hA 8 10 (by decide) (by decide) (by decide))).trans ((js_up_n (js_nek p8 p0 js_kAO)).trans p8)), ((js_up_n (hA 9 10 (by decide) (by decide) (by decide))).trans ((js_up_n (js_nek p9 p0 js_kAO)).trans p9)), js_up_s, ((js_up_n (Ne.symm (hA 10 11 (by decide) (by decide) (by decide)))).trans ((js_up_n (js_nek p11 p0 js_kAO)).trans p11))⟩ hp0 hl ht hK ⟨kh29, ki29⟩ (by decide) (zcl_r _ (by decide))) (Nat.le_of_ble_eq_true rfl) (Nat.le_of_ble_eq_true rfl) ?_
        rw [zH_fr (fun q hq => ((js_up_n (hq 10 (by decide))).trans ((js_up_n (hq 0 (by decide))).trans rfl)))]
        obtain ⟨p146_0, p146_1, p146_2, p146_3, p146_4, p146_5, p146_6, p146_7, p146_8, p146_9, p146_10, p146_11⟩ := zH_Mc (h := h) (f := f) (bef := bef) (asd := asd) (svd := svd) (pas := pas) (rf := rf) (it := it) (wt := wt) (tx := tx) (od := js_uz od (5 * om) (zhere tx len p)) (ln := ln) (isS := isS) (pm := pm) (th := th) (len := len) (at_ := (zsk tx len "retire " p).1) (wr := (zsk tx len "retire " p).2) (fa := fa) (om := om + 1) (lm := lm) hA
        show js_ok ρ mX3_readOrder _ 7 0 0 345 [(2, .int (jI (zhere tx len p))), (1, .int (jI (5 * om))), (0, .ref (A 0))] [] (zH A f bef asd svd pas rf it wt tx (js_uz od (5 * om) (zhere tx len p)) ln isS pm th len ((zsk tx len "retire " p).1) ((zsk tx len "retire " p).2) fa (om + 1) lm h)
        have ok147 : zpok len (zsk tx len "retire " p) := zsk_ok hp0
        have kk147 := ok147.1
        have km147 := ok147.2
        refine js_old (fun o148 => ?_)
        refine js_aload_n 2 dX3_readOrder_345 rfl ?_
        refine js_iload_n 1 dX3_readOrder_346 rfl ?_
        refine js_iconst dX3_readOrder_347 ?_
        refine eX3_277 rfl dX3_readOrder_348 p146_0 (com_digits1 hA ⟨p146_0, p146_1, p146_2, p146_3, p146_4, p146_5, p146_6, p146_7, p146_8, p146_9, p146_10, p146_11⟩ ok147 hl ht hK (by omega)) (Nat.le_of_ble_eq_true rfl) (Nat.le_of_ble_eq_true rfl) ?_
        rw [zH_fr (fun q hq => (zH_n hq))]
        obtain ⟨p149_0, p149_1, p149_2, p149_3, p149_4, p149_5, p149_6, p149_7, p149_8, p149_9, p149_10, p149_11⟩ := zH_Mc (h := h) (f := f) (bef := bef) (asd := asd) (svd := svd) (pas := pas) (rf := rf) (it := it) (wt := wt) (tx := tx) (od := zdgo tx len (zsk tx len "retire " p) (js_uz od (5 * om) (zhere tx len p)) (5 * om) 1) (ln := ln) (isS := isS) (pm := pm) (th := th) (len := len) (at_ := (zdgp tx len (zsk tx len "retire " p) 1).1) (wr := (zdgp tx len (zsk tx len "retire " p) 1).2) (fa := fa) (om := om + 1) (lm := lm) hA
        show js_ok ρ mX3_readOrder _ 7 0 0 351 [(2, .int (jI (zhere tx len p))), (1, .int (jI (5 * om))), (0, .ref (A 0))] [] (zH A f bef asd svd pas rf it wt tx (zdgo tx len (zsk tx len "retire " p) (js_uz od (5 * om) (zhere tx len p)) (5 * om) 1) ln isS pm th len ((zdgp tx len (zsk tx len "retire " p) 1).1) ((zdgp tx len (zsk tx len "retire " p) 1).2) fa (om + 1) lm h)
        have ok150 : zpok len (zdgp tx len (zsk tx len "retire " p) 1) := zdgp_ok 1 ok147
        have kk150 := ok150.1
        have km150 := ok150.2
        have e1 : zrop tx len p = zdgp tx len (zsk tx len "retire " p) 1 := by unfold zrop; rw [if_neg (by omega), if_neg (by omega), if_neg (by omega), if_neg (by omega), if_neg (by omega), if_neg (by omega), if_neg (by omega), if_neg (by omega)]
        have e2 : zroo tx len p od (5 * om) = zdgo tx len (zsk tx len "retire " p) (js_uz od (5 * om) (zhere tx len p)) (5 * om) 1 := by unfold zroo; rw [if_neg (by omega), if_neg (by omega), if_neg (by omega), if_neg (by omega), if_neg (by omega), if_neg (by omega), if_neg (by omega), if_neg (by omega)]
        rw [e1, e2]
        refine js_old (fun o151 => ?_)
        exact js_vret rfl dX3_readOrder_351 ⟨rfl, (zH_eq hA p149_0 p149_1 p149_2 p149_3 p149_4 p149_5 p149_6 p149_7 p149_8 p149_9 p149_10 p149_11 (fun q hq => (zH_n hq)))⟩
      · refine js_top (b := 118) t3 ?_
        refine js_tableIn (off := 226) (tgt := 284) dX3_readOrder_58 (by decide) (by decide) (by decide) rfl (by decide) ?_
        refine js_old (fun o152 => ?_)
        refine js_aload_n 2 dX3_readOrder_284 rfl ?_
        obtain ⟨ka26, kb26, kx26, ky26, kv26, kh26, ki26⟩ := hK.2.2 26 "vent " rfl
        refine js_ldcwS 26 rfl kv26 dX3_readOrder_285 ?_
        refine js_old (fun o153 => ?_)
        refine eX3_247 rfl dX3_readOrder_288 ((js_up_n (js_nek p0 p10 js_kOA)).trans js_up_s) (com_skip hA ⟨((js_up_n (js_nek p0 p10 js_kOA)).trans js_up_s), ((js_up_n (hA 1 10 (by decide) (by decide) (by decide))).trans ((js_up_n (js_nek p1 p0 js_kAO)).trans p1)), ((js_up_n (hA 2 10 (by decide) (by decide) (by decide))).trans ((js_up_n (js_nek p2 p0 js_kAO)).trans p2)), ((js_up_n (hA 3 10 (by decide) (by decide) (by decide))).trans ((js_up_n (js_nek p3 p0 js_kAO)).trans p3)), ((js_up_n (hA 4 10 (by decide) (by decide) (by decide))).trans ((js_up_n (js_nek p4 p0 js_kAO)).trans p4)), ((js_up_n (hA 5 10 (by decide) (by decide) (by decide))).trans ((js_up_n (js_nek p5 p0 js_kAO)).trans p5)), ((js_up_n (hA 6 10 (by decide) (by decide) (by decide))).trans ((js_up_n (js_nek p6 p0 js_kAO)).trans p6)), ((js_up_n (hA 7 10 (by decide) (by decide) (by decide))).trans ((js_up_n (js_nek p7 p0 js_kAO)).trans p7)), ((js_up_n (hA 8 10 (by decide) (by decide) (by decide))).trans ((js_up_n (js_nek p8 p0 js_kAO)).trans p8)), ((js_up_n (hA 9 10 (by decide) (by decide) (by decide))).trans ((js_up_n (js_nek p9 p0 js_kAO)).trans p9)), js_up_s, ((js_up_n (Ne.symm (hA 10 11 (by decide) (by decide) (by decide)))).trans ((js_up_n (js_nek p11 p0 js_kAO)).trans p11))⟩ hp0 hl ht hK ⟨kh26, ki26⟩ (by decide) (zcl_r _ (by decide))) (Nat.le_of_ble_eq_true rfl) (Nat.le_of_ble_eq_true rfl) ?_
        rw [zH_fr (fun q hq => ((js_up_n (hq 10 (by decide))).trans ((js_up_n (hq 0 (by decide))).trans rfl)))]
        obtain ⟨p154_0, p154_1, p154_2, p154_3, p154_4, p154_5, p154_6, p154_7, p154_8, p154_9, p154_10, p154_11⟩ := zH_Mc (h := h) (f := f) (bef := bef) (asd := asd) (svd := svd) (pas := pas) (rf := rf) (it := it) (wt := wt) (tx := tx) (od := js_uz od (5 * om) (zhere tx len p)) (ln := ln) (isS := isS) (pm := pm) (th := th) (len := len) (at_ := (zsk tx len "vent " p).1) (wr := (zsk tx len "vent " p).2) (fa := fa) (om := om + 1) (lm := lm) hA
        show js_ok ρ mX3_readOrder _ 7 0 0 291 [(2, .int (jI (zhere tx len p))), (1, .int (jI (5 * om))), (0, .ref (A 0))] [] (zH A f bef asd svd pas rf it wt tx (js_uz od (5 * om) (zhere tx len p)) ln isS pm th len ((zsk tx len "vent " p).1) ((zsk tx len "vent " p).2) fa (om + 1) lm h)
        have ok155 : zpok len (zsk tx len "vent " p) := zsk_ok hp0
        have kk155 := ok155.1
        have km155 := ok155.2
        refine js_old (fun o156 => ?_)
        refine js_aload_n 2 dX3_readOrder_291 rfl ?_
        refine js_iload_n 1 dX3_readOrder_292 rfl ?_
        refine js_iconst dX3_readOrder_293 ?_
        refine eX3_277 rfl dX3_readOrder_294 p154_0 (com_digits2 hA ⟨p154_0, p154_1, p154_2, p154_3, p154_4, p154_5, p154_6, p154_7, p154_8, p154_9, p154_10, p154_11⟩ ok155 hl ht hK (by omega)) (Nat.le_of_ble_eq_true rfl) (Nat.le_of_ble_eq_true rfl) ?_
        rw [zH_fr (fun q hq => (zH_n hq))]
        obtain ⟨p157_0, p157_1, p157_2, p157_3, p157_4, p157_5, p157_6, p157_7, p157_8, p157_9, p157_10, p157_11⟩ := zH_Mc (h := h) (f := f) (bef := bef) (asd := asd) (svd := svd) (pas := pas) (rf := rf) (it := it) (wt := wt) (tx := tx) (od := zdgo tx len (zsk tx len "vent " p) (js_uz od (5 * om) (zhere tx len p)) (5 * om) 2) (ln := ln) (isS := isS) (pm := pm) (th := th) (len := len) (at_ := (zdgp tx len (zsk tx len "vent " p) 2).1) (wr := (zdgp tx len (zsk tx len "vent " p) 2).2) (fa := fa) (om := om + 1) (lm := lm) hA
        show js_ok ρ mX3_readOrder _ 7 0 0 297 [(2, .int (jI (zhere tx len p))), (1, .int (jI (5 * om))), (0, .ref (A 0))] [] (zH A f bef asd svd pas rf it wt tx (zdgo tx len (zsk tx len "vent " p) (js_uz od (5 * om) (zhere tx len p)) (5 * om) 2) ln isS pm th len ((zdgp tx len (zsk tx len "vent " p) 2).1) ((zdgp tx len (zsk tx len "vent " p) 2).2) fa (om + 1) lm h)
        have ok158 : zpok len (zdgp tx len (zsk tx len "vent " p) 2) := zdgp_ok 2 ok155
        have kk158 := ok158.1
        have km158 := ok158.2
        refine js_old (fun o159 => ?_)
        refine js_goto (tgt := 351) dX3_readOrder_297 (by decide) ?_
        have e1 : zrop tx len p = zdgp tx len (zsk tx len "vent " p) 2 := by unfold zrop; rw [if_neg (by omega), if_neg (by omega), if_neg (by omega), if_neg (by omega), if_neg (by omega), if_neg (by omega), if_pos (by omega)]
        have e2 : zroo tx len p od (5 * om) = zdgo tx len (zsk tx len "vent " p) (js_uz od (5 * om) (zhere tx len p)) (5 * om) 2 := by unfold zroo; rw [if_neg (by omega), if_neg (by omega), if_neg (by omega), if_neg (by omega), if_neg (by omega), if_neg (by omega), if_pos (by omega)]
        rw [e1, e2]
        exact js_vret rfl dX3_readOrder_351 ⟨rfl, (zH_eq hA p157_0 p157_1 p157_2 p157_3 p157_4 p157_5 p157_6 p157_7 p157_8 p157_9 p157_10 p157_11 (fun q hq => (zH_n hq)))⟩
      · refine js_top (b := 119) t3 ?_
        refine js_tableIn (off := 173) (tgt := 231) dX3_readOrder_58 (by decide) (by decide) (by decide) rfl (by decide) ?_
        refine js_old (fun o160 => ?_)
        refine js_aload_n 2 dX3_readOrder_231 rfl ?_
        obtain ⟨ka23, kb23, kx23, ky23, kv23, kh23, ki23⟩ := hK.2.2 23 "wind " rfl
        refine js_ldcwS 23 rfl kv23 dX3_readOrder_232 ?_
        refine js_old (fun o161 => ?_)
        refine eX3_247 rfl dX3_readOrder_235 ((js_up_n (js_nek p0 p10 js_kOA)).trans js_up_s) (com_skip hA ⟨((js_up_n (js_nek p0 p10 js_kOA)).trans js_up_s), ((js_up_n (hA 1 10 (by decide) (by decide) (by decide))).trans ((js_up_n (js_nek p1 p0 js_kAO)).trans p1)), ((js_up_n (hA 2 10 (by decide) (by decide) (by decide))).trans ((js_up_n (js_nek p2 p0 js_kAO)).trans p2)), ((js_up_n (hA 3 10 (by decide) (by decide) (by decide))).trans ((js_up_n (js_nek p3 p0 js_kAO)).trans p3)), ((js_up_n (hA 4 10 (by decide) (by decide) (by decide))).trans ((js_up_n (js_nek p4 p0 js_kAO)).trans p4)), ((js_up_n (hA 5 10 (by decide) (by decide) (by decide))).trans ((js_up_n (js_nek p5 p0 js_kAO)).trans p5)), ((js_up_n (hA 6 10 (by decide) (by decide) (by decide))).trans ((js_up_n (js_nek p6 p0 js_kAO)).trans p6)), ((js_up_n (hA 7 10 (by decide) (by decide) (by decide))).trans ((js_up_n (js_nek p7 p0 js_kAO)).trans p7)), ((js_up_n (hA 8 10 (by decide) (by decide) (by decide))).trans ((js_up_n (js_nek p8 p0 js_kAO)).trans p8)), ((js_up_n (hA 9 10 (by decide) (by decide) (by decide))).trans ((js_up_n (js_nek p9 p0 js_kAO)).trans p9)), js_up_s, ((js_up_n (Ne.symm (hA 10 11 (by decide) (by decide) (by decide)))).trans ((js_up_n (js_nek p11 p0 js_kAO)).trans p11))⟩ hp0 hl ht hK ⟨kh23, ki23⟩ (by decide) (zcl_r _ (by decide))) (Nat.le_of_ble_eq_true rfl) (Nat.le_of_ble_eq_true rfl) ?_
        rw [zH_fr (fun q hq => ((js_up_n (hq 10 (by decide))).trans ((js_up_n (hq 0 (by decide))).trans rfl)))]
        obtain ⟨p162_0, p162_1, p162_2, p162_3, p162_4, p162_5, p162_6, p162_7, p162_8, p162_9, p162_10, p162_11⟩ := zH_Mc (h := h) (f := f) (bef := bef) (asd := asd) (svd := svd) (pas := pas) (rf := rf) (it := it) (wt := wt) (tx := tx) (od := js_uz od (5 * om) (zhere tx len p)) (ln := ln) (isS := isS) (pm := pm) (th := th) (len := len) (at_ := (zsk tx len "wind " p).1) (wr := (zsk tx len "wind " p).2) (fa := fa) (om := om + 1) (lm := lm) hA
        show js_ok ρ mX3_readOrder _ 7 0 0 238 [(2, .int (jI (zhere tx len p))), (1, .int (jI (5 * om))), (0, .ref (A 0))] [] (zH A f bef asd svd pas rf it wt tx (js_uz od (5 * om) (zhere tx len p)) ln isS pm th len ((zsk tx len "wind " p).1) ((zsk tx len "wind " p).2) fa (om + 1) lm h)
        have ok163 : zpok len (zsk tx len "wind " p) := zsk_ok hp0
        have kk163 := ok163.1
        have km163 := ok163.2
        refine js_old (fun o164 => ?_)
        refine js_aload_n 2 dX3_readOrder_238 rfl ?_
        refine gX3_43 rfl dX3_readOrder_239 p162_0 rfl ?_
        refine js_iload_n 1 dX3_readOrder_242 rfl ?_
        refine js_iconst dX3_readOrder_243 ?_
        refine js_iadd dX3_readOrder_244 ?_
        refine js_aload_n 2 dX3_readOrder_245 rfl ?_
        refine eX3_237 rfl dX3_readOrder_246 p162_0 (com_digit hA ⟨p162_0, p162_1, p162_2, p162_3, p162_4, p162_5, p162_6, p162_7, p162_8, p162_9, p162_10, p162_11⟩ ok163 hl ht) (Nat.le_of_ble_eq_true rfl) (Nat.le_of_ble_eq_true rfl) ?_
        rw [zH_fr (fun q hq => (zH_n hq))]
        obtain ⟨p165_0, p165_1, p165_2, p165_3, p165_4, p165_5, p165_6, p165_7, p165_8, p165_9, p165_10, p165_11⟩ := zH_Mc (h := h) (f := f) (bef := bef) (asd := asd) (svd := svd) (pas := pas) (rf := rf) (it := it) (wt := wt) (tx := tx) (od := js_uz od (5 * om) (zhere tx len p)) (ln := ln) (isS := isS) (pm := pm) (th := th) (len := len) (at_ := (zdp tx len (zsk tx len "wind " p)).1) (wr := (zdp tx len (zsk tx len "wind " p)).2) (fa := fa) (om := om + 1) (lm := lm) hA
        show js_ok ρ mX3_readOrder _ 7 0 0 249 [(2, .int (jI (zhere tx len p))), (1, .int (jI (5 * om))), (0, .ref (A 0))] [.int (jI (zdv tx len (zsk tx len "wind " p))), .int (jI ((5 * om) + 1)), .ref (A 10)] (zH A f bef asd svd pas rf it wt tx (js_uz od (5 * om) (zhere tx len p)) ln isS pm th len ((zdp tx len (zsk tx len "wind " p)).1) ((zdp tx len (zsk tx len "wind " p)).2) fa (om + 1) lm h)
        have ok166 : zpok len (zdp tx len (zsk tx len "wind " p)) := zdp_ok ok163
        have kk166 := ok166.1
        have km166 := ok166.2
        show js_ok ρ mX3_readOrder _ 7 0 0 249 [(2, .int (jI (zhere tx len p))), (1, .int (jI (5 * om))), (0, .ref (A 0))] [.int (jI (zdv tx len (zsk tx len "wind " p))), .int (jI ((5 * om) + 1)), .ref (A 10)] (zH A f bef asd svd pas rf it wt tx (js_uz od (5 * om) (zhere tx len p)) ln isS pm th len ((zdp tx len (zsk tx len "wind " p)).1) ((zdp tx len (zsk tx len "wind " p)).2) fa (om + 1) lm h)
        refine js_old (fun o167 => ?_)
        refine js_iastore dX3_readOrder_249 p165_10 (by omega) ?_
        show js_ok ρ mX3_readOrder _ 7 0 0 250 [(2, .int (jI (zhere tx len p))), (1, .int (jI (5 * om))), (0, .ref (A 0))] [] (js_up (zH A f bef asd svd pas rf it wt tx (js_uz od (5 * om) (zhere tx len p)) ln isS pm th len ((zdp tx len (zsk tx len "wind " p)).1) ((zdp tx len (zsk tx len "wind " p)).2) fa (om + 1) lm h) (A 10) (js_aI true 0 300 (js_uz (js_uz od (5 * om) (zhere tx len p)) ((5 * om) + 1) (zdv tx len (zsk tx len "wind " p)))))
        refine js_aload_n 2 dX3_readOrder_250 rfl ?_
        refine gX3_43 rfl dX3_readOrder_251 ((js_up_n (js_nek p165_0 p165_10 js_kOA)).trans p165_0) rfl ?_
        refine js_iload_n 1 dX3_readOrder_254 rfl ?_
        refine js_iconst dX3_readOrder_255 ?_
        refine js_iadd dX3_readOrder_256 ?_
        refine js_aload_n 2 dX3_readOrder_257 rfl ?_
        obtain ⟨ka24, kb24, kx24, ky24, kv24, kh24, ki24⟩ := hK.2.2 24 "-nesw" rfl
        refine js_ldcwS 24 rfl kv24 dX3_readOrder_258 ?_
        refine js_old (fun o168 => ?_)
        refine eX3_271 rfl dX3_readOrder_261 ((js_up_n (js_nek p165_0 p165_10 js_kOA)).trans p165_0) (com_side hA ⟨((js_up_n (js_nek p165_0 p165_10 js_kOA)).trans p165_0), ((js_up_n (hA 1 10 (by decide) (by decide) (by decide))).trans p165_1), ((js_up_n (hA 2 10 (by decide) (by decide) (by decide))).trans p165_2), ((js_up_n (hA 3 10 (by decide) (by decide) (by decide))).trans p165_3), ((js_up_n (hA 4 10 (by decide) (by decide) (by decide))).trans p165_4), ((js_up_n (hA 5 10 (by decide) (by decide) (by decide))).trans p165_5), ((js_up_n (hA 6 10 (by decide) (by decide) (by decide))).trans p165_6), ((js_up_n (hA 7 10 (by decide) (by decide) (by decide))).trans p165_7), ((js_up_n (hA 8 10 (by decide) (by decide) (by decide))).trans p165_8), ((js_up_n (hA 9 10 (by decide) (by decide) (by decide))).trans p165_9), js_up_s, ((js_up_n (Ne.symm (hA 10 11 (by decide) (by decide) (by decide)))).trans p165_11)⟩ ok166 hl ht hK ⟨kh24, ki24⟩ (by decide) (zcl_r _ (by decide))) (Nat.le_of_ble_eq_true rfl) (Nat.le_of_ble_eq_true rfl) ?_
        rw [zH_fr (fun q hq => ((js_up_n (hq 10 (by decide))).trans (zH_n hq)))]
        obtain ⟨p169_0, p169_1, p169_2, p169_3, p169_4, p169_5, p169_6, p169_7, p169_8, p169_9, p169_10, p169_11⟩ := zH_Mc (h := h) (f := f) (bef := bef) (asd := asd) (svd := svd) (pas := pas) (rf := rf) (it := it) (wt := wt) (tx := tx) (od := js_uz (js_uz od (5 * om) (zhere tx len p)) ((5 * om) + 1) (zdv tx len (zsk tx len "wind " p))) (ln := ln) (isS := isS) (pm := pm) (th := th) (len := len) (at_ := (zsp1 tx len "-nesw" (zdp tx len (zsk tx len "wind " p))).1) (wr := (zsp1 tx len "-nesw" (zdp tx len (zsk tx len "wind " p))).2) (fa := fa) (om := om + 1) (lm := lm) hA
        show js_ok ρ mX3_readOrder _ 7 0 0 264 [(2, .int (jI (zhere tx len p))), (1, .int (jI (5 * om))), (0, .ref (A 0))] [.int (jI (zsv1 tx len "-nesw" (zdp tx len (zsk tx len "wind " p)))), .int (jI ((5 * om) + 2)), .ref (A 10)] (zH A f bef asd svd pas rf it wt tx (js_uz (js_uz od (5 * om) (zhere tx len p)) ((5 * om) + 1) (zdv tx len (zsk tx len "wind " p))) ln isS pm th len ((zsp1 tx len "-nesw" (zdp tx len (zsk tx len "wind " p))).1) ((zsp1 tx len "-nesw" (zdp tx len (zsk tx len "wind " p))).2) fa (om + 1) lm h)
        have ok170 : zpok len (zsp1 tx len "-nesw" (zdp tx len (zsk tx len "wind " p))) := zsp1_ok ok166
        have kk170 := ok170.1
        have km170 := ok170.2
        show js_ok ρ mX3_readOrder _ 7 0 0 264 [(2, .int (jI (zhere tx len p))), (1, .int (jI (5 * om))), (0, .ref (A 0))] [.int (jI (zsv1 tx len "-nesw" (zdp tx len (zsk tx len "wind " p)))), .int (jI ((5 * om) + 2)), .ref (A 10)] (zH A f bef asd svd pas rf it wt tx (js_uz (js_uz od (5 * om) (zhere tx len p)) ((5 * om) + 1) (zdv tx len (zsk tx len "wind " p))) ln isS pm th len ((zsp1 tx len "-nesw" (zdp tx len (zsk tx len "wind " p))).1) ((zsp1 tx len "-nesw" (zdp tx len (zsk tx len "wind " p))).2) fa (om + 1) lm h)
        refine js_old (fun o171 => ?_)
        refine js_iastore dX3_readOrder_264 p169_10 (by omega) ?_
        show js_ok ρ mX3_readOrder _ 7 0 0 265 [(2, .int (jI (zhere tx len p))), (1, .int (jI (5 * om))), (0, .ref (A 0))] [] (js_up (zH A f bef asd svd pas rf it wt tx (js_uz (js_uz od (5 * om) (zhere tx len p)) ((5 * om) + 1) (zdv tx len (zsk tx len "wind " p))) ln isS pm th len ((zsp1 tx len "-nesw" (zdp tx len (zsk tx len "wind " p))).1) ((zsp1 tx len "-nesw" (zdp tx len (zsk tx len "wind " p))).2) fa (om + 1) lm h) (A 10) (js_aI true 0 300 (js_uz (js_uz (js_uz od (5 * om) (zhere tx len p)) ((5 * om) + 1) (zdv tx len (zsk tx len "wind " p))) ((5 * om) + 2) (zsv1 tx len "-nesw" (zdp tx len (zsk tx len "wind " p))))))
        refine js_goto (tgt := 351) dX3_readOrder_265 (by decide) ?_
        have e1 : zrop tx len p = zsp1 tx len "-nesw" (zdp tx len (zsk tx len "wind " p)) := by unfold zrop; rw [if_neg (by omega), if_neg (by omega), if_neg (by omega), if_neg (by omega), if_neg (by omega), if_neg (by omega), if_neg (by omega), if_pos (by omega)]
        have e2 : zroo tx len p od (5 * om) = js_uz (js_uz (js_uz od (5 * om) (zhere tx len p)) ((5 * om) + 1) (zdv tx len (zsk tx len "wind " p))) ((5 * om) + 2) (zsv1 tx len "-nesw" (zdp tx len (zsk tx len "wind " p))) := by unfold zroo; rw [if_neg (by omega), if_neg (by omega), if_neg (by omega), if_neg (by omega), if_neg (by omega), if_neg (by omega), if_neg (by omega), if_pos (by omega)]
        rw [e1, e2]
        exact js_vret rfl dX3_readOrder_351 ⟨rfl, (zH_eq hA ((js_up_n (js_nek p169_0 p169_10 js_kOA)).trans p169_0) ((js_up_n (hA 1 10 (by decide) (by decide) (by decide))).trans p169_1) ((js_up_n (hA 2 10 (by decide) (by decide) (by decide))).trans p169_2) ((js_up_n (hA 3 10 (by decide) (by decide) (by decide))).trans p169_3) ((js_up_n (hA 4 10 (by decide) (by decide) (by decide))).trans p169_4) ((js_up_n (hA 5 10 (by decide) (by decide) (by decide))).trans p169_5) ((js_up_n (hA 6 10 (by decide) (by decide) (by decide))).trans p169_6) ((js_up_n (hA 7 10 (by decide) (by decide) (by decide))).trans p169_7) ((js_up_n (hA 8 10 (by decide) (by decide) (by decide))).trans p169_8) ((js_up_n (hA 9 10 (by decide) (by decide) (by decide))).trans p169_9) js_up_s ((js_up_n (Ne.symm (hA 10 11 (by decide) (by decide) (by decide)))).trans p169_11) (fun q hq => ((js_up_n (hq 10 (by decide))).trans (zH_n hq))))⟩
    · refine js_old (fun o172 => ?_)
      refine js_aload_n 1 dX3_readOrder_25 rfl ?_
      refine gX3_217 rfl dX3_readOrder_26 js_up_s rfl ?_
      refine js_aload_n 1 dX3_readOrder_29 rfl ?_
      refine gX3_210 rfl dX3_readOrder_30 js_up_s rfl ?_
      refine js_icmp_ge (tgt := 48) dX3_readOrder_33 (by decide) (by omega) (fun c173 => ?_) (fun c173 => ?_)
      · refine js_iconst dX3_readOrder_48 ?_
        exact J2 _ (by unfold zhere; (repeat' split) <;> omega)
      · have ht1 := ht p.1 (by omega) (by omega)
        refine js_aload_n 1 dX3_readOrder_36 rfl ?_
        refine gX3_35 rfl dX3_readOrder_37 js_up_s rfl ?_
        refine js_aload_n 1 dX3_readOrder_40 rfl ?_
        refine gX3_217 rfl dX3_readOrder_41 js_up_s rfl ?_
        refine js_caload dX3_readOrder_44 ((js_up_n (js_nek p9 p0 js_kAO)).trans p9) (by omega) ?_
        refine js_goto (tgt := 49) dX3_readOrder_45 (by decide) ?_
        exact J2 _ (by unfold zhere; (repeat' split) <;> omega)
  · exfalso; omega
