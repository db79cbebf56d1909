set_option maxRecDepth 100000
/-! BalloonSpiresModel: heights of choice -/
theorem com_begins {ρ : js_R} {h : js_H} {A : Nat → Nat} {f bef asd svd pas rf it wt tx od ln : Int → Int} {isS pm th len at_ wr fa om lm : Int} {p : Int} (hA : zA A) (hp : zMc A f bef asd svd pas rf it wt tx od ln isS pm th len at_ wr fa om lm h) (rp : -1000 ≤ p ∧ p ≤ 1000) : js_Con ρ mX3_begins 0 0 0 [.ref (A 0), .int (jI p)] h (js_ret none (zH A f bef asd svd pas rf (zpnt p) wt tx od ln isS pm th len at_ wr fa om lm h)) := by
  refine js_body [(0, .ref (A 0)), (1, .int (jI p))] rfl (by decide) (Nat.le_of_ble_eq_true rfl) rfl ?_
  obtain ⟨p0, p1, p2, p3, p4, p5, p6, p7, p8, p9, p10, p11⟩ := hp
  refine js_iconst dX3_begins_0 ?_
  refine js_istore_n (L' := [(2, .int (jI 0)), (0, .ref (A 0)), (1, .int (jI p))]) dX3_begins_1 (by decide) rfl ?_
  refine js_norm (g' := zbg it p 0) p7 (fun j j1 j2 => (by unfold zbg; rw [if_neg (by omega)])) ?_
  show js_ok ρ mX3_begins _ 0 0 0 2 [(2, .int (jI 0)), (0, .ref (A 0)), (1, .int (jI p))] [] (js_up h (A 7) (js_aI true 1 100 (zbg it p 0)))
  refine js_sub (L' := [(0, .ref (A 0)), (1, .int (jI p)), (2, .int (jI 0))]) [1, 2, 0] rfl ?_
  refine js_loop (σ := Nat) (fun k => k ≤ 100) (fun k => 100 - k) (fun k => 0) (fun k => 0) 2 (fun k => [(0, .ref (A 0)), (1, .int (jI p)), (2, .int (jI ((k : Int))))]) (fun k => []) (fun k => (js_up h (A 7) (js_aI true 1 100 (zbg it p k)))) (fun k hk IHk => ?_) 0 (by decide)
  show js_ok ρ mX3_begins _ 0 0 0 2 [(0, .ref (A 0)), (1, .int (jI p)), (2, .int (jI ((k : Int))))] [] (js_up h (A 7) (js_aI true 1 100 (zbg it p k)))
  refine js_iload_n 2 dX3_begins_2 rfl ?_
  refine js_bipush dX3_begins_3 rfl ?_
  refine js_icmp_ge (tgt := 30) dX3_begins_5 (by decide) (by omega) (fun c2 => ?_) (fun c2 => ?_)
  · refine js_norm (g' := zpnt p) js_up_s (fun j j1 j2 => (by unfold zbg; rw [if_pos (by omega)])) ?_
    rw [js_up_up]
    show js_ok ρ mX3_begins _ 0 0 0 30 [(0, .ref (A 0)), (1, .int (jI p)), (2, .int (jI ((k : Int))))] [] (js_up h (A 7) (js_aI true 1 100 (zpnt p)))
    exact js_vret rfl dX3_begins_30 ⟨rfl, (zH_eq hA ((js_up_n (js_nek p0 p7 js_kOA)).trans p0) ((js_up_n (hA 1 7 (by decide) (by decide) (by decide))).trans p1) ((js_up_n (hA 2 7 (by decide) (by decide) (by decide))).trans p2) ((js_up_n (hA 3 7 (by decide) (by decide) (by decide))).trans p3) ((js_up_n (hA 4 7 (by decide) (by decide) (by decide))).trans p4) ((js_up_n (hA 5 7 (by decide) (by decide) (by decide))).trans p5) ((js_up_n (hA 6 7 (by decide) (by decide) (by decide))).trans p6) js_up_s ((js_up_n (Ne.symm (hA 7 8 (by decide) (by decide) (by decide)))).trans p8) ((js_up_n (Ne.symm (hA 7 9 (by decide) (by decide) (by decide)))).trans p9) ((js_up_n (Ne.symm (hA 7 10 (by decide) (by decide) (by decide)))).trans p10) ((js_up_n (Ne.symm (hA 7 11 (by decide) (by decide) (by decide)))).trans p11) (fun q hq => ((js_up_n (hq 7 (by decide))).trans rfl)))⟩
  · refine js_aload_n 0 dX3_begins_8 rfl ?_
    refine gX3_28 rfl dX3_begins_9 ((js_up_n (js_nek p0 p7 js_kOA)).trans p0) rfl ?_
    refine js_iload_n 2 dX3_begins_12 rfl ?_
    refine js_join 23 [(0, .ref (A 0)), (1, .int (jI p)), (2, .int (jI ((k : Int))))] [.int (jI ((k : Int))), .ref (A 7)] (js_up h (A 7) (js_aI true 1 100 (zbg it p k))) (zpnt p (k : Int)) (fun z hz => ?_) (fun J3 => ?_)
    · subst hz
      have hz := zpnt_01 p (k : Int)
      refine js_zastore dX3_begins_23 js_up_s (by omega) (by omega) ?_
      rw [js_up_up]
      show js_ok ρ mX3_begins _ 0 0 0 24 [(0, .ref (A 0)), (1, .int (jI p)), (2, .int (jI ((k : Int))))] [] (js_up h (A 7) (js_aI true 1 100 (js_uz (zbg it p k) ((k : Int)) (zpnt p (k : Int)))))
      refine js_iinc (L' := [(2, .int (jI (((k : Int)) + 1))), (0, .ref (A 0)), (1, .int (jI p))]) 2 dX3_begins_24 rfl (by decide) rfl ?_
      refine js_goto (tgt := 2) dX3_begins_27 (by decide) ?_
      refine js_norm (g' := zbg it p (k + 1)) js_up_s (fun j j1 j2 => (by show (if j < ((k + 1 : Nat) : Int) then zpnt p j else it j) = (if j = (k : Int) then zpnt p (k : Int) else (if j < (k : Int) then zpnt p j else it j)); (repeat' split) <;> first | rfl | (exfalso; omega) | (subst_vars; rfl))) ?_
      rw [js_up_up]
      show js_ok ρ mX3_begins _ 0 0 0 2 [(2, .int (jI (((k : Int)) + 1))), (0, .ref (A 0)), (1, .int (jI p))] [] (js_up h (A 7) (js_aI true 1 100 (zbg it p (k + 1))))
      refine js_sub (L' := [(0, .ref (A 0)), (1, .int (jI p)), (2, .int (jI (((k : Int)) + 1)))]) [1, 2, 0] rfl ?_
      exact IHk (k + 1) (by omega) (by omega)
    · refine js_iload_n 2 dX3_begins_13 rfl ?_
      refine js_iload_n 1 dX3_begins_14 rfl ?_
      refine js_icmp_ne (tgt := 22) dX3_begins_15 (by decide) (by omega) (fun c4 => ?_) (fun c4 => ?_)
      · refine js_iconst dX3_begins_22 ?_
        exact J3 _ (by unfold zpnt; (repeat' split) <;> omega)
      · refine js_iconst dX3_begins_18 ?_
        refine js_goto (tgt := 23) dX3_begins_19 (by decide) ?_
        exact J3 _ (by unfold zpnt; (repeat' split) <;> omega)
theorem com_goesOn {ρ : js_R} {h : js_H} {A : Nat → Nat} {f bef asd svd pas rf it wt tx od ln : Int → Int} {isS pm th len at_ wr fa om lm : Int} {T : Int} (hA : zA A) (hp : zMc A f bef asd svd pas rf it wt tx od ln isS pm th len at_ wr fa om lm h) (hI : zI T f) (hit : ∀ j : Int, it j = 0 ∨ it j = 1) : js_Con ρ mX3_goesOn 4 0 0 [.ref (A 0)] h (js_ret none (zH A f bef asd svd pas rf (zgo f it 100) it tx od ln isS pm th len at_ wr fa om lm h)) := by
  refine js_body [(0, .ref (A 0))] rfl (by decide) (Nat.le_of_ble_eq_true rfl) rfl ?_
  obtain ⟨p0, p1, p2, p3, p4, p5, p6, p7, p8, p9, p10, p11⟩ := hp
  have h01 := zI_01 hI
  refine js_aload_n 0 dX3_goesOn_0 rfl ?_
  refine gX3_28 rfl dX3_goesOn_1 p0 rfl ?_
  refine js_iconst dX3_goesOn_4 ?_
  refine js_aload_n 0 dX3_goesOn_5 rfl ?_
  refine gX3_32 rfl dX3_goesOn_6 p0 rfl ?_
  refine js_iconst dX3_goesOn_9 ?_
  refine js_bipush dX3_goesOn_10 rfl ?_
  refine js_copyI (by decide) q2328 dX3_goesOn_12 p7 p8 (by omega) (Nat.le_of_ble_eq_true rfl) (Nat.le_of_ble_eq_true rfl) (fun j j1 j2 => js_fit_boolean (hit j)) ?_
  show js_ok ρ mX3_goesOn _ 4 0 0 15 [(0, .ref (A 0))] [] (js_up h (A 8) (js_aI true 1 100 (js_cp it wt 0 0 100)))
  refine js_norm (g' := it) js_up_s (fun j j1 j2 => (by rw [show js_cp it wt 0 0 100 j = it (0 + (j - 0)) from if_pos (by omega)]; congr 1; omega)) ?_
  rw [js_up_up]
  show js_ok ρ mX3_goesOn _ 4 0 0 15 [(0, .ref (A 0))] [] (js_up h (A 8) (js_aI true 1 100 it))
  refine js_aload_n 0 dX3_goesOn_15 rfl ?_
  refine js_iconst dX3_goesOn_16 ?_
  refine eX3_192 rfl dX3_goesOn_17 ((js_up_n (js_nek p0 p8 js_kOA)).trans p0) (com_begins hA ⟨((js_up_n (js_nek p0 p8 js_kOA)).trans p0), ((js_up_n (hA 1 8 (by decide) (by decide) (by decide))).trans p1), ((js_up_n (hA 2 8 (by decide) (by decide) (by decide))).trans p2), ((js_up_n (hA 3 8 (by decide) (by decide) (by decide))).trans p3), ((js_up_n (hA 4 8 (by decide) (by decide) (by decide))).trans p4), ((js_up_n (hA 5 8 (by decide) (by decide) (by decide))).trans p5), ((js_up_n (hA 6 8 (by decide) (by decide) (by decide))).trans p6), ((js_up_n (hA 7 8 (by decide) (by decide) (by decide))).trans p7), js_up_s, ((js_up_n (Ne.symm (hA 8 9 (by decide) (by decide) (by decide)))).trans p9), ((js_up_n (Ne.symm (hA 8 10 (by decide) (by decide) (by decide)))).trans p10), ((js_up_n (Ne.symm (hA 8 11 (by decide) (by decide) (by decide)))).trans p11)⟩ (by omega)) (Nat.le_of_ble_eq_true rfl) (Nat.le_of_ble_eq_true rfl) ?_
  rw [zH_fr (fun q hq => ((js_up_n (hq 8 (by decide))).trans rfl))]
  obtain ⟨p1_0, p1_1, p1_2, p1_3, p1_4, p1_5, p1_6, p1_7, p1_8, p1_9, p1_10, p1_11⟩ := zH_Mc (h := h) (f := f) (bef := bef) (asd := asd) (svd := svd) (pas := pas) (rf := rf) (it := zpnt (-1)) (wt := it) (tx := tx) (od := od) (ln := ln) (isS := isS) (pm := pm) (th := th) (len := len) (at_ := at_) (wr := wr) (fa := fa) (om := om) (lm := lm) hA
  show js_ok ρ mX3_goesOn _ 4 0 0 20 [(0, .ref (A 0))] [] (zH A f bef asd svd pas rf (zpnt (-1)) it tx od ln isS pm th len at_ wr fa om lm h)
  refine js_iconst dX3_goesOn_20 ?_
  refine js_istore_n (L' := [(1, .int (jI 0)), (0, .ref (A 0))]) dX3_goesOn_21 (by decide) rfl ?_
  refine js_sub (L' := [(0, .ref (A 0)), (1, .int (jI 0))]) [1, 0] rfl ?_
  refine js_heq (js_selfU p1_7) ?_
  refine js_loop (σ := Nat) (fun k => k ≤ 100) (fun k => 100 - k) (fun k => 0) (fun k => 0) 22 (fun k => [(0, .ref (A 0)), (1, .int (jI ((k : Int))))]) (fun k => []) (fun k => (js_up (zH A f bef asd svd pas rf (zpnt (-1)) it tx od ln isS pm th len at_ wr fa om lm h) (A 7) (js_aI true 1 100 (zgo f it k)))) (fun k hk IHk => ?_) 0 (by decide)
  show js_ok ρ mX3_goesOn _ 4 0 0 22 [(0, .ref (A 0)), (1, .int (jI ((k : Int))))] [] (js_up (zH A f bef asd svd pas rf (zpnt (-1)) it tx od ln isS pm th len at_ wr fa om lm h) (A 7) (js_aI true 1 100 (zgo f it k)))
  refine js_iload_n 1 dX3_goesOn_22 rfl ?_
  refine js_bipush dX3_goesOn_23 rfl ?_
  refine js_icmp_ge (tgt := 68) dX3_goesOn_25 (by decide) (by omega) (fun c3 => ?_) (fun c3 => ?_)
  · have ek : 100 = k := by omega
    refine js_heq (h' := (js_up (zH A f bef asd svd pas rf (zpnt (-1)) it tx od ln isS pm th len at_ wr fa om lm h) (A 7) (js_aI true 1 100 (zgo f it 100)))) (by rw [show (zgo f it 100) = (zgo f it k) from (by rw [ek])]) ?_
    exact js_vret rfl dX3_goesOn_68 ⟨rfl, (zH_eq hA ((js_up_n (js_nek p1_0 p1_7 js_kOA)).trans p1_0) ((js_up_n (hA 1 7 (by decide) (by decide) (by decide))).trans p1_1) ((js_up_n (hA 2 7 (by decide) (by decide) (by decide))).trans p1_2) ((js_up_n (hA 3 7 (by decide) (by decide) (by decide))).trans p1_3) ((js_up_n (hA 4 7 (by decide) (by decide) (by decide))).trans p1_4) ((js_up_n (hA 5 7 (by decide) (by decide) (by decide))).trans p1_5) ((js_up_n (hA 6 7 (by decide) (by decide) (by decide))).trans p1_6) js_up_s ((js_up_n (Ne.symm (hA 7 8 (by decide) (by decide) (by decide)))).trans p1_8) ((js_up_n (Ne.symm (hA 7 9 (by decide) (by decide) (by decide)))).trans p1_9) ((js_up_n (Ne.symm (hA 7 10 (by decide) (by decide) (by decide)))).trans p1_10) ((js_up_n (Ne.symm (hA 7 11 (by decide) (by decide) (by decide)))).trans p1_11) (fun q hq => ((js_up_n (hq 7 (by decide))).trans (zH_n hq))))⟩
  · refine js_iconst dX3_goesOn_28 ?_
    refine js_istore_n (L' := [(2, .int (jI 1)), (0, .ref (A 0)), (1, .int (jI ((k : Int))))]) dX3_goesOn_29 (by decide) rfl ?_
    refine js_sub (L' := [(0, .ref (A 0)), (1, .int (jI ((k : Int)))), (2, .int (jI 1))]) [1, 2, 0] rfl ?_
    refine js_loop (σ := Nat) (fun m => m ≤ 5 ∧ (0 < m → it k ≠ 0)) (fun m => 5 - m) (fun m => 0) (fun m => 0) 30 (fun m => [(0, .ref (A 0)), (1, .int (jI ((k : Int)))), (2, .int (jI ((m : Int) + 1)))]) (fun m => []) (fun m => (js_up (zH A f bef asd svd pas rf (zpnt (-1)) it tx od ln isS pm th len at_ wr fa om lm h) (A 7) (js_aI true 1 100 (zgi f (k : Int) (zgo f it k) m)))) (fun m hm IHm => ?_) 0 ⟨by decide, fun z => absurd z (Nat.lt_irrefl 0)⟩
    show js_ok ρ mX3_goesOn _ 4 0 0 30 [(0, .ref (A 0)), (1, .int (jI ((k : Int)))), (2, .int (jI ((m : Int) + 1)))] [] (js_up (zH A f bef asd svd pas rf (zpnt (-1)) it tx od ln isS pm th len at_ wr fa om lm h) (A 7) (js_aI true 1 100 (zgi f (k : Int) (zgo f it k) m)))
    obtain ⟨hm, hmt⟩ := hm
    have hb := hit (k : Int)
    refine js_iload_n 2 dX3_goesOn_30 rfl ?_
    refine js_iconst dX3_goesOn_31 ?_
    refine js_icmp_gt (tgt := 62) dX3_goesOn_32 (by decide) (by omega) (fun c5 => ?_) (fun c5 => ?_)
    · refine js_heq (h' := (js_up (zH A f bef asd svd pas rf (zpnt (-1)) it tx od ln isS pm th len at_ wr fa om lm h) (A 7) (js_aI true 1 100 (zgo f it (k + 1))))) (by rw [show (zgo f it (k + 1)) = (zgi f (k : Int) (zgo f it k) m) from (by show (if it k = 0 then _ else _) = _; first | (rw [if_neg (by omega)]; rw [show m = 5 by omega]; done) | (rw [if_pos (by omega)]; rw [show m = 0 by omega]; rfl))]) ?_
      refine js_iinc (L' := [(1, .int (jI (((k : Int)) + 1))), (0, .ref (A 0)), (2, .int (jI ((m : Int) + 1)))]) 1 dX3_goesOn_62 rfl (by decide) rfl ?_
      refine js_goto (tgt := 22) dX3_goesOn_65 (by decide) ?_
      refine js_sub (L' := [(0, .ref (A 0)), (1, .int (jI (((k : Int)) + 1)))]) [1, 0] rfl ?_
      exact IHk (k + 1) (by omega) (by omega)
    · refine js_aload_n 0 dX3_goesOn_35 rfl ?_
      refine gX3_32 rfl dX3_goesOn_36 ((js_up_n (js_nek p1_0 p1_7 js_kOA)).trans p1_0) rfl ?_
      refine js_iload_n 1 dX3_goesOn_39 rfl ?_
      refine js_zaload dX3_goesOn_40 ((js_up_n (Ne.symm (hA 7 8 (by decide) (by decide) (by decide)))).trans p1_8) (by omega) ?_
      refine js_if_eq (tgt := 62) dX3_goesOn_41 (by decide) (by omega) (fun c6 => ?_) (fun c6 => ?_)
      · refine js_heq (h' := (js_up (zH A f bef asd svd pas rf (zpnt (-1)) it tx od ln isS pm th len at_ wr fa om lm h) (A 7) (js_aI true 1 100 (zgo f it (k + 1))))) (by rw [show (zgo f it (k + 1)) = (zgi f (k : Int) (zgo f it k) m) from (by show (if it k = 0 then _ else _) = _; first | (rw [if_neg (by omega)]; rw [show m = 5 by omega]; done) | (rw [if_pos (by omega)]; rw [show m = 0 by omega]; rfl))]) ?_
        refine js_iinc (L' := [(1, .int (jI (((k : Int)) + 1))), (0, .ref (A 0)), (2, .int (jI ((m : Int) + 1)))]) 1 dX3_goesOn_62 rfl (by decide) rfl ?_
        refine js_goto (tgt := 22) dX3_goesOn_65 (by decide) ?_
        refine js_sub (L' := [(0, .ref (A 0)), (1, .int (jI (((k : Int)) + 1)))]) [1, 0] rfl ?_
        exact IHk (k + 1) (by omega) (by omega)
      · have hw := zI_w hI (8 + ((m : Int) + 1) - 1) (by omega) (by omega)
        have hn := znext_r (p := (k : Int)) (w := f (8 + ((m : Int) + 1) - 1)) (by omega)
        refine js_aload_n 0 dX3_goesOn_44 rfl ?_
        refine gX3_28 rfl dX3_goesOn_45 ((js_up_n (js_nek p1_0 p1_7 js_kOA)).trans p1_0) rfl ?_
        refine js_aload_n 0 dX3_goesOn_48 rfl ?_
        refine js_iload_n 1 dX3_goesOn_49 rfl ?_
        refine js_iload_n 2 dX3_goesOn_50 rfl ?_
        refine eX3_149 rfl dX3_goesOn_51 ((js_up_n (js_nek p1_0 p1_7 js_kOA)).trans p1_0) (com_drifted ((js_up_n (js_nek p1_0 p1_7 js_kOA)).trans p1_0) ((js_up_n (hA 1 7 (by decide) (by decide) (by decide))).trans p1_1) (by omega) (by omega) (by omega)) (Nat.le_of_ble_eq_true rfl) (Nat.le_of_ble_eq_true rfl) ?_
        refine js_iconst dX3_goesOn_54 ?_
        refine js_zastore dX3_goesOn_55 js_up_s (by omega) (by omega) ?_
        rw [js_up_up]
        show js_ok ρ mX3_goesOn _ 4 0 0 56 [(0, .ref (A 0)), (1, .int (jI ((k : Int)))), (2, .int (jI ((m : Int) + 1)))] [] (js_up (zH A f bef asd svd pas rf (zpnt (-1)) it tx od ln isS pm th len at_ wr fa om lm h) (A 7) (js_aI true 1 100 (js_uz (zgi f (k : Int) (zgo f it k) m) (znext ((k : Int)) (f (8 + ((m : Int) + 1) - 1))) 1)))
        refine js_iinc (L' := [(2, .int (jI (((m : Int) + 1) + 1))), (0, .ref (A 0)), (1, .int (jI ((k : Int))))]) 2 dX3_goesOn_56 rfl (by decide) rfl ?_
        refine js_goto (tgt := 30) dX3_goesOn_59 (by decide) ?_
        show js_ok ρ mX3_goesOn _ 4 0 0 30 [(2, .int (jI (((m : Int) + 1) + 1))), (0, .ref (A 0)), (1, .int (jI ((k : Int))))] [] (js_up (zH A f bef asd svd pas rf (zpnt (-1)) it tx od ln isS pm th len at_ wr fa om lm h) (A 7) (js_aI true 1 100 (zgi f (k : Int) (zgo f it k) (m + 1))))
        refine js_sub (L' := [(0, .ref (A 0)), (1, .int (jI ((k : Int)))), (2, .int (jI (((m : Int) + 1) + 1)))]) [1, 2, 0] rfl ?_
        exact IHm (m + 1) ⟨by omega, fun _ => by omega⟩ (by omega)
theorem com_hoursTo {ρ : js_R} {h : js_H} {A : Nat → Nat} {f bef asd svd pas rf it wt tx od ln : Int → Int} {isS pm th len at_ wr fa om lm : Int} {T p q : Int} (hA : zA A) (hp : zMc A f bef asd svd pas rf it wt tx od ln isS pm th len at_ wr fa om lm h) (hI : zI T f) (rp : 0 ≤ p ∧ p < 100) (rq : 0 ≤ q ∧ q < 100) : js_Con ρ mX3_hoursTo 5 0 0 [.ref (A 0), .int (jI p), .int (jI q)] h (zPost A (.int (jI (zhto f p q))) f svd pas rf tx ln isS pm th len fa lm h) := by
  refine js_body [(0, .ref (A 0)), (1, .int (jI p)), (2, .int (jI q))] rfl (by decide) (Nat.le_of_ble_eq_true rfl) rfl ?_
  obtain ⟨p0, p1, p2, p3, p4, p5, p6, p7, p8, p9, p10, p11⟩ := hp
  have h01 := zI_01 hI
  refine js_aload_n 0 dX3_hoursTo_0 rfl ?_
  refine js_iload_n 1 dX3_hoursTo_1 rfl ?_
  refine eX3_192 rfl dX3_hoursTo_2 p0 (com_begins hA ⟨p0, p1, p2, p3, p4, p5, p6, p7, p8, p9, p10, p11⟩ (by omega)) (Nat.le_of_ble_eq_true rfl) (Nat.le_of_ble_eq_true rfl) ?_
  rw [zH_fr (fun q hq => rfl)]
  obtain ⟨p1_0, p1_1, p1_2, p1_3, p1_4, p1_5, p1_6, p1_7, p1_8, p1_9, p1_10, p1_11⟩ := zH_Mc (h := h) (f := f) (bef := bef) (asd := asd) (svd := svd) (pas := pas) (rf := rf) (it := zpnt p) (wt := wt) (tx := tx) (od := od) (ln := ln) (isS := isS) (pm := pm) (th := th) (len := len) (at_ := at_) (wr := wr) (fa := fa) (om := om) (lm := lm) hA
  show js_ok ρ mX3_hoursTo _ 5 0 0 5 [(0, .ref (A 0)), (1, .int (jI p)), (2, .int (jI q))] [] (zH A f bef asd svd pas rf (zpnt p) wt tx od ln isS pm th len at_ wr fa om lm h)
  refine js_iconst dX3_hoursTo_5 ?_
  refine js_istore_n (L' := [(3, .int (jI 1)), (0, .ref (A 0)), (1, .int (jI p)), (2, .int (jI q))]) dX3_hoursTo_6 (by decide) rfl ?_
  refine js_sub (L' := [(0, .ref (A 0)), (1, .int (jI p)), (2, .int (jI q)), (3, .int (jI 1))]) [1, 2, 3, 0] rfl ?_
  refine js_heq (h' := (zH A f bef asd svd pas rf (zpnt p) wt tx od ln isS pm th len at_ wr fa om lm h)) (zH_eq hA p1_0 p1_1 p1_2 p1_3 p1_4 p1_5 p1_6 p1_7 p1_8 p1_9 p1_10 p1_11 (fun q hq => (zH_n hq))).symm ?_
  refine js_loop (σ := Nat × (Int → Int)) (fun s => s.1 ≤ 100 ∧ ∀ j : Nat, j < s.1 → zrea f p (j + 1) q = 0) (fun s => 100 - (s.1)) (fun s => 0) (fun s => 0) 7 (fun s => [(0, .ref (A 0)), (1, .int (jI p)), (2, .int (jI q)), (3, .int (jI (((s.1 : Nat) : Int) + 1)))]) (fun s => []) (fun s => (zH A f bef asd svd pas rf (zrea f p s.1) s.2 tx od ln isS pm th len at_ wr fa om lm h)) (fun s hk IHs => ?_) (0, wt) (⟨Nat.zero_le _, fun j z => absurd z (Nat.not_lt_zero j)⟩)
  obtain ⟨k, wtk⟩ := s
  have hk : k ≤ 100 ∧ ∀ j : Nat, j < k → zrea f p (j + 1) q = 0 := hk
  obtain ⟨p3_0, p3_1, p3_2, p3_3, p3_4, p3_5, p3_6, p3_7, p3_8, p3_9, p3_10, p3_11⟩ := zH_Mc (h := h) (f := f) (bef := bef) (asd := asd) (svd := svd) (pas := pas) (rf := rf) (it := zrea f p k) (wt := wtk) (tx := tx) (od := od) (ln := ln) (isS := isS) (pm := pm) (th := th) (len := len) (at_ := at_) (wr := wr) (fa := fa) (om := om) (lm := lm) hA
  show js_ok ρ mX3_hoursTo _ 5 0 0 7 [(0, .ref (A 0)), (1, .int (jI p)), (2, .int (jI q)), (3, .int (jI (((k : Nat) : Int) + 1)))] [] (zH A f bef asd svd pas rf (zrea f p k) wtk tx od ln isS pm th len at_ wr fa om lm h)
  obtain ⟨hk, kP⟩ := hk
  refine js_iload_n 3 dX3_hoursTo_7 rfl ?_
  refine js_bipush dX3_hoursTo_8 rfl ?_
  refine js_icmp_gt (tgt := 34) dX3_hoursTo_10 (by decide) (by omega) (fun c4 => ?_) (fun c4 => ?_)
  · refine js_sipush dX3_hoursTo_34 rfl ?_
    exact js_iret rfl rfl dX3_hoursTo_37 ⟨js_reti (by unfold zhto; rw [show zhn f p q = 100 from zfst_all (fun i c => kP i (by omega)), if_pos rfl]), _, _, _, _, _, _, _, _, (zH_eq hA p3_0 p3_1 p3_2 p3_3 p3_4 p3_5 p3_6 p3_7 p3_8 p3_9 p3_10 p3_11 (fun q hq => (zH_n hq)))⟩
  · refine js_aload_n 0 dX3_hoursTo_13 rfl ?_
    refine eX3_195 rfl dX3_hoursTo_14 p3_0 (com_goesOn hA ⟨p3_0, p3_1, p3_2, p3_3, p3_4, p3_5, p3_6, p3_7, p3_8, p3_9, p3_10, p3_11⟩ hI (zrea_01 k)) (Nat.le_of_ble_eq_true rfl) (Nat.le_of_ble_eq_true rfl) ?_
    rw [zH_fr (fun q hq => (zH_n hq))]
    obtain ⟨p5_0, p5_1, p5_2, p5_3, p5_4, p5_5, p5_6, p5_7, p5_8, p5_9, p5_10, p5_11⟩ := zH_Mc (h := h) (f := f) (bef := bef) (asd := asd) (svd := svd) (pas := pas) (rf := rf) (it := zgo f (zrea f p k) 100) (wt := zrea f p k) (tx := tx) (od := od) (ln := ln) (isS := isS) (pm := pm) (th := th) (len := len) (at_ := at_) (wr := wr) (fa := fa) (om := om) (lm := lm) hA
    show js_ok ρ mX3_hoursTo _ 5 0 0 17 [(0, .ref (A 0)), (1, .int (jI p)), (2, .int (jI q)), (3, .int (jI (((k : Nat) : Int) + 1)))] [] (zH A f bef asd svd pas rf (zgo f (zrea f p k) 100) (zrea f p k) tx od ln isS pm th len at_ wr fa om lm h)
    refine js_aload_n 0 dX3_hoursTo_17 rfl ?_
    refine gX3_28 rfl dX3_hoursTo_18 p5_0 rfl ?_
    refine js_iload_n 2 dX3_hoursTo_21 rfl ?_
    refine js_zaload dX3_hoursTo_22 p5_7 (by omega) ?_
    have hz : zgo f (zrea f p k) 100 q = 0 ∨ zgo f (zrea f p k) 100 q = 1 := zgo_01 100 q
    refine js_if_eq (tgt := 28) dX3_hoursTo_23 (by decide) (by omega) (fun c6 => ?_) (fun c6 => ?_)
    · refine js_iinc (L' := [(3, .int (jI ((((k : Nat) : Int) + 1) + 1))), (0, .ref (A 0)), (1, .int (jI p)), (2, .int (jI q))]) 3 dX3_hoursTo_28 rfl (by decide) rfl ?_
      refine js_goto (tgt := 7) dX3_hoursTo_31 (by decide) ?_
      refine js_sub (L' := [(0, .ref (A 0)), (1, .int (jI p)), (2, .int (jI q)), (3, .int (jI ((((k : Nat) : Int) + 1) + 1)))]) [1, 2, 3, 0] rfl ?_
      have kP2 : ∀ j : Nat, j < k + 1 → zrea f p (j + 1) q = 0 := fun j z => by
        by_cases e : j = k
        · subst e; first | assumption | (show zgo f (zrea f p j) 100 q = 0; assumption)
        · exact kP j (by omega)
      refine js_heq (h' := (zH A f bef asd svd pas rf (zrea f p (k + 1)) (zrea f p k) tx od ln isS pm th len at_ wr fa om lm h)) (zH_eq hA p5_0 p5_1 p5_2 p5_3 p5_4 p5_5 p5_6 p5_7 p5_8 p5_9 p5_10 p5_11 (fun q hq => (zH_n hq))).symm ?_
      exact IHs (k + 1, zrea f p k) (show k + 1 ≤ 100 ∧ ∀ j : Nat, j < k + 1 → zrea f p (j + 1) q = 0 from ⟨by omega, kP2⟩) (show 100 - (k + 1) < 100 - (k) by omega)
    · refine js_iload_n 3 dX3_hoursTo_26 rfl ?_
      exact js_iret rfl rfl dX3_hoursTo_27 ⟨js_reti (by unfold zhto; rw [show zhn f p q = k from zfst_eq (P := fun j : Nat => zrea f p (j + 1) q = 0) kP (fun z => by first | (exact absurd z (by assumption)) | omega) (by omega), if_neg (by omega)]), _, _, _, _, _, _, _, _, (zH_eq hA p5_0 p5_1 p5_2 p5_3 p5_4 p5_5 p5_6 p5_7 p5_8 p5_9 p5_10 p5_11 (fun q hq => (zH_n hq)))⟩
theorem com_fewestOf {ρ : js_R} {h : js_H} {A : Nat → Nat} {f bef asd svd pas rf it wt tx od ln : Int → Int} {isS pm th len at_ wr fa om lm : Int} {T b : Int} (hA : zA A) (hp : zMc A f bef asd svd pas rf it wt tx od ln isS pm th len at_ wr fa om lm h) (hI : zI T f) (hb : 0 ≤ b ∧ b < f 0) : js_Con ρ mX3_fewestOf 6 0 0 [.ref (A 0), .int (jI b)] h (zPost A (.int (jI (zfo f b))) f svd pas rf tx ln isS pm th len fa lm h) := by
  refine js_body [(0, .ref (A 0)), (1, .int (jI b))] rfl (by decide) (Nat.le_of_ble_eq_true rfl) rfl ?_
  obtain ⟨p0, p1, p2, p3, p4, p5, p6, p7, p8, p9, p10, p11⟩ := hp
  have h01 := zI_01 hI
  have hB := zI_B hI hb.1 hb.2
  have hpt := zIB_p hB
  unfold zIB at hB
  refine js_aload_n 0 dX3_fewestOf_0 rfl ?_
  refine js_iload_n 1 dX3_fewestOf_1 rfl ?_
  refine eX3_143 rfl dX3_fewestOf_2 p0 (com_hasNext p0 p1 hI hb) (Nat.le_of_ble_eq_true rfl) (Nat.le_of_ble_eq_true rfl) ?_
  refine js_if_eqB (tgt := 30) dX3_fewestOf_5 (by decide) (fun c1 => ?_) (fun c1 => ?_)
  · refine js_sipush dX3_fewestOf_30 rfl ?_
    exact js_iret rfl rfl dX3_fewestOf_33 ⟨js_reti (by unfold zfo; first | (rw [if_pos (by assumption)]) | (rw [if_neg (by assumption)])), _, _, _, _, _, _, _, _, (zH_eq hA p0 p1 p2 p3 p4 p5 p6 p7 p8 p9 p10 p11 (fun q hq => rfl))⟩
  · have hP := zI_P hI (i := f (13 + 9 * b + 5)) (by omega) (by omega)
    have hsp := zIP_p hP
    have hg := zgt_r hP
    unfold zIP at hP
    refine js_aload_n 0 dX3_fewestOf_8 rfl ?_
    refine js_aload_n 0 dX3_fewestOf_9 rfl ?_
    refine js_iload_n 1 dX3_fewestOf_10 rfl ?_
    refine eX3_120 rfl dX3_fewestOf_11 p0 (com_pointOf p0 p1 (by omega)) (Nat.le_of_ble_eq_true rfl) (Nat.le_of_ble_eq_true rfl) ?_
    refine js_aload_n 0 dX3_fewestOf_14 rfl ?_
    refine js_aload_n 0 dX3_fewestOf_15 rfl ?_
    refine js_iload_n 1 dX3_fewestOf_16 rfl ?_
    refine js_iconst dX3_fewestOf_17 ?_
    refine eX3_76 rfl dX3_fewestOf_18 p0 (com_of p0 p1 (by omega) (by omega)) (Nat.le_of_ble_eq_true rfl) (Nat.le_of_ble_eq_true rfl) ?_
    refine eX3_146 rfl dX3_fewestOf_21 p0 (com_gate p0 p1 (by omega) (by omega) (by omega)) (Nat.le_of_ble_eq_true rfl) (Nat.le_of_ble_eq_true rfl) ?_
    refine vX3_198 (kc' := 0) (ks' := 0) rfl dX3_fewestOf_24 p0 (com_hoursTo hA ⟨p0, p1, p2, p3, p4, p5, p6, p7, p8, p9, p10, p11⟩ hI (by omega) (by omega)) (Nat.le_of_ble_eq_true rfl) (by omega) (by omega) (Nat.le_of_ble_eq_true rfl) (fun v2 g2 q2 => ?_) (fun E2 g2 q2 => by cases q2.1)
    obtain ⟨e2, bef2, asd2, it2, wt2, od2, at_2, wr2, om2, rfl⟩ := q2
    cases e2
    rw [zH_fr (fun q hq => rfl)]
    obtain ⟨p3_0, p3_1, p3_2, p3_3, p3_4, p3_5, p3_6, p3_7, p3_8, p3_9, p3_10, p3_11⟩ := zH_Mc (h := h) (f := f) (bef := bef2) (asd := asd2) (svd := svd) (pas := pas) (rf := rf) (it := it2) (wt := wt2) (tx := tx) (od := od2) (ln := ln) (isS := isS) (pm := pm) (th := th) (len := len) (at_ := at_2) (wr := wr2) (fa := fa) (om := om2) (lm := lm) hA
    show js_ok ρ mX3_fewestOf _ 6 0 0 27 [(0, .ref (A 0)), (1, .int (jI b))] [.int (jI (zhto f (zpt f b) (zgt f (f (13 + 9 * b + 5)))))] (zH A f bef2 asd2 svd pas rf it2 wt2 tx od2 ln isS pm th len at_2 wr2 fa om2 lm h)
    refine js_goto (tgt := 33) dX3_fewestOf_27 (by decide) ?_
    exact js_iret rfl rfl dX3_fewestOf_33 ⟨js_reti (by unfold zfo; first | (rw [if_pos (by assumption)]) | (rw [if_neg (by assumption)])), _, _, _, _, _, _, _, _, (zH_eq hA p3_0 p3_1 p3_2 p3_3 p3_4 p3_5 p3_6 p3_7 p3_8 p3_9 p3_10 p3_11 (fun q hq => (zH_n hq)))⟩
theorem pm_fewest {ρ : js_R} {h : js_H} {A : Nat → Nat} {f bef asd svd pas rf it wt tx od ln : Int → Int} {isS pm th len at_ wr fa om lm : Int} {T b : Int} (hA : zA A) (hp : zMc A f bef asd svd pas rf it wt tx od ln isS pm th len at_ wr fa om lm h) (hI : zI T f) (rb : -2147483648 ≤ b ∧ b < 2147483648) : js_Con ρ mX3_fewest 7 0 0 [.ref (A 0), .int (jI b)] h (zPost A (.int (jI (zv (zt2 (0 ≤ b ∧ b ≤ f 0 - 1) (zfo f b ≠ 1000)) (zfo f b)))) f svd pas rf tx ln isS pm (zt2 (0 ≤ b ∧ b ≤ f 0 - 1) (zfo f b ≠ 1000)) len fa lm h) := by
  refine js_body [(0, .ref (A 0)), (1, .int (jI b))] rfl (by decide) (Nat.le_of_ble_eq_true rfl) rfl ?_
  obtain ⟨p0, p1, p2, p3, p4, p5, p6, p7, p8, p9, p10, p11⟩ := hp
  have h01 := zI_01 hI
  have z0 := zt2_c (0 ≤ b ∧ b ≤ f 0 - 1) (zfo f b ≠ 1000)
  have hfo := zfo_r f b
  refine js_aload_n 0 dX3_fewest_0 rfl ?_
  refine js_iload_n 1 dX3_fewest_1 rfl ?_
  refine eX3_113 rfl dX3_fewest_2 p0 (com_isBalloon p0 p1 (by omega) (by omega)) (Nat.le_of_ble_eq_true rfl) (Nat.le_of_ble_eq_true rfl) ?_
  refine js_if_neB (tgt := 14) dX3_fewest_5 (by decide) (fun c1 => ?_) (fun c1 => ?_)
  · have hb : 0 ≤ b ∧ b < f 0 := by omega
    refine js_aload_n 0 dX3_fewest_14 rfl ?_
    refine js_iload_n 1 dX3_fewest_15 rfl ?_
    refine vX3_201 (kc' := 0) (ks' := 0) rfl dX3_fewest_16 p0 (com_fewestOf hA ⟨p0, p1, p2, p3, p4, p5, p6, p7, p8, p9, p10, p11⟩ hI (by omega)) (Nat.le_of_ble_eq_true rfl) (by omega) (by omega) (Nat.le_of_ble_eq_true rfl) (fun v2 g2 q2 => ?_) (fun E2 g2 q2 => by cases q2.1)
    obtain ⟨e2, bef2, asd2, it2, wt2, od2, at_2, wr2, om2, rfl⟩ := q2
    cases e2
    rw [zH_fr (fun q hq => rfl)]
    obtain ⟨p3_0, p3_1, p3_2, p3_3, p3_4, p3_5, p3_6, p3_7, p3_8, p3_9, p3_10, p3_11⟩ := zH_Mc (h := h) (f := f) (bef := bef2) (asd := asd2) (svd := svd) (pas := pas) (rf := rf) (it := it2) (wt := wt2) (tx := tx) (od := od2) (ln := ln) (isS := isS) (pm := pm) (th := th) (len := len) (at_ := at_2) (wr := wr2) (fa := fa) (om := om2) (lm := lm) hA
    show js_ok ρ mX3_fewest _ 7 0 0 19 [(0, .ref (A 0)), (1, .int (jI b))] [.int (jI (zfo f b))] (zH A f bef2 asd2 svd pas rf it2 wt2 tx od2 ln isS pm th len at_2 wr2 fa om2 lm h)
    refine js_istore_n (L' := [(2, .int (jI (zfo f b))), (0, .ref (A 0)), (1, .int (jI b))]) dX3_fewest_19 (by decide) rfl ?_
    refine js_aload_n 1 dX3_fewest_20 rfl ?_
    refine js_join 33 [(2, .int (jI (zfo f b))), (0, .ref (A 0)), (1, .int (jI b))] [.ref (A 0)] (zH A f bef2 asd2 svd pas rf it2 wt2 tx od2 ln isS pm th len at_2 wr2 fa om2 lm h) (zt2 (0 ≤ b ∧ b ≤ f 0 - 1) (zfo f b ≠ 1000)) (fun z hz => ?_) (fun J4 => ?_)
    · subst hz
      refine pX3_49 rfl dX3_fewest_33 p3_0 (Nat.le_of_ble_eq_true rfl) rfl rfl ?_
      show js_ok ρ mX3_fewest _ 7 0 0 36 [(2, .int (jI (zfo f b))), (0, .ref (A 0)), (1, .int (jI b))] [] (js_up (zH A f bef2 asd2 svd pas rf it2 wt2 tx od2 ln isS pm th len at_2 wr2 fa om2 lm h) (A 0) (js_ob true 2 [.ref (A 1), .ref (A 2), .ref (A 3), .ref (A 4), .int (jI isS), .ref (A 5), .int (jI pm), .int (jI (zt2 (0 ≤ b ∧ b ≤ f 0 - 1) (zfo f b ≠ 1000))), .ref (A 6), .ref (A 7), .ref (A 8), .ref (A 9), .int (jI len), .int (jI at_2), .int (jI wr2), .int (jI fa), .ref (A 10), .int (jI om2), .ref (A 11), .int (jI lm)]))
      refine js_aload_n 1 dX3_fewest_36 rfl ?_
      refine gX3_49 rfl dX3_fewest_37 js_up_s rfl ?_
      refine js_if_le (tgt := 47) dX3_fewest_40 (by decide) (by omega) (fun c5 => ?_) (fun c5 => ?_)
      · refine js_iload_n 0 dX3_fewest_47 rfl ?_
        exact js_iret rfl rfl dX3_fewest_48 ⟨js_reti (by first | (rw [zv_p (by omega)]) | (rw [zv_n (by omega)])), _, _, _, _, _, _, _, _, (zH_eq hA js_up_s ((js_up_n (js_nek p3_1 p3_0 js_kAO)).trans p3_1) ((js_up_n (js_nek p3_2 p3_0 js_kAO)).trans p3_2) ((js_up_n (js_nek p3_3 p3_0 js_kAO)).trans p3_3) ((js_up_n (js_nek p3_4 p3_0 js_kAO)).trans p3_4) ((js_up_n (js_nek p3_5 p3_0 js_kAO)).trans p3_5) ((js_up_n (js_nek p3_6 p3_0 js_kAO)).trans p3_6) ((js_up_n (js_nek p3_7 p3_0 js_kAO)).trans p3_7) ((js_up_n (js_nek p3_8 p3_0 js_kAO)).trans p3_8) ((js_up_n (js_nek p3_9 p3_0 js_kAO)).trans p3_9) ((js_up_n (js_nek p3_10 p3_0 js_kAO)).trans p3_10) ((js_up_n (js_nek p3_11 p3_0 js_kAO)).trans p3_11) (fun q hq => ((js_up_n (hq 0 (by decide))).trans (zH_n hq))))⟩
      · refine js_iconst dX3_fewest_43 ?_
        refine js_goto (tgt := 48) dX3_fewest_44 (by decide) ?_
        exact js_iret rfl rfl dX3_fewest_48 ⟨js_reti (by first | (rw [zv_p (by omega)]) | (rw [zv_n (by omega)])), _, _, _, _, _, _, _, _, (zH_eq hA js_up_s ((js_up_n (js_nek p3_1 p3_0 js_kAO)).trans p3_1) ((js_up_n (js_nek p3_2 p3_0 js_kAO)).trans p3_2) ((js_up_n (js_nek p3_3 p3_0 js_kAO)).trans p3_3) ((js_up_n (js_nek p3_4 p3_0 js_kAO)).trans p3_4) ((js_up_n (js_nek p3_5 p3_0 js_kAO)).trans p3_5) ((js_up_n (js_nek p3_6 p3_0 js_kAO)).trans p3_6) ((js_up_n (js_nek p3_7 p3_0 js_kAO)).trans p3_7) ((js_up_n (js_nek p3_8 p3_0 js_kAO)).trans p3_8) ((js_up_n (js_nek p3_9 p3_0 js_kAO)).trans p3_9) ((js_up_n (js_nek p3_10 p3_0 js_kAO)).trans p3_10) ((js_up_n (js_nek p3_11 p3_0 js_kAO)).trans p3_11) (fun q hq => ((js_up_n (hq 0 (by decide))).trans (zH_n hq))))⟩
    · refine js_iload_n 0 dX3_fewest_21 rfl ?_
      refine js_sipush dX3_fewest_22 rfl ?_
      refine js_icmp_ne (tgt := 32) dX3_fewest_25 (by decide) (by omega) (fun c6 => ?_) (fun c6 => ?_)
      · refine js_iconst dX3_fewest_32 ?_
        exact J4 _ (by omega)
      · refine js_iconst dX3_fewest_28 ?_
        refine js_goto (tgt := 33) dX3_fewest_29 (by decide) ?_
        exact J4 _ (by omega)
  · refine js_aload_n 0 dX3_fewest_8 rfl ?_
    refine js_iconst dX3_fewest_9 ?_
    refine js_top (b := zt2 (0 ≤ b ∧ b ≤ f 0 - 1) (zfo f b ≠ 1000)) (by omega) ?_
    refine eX3_186 rfl dX3_fewest_10 p0 (com_fails hA ⟨p0, p1, p2, p3, p4, p5, p6, p7, p8, p9, p10, p11⟩) (Nat.le_of_ble_eq_true rfl) (Nat.le_of_ble_eq_true rfl) ?_
    rw [zH_fr (fun q hq => rfl)]
    obtain ⟨p7_0, p7_1, p7_2, p7_3, p7_4, p7_5, p7_6, p7_7, p7_8, p7_9, p7_10, p7_11⟩ := zH_Mc (h := h) (f := f) (bef := bef) (asd := asd) (svd := svd) (pas := pas) (rf := rf) (it := it) (wt := wt) (tx := tx) (od := od) (ln := ln) (isS := isS) (pm := pm) (th := zt2 (0 ≤ b ∧ b ≤ f 0 - 1) (zfo f b ≠ 1000)) (len := len) (at_ := at_) (wr := wr) (fa := fa) (om := om) (lm := lm) hA
    show js_ok ρ mX3_fewest _ 7 0 0 13 [(0, .ref (A 0)), (1, .int (jI b))] [.int (jI 0)] (zH A f bef asd svd pas rf it wt tx od ln isS pm (zt2 (0 ≤ b ∧ b ≤ f 0 - 1) (zfo f b ≠ 1000)) len at_ wr fa om lm h)
    exact js_iret rfl rfl dX3_fewest_13 ⟨js_reti (by first | (rw [zv_p (by omega)]) | (rw [zv_n (by omega)])), _, _, _, _, _, _, _, _, (zH_eq hA p7_0 p7_1 p7_2 p7_3 p7_4 p7_5 p7_6 p7_7 p7_8 p7_9 p7_10 p7_11 (fun q hq => (zH_n hq)))⟩
theorem pm_fewestAgain {ρ : js_R} {h : js_H} {A : Nat → Nat} {f bef asd svd pas rf it wt tx od ln : Int → Int} {isS pm th len at_ wr fa om lm : Int} {T b : Int} (hA : zA A) (hp : zMc A f bef asd svd pas rf it wt tx od ln isS pm th len at_ wr fa om lm h) (hI : zI T f) (rb : -2147483648 ≤ b ∧ b < 2147483648) : js_Con ρ mX3_fewestAgain 8 0 0 [.ref (A 0), .int (jI b)] h (zPost A (.int (jI (zv (zt2 (0 ≤ b ∧ b ≤ f 0 - 1) (zfo f b ≠ 1000)) (zfo f b)))) f svd pas rf tx ln isS pm (zt2 (0 ≤ b ∧ b ≤ f 0 - 1) (zfo f b ≠ 1000)) len fa lm h) := by
  refine js_body [(0, .ref (A 0)), (1, .int (jI b))] rfl (by decide) (Nat.le_of_ble_eq_true rfl) rfl ?_
  obtain ⟨p0, p1, p2, p3, p4, p5, p6, p7, p8, p9, p10, p11⟩ := hp
  have h01 := zI_01 hI
  refine js_aload_n 0 dX3_fewestAgain_0 rfl ?_
  refine js_iload_n 1 dX3_fewestAgain_1 rfl ?_
  refine vX3_204 (kc' := 0) (ks' := 0) rfl dX3_fewestAgain_2 p0 (pm_fewest hA ⟨p0, p1, p2, p3, p4, p5, p6, p7, p8, p9, p10, p11⟩ hI (by omega)) (Nat.le_of_ble_eq_true rfl) (by omega) (by omega) (Nat.le_of_ble_eq_true rfl) (fun v1 g1 q1 => ?_) (fun E1 g1 q1 => by cases q1.1)
  obtain ⟨e1, bef1, asd1, it1, wt1, od1, at_1, wr1, om1, rfl⟩ := q1
  cases e1
  rw [zH_fr (fun q hq => rfl)]
  obtain ⟨p2_0, p2_1, p2_2, p2_3, p2_4, p2_5, p2_6, p2_7, p2_8, p2_9, p2_10, p2_11⟩ := zH_Mc (h := h) (f := f) (bef := bef1) (asd := asd1) (svd := svd) (pas := pas) (rf := rf) (it := it1) (wt := wt1) (tx := tx) (od := od1) (ln := ln) (isS := isS) (pm := pm) (th := zt2 (0 ≤ b ∧ b ≤ f 0 - 1) (zfo f b ≠ 1000)) (len := len) (at_ := at_1) (wr := wr1) (fa := fa) (om := om1) (lm := lm) hA
  show js_ok ρ mX3_fewestAgain _ 8 0 0 5 [(0, .ref (A 0)), (1, .int (jI b))] [.int (jI (zv (zt2 (0 ≤ b ∧ b ≤ f 0 - 1) (zfo f b ≠ 1000)) (zfo f b)))] (zH A f bef1 asd1 svd pas rf it1 wt1 tx od1 ln isS pm (zt2 (0 ≤ b ∧ b ≤ f 0 - 1) (zfo f b ≠ 1000)) len at_1 wr1 fa om1 lm h)
  exact js_iret rfl rfl dX3_fewestAgain_5 ⟨js_reti (by rfl), _, _, _, _, _, _, _, _, (zH_eq hA p2_0 p2_1 p2_2 p2_3 p2_4 p2_5 p2_6 p2_7 p2_8 p2_9 p2_10 p2_11 (fun q hq => (zH_n hq)))⟩
theorem pm_bestHeight {ρ : js_R} {h : js_H} {A : Nat → Nat} {f bef asd svd pas rf it wt tx od ln : Int → Int} {isS pm th len at_ wr fa om lm : Int} {T b : Int} (hA : zA A) (hp : zMc A f bef asd svd pas rf it wt tx od ln isS pm th len at_ wr fa om lm h) (hI : zI T f) (rb : -2147483648 ≤ b ∧ b < 2147483648) : js_Con ρ mX3_bestHeight 9 0 0 [.ref (A 0), .int (jI b)] h (zPost A (.int (jI (zv (zt2 (0 ≤ b ∧ b ≤ f 0 - 1) (zfo f b ≠ 1000)) (zbest f b)))) f svd pas rf tx ln isS pm (zt2 (0 ≤ b ∧ b ≤ f 0 - 1) (zfo f b ≠ 1000)) len fa lm h) := by
  refine js_body [(0, .ref (A 0)), (1, .int (jI b))] rfl (by decide) (Nat.le_of_ble_eq_true rfl) rfl ?_
  obtain ⟨p0, p1, p2, p3, p4, p5, p6, p7, p8, p9, p10, p11⟩ := hp
  have h01 := zI_01 hI
  have z0 := zt2_c (0 ≤ b ∧ b ≤ f 0 - 1) (zfo f b ≠ 1000)
  have hfo := zfo_r f b
  refine js_aload_n 0 dX3_bestHeight_0 rfl ?_
  refine js_iload_n 1 dX3_bestHeight_1 rfl ?_
  refine vX3_204 (kc' := 0) (ks' := 0) rfl dX3_bestHeight_2 p0 (pm_fewest hA ⟨p0, p1, p2, p3, p4, p5, p6, p7, p8, p9, p10, p11⟩ hI (by omega)) (Nat.le_of_ble_eq_true rfl) (by omega) (by omega) (Nat.le_of_ble_eq_true rfl) (fun v1 g1 q1 => ?_) (fun E1 g1 q1 => by cases q1.1)
  obtain ⟨e1, bef1, asd1, it1, wt1, od1, at_1, wr1, om1, rfl⟩ := q1
  cases e1
  rw [zH_fr (fun q hq => rfl)]
  obtain ⟨p2_0, p2_1, p2_2, p2_3, p2_4, p2_5, p2_6, p2_7, p2_8, p2_9, p2_10, p2_11⟩ := zH_Mc (h := h) (f := f) (bef := bef1) (asd := asd1) (svd := svd) (pas := pas) (rf := rf) (it := it1) (wt := wt1) (tx := tx) (od := od1) (ln := ln) (isS := isS) (pm := pm) (th := zt2 (0 ≤ b ∧ b ≤ f 0 - 1) (zfo f b ≠ 1000)) (len := len) (at_ := at_1) (wr := wr1) (fa := fa) (om := om1) (lm := lm) hA
  show js_ok ρ mX3_bestHeight _ 9 0 0 5 [(0, .ref (A 0)), (1, .int (jI b))] [.int (jI (zv (zt2 (0 ≤ b ∧ b ≤ f 0 - 1) (zfo f b ≠ 1000)) (zfo f b)))] (zH A f bef1 asd1 svd pas rf it1 wt1 tx od1 ln isS pm (zt2 (0 ≤ b ∧ b ≤ f 0 - 1) (zfo f b ≠ 1000)) len at_1 wr1 fa om1 lm h)
  refine js_istore_n (L' := [(2, .int (jI (zv (zt2 (0 ≤ b ∧ b ≤ f 0 - 1) (zfo f b ≠ 1000)) (zfo f b)))), (0, .ref (A 0)), (1, .int (jI b))]) dX3_bestHeight_5 (by decide) rfl ?_
  refine js_iconst dX3_bestHeight_6 ?_
  refine js_istore_n (L' := [(3, .int (jI 1)), (2, .int (jI (zv (zt2 (0 ≤ b ∧ b ≤ f 0 - 1) (zfo f b ≠ 1000)) (zfo f b)))), (0, .ref (A 0)), (1, .int (jI b))]) dX3_bestHeight_7 (by decide) rfl ?_
  refine js_sub (L' := [(0, .ref (A 0)), (1, .int (jI b)), (2, .int (jI (zv (zt2 (0 ≤ b ∧ b ≤ f 0 - 1) (zfo f b ≠ 1000)) (zfo f b)))), (3, .int (jI 1))]) [2, 3, 1, 0] rfl ?_
  refine js_heq (h' := (zH A f bef1 asd1 svd pas rf it1 wt1 tx od1 ln isS pm (zt2 (0 ≤ b ∧ b ≤ f 0 - 1) (zfo f b ≠ 1000)) len at_1 wr1 fa om1 lm h)) (zH_eq hA p2_0 p2_1 p2_2 p2_3 p2_4 p2_5 p2_6 p2_7 p2_8 p2_9 p2_10 p2_11 (fun q hq => (zH_n hq))).symm ?_
  refine js_loop (σ := Nat × (Int → Int) × (Int → Int) × (Int → Int) × (Int → Int) × (Int → Int) × Int × Int × Int) (fun s => s.1 ≤ 5 ∧ (∀ j : Nat, j < s.1 → zbno f b j) ∧ (0 < s.1 → zt2 (0 ≤ b ∧ b ≤ f 0 - 1) (zfo f b ≠ 1000) = 0)) (fun s => 5 - (s.1)) (fun s => 0) (fun s => 0) 8 (fun s => [(0, .ref (A 0)), (1, .int (jI b)), (2, .int (jI (zv (zt2 (0 ≤ b ∧ b ≤ f 0 - 1) (zfo f b ≠ 1000)) (zfo f b)))), (3, .int (jI (((s.1 : Nat) : Int) + 1)))]) (fun s => []) (fun s => (zH A f s.2.2.2.1 s.2.2.2.2.1 svd pas rf s.2.1 s.2.2.1 tx s.2.2.2.2.2.1 ln isS pm (zt2 (0 ≤ b ∧ b ≤ f 0 - 1) (zfo f b ≠ 1000)) len s.2.2.2.2.2.2.1 s.2.2.2.2.2.2.2.1 fa s.2.2.2.2.2.2.2.2 lm h)) (fun s hk IHs => ?_) (0, it1, wt1, bef1, asd1, od1, at_1, wr1, om1) (⟨Nat.zero_le _, fun j z => absurd z (Nat.not_lt_zero j), fun z => absurd z (Nat.lt_irrefl 0)⟩)
  obtain ⟨k, itk, wtk, befk, asdk, odk, atk, wrk, omk⟩ := s
  have hk : k ≤ 5 ∧ (∀ j : Nat, j < k → zbno f b j) ∧ (0 < k → zt2 (0 ≤ b ∧ b ≤ f 0 - 1) (zfo f b ≠ 1000) = 0) := hk
  obtain ⟨p4_0, p4_1, p4_2, p4_3, p4_4, p4_5, p4_6, p4_7, p4_8, p4_9, p4_10, p4_11⟩ := zH_Mc (h := h) (f := f) (bef := befk) (asd := asdk) (svd := svd) (pas := pas) (rf := rf) (it := itk) (wt := wtk) (tx := tx) (od := odk) (ln := ln) (isS := isS) (pm := pm) (th := zt2 (0 ≤ b ∧ b ≤ f 0 - 1) (zfo f b ≠ 1000)) (len := len) (at_ := atk) (wr := wrk) (fa := fa) (om := omk) (lm := lm) hA
  show js_ok ρ mX3_bestHeight _ 9 0 0 8 [(0, .ref (A 0)), (1, .int (jI b)), (2, .int (jI (zv (zt2 (0 ≤ b ∧ b ≤ f 0 - 1) (zfo f b ≠ 1000)) (zfo f b)))), (3, .int (jI (((k : Nat) : Int) + 1)))] [] (zH A f befk asdk svd pas rf itk wtk tx odk ln isS pm (zt2 (0 ≤ b ∧ b ≤ f 0 - 1) (zfo f b ≠ 1000)) len atk wrk fa omk lm h)
  obtain ⟨hk, kP, kth⟩ := hk
  refine js_iload_n 3 dX3_bestHeight_8 rfl ?_
  refine js_iconst dX3_bestHeight_9 ?_
  refine js_icmp_gt (tgt := 81) dX3_bestHeight_10 (by decide) (by omega) (fun c5 => ?_) (fun c5 => ?_)
  · refine js_iconst dX3_bestHeight_81 ?_
    exact js_iret rfl rfl dX3_bestHeight_82 ⟨js_reti (by first | (rw [zv_p (by omega)]; done) | (rw [zv_n (by omega)]; unfold zbest; rw [show zbn f b = 5 from zfst_all (fun i c => kP i (by omega)), if_pos rfl]) | (rcases z0 with z | z | z <;> first | (rw [zv_p (by omega)]; done) | (rw [zv_n (by omega)]; unfold zbest; rw [show zbn f b = 5 from zfst_all (fun i c => kP i (by omega)), if_pos rfl]))), _, _, _, _, _, _, _, _, (zH_eq hA p4_0 p4_1 p4_2 p4_3 p4_4 p4_5 p4_6 p4_7 p4_8 p4_9 p4_10 p4_11 (fun q hq => (zH_n hq)))⟩
  · refine js_aload_n 0 dX3_bestHeight_13 rfl ?_
    refine gX3_49 rfl dX3_bestHeight_14 p4_0 rfl ?_
    refine js_if_ne (tgt := 81) dX3_bestHeight_17 (by decide) (by omega) (fun c6 => ?_) (fun c6 => ?_)
    · refine js_iconst dX3_bestHeight_81 ?_
      exact js_iret rfl rfl dX3_bestHeight_82 ⟨js_reti (by first | (rw [zv_p (by omega)]; done) | (rw [zv_n (by omega)]; unfold zbest; rw [show zbn f b = 5 from zfst_all (fun i c => kP i (by omega)), if_pos rfl]) | (rcases z0 with z | z | z <;> first | (rw [zv_p (by omega)]; done) | (rw [zv_n (by omega)]; unfold zbest; rw [show zbn f b = 5 from zfst_all (fun i c => kP i (by omega)), if_pos rfl]))), _, _, _, _, _, _, _, _, (zH_eq hA p4_0 p4_1 p4_2 p4_3 p4_4 p4_5 p4_6 p4_7 p4_8 p4_9 p4_10 p4_11 (fun q hq => (zH_n hq)))⟩
    · have hb : 0 ≤ b ∧ b < f 0 := by omega
      have hB := zI_B hI hb.1 hb.2
      have hpt := zIB_p hB
      unfold zIB at hB
      have h5 : f (13 + 9 * b + 5) < f 1 := by
        have z1 : zfo f b ≠ 1000 := by omega
        unfold zfo at z1
        exact Classical.byContradiction (fun z => z1 (if_neg z))
      have hP := zI_P hI (i := f (13 + 9 * b + 5)) (by omega) (by omega)
      have hsp := zIP_p hP
      have hg := zgt_r hP
      unfold zIP at hP
      have ez : zv (zt2 (0 ≤ b ∧ b ≤ f 0 - 1) (zfo f b ≠ 1000)) (zfo f b) = zfo f b := zv_n (by omega)
      have hw := zI_w hI (8 + ((k : Int) + 1) - 1) (by omega) (by omega)
      have hn := znext_r (p := zpt f b) (w := f (8 + ((k : Int) + 1) - 1)) hpt
      have hh := zhto_r f (znext (zpt f b) (f (8 + ((k : Int) + 1) - 1))) (zgt f (f (13 + 9 * b + 5)))
      refine js_aload_n 0 dX3_bestHeight_20 rfl ?_
      refine js_aload_n 0 dX3_bestHeight_21 rfl ?_
      refine js_iload_n 1 dX3_bestHeight_22 rfl ?_
      refine eX3_120 rfl dX3_bestHeight_23 p4_0 (com_pointOf p4_0 p4_1 (by omega)) (Nat.le_of_ble_eq_true rfl) (Nat.le_of_ble_eq_true rfl) ?_
      refine js_iload_n 3 dX3_bestHeight_26 rfl ?_
      refine eX3_149 rfl dX3_bestHeight_27 p4_0 (com_drifted p4_0 p4_1 (by omega) (by omega) (by omega)) (Nat.le_of_ble_eq_true rfl) (Nat.le_of_ble_eq_true rfl) ?_
      refine js_istore (L' := [(4, .int (jI (znext (zpt f b) (f (8 + (((k : Nat) : Int) + 1) - 1))))), (0, .ref (A 0)), (1, .int (jI b)), (2, .int (jI (zv (zt2 (0 ≤ b ∧ b ≤ f 0 - 1) (zfo f b ≠ 1000)) (zfo f b)))), (3, .int (jI (((k : Nat) : Int) + 1)))]) dX3_bestHeight_30 (by decide) rfl ?_
      refine js_aload_n 1 dX3_bestHeight_32 rfl ?_
      refine js_aload_n 1 dX3_bestHeight_33 rfl ?_
      refine js_iload_n 2 dX3_bestHeight_34 rfl ?_
      refine js_iconst dX3_bestHeight_35 ?_
      refine eX3_76 rfl dX3_bestHeight_36 p4_0 (com_of p4_0 p4_1 (by omega) (by omega)) (Nat.le_of_ble_eq_true rfl) (Nat.le_of_ble_eq_true rfl) ?_
      refine eX3_146 rfl dX3_bestHeight_39 p4_0 (com_gate p4_0 p4_1 (by omega) (by omega) (by omega)) (Nat.le_of_ble_eq_true rfl) (Nat.le_of_ble_eq_true rfl) ?_
      refine js_istore (L' := [(5, .int (jI (zgt f (f (13 + 9 * b + 5))))), (4, .int (jI (znext (zpt f b) (f (8 + (((k : Nat) : Int) + 1) - 1))))), (0, .ref (A 0)), (1, .int (jI b)), (2, .int (jI (zv (zt2 (0 ≤ b ∧ b ≤ f 0 - 1) (zfo f b ≠ 1000)) (zfo f b)))), (3, .int (jI (((k : Nat) : Int) + 1)))]) dX3_bestHeight_42 (by decide) rfl ?_
      refine js_iload_n 4 dX3_bestHeight_44 rfl ?_
      refine js_iconst dX3_bestHeight_45 ?_
      refine js_icmp_ne (tgt := 59) dX3_bestHeight_46 (by decide) (by omega) (fun c7 => ?_) (fun c7 => ?_)
      · refine js_aload_n 2 dX3_bestHeight_59 rfl ?_
        refine js_iload 1 dX3_bestHeight_60 rfl ?_
        refine js_iload 0 dX3_bestHeight_62 rfl ?_
        refine vX3_198 (kc' := 0) (ks' := 0) rfl dX3_bestHeight_64 p4_0 (com_hoursTo hA ⟨p4_0, p4_1, p4_2, p4_3, p4_4, p4_5, p4_6, p4_7, p4_8, p4_9, p4_10, p4_11⟩ hI (by omega) (by omega)) (Nat.le_of_ble_eq_true rfl) (by omega) (by omega) (Nat.le_of_ble_eq_true rfl) (fun v8 g8 q8 => ?_) (fun E8 g8 q8 => by cases q8.1)
        obtain ⟨e8, bef8, asd8, it8, wt8, od8, at_8, wr8, om8, rfl⟩ := q8
        cases e8
        rw [zH_fr (fun q hq => (zH_n hq))]
        obtain ⟨p9_0, p9_1, p9_2, p9_3, p9_4, p9_5, p9_6, p9_7, p9_8, p9_9, p9_10, p9_11⟩ := zH_Mc (h := h) (f := f) (bef := bef8) (asd := asd8) (svd := svd) (pas := pas) (rf := rf) (it := it8) (wt := wt8) (tx := tx) (od := od8) (ln := ln) (isS := isS) (pm := pm) (th := zt2 (0 ≤ b ∧ b ≤ f 0 - 1) (zfo f b ≠ 1000)) (len := len) (at_ := at_8) (wr := wr8) (fa := fa) (om := om8) (lm := lm) hA
        show js_ok ρ mX3_bestHeight _ 9 0 0 67 [(5, .int (jI (zgt f (f (13 + 9 * b + 5))))), (4, .int (jI (znext (zpt f b) (f (8 + (((k : Nat) : Int) + 1) - 1))))), (0, .ref (A 0)), (1, .int (jI b)), (2, .int (jI (zv (zt2 (0 ≤ b ∧ b ≤ f 0 - 1) (zfo f b ≠ 1000)) (zfo f b)))), (3, .int (jI (((k : Nat) : Int) + 1)))] [.int (jI (zhto f (znext (zpt f b) (f (8 + (((k : Nat) : Int) + 1) - 1))) (zgt f (f (13 + 9 * b + 5)))))] (zH A f bef8 asd8 svd pas rf it8 wt8 tx od8 ln isS pm (zt2 (0 ≤ b ∧ b ≤ f 0 - 1) (zfo f b ≠ 1000)) len at_8 wr8 fa om8 lm h)
        refine js_iload_n 4 dX3_bestHeight_67 rfl ?_
        refine js_iconst dX3_bestHeight_68 ?_
        refine js_isub dX3_bestHeight_69 ?_
        refine js_icmp_ne (tgt := 75) dX3_bestHeight_70 (by decide) (by omega) (fun c10 => ?_) (fun c10 => ?_)
        · refine js_iinc (L' := [(3, .int (jI ((((k : Nat) : Int) + 1) + 1))), (5, .int (jI (zgt f (f (13 + 9 * b + 5))))), (4, .int (jI (znext (zpt f b) (f (8 + (((k : Nat) : Int) + 1) - 1))))), (0, .ref (A 0)), (1, .int (jI b)), (2, .int (jI (zv (zt2 (0 ≤ b ∧ b ≤ f 0 - 1) (zfo f b ≠ 1000)) (zfo f b))))]) 5 dX3_bestHeight_75 rfl (by decide) rfl ?_
          refine js_goto (tgt := 8) dX3_bestHeight_78 (by decide) ?_
          refine js_sub (L' := [(0, .ref (A 0)), (1, .int (jI b)), (2, .int (jI (zv (zt2 (0 ≤ b ∧ b ≤ f 0 - 1) (zfo f b ≠ 1000)) (zfo f b)))), (3, .int (jI ((((k : Nat) : Int) + 1) + 1)))]) [3, 4, 5, 0] rfl ?_
          have kP2 : ∀ j : Nat, j < k + 1 → zbno f b j := fun j z => by
            by_cases e : j = k
            · subst e; unfold zbno; first | (rw [if_pos (by omega)]; omega) | (rw [if_neg (by omega)]; omega)
            · exact kP j (by omega)
          refine js_heq (h' := (zH A f bef8 asd8 svd pas rf it8 wt8 tx od8 ln isS pm (zt2 (0 ≤ b ∧ b ≤ f 0 - 1) (zfo f b ≠ 1000)) len at_8 wr8 fa om8 lm h)) (zH_eq hA p9_0 p9_1 p9_2 p9_3 p9_4 p9_5 p9_6 p9_7 p9_8 p9_9 p9_10 p9_11 (fun q hq => (zH_n hq))).symm ?_
          exact IHs (k + 1, it8, wt8, bef8, asd8, od8, at_8, wr8, om8) (show k + 1 ≤ 5 ∧ (∀ j : Nat, j < k + 1 → zbno f b j) ∧ (0 < k + 1 → zt2 (0 ≤ b ∧ b ≤ f 0 - 1) (zfo f b ≠ 1000) = 0) from ⟨by omega, kP2, fun _ => by omega⟩) (show 5 - (k + 1) < 5 - (k) by omega)
        · refine js_iload_n 5 dX3_bestHeight_73 rfl ?_
          exact js_iret rfl rfl dX3_bestHeight_74 ⟨js_reti (by rw [zv_n (by omega)]; unfold zbest; rw [show zbn f b = k from zfst_eq (P := zbno f b) kP (fun z => by unfold zbno at z; first | (rw [if_pos (by omega)] at z; omega) | (rw [if_neg (by omega)] at z; omega)) (by omega), if_neg (by omega)]), _, _, _, _, _, _, _, _, (zH_eq hA p9_0 p9_1 p9_2 p9_3 p9_4 p9_5 p9_6 p9_7 p9_8 p9_9 p9_10 p9_11 (fun q hq => (zH_n hq)))⟩
      · refine js_iload 1 dX3_bestHeight_49 rfl ?_
        refine js_iload 0 dX3_bestHeight_51 rfl ?_
        refine js_icmp_ne (tgt := 75) dX3_bestHeight_53 (by decide) (by omega) (fun c11 => ?_) (fun c11 => ?_)
        · refine js_iinc (L' := [(3, .int (jI ((((k : Nat) : Int) + 1) + 1))), (5, .int (jI (zgt f (f (13 + 9 * b + 5))))), (4, .int (jI (znext (zpt f b) (f (8 + (((k : Nat) : Int) + 1) - 1))))), (0, .ref (A 0)), (1, .int (jI b)), (2, .int (jI (zv (zt2 (0 ≤ b ∧ b ≤ f 0 - 1) (zfo f b ≠ 1000)) (zfo f b))))]) 5 dX3_bestHeight_75 rfl (by decide) rfl ?_
          refine js_goto (tgt := 8) dX3_bestHeight_78 (by decide) ?_
          refine js_sub (L' := [(0, .ref (A 0)), (1, .int (jI b)), (2, .int (jI (zv (zt2 (0 ≤ b ∧ b ≤ f 0 - 1) (zfo f b ≠ 1000)) (zfo f b)))), (3, .int (jI ((((k : Nat) : Int) + 1) + 1)))]) [3, 4, 5, 0] rfl ?_
          have kP2 : ∀ j : Nat, j < k + 1 → zbno f b j := fun j z => by
            by_cases e : j = k
            · subst e; unfold zbno; first | (rw [if_pos (by omega)]; omega) | (rw [if_neg (by omega)]; omega)
            · exact kP j (by omega)
          refine js_heq (h' := (zH A f befk asdk svd pas rf itk wtk tx odk ln isS pm (zt2 (0 ≤ b ∧ b ≤ f 0 - 1) (zfo f b ≠ 1000)) len atk wrk fa omk lm h)) (zH_eq hA p4_0 p4_1 p4_2 p4_3 p4_4 p4_5 p4_6 p4_7 p4_8 p4_9 p4_10 p4_11 (fun q hq => (zH_n hq))).symm ?_
          exact IHs (k + 1, itk, wtk, befk, asdk, odk, atk, wrk, omk) (show k + 1 ≤ 5 ∧ (∀ j : Nat, j < k + 1 → zbno f b j) ∧ (0 < k + 1 → zt2 (0 ≤ b ∧ b ≤ f 0 - 1) (zfo f b ≠ 1000) = 0) from ⟨by omega, kP2, fun _ => by omega⟩) (show 5 - (k + 1) < 5 - (k) by omega)
        · refine js_goto (tgt := 73) dX3_bestHeight_56 (by decide) ?_
          refine js_iload_n 5 dX3_bestHeight_73 rfl ?_
          exact js_iret rfl rfl dX3_bestHeight_74 ⟨js_reti (by rw [zv_n (by omega)]; unfold zbest; rw [show zbn f b = k from zfst_eq (P := zbno f b) kP (fun z => by unfold zbno at z; first | (rw [if_pos (by omega)] at z; omega) | (rw [if_neg (by omega)] at z; omega)) (by omega), if_neg (by omega)]), _, _, _, _, _, _, _, _, (zH_eq hA p4_0 p4_1 p4_2 p4_3 p4_4 p4_5 p4_6 p4_7 p4_8 p4_9 p4_10 p4_11 (fun q hq => (zH_n hq)))⟩
theorem pm_reach {ρ : js_R} {h : js_H} {A : Nat → Nat} {f bef asd svd pas rf it wt tx od ln : Int → Int} {isS pm th len at_ wr fa om lm : Int} {T b n : Int} (hA : zA A) (hp : zMc A f bef asd svd pas rf it wt tx od ln isS pm th len at_ wr fa om lm h) (hI : zI T f) (rb : -2147483648 ≤ b ∧ b < 2147483648) (rn : -2147483648 ≤ n ∧ n < 2147483648) : js_Con ρ mX3_reach 5 0 0 [.ref (A 0), .int (jI b), .int (jI n)] h (zPost A (.int (jI (zv (zt2 (0 ≤ b ∧ b ≤ f 0 - 1) (0 ≤ n ∧ n ≤ 20)) (zcn (zrea f (zpt f b) n.toNat) 100)))) f svd pas rf tx ln isS pm (zt2 (0 ≤ b ∧ b ≤ f 0 - 1) (0 ≤ n ∧ n ≤ 20)) len fa lm h) := by
  refine js_body [(0, .ref (A 0)), (1, .int (jI b)), (2, .int (jI n))] rfl (by decide) (Nat.le_of_ble_eq_true rfl) rfl ?_
  obtain ⟨p0, p1, p2, p3, p4, p5, p6, p7, p8, p9, p10, p11⟩ := hp
  have h01 := zI_01 hI
  have z0 := zt2_c (0 ≤ b ∧ b ≤ f 0 - 1) (0 ≤ n ∧ n ≤ 20)
  refine js_aload_n 0 dX3_reach_0 rfl ?_
  refine js_aload_n 0 dX3_reach_1 rfl ?_
  refine js_iload_n 1 dX3_reach_2 rfl ?_
  refine js_iload_n 2 dX3_reach_3 rfl ?_
  refine js_bipush dX3_reach_4 rfl ?_
  refine eX3_180 rfl dX3_reach_6 p0 (com_cannot hA ⟨p0, p1, p2, p3, p4, p5, p6, p7, p8, p9, p10, p11⟩ hI (by omega) (by omega) (by omega)) (Nat.le_of_ble_eq_true rfl) (Nat.le_of_ble_eq_true rfl) ?_
  refine pX3_49 rfl dX3_reach_9 p0 (Nat.le_of_ble_eq_true rfl) rfl rfl ?_
  show js_ok ρ mX3_reach _ 5 0 0 12 [(0, .ref (A 0)), (1, .int (jI b)), (2, .int (jI n))] [] (js_up h (A 0) (js_ob true 2 [.ref (A 1), .ref (A 2), .ref (A 3), .ref (A 4), .int (jI isS), .ref (A 5), .int (jI pm), .int (jI (zt2 (0 ≤ b ∧ b ≤ f 0 - 1) (0 ≤ n ∧ n ≤ 20))), .ref (A 6), .ref (A 7), .ref (A 8), .ref (A 9), .int (jI len), .int (jI at_), .int (jI wr), .int (jI fa), .ref (A 10), .int (jI om), .ref (A 11), .int (jI lm)]))
  refine js_aload_n 0 dX3_reach_12 rfl ?_
  refine gX3_49 rfl dX3_reach_13 js_up_s rfl ?_
  refine js_if_le (tgt := 21) dX3_reach_16 (by decide) (by omega) (fun c1 => ?_) (fun c1 => ?_)
  · have hb : 0 ≤ b ∧ b < f 0 := by omega
    have hpt := zIB_p (zI_B hI hb.1 hb.2)
    refine js_aload_n 0 dX3_reach_21 rfl ?_
    refine js_aload_n 0 dX3_reach_22 rfl ?_
    refine js_iload_n 1 dX3_reach_23 rfl ?_
    refine eX3_120 rfl dX3_reach_24 js_up_s (com_pointOf js_up_s ((js_up_n (js_nek p1 p0 js_kAO)).trans p1) (by omega)) (Nat.le_of_ble_eq_true rfl) (Nat.le_of_ble_eq_true rfl) ?_
    refine eX3_192 rfl dX3_reach_27 js_up_s (com_begins hA ⟨js_up_s, ((js_up_n (js_nek p1 p0 js_kAO)).trans p1), ((js_up_n (js_nek p2 p0 js_kAO)).trans p2), ((js_up_n (js_nek p3 p0 js_kAO)).trans p3), ((js_up_n (js_nek p4 p0 js_kAO)).trans p4), ((js_up_n (js_nek p5 p0 js_kAO)).trans p5), ((js_up_n (js_nek p6 p0 js_kAO)).trans p6), ((js_up_n (js_nek p7 p0 js_kAO)).trans p7), ((js_up_n (js_nek p8 p0 js_kAO)).trans p8), ((js_up_n (js_nek p9 p0 js_kAO)).trans p9), ((js_up_n (js_nek p10 p0 js_kAO)).trans p10), ((js_up_n (js_nek p11 p0 js_kAO)).trans p11)⟩ (by omega)) (Nat.le_of_ble_eq_true rfl) (Nat.le_of_ble_eq_true rfl) ?_
    rw [zH_fr (fun q hq => ((js_up_n (hq 0 (by decide))).trans rfl))]
    obtain ⟨p2_0, p2_1, p2_2, p2_3, p2_4, p2_5, p2_6, p2_7, p2_8, p2_9, p2_10, p2_11⟩ := zH_Mc (h := h) (f := f) (bef := bef) (asd := asd) (svd := svd) (pas := pas) (rf := rf) (it := zpnt (zpt f b)) (wt := wt) (tx := tx) (od := od) (ln := ln) (isS := isS) (pm := pm) (th := zt2 (0 ≤ b ∧ b ≤ f 0 - 1) (0 ≤ n ∧ n ≤ 20)) (len := len) (at_ := at_) (wr := wr) (fa := fa) (om := om) (lm := lm) hA
    show js_ok ρ mX3_reach _ 5 0 0 30 [(0, .ref (A 0)), (1, .int (jI b)), (2, .int (jI n))] [] (zH A f bef asd svd pas rf (zpnt (zpt f b)) wt tx od ln isS pm (zt2 (0 ≤ b ∧ b ≤ f 0 - 1) (0 ≤ n ∧ n ≤ 20)) len at_ wr fa om lm h)
    refine js_iconst dX3_reach_30 ?_
    refine js_istore_n (L' := [(3, .int (jI 0)), (0, .ref (A 0)), (1, .int (jI b)), (2, .int (jI n))]) dX3_reach_31 (by decide) rfl ?_
    refine js_sub (L' := [(0, .ref (A 0)), (1, .int (jI b)), (2, .int (jI n)), (3, .int (jI 0))]) [1, 2, 3, 0] rfl ?_
    refine js_heq (h' := (zH A f bef asd svd pas rf (zpnt (zpt f b)) wt tx od ln isS pm (zt2 (0 ≤ b ∧ b ≤ f 0 - 1) (0 ≤ n ∧ n ≤ 20)) len at_ wr fa om lm h)) (zH_eq hA p2_0 p2_1 p2_2 p2_3 p2_4 p2_5 p2_6 p2_7 p2_8 p2_9 p2_10 p2_11 (fun q hq => (zH_n hq))).symm ?_
    refine js_loop (σ := Nat × (Int → Int)) (fun s => ((s.1 : Nat) : Int) ≤ n) (fun s => n.toNat - (s.1)) (fun s => 0) (fun s => 0) 32 (fun s => [(0, .ref (A 0)), (1, .int (jI b)), (2, .int (jI n)), (3, .int (jI (((s.1 : Nat) : Int))))]) (fun s => []) (fun s => (zH A f bef asd svd pas rf (zrea f (zpt f b) s.1) s.2 tx od ln isS pm (zt2 (0 ≤ b ∧ b ≤ f 0 - 1) (0 ≤ n ∧ n ≤ 20)) len at_ wr fa om lm h)) (fun s hk IHs => ?_) (0, wt) ((by show ((0 : Nat) : Int) ≤ n; omega))
    obtain ⟨k, wtk⟩ := s
    have hk : ((k : Nat) : Int) ≤ n := hk
    obtain ⟨p4_0, p4_1, p4_2, p4_3, p4_4, p4_5, p4_6, p4_7, p4_8, p4_9, p4_10, p4_11⟩ := zH_Mc (h := h) (f := f) (bef := bef) (asd := asd) (svd := svd) (pas := pas) (rf := rf) (it := zrea f (zpt f b) k) (wt := wtk) (tx := tx) (od := od) (ln := ln) (isS := isS) (pm := pm) (th := zt2 (0 ≤ b ∧ b ≤ f 0 - 1) (0 ≤ n ∧ n ≤ 20)) (len := len) (at_ := at_) (wr := wr) (fa := fa) (om := om) (lm := lm) hA
    show js_ok ρ mX3_reach _ 5 0 0 32 [(0, .ref (A 0)), (1, .int (jI b)), (2, .int (jI n)), (3, .int (jI (((k : Nat) : Int))))] [] (zH A f bef asd svd pas rf (zrea f (zpt f b) k) wtk tx od ln isS pm (zt2 (0 ≤ b ∧ b ≤ f 0 - 1) (0 ≤ n ∧ n ≤ 20)) len at_ wr fa om lm h)
    refine js_iload_n 3 dX3_reach_32 rfl ?_
    refine js_iload_n 2 dX3_reach_33 rfl ?_
    refine js_icmp_ge (tgt := 47) dX3_reach_34 (by decide) (by omega) (fun c5 => ?_) (fun c5 => ?_)
    · have ek : n.toNat = k := by omega
      refine js_iconst dX3_reach_47 ?_
      refine js_istore_n (L' := [(3, .int (jI 0)), (0, .ref (A 0)), (1, .int (jI b)), (2, .int (jI n))]) dX3_reach_48 (by decide) rfl ?_
      refine js_iconst dX3_reach_49 ?_
      refine js_istore (L' := [(4, .int (jI 0)), (3, .int (jI 0)), (0, .ref (A 0)), (1, .int (jI b)), (2, .int (jI n))]) dX3_reach_50 (by decide) rfl ?_
      refine js_sub (L' := [(0, .ref (A 0)), (1, .int (jI b)), (2, .int (jI n)), (3, .int (jI 0)), (4, .int (jI 0))]) [2, 3, 4, 1, 0] rfl ?_
      refine js_loop (σ := Nat) (fun m => m ≤ 100) (fun m => 100 - m) (fun m => 0) (fun m => 0) 52 (fun m => [(0, .ref (A 0)), (1, .int (jI b)), (2, .int (jI n)), (3, .int (jI (zcn (zrea f (zpt f b) k) m))), (4, .int (jI ((m : Int))))]) (fun m => []) (fun m => (zH A f bef asd svd pas rf (zrea f (zpt f b) k) wtk tx od ln isS pm (zt2 (0 ≤ b ∧ b ≤ f 0 - 1) (0 ≤ n ∧ n ≤ 20)) len at_ wr fa om lm h)) (fun m hm IHm => ?_) 0 (by decide)
      show js_ok ρ mX3_reach _ 5 0 0 52 [(0, .ref (A 0)), (1, .int (jI b)), (2, .int (jI n)), (3, .int (jI (zcn (zrea f (zpt f b) k) m))), (4, .int (jI ((m : Int))))] [] (zH A f bef asd svd pas rf (zrea f (zpt f b) k) wtk tx od ln isS pm (zt2 (0 ≤ b ∧ b ≤ f 0 - 1) (0 ≤ n ∧ n ≤ 20)) len at_ wr fa om lm h)
      have hz := zrea_01 (f := f) (p := zpt f b) k (m : Int)
      refine js_iload 4 dX3_reach_52 rfl ?_
      refine js_bipush dX3_reach_54 rfl ?_
      refine js_icmp_ge (tgt := 83) dX3_reach_56 (by decide) (by omega) (fun c7 => ?_) (fun c7 => ?_)
      · refine js_iload_n 3 dX3_reach_83 rfl ?_
        exact js_iret rfl rfl dX3_reach_84 ⟨js_reti (by first | (rw [zv_p (by omega)]; done) | (rw [zv_n (by omega), ek, show (100 : Nat) = m by omega])), _, _, _, _, _, _, _, _, (zH_eq hA p4_0 p4_1 p4_2 p4_3 p4_4 p4_5 p4_6 p4_7 p4_8 p4_9 p4_10 p4_11 (fun q hq => (zH_n hq)))⟩
      · refine js_iload_n 3 dX3_reach_59 rfl ?_
        refine js_join 75 [(0, .ref (A 0)), (1, .int (jI b)), (2, .int (jI n)), (3, .int (jI (zcn (zrea f (zpt f b) k) m))), (4, .int (jI ((m : Int))))] [.int (jI (zcn (zrea f (zpt f b) k) m))] (zH A f bef asd svd pas rf (zrea f (zpt f b) k) wtk tx od ln isS pm (zt2 (0 ≤ b ∧ b ≤ f 0 - 1) (0 ≤ n ∧ n ≤ 20)) len at_ wr fa om lm h) (if zrea f (zpt f b) k (m : Int) = 0 then 0 else 1) (fun z hz => ?_) (fun J8 => ?_)
        · subst hz
          refine js_iadd dX3_reach_75 ?_
          refine js_istore_n (L' := [(3, .int (jI ((zcn (zrea f (zpt f b) k) m) + (if zrea f (zpt f b) k (m : Int) = 0 then 0 else 1)))), (0, .ref (A 0)), (1, .int (jI b)), (2, .int (jI n)), (4, .int (jI ((m : Int))))]) dX3_reach_76 (by decide) rfl ?_
          refine js_iinc (L' := [(4, .int (jI (((m : Int)) + 1))), (3, .int (jI ((zcn (zrea f (zpt f b) k) m) + (if zrea f (zpt f b) k (m : Int) = 0 then 0 else 1)))), (0, .ref (A 0)), (1, .int (jI b)), (2, .int (jI n))]) 4 dX3_reach_77 rfl (by decide) rfl ?_
          refine js_goto (tgt := 52) dX3_reach_80 (by decide) ?_
          refine js_sub (L' := [(0, .ref (A 0)), (1, .int (jI b)), (2, .int (jI n)), (3, .int (jI ((zcn (zrea f (zpt f b) k) m) + (if zrea f (zpt f b) k (m : Int) = 0 then 0 else 1)))), (4, .int (jI (((m : Int)) + 1)))]) [2, 3, 4, 1, 0] rfl ?_
          exact IHm (m + 1) (by omega) (by omega)
        · refine js_aload_n 0 dX3_reach_60 rfl ?_
          refine gX3_28 rfl dX3_reach_61 p4_0 rfl ?_
          refine js_iload 4 dX3_reach_64 rfl ?_
          refine js_zaload dX3_reach_66 p4_7 (by omega) ?_
          refine js_if_eq (tgt := 74) dX3_reach_67 (by decide) (by omega) (fun c9 => ?_) (fun c9 => ?_)
          · refine js_iconst dX3_reach_74 ?_
            exact J8 _ (by (repeat' split) <;> omega)
          · refine js_iconst dX3_reach_70 ?_
            refine js_goto (tgt := 75) dX3_reach_71 (by decide) ?_
            exact J8 _ (by (repeat' split) <;> omega)
    · refine js_aload_n 0 dX3_reach_37 rfl ?_
      refine eX3_195 rfl dX3_reach_38 p4_0 (com_goesOn hA ⟨p4_0, p4_1, p4_2, p4_3, p4_4, p4_5, p4_6, p4_7, p4_8, p4_9, p4_10, p4_11⟩ hI (zrea_01 k)) (Nat.le_of_ble_eq_true rfl) (Nat.le_of_ble_eq_true rfl) ?_
      rw [zH_fr (fun q hq => (zH_n hq))]
      obtain ⟨p10_0, p10_1, p10_2, p10_3, p10_4, p10_5, p10_6, p10_7, p10_8, p10_9, p10_10, p10_11⟩ := zH_Mc (h := h) (f := f) (bef := bef) (asd := asd) (svd := svd) (pas := pas) (rf := rf) (it := zgo f (zrea f (zpt f b) k) 100) (wt := zrea f (zpt f b) k) (tx := tx) (od := od) (ln := ln) (isS := isS) (pm := pm) (th := zt2 (0 ≤ b ∧ b ≤ f 0 - 1) (0 ≤ n ∧ n ≤ 20)) (len := len) (at_ := at_) (wr := wr) (fa := fa) (om := om) (lm := lm) hA
      show js_ok ρ mX3_reach _ 5 0 0 41 [(0, .ref (A 0)), (1, .int (jI b)), (2, .int (jI n)), (3, .int (jI (((k : Nat) : Int))))] [] (zH A f bef asd svd pas rf (zgo f (zrea f (zpt f b) k) 100) (zrea f (zpt f b) k) tx od ln isS pm (zt2 (0 ≤ b ∧ b ≤ f 0 - 1) (0 ≤ n ∧ n ≤ 20)) len at_ wr fa om lm h)
      refine js_iinc (L' := [(3, .int (jI ((((k : Nat) : Int)) + 1))), (0, .ref (A 0)), (1, .int (jI b)), (2, .int (jI n))]) 3 dX3_reach_41 rfl (by decide) rfl ?_
      refine js_goto (tgt := 32) dX3_reach_44 (by decide) ?_
      refine js_sub (L' := [(0, .ref (A 0)), (1, .int (jI b)), (2, .int (jI n)), (3, .int (jI ((((k : Nat) : Int)) + 1)))]) [1, 2, 3, 0] rfl ?_
      refine js_heq (h' := (zH A f bef asd svd pas rf (zrea f (zpt f b) (k + 1)) (zrea f (zpt f b) k) tx od ln isS pm (zt2 (0 ≤ b ∧ b ≤ f 0 - 1) (0 ≤ n ∧ n ≤ 20)) len at_ wr fa om lm h)) (zH_eq hA p10_0 p10_1 p10_2 p10_3 p10_4 p10_5 p10_6 p10_7 p10_8 p10_9 p10_10 p10_11 (fun q hq => (zH_n hq))).symm ?_
      exact IHs (k + 1, zrea f (zpt f b) k) (show ((k + 1 : Nat) : Int) ≤ n from (by omega)) (show n.toNat - (k + 1) < n.toNat - (k) by omega)
  · refine js_iconst dX3_reach_19 ?_
    exact js_iret rfl rfl dX3_reach_20 ⟨js_reti (by first | (rw [zv_p (by omega)]; done) | (rw [zv_n (by omega), ek, show (100 : Nat) = m by omega])), _, _, _, _, _, _, _, _, (zH_eq hA js_up_s ((js_up_n (js_nek p1 p0 js_kAO)).trans p1) ((js_up_n (js_nek p2 p0 js_kAO)).trans p2) ((js_up_n (js_nek p3 p0 js_kAO)).trans p3) ((js_up_n (js_nek p4 p0 js_kAO)).trans p4) ((js_up_n (js_nek p5 p0 js_kAO)).trans p5) ((js_up_n (js_nek p6 p0 js_kAO)).trans p6) ((js_up_n (js_nek p7 p0 js_kAO)).trans p7) ((js_up_n (js_nek p8 p0 js_kAO)).trans p8) ((js_up_n (js_nek p9 p0 js_kAO)).trans p9) ((js_up_n (js_nek p10 p0 js_kAO)).trans p10) ((js_up_n (js_nek p11 p0 js_kAO)).trans p11) (fun q hq => ((js_up_n (hq 0 (by decide))).trans rfl)))⟩
