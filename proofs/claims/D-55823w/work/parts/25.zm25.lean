set_option maxRecDepth 100000
/-! BalloonSpiresModel: lines with texts -/
theorem zcl_r (l : List Char) (h : ∀ c ∈ l, c.toNat < 128) (j : Int) : 0 ≤ zcl l j ∧ zcl l j < 128 := by
  unfold zcl
  rw [List.getD_eq_getElem?_getD, List.getElem?_map]
  cases e : l[j.toNat]? with
  | none => exact ⟨Int.le_refl 0, (show (0 : Int) < 128 by decide)⟩
  | some c =>
    have := h c (List.mem_of_getElem? e)
    show 0 ≤ ((c.toNat : Nat) : Int) ∧ ((c.toNat : Nat) : Int) < 128
    omega
/-- a wind's letter -/
def zwc (w : Int) : Int := zcl ("-nesw").toList w
theorem zwc_r (w : Int) : 0 ≤ zwc w ∧ zwc w < 128 := zcl_r _ (by decide) w
def ztw (f : zF) : Nat → List Int
  | 0 => []
  | k + 1 => ztw f k ++ [zwc (f (8 + (k : Int)))]
theorem ztw_l (f : zF) (k : Nat) : (ztw f k).length = k := by
  induction k with
  | zero => rfl
  | succ k ih => show (ztw f k ++ [zwc (f (8 + (k : Int)))]).length = k + 1; rw [List.length_append, ih]; rfl
def ztsp (f : zF) (i : Int) : List Int := ((((([] ++ zdig i) ++ [64]) ++ zdig (f (67 + 4 * i))) ++ zdig (f (67 + 4 * i + 1))) ++ [zwc (f (67 + 4 * i + 2))])
theorem pm_tellWinds {ρ : js_R} {h : js_H} {A : Nat → Nat} {f bef asd svd pas rf it wt tx od ln : Int → Int} {isS pm th len at_ wr fa om lm : Int} {T : Int} {fm : Nat} (hA : zA A) (hp : zMc A f bef asd svd pas rf it wt tx od ln isS pm th len at_ wr fa om lm h) (hK : zK ρ fm) (hI : zI T f) : js_Con ρ mX3_tellWinds 4 0 0 [.ref (A 0)] h (js_ret (some (.int (jI (((ztw f 5).length : Int))))) (zH A f bef asd svd pas rf it wt tx od (zwl ln 0 (ztw f 5)) isS pm 0 len at_ wr fa om (((ztw f 5).length : Int)) h)) := by
  refine js_body [(0, .ref (A 0))] rfl (by decide) (Nat.le_of_ble_eq_true rfl) rfl ?_
  obtain ⟨p0, p1, p2, p3, p4, p5, p6, p7, p8, p9, p10, p11⟩ := hp
  have h01 := zI_01 hI
  refine js_aload_n 0 dX3_tellWinds_0 rfl ?_
  refine js_iconst dX3_tellWinds_1 ?_
  refine pX3_49 rfl dX3_tellWinds_2 p0 (Nat.le_of_ble_eq_true rfl) rfl rfl ?_
  show js_ok ρ mX3_tellWinds _ 4 0 0 5 [(0, .ref (A 0))] [] (js_up h (A 0) (js_ob true 2 [.ref (A 1), .ref (A 2), .ref (A 3), .ref (A 4), .int (jI isS), .ref (A 5), .int (jI pm), .int (jI 0), .ref (A 6), .ref (A 7), .ref (A 8), .ref (A 9), .int (jI len), .int (jI at_), .int (jI wr), .int (jI fa), .ref (A 10), .int (jI om), .ref (A 11), .int (jI lm)]))
  refine js_aload_n 0 dX3_tellWinds_5 rfl ?_
  refine js_iconst dX3_tellWinds_6 ?_
  refine pX3_302 rfl dX3_tellWinds_7 js_up_s (Nat.le_of_ble_eq_true rfl) rfl rfl ?_
  rw [js_up_up]
  show js_ok ρ mX3_tellWinds _ 4 0 0 10 [(0, .ref (A 0))] [] (js_up h (A 0) (js_ob true 2 [.ref (A 1), .ref (A 2), .ref (A 3), .ref (A 4), .int (jI isS), .ref (A 5), .int (jI pm), .int (jI 0), .ref (A 6), .ref (A 7), .ref (A 8), .ref (A 9), .int (jI len), .int (jI at_), .int (jI wr), .int (jI fa), .ref (A 10), .int (jI om), .ref (A 11), .int (jI 0)]))
  refine js_iconst dX3_tellWinds_10 ?_
  refine js_istore_n (L' := [(1, .int (jI 0)), (0, .ref (A 0))]) dX3_tellWinds_11 (by decide) rfl ?_
  refine js_sub (L' := [(0, .ref (A 0)), (1, .int (jI 0))]) [1, 0] rfl ?_
  refine js_heq (h' := (zH A f bef asd svd pas rf it wt tx od ln isS pm 0 len at_ wr fa om 0 h)) (zH_eq hA js_up_s ((js_up_n (Ne.symm (js_nek p0 p1 js_kOA))).trans p1) ((js_up_n (Ne.symm (js_nek p0 p2 js_kOA))).trans p2) ((js_up_n (Ne.symm (js_nek p0 p3 js_kOA))).trans p3) ((js_up_n (Ne.symm (js_nek p0 p4 js_kOA))).trans p4) ((js_up_n (Ne.symm (js_nek p0 p5 js_kOA))).trans p5) ((js_up_n (Ne.symm (js_nek p0 p6 js_kOA))).trans p6) ((js_up_n (Ne.symm (js_nek p0 p7 js_kOA))).trans p7) ((js_up_n (Ne.symm (js_nek p0 p8 js_kOA))).trans p8) ((js_up_n (Ne.symm (js_nek p0 p9 js_kOA))).trans p9) ((js_up_n (Ne.symm (js_nek p0 p10 js_kOA))).trans p10) ((js_up_n (Ne.symm (js_nek p0 p11 js_kOA))).trans p11) (fun q hq => ((js_up_n (hq 0 (by decide))).trans rfl))).symm ?_
  refine js_loop (σ := Nat) (fun s => s ≤ 5) (fun s => 5 - (s)) (fun s => 0) (fun s => 0) 12 (fun s => [(0, .ref (A 0)), (1, .int (jI (((s : Nat) : Int))))]) (fun s => []) (fun s => (zH A f bef asd svd pas rf it wt tx od (zwl ln 0 (ztw f s)) isS pm 0 len at_ wr fa om (((ztw f s).length : Int)) h)) (fun k hk IHs => ?_) 0 ((Nat.zero_le 5))
  have hk : k ≤ 5 := hk
  obtain ⟨p2_0, p2_1, p2_2, p2_3, p2_4, p2_5, p2_6, p2_7, p2_8, p2_9, p2_10, p2_11⟩ := zH_Mc (h := h) (f := f) (bef := bef) (asd := asd) (svd := svd) (pas := pas) (rf := rf) (it := it) (wt := wt) (tx := tx) (od := od) (ln := zwl ln 0 (ztw f k)) (isS := isS) (pm := pm) (th := 0) (len := len) (at_ := at_) (wr := wr) (fa := fa) (om := om) (lm := ((ztw f k).length : Int)) hA
  show js_ok ρ mX3_tellWinds _ 4 0 0 12 [(0, .ref (A 0)), (1, .int (jI (((k : Nat) : Int))))] [] (zH A f bef asd svd pas rf it wt tx od (zwl ln 0 (ztw f k)) isS pm 0 len at_ wr fa om (((ztw f k).length : Int)) h)
  refine js_iload_n 1 dX3_tellWinds_12 rfl ?_
  refine js_iconst dX3_tellWinds_13 ?_
  refine js_icmp_ge (tgt := 42) dX3_tellWinds_14 (by decide) (by omega) (fun c3 => ?_) (fun c3 => ?_)
  · have ek : 5 = k := by omega
    refine js_heq (h' := (zH A f bef asd svd pas rf it wt tx od (zwl ln 0 (ztw f 5)) isS pm 0 len at_ wr fa om (((ztw f 5).length : Int)) h)) (by rw [ek]) ?_
    obtain ⟨p4_0, p4_1, p4_2, p4_3, p4_4, p4_5, p4_6, p4_7, p4_8, p4_9, p4_10, p4_11⟩ := zH_Mc (h := h) (f := f) (bef := bef) (asd := asd) (svd := svd) (pas := pas) (rf := rf) (it := it) (wt := wt) (tx := tx) (od := od) (ln := zwl ln 0 (ztw f 5)) (isS := isS) (pm := pm) (th := 0) (len := len) (at_ := at_) (wr := wr) (fa := fa) (om := om) (lm := ((ztw f 5).length : Int)) hA
    show js_ok ρ mX3_tellWinds _ 4 0 0 42 [(0, .ref (A 0)), (1, .int (jI (((k : Nat) : Int))))] [] (zH A f bef asd svd pas rf it wt tx od (zwl ln 0 (ztw f 5)) isS pm 0 len at_ wr fa om (((ztw f 5).length : Int)) h)
    refine js_aload_n 0 dX3_tellWinds_42 rfl ?_
    refine gX3_302 rfl dX3_tellWinds_43 p4_0 rfl ?_
    exact js_iret rfl rfl dX3_tellWinds_46 ⟨js_reti (by rfl), (zH_eq hA p4_0 p4_1 p4_2 p4_3 p4_4 p4_5 p4_6 p4_7 p4_8 p4_9 p4_10 p4_11 (fun q hq => (zH_n hq)))⟩
  · have hw := zI_w hI (8 + (k : Int)) (by omega) (by omega)
    refine js_aload_n 0 dX3_tellWinds_17 rfl ?_
    obtain ⟨ka24, kb24, kx24, ky24, kv24, kh24, ki24⟩ := hK.2.2 24 "-nesw" rfl
    refine js_ldcwS 24 rfl kv24 dX3_tellWinds_18 ?_
    refine js_old (fun o5 => ?_)
    refine js_aload_n 0 dX3_tellWinds_21 rfl ?_
    refine gX3_9 rfl dX3_tellWinds_22 p2_0 rfl ?_
    refine js_bipush dX3_tellWinds_25 rfl ?_
    refine js_iload_n 1 dX3_tellWinds_27 rfl ?_
    refine js_iadd dX3_tellWinds_28 ?_
    refine js_iaload dX3_tellWinds_29 p2_1 (by omega) ?_
    have rg6 := zwc_r (f (8 + (((k : Nat) : Int))))
    refine eX3_229 rfl dX3_tellWinds_30 (o5 _ _ kh24).2 (con_charAt hK.1 (o5 _ _ kh24).2 (o5 _ _ ki24).2 (by decide) hK.2.1 (by show 0 ≤ f (8 + (((k : Nat) : Int))) ∧ f (8 + (((k : Nat) : Int))) < 5; omega) rg6) (Nat.le_of_ble_eq_true rfl) (Nat.le_of_ble_eq_true rfl) ?_
    show js_ok ρ mX3_tellWinds _ 4 0 0 33 [(0, .ref (A 0)), (1, .int (jI (((k : Nat) : Int))))] [.int (jI (zwc (f (8 + (((k : Nat) : Int)))))), .ref (A 0)] (zH A f bef asd svd pas rf it wt tx od (zwl ln 0 (ztw f k)) isS pm 0 len at_ wr fa om (((ztw f k).length : Int)) h)
    refine eX3_308 rfl dX3_tellWinds_33 p2_0 (com_says hA ⟨p2_0, p2_1, p2_2, p2_3, p2_4, p2_5, p2_6, p2_7, p2_8, p2_9, p2_10, p2_11⟩ (by omega) (by rw [ztw_l]; omega)) (Nat.le_of_ble_eq_true rfl) (Nat.le_of_ble_eq_true rfl) ?_
    rw [zH_fr (fun q hq => (zH_n hq))]
    obtain ⟨p7_0, p7_1, p7_2, p7_3, p7_4, p7_5, p7_6, p7_7, p7_8, p7_9, p7_10, p7_11⟩ := zH_Mc (h := h) (f := f) (bef := bef) (asd := asd) (svd := svd) (pas := pas) (rf := rf) (it := it) (wt := wt) (tx := tx) (od := od) (ln := zwl ln 0 ((ztw f k) ++ [(zwc (f (8 + (((k : Nat) : Int)))))])) (isS := isS) (pm := pm) (th := 0) (len := len) (at_ := at_) (wr := wr) (fa := fa) (om := om) (lm := (((ztw f k) ++ [(zwc (f (8 + (((k : Nat) : Int)))))]).length : Int)) hA
    show js_ok ρ mX3_tellWinds _ 4 0 0 36 [(0, .ref (A 0)), (1, .int (jI (((k : Nat) : Int))))] [] (zH A f bef asd svd pas rf it wt tx od (zwl ln 0 ((ztw f k) ++ [(zwc (f (8 + (((k : Nat) : Int)))))])) isS pm 0 len at_ wr fa om ((((ztw f k) ++ [(zwc (f (8 + (((k : Nat) : Int)))))]).length : Int)) h)
    refine js_old (fun o8 => ?_)
    refine js_iinc (L' := [(1, .int (jI ((((k : Nat) : Int)) + 1))), (0, .ref (A 0))]) 1 dX3_tellWinds_36 rfl (by decide) rfl ?_
    refine js_goto (tgt := 12) dX3_tellWinds_39 (by decide) ?_
    refine js_sub (L' := [(0, .ref (A 0)), (1, .int (jI ((((k : Nat) : Int)) + 1)))]) [1, 0] rfl ?_
    refine js_heq (h' := (zH A f bef asd svd pas rf it wt tx od (zwl ln 0 (ztw f (k + 1))) isS pm 0 len at_ wr fa om (((ztw f (k + 1)).length : Int)) h)) (zH_eq hA p7_0 p7_1 p7_2 p7_3 p7_4 p7_5 p7_6 p7_7 p7_8 p7_9 p7_10 p7_11 (fun q hq => (zH_n hq))).symm ?_
    exact IHs (k + 1) (show k + 1 ≤ 5 from (by omega)) (show 5 - (k + 1) < 5 - (k) by omega)
theorem pm_tellRow {ρ : js_R} {h : js_H} {A : Nat → Nat} {f bef asd svd pas rf it wt tx od ln : Int → Int} {isS pm th len at_ wr fa om lm : Int} {T y : Int} (hA : zA A) (hp : zMc A f bef asd svd pas rf it wt tx od ln isS pm th len at_ wr fa om lm h) (hI : zI T f) (ry : -2147483648 ≤ y ∧ y < 2147483648) : js_Con ρ mX3_tellRow 4 0 0 [.ref (A 0), .int (jI y)] h (js_ret (some (.int (jI (zv (zt1 (0 ≤ y ∧ y ≤ 9)) ((ztr f y 10).length : Int))))) (zH A f bef asd svd pas rf it wt tx od (zif (zt1 (0 ≤ y ∧ y ≤ 9)) ln (zwl ln 0 (ztr f y 10))) isS pm (zt1 (0 ≤ y ∧ y ≤ 9)) len at_ wr fa om (zif (zt1 (0 ≤ y ∧ y ≤ 9)) lm ((ztr f y 10).length : Int)) h)) := by
  refine js_body [(0, .ref (A 0)), (1, .int (jI y))] rfl (by decide) (Nat.le_of_ble_eq_true rfl) rfl ?_
  obtain ⟨p0, p1, p2, p3, p4, p5, p6, p7, p8, p9, p10, p11⟩ := hp
  have h01 := zI_01 hI
  have z0 := zt1_c (0 ≤ y ∧ y ≤ 9)
  refine js_aload_n 0 dX3_tellRow_0 rfl ?_
  refine js_join 16 [(0, .ref (A 0)), (1, .int (jI y))] [.ref (A 0)] h (zt1 (0 ≤ y ∧ y ≤ 9)) (fun z hz => ?_) (fun J1 => ?_)
  · subst hz
    refine pX3_49 rfl dX3_tellRow_16 p0 (Nat.le_of_ble_eq_true rfl) rfl rfl ?_
    show js_ok ρ mX3_tellRow _ 4 0 0 19 [(0, .ref (A 0)), (1, .int (jI y))] [] (js_up h (A 0) (js_ob true 2 [.ref (A 1), .ref (A 2), .ref (A 3), .ref (A 4), .int (jI isS), .ref (A 5), .int (jI pm), .int (jI (zt1 (0 ≤ y ∧ y ≤ 9))), .ref (A 6), .ref (A 7), .ref (A 8), .ref (A 9), .int (jI len), .int (jI at_), .int (jI wr), .int (jI fa), .ref (A 10), .int (jI om), .ref (A 11), .int (jI lm)]))
    refine js_aload_n 0 dX3_tellRow_19 rfl ?_
    refine gX3_49 rfl dX3_tellRow_20 js_up_s rfl ?_
    refine js_if_le (tgt := 28) dX3_tellRow_23 (by decide) (by omega) (fun c2 => ?_) (fun c2 => ?_)
    · refine js_aload_n 0 dX3_tellRow_28 rfl ?_
      refine js_iconst dX3_tellRow_29 ?_
      refine pX3_302 rfl dX3_tellRow_30 js_up_s (Nat.le_of_ble_eq_true rfl) rfl rfl ?_
      rw [js_up_up]
      show js_ok ρ mX3_tellRow _ 4 0 0 33 [(0, .ref (A 0)), (1, .int (jI y))] [] (js_up h (A 0) (js_ob true 2 [.ref (A 1), .ref (A 2), .ref (A 3), .ref (A 4), .int (jI isS), .ref (A 5), .int (jI pm), .int (jI (zt1 (0 ≤ y ∧ y ≤ 9))), .ref (A 6), .ref (A 7), .ref (A 8), .ref (A 9), .int (jI len), .int (jI at_), .int (jI wr), .int (jI fa), .ref (A 10), .int (jI om), .ref (A 11), .int (jI 0)]))
      refine js_iconst dX3_tellRow_33 ?_
      refine js_istore_n (L' := [(2, .int (jI 0)), (0, .ref (A 0)), (1, .int (jI y))]) dX3_tellRow_34 (by decide) rfl ?_
      refine js_sub (L' := [(0, .ref (A 0)), (1, .int (jI y)), (2, .int (jI 0))]) [1, 2, 0] rfl ?_
      refine js_heq (h' := (zH A f bef asd svd pas rf it wt tx od ln isS pm (zt1 (0 ≤ y ∧ y ≤ 9)) len at_ wr fa om 0 h)) (zH_eq hA js_up_s ((js_up_n (Ne.symm (js_nek p0 p1 js_kOA))).trans p1) ((js_up_n (Ne.symm (js_nek p0 p2 js_kOA))).trans p2) ((js_up_n (Ne.symm (js_nek p0 p3 js_kOA))).trans p3) ((js_up_n (Ne.symm (js_nek p0 p4 js_kOA))).trans p4) ((js_up_n (Ne.symm (js_nek p0 p5 js_kOA))).trans p5) ((js_up_n (Ne.symm (js_nek p0 p6 js_kOA))).trans p6) ((js_up_n (Ne.symm (js_nek p0 p7 js_kOA))).trans p7) ((js_up_n (Ne.symm (js_nek p0 p8 js_kOA))).trans p8) ((js_up_n (Ne.symm (js_nek p0 p9 js_kOA))).trans p9) ((js_up_n (Ne.symm (js_nek p0 p10 js_kOA))).trans p10) ((js_up_n (Ne.symm (js_nek p0 p11 js_kOA))).trans p11) (fun q hq => ((js_up_n (hq 0 (by decide))).trans rfl))).symm ?_
      refine js_loop (σ := Nat) (fun s => s ≤ 10) (fun s => 10 - (s)) (fun s => 0) (fun s => 0) 35 (fun s => [(0, .ref (A 0)), (1, .int (jI y)), (2, .int (jI (((s : Nat) : Int))))]) (fun s => []) (fun s => (zH A f bef asd svd pas rf it wt tx od (zwl ln 0 (ztr f y s)) isS pm (zt1 (0 ≤ y ∧ y ≤ 9)) len at_ wr fa om (((ztr f y s).length : Int)) h)) (fun k hk IHs => ?_) 0 ((Nat.zero_le 10))
      have hk : k ≤ 10 := hk
      obtain ⟨p4_0, p4_1, p4_2, p4_3, p4_4, p4_5, p4_6, p4_7, p4_8, p4_9, p4_10, p4_11⟩ := zH_Mc (h := h) (f := f) (bef := bef) (asd := asd) (svd := svd) (pas := pas) (rf := rf) (it := it) (wt := wt) (tx := tx) (od := od) (ln := zwl ln 0 (ztr f y k)) (isS := isS) (pm := pm) (th := zt1 (0 ≤ y ∧ y ≤ 9)) (len := len) (at_ := at_) (wr := wr) (fa := fa) (om := om) (lm := ((ztr f y k).length : Int)) hA
      show js_ok ρ mX3_tellRow _ 4 0 0 35 [(0, .ref (A 0)), (1, .int (jI y)), (2, .int (jI (((k : Nat) : Int))))] [] (zH A f bef asd svd pas rf it wt tx od (zwl ln 0 (ztr f y k)) isS pm (zt1 (0 ≤ y ∧ y ≤ 9)) len at_ wr fa om (((ztr f y k).length : Int)) h)
      refine js_iload_n 2 dX3_tellRow_35 rfl ?_
      refine js_bipush dX3_tellRow_36 rfl ?_
      refine js_icmp_ge (tgt := 95) dX3_tellRow_38 (by decide) (by omega) (fun c5 => ?_) (fun c5 => ?_)
      · have ek : 10 = k := by omega
        refine js_heq (h' := (zH A f bef asd svd pas rf it wt tx od (zwl ln 0 (ztr f y 10)) isS pm (zt1 (0 ≤ y ∧ y ≤ 9)) len at_ wr fa om (((ztr f y 10).length : Int)) h)) (by rw [ek]) ?_
        obtain ⟨p6_0, p6_1, p6_2, p6_3, p6_4, p6_5, p6_6, p6_7, p6_8, p6_9, p6_10, p6_11⟩ := zH_Mc (h := h) (f := f) (bef := bef) (asd := asd) (svd := svd) (pas := pas) (rf := rf) (it := it) (wt := wt) (tx := tx) (od := od) (ln := zwl ln 0 (ztr f y 10)) (isS := isS) (pm := pm) (th := zt1 (0 ≤ y ∧ y ≤ 9)) (len := len) (at_ := at_) (wr := wr) (fa := fa) (om := om) (lm := ((ztr f y 10).length : Int)) hA
        show js_ok ρ mX3_tellRow _ 4 0 0 95 [(0, .ref (A 0)), (1, .int (jI y)), (2, .int (jI (((k : Nat) : Int))))] [] (zH A f bef asd svd pas rf it wt tx od (zwl ln 0 (ztr f y 10)) isS pm (zt1 (0 ≤ y ∧ y ≤ 9)) len at_ wr fa om (((ztr f y 10).length : Int)) h)
        refine js_aload_n 0 dX3_tellRow_95 rfl ?_
        refine gX3_302 rfl dX3_tellRow_96 p6_0 rfl ?_
        exact js_iret rfl rfl dX3_tellRow_99 ⟨js_reti (by first | (rw [zv_p (by omega)]; done) | (rw [zv_n (by omega)]; done) | (rw [zv_n (by omega)]; rfl)), (by first | (simp only [zif_p (show 0 < (zt1 (0 ≤ y ∧ y ≤ 9)) from by omega)]; done) | (simp only [zif_n (show ¬ 0 < (zt1 (0 ≤ y ∧ y ≤ 9)) from by omega)]; done) | (simp only [zif_p (show 0 < (zt1 (0 ≤ y ∧ y ≤ 9)) from by omega)]; exact (zH_eq hA p6_0 p6_1 p6_2 p6_3 p6_4 p6_5 p6_6 p6_7 p6_8 p6_9 p6_10 p6_11 (fun q hq => (zH_n hq)))) | (simp only [zif_n (show ¬ 0 < (zt1 (0 ≤ y ∧ y ≤ 9)) from by omega)]; exact (zH_eq hA p6_0 p6_1 p6_2 p6_3 p6_4 p6_5 p6_6 p6_7 p6_8 p6_9 p6_10 p6_11 (fun q hq => (zH_n hq)))))⟩
      · refine js_aload_n 0 dX3_tellRow_41 rfl ?_
        refine js_iload_n 2 dX3_tellRow_42 rfl ?_
        refine js_iload_n 1 dX3_tellRow_43 rfl ?_
        refine eX3_69 rfl dX3_tellRow_44 com_code (Nat.le_of_ble_eq_true rfl) (Nat.le_of_ble_eq_true rfl) ?_
        refine eX3_171 rfl dX3_tellRow_47 p4_0 (com_balloonsOn p4_0 p4_1 hI (by omega)) (Nat.le_of_ble_eq_true rfl) (Nat.le_of_ble_eq_true rfl) ?_
        have h63 := zbi_63 (f := f) (p := 10 * y + (k : Int)) (f 0).toNat (by omega)
        refine js_topR (b := zbi f (10 * y + (k : Int)) (f 0).toNat) (zbon_i _ (by omega)) ?_
        refine js_istore_n (L' := [(3, .int (jI (zbi f (10 * y + (k : Int)) (f 0).toNat))), (0, .ref (A 0)), (1, .int (jI y)), (2, .int (jI (((k : Nat) : Int))))]) dX3_tellRow_50 (by decide) rfl ?_
        refine js_aload_n 1 dX3_tellRow_51 rfl ?_
        refine js_join 86 [(3, .int (jI (zbi f (10 * y + (k : Int)) (f 0).toNat))), (0, .ref (A 0)), (1, .int (jI y)), (2, .int (jI (((k : Nat) : Int))))] [.ref (A 0)] (zH A f bef asd svd pas rf it wt tx od (zwl ln 0 (ztr f y k)) isS pm (zt1 (0 ≤ y ∧ y ≤ 9)) len at_ wr fa om (((ztr f y k).length : Int)) h) (zrc f (10 * y + (k : Int))) (fun z hz => ?_) (fun J7 => ?_)
        · subst hz
          have hrc := zrc_r f (10 * y + (k : Int))
          refine eX3_308 rfl dX3_tellRow_86 p4_0 (com_says hA ⟨p4_0, p4_1, p4_2, p4_3, p4_4, p4_5, p4_6, p4_7, p4_8, p4_9, p4_10, p4_11⟩ (by omega) (by rw [ztr_l]; omega)) (Nat.le_of_ble_eq_true rfl) (Nat.le_of_ble_eq_true rfl) ?_
          rw [zH_fr (fun q hq => (zH_n hq))]
          obtain ⟨p8_0, p8_1, p8_2, p8_3, p8_4, p8_5, p8_6, p8_7, p8_8, p8_9, p8_10, p8_11⟩ := zH_Mc (h := h) (f := f) (bef := bef) (asd := asd) (svd := svd) (pas := pas) (rf := rf) (it := it) (wt := wt) (tx := tx) (od := od) (ln := zwl ln 0 ((ztr f y k) ++ [(zrc f (10 * y + (k : Int)))])) (isS := isS) (pm := pm) (th := zt1 (0 ≤ y ∧ y ≤ 9)) (len := len) (at_ := at_) (wr := wr) (fa := fa) (om := om) (lm := (((ztr f y k) ++ [(zrc f (10 * y + (k : Int)))]).length : Int)) hA
          show js_ok ρ mX3_tellRow _ 4 0 0 89 [(3, .int (jI (zbi f (10 * y + (k : Int)) (f 0).toNat))), (0, .ref (A 0)), (1, .int (jI y)), (2, .int (jI (((k : Nat) : Int))))] [] (zH A f bef asd svd pas rf it wt tx od (zwl ln 0 ((ztr f y k) ++ [(zrc f (10 * y + (k : Int)))])) isS pm (zt1 (0 ≤ y ∧ y ≤ 9)) len at_ wr fa om ((((ztr f y k) ++ [(zrc f (10 * y + (k : Int)))]).length : Int)) h)
          refine js_iinc (L' := [(2, .int (jI ((((k : Nat) : Int)) + 1))), (3, .int (jI (zbi f (10 * y + (k : Int)) (f 0).toNat))), (0, .ref (A 0)), (1, .int (jI y))]) 3 dX3_tellRow_89 rfl (by decide) rfl ?_
          refine js_goto (tgt := 35) dX3_tellRow_92 (by decide) ?_
          refine js_sub (L' := [(0, .ref (A 0)), (1, .int (jI y)), (2, .int (jI ((((k : Nat) : Int)) + 1)))]) [2, 3, 0] rfl ?_
          refine js_heq (h' := (zH A f bef asd svd pas rf it wt tx od (zwl ln 0 (ztr f y (k + 1))) isS pm (zt1 (0 ≤ y ∧ y ≤ 9)) len at_ wr fa om (((ztr f y (k + 1)).length : Int)) h)) (zH_eq hA p8_0 p8_1 p8_2 p8_3 p8_4 p8_5 p8_6 p8_7 p8_8 p8_9 p8_10 p8_11 (fun q hq => (zH_n hq))).symm ?_
          exact IHs (k + 1) (show k + 1 ≤ 10 from (by omega)) (show 10 - (k + 1) < 10 - (k) by omega)
        · refine js_aload_n 1 dX3_tellRow_52 rfl ?_
          refine js_iload_n 3 dX3_tellRow_53 rfl ?_
          refine js_iload_n 2 dX3_tellRow_54 rfl ?_
          refine eX3_69 rfl dX3_tellRow_55 com_code (Nat.le_of_ble_eq_true rfl) (Nat.le_of_ble_eq_true rfl) ?_
          refine eX3_100 rfl dX3_tellRow_58 p4_0 (com_spireOn p4_0 p4_1 hI (by omega)) (Nat.le_of_ble_eq_true rfl) (Nat.le_of_ble_eq_true rfl) ?_
          have z9 := zspon_r f (10 * y + (((k : Nat) : Int))) (by omega)
          show js_ok ρ mX3_tellRow _ 4 0 0 61 [(3, .int (jI (zbi f (10 * y + (k : Int)) (f 0).toNat))), (0, .ref (A 0)), (1, .int (jI y)), (2, .int (jI (((k : Nat) : Int))))] [.int (jI (zspon f (10 * y + (((k : Nat) : Int))))), .ref (A 0)] (zH A f bef asd svd pas rf it wt tx od (zwl ln 0 (ztr f y k)) isS pm (zt1 (0 ≤ y ∧ y ≤ 9)) len at_ wr fa om (((ztr f y k).length : Int)) h)
          refine js_if_lt (tgt := 69) dX3_tellRow_61 (by decide) (by omega) (fun c10 => ?_) (fun c10 => ?_)
          · refine js_iload_n 0 dX3_tellRow_69 rfl ?_
            refine js_if_ne (tgt := 78) dX3_tellRow_70 (by decide) (by omega) (fun c11 => ?_) (fun c11 => ?_)
            · refine js_bipush dX3_tellRow_78 rfl ?_
              refine js_iload_n 0 dX3_tellRow_80 rfl ?_
              refine eX3_312 rfl dX3_tellRow_81 (con_ntz (by omega)) (Nat.le_of_ble_eq_true rfl) (Nat.le_of_ble_eq_true rfl) ?_
              have hnz := zntz_r (zbi f (10 * y + (k : Int)) (f 0).toNat)
              refine js_iadd dX3_tellRow_84 ?_
              refine js_i2c dX3_tellRow_85 (js_i2c0 (by omega)) ?_
              exact J7 _ (by unfold zrc; (repeat' split) <;> omega)
            · refine js_bipush dX3_tellRow_73 rfl ?_
              refine js_goto (tgt := 86) dX3_tellRow_75 (by decide) ?_
              exact J7 _ (by unfold zrc; (repeat' split) <;> omega)
          · refine js_bipush dX3_tellRow_64 rfl ?_
            refine js_goto (tgt := 86) dX3_tellRow_66 (by decide) ?_
            exact J7 _ (by unfold zrc; (repeat' split) <;> omega)
    · refine js_iconst dX3_tellRow_26 ?_
      exact js_iret rfl rfl dX3_tellRow_27 ⟨js_reti (by first | (rw [zv_p (by omega)]; done) | (rw [zv_n (by omega)]; done) | (rw [zv_n (by omega)]; rfl)), (by first | (simp only [zif_p (show 0 < (zt1 (0 ≤ y ∧ y ≤ 9)) from by omega)]; done) | (simp only [zif_n (show ¬ 0 < (zt1 (0 ≤ y ∧ y ≤ 9)) from by omega)]; done) | (simp only [zif_p (show 0 < (zt1 (0 ≤ y ∧ y ≤ 9)) from by omega)]; exact (zH_eq hA js_up_s ((js_up_n (js_nek p1 p0 js_kAO)).trans p1) ((js_up_n (js_nek p2 p0 js_kAO)).trans p2) ((js_up_n (js_nek p3 p0 js_kAO)).trans p3) ((js_up_n (js_nek p4 p0 js_kAO)).trans p4) ((js_up_n (js_nek p5 p0 js_kAO)).trans p5) ((js_up_n (js_nek p6 p0 js_kAO)).trans p6) ((js_up_n (js_nek p7 p0 js_kAO)).trans p7) ((js_up_n (js_nek p8 p0 js_kAO)).trans p8) ((js_up_n (js_nek p9 p0 js_kAO)).trans p9) ((js_up_n (js_nek p10 p0 js_kAO)).trans p10) ((js_up_n (js_nek p11 p0 js_kAO)).trans p11) (fun q hq => ((js_up_n (hq 0 (by decide))).trans rfl)))) | (simp only [zif_n (show ¬ 0 < (zt1 (0 ≤ y ∧ y ≤ 9)) from by omega)]; exact (zH_eq hA js_up_s ((js_up_n (js_nek p1 p0 js_kAO)).trans p1) ((js_up_n (js_nek p2 p0 js_kAO)).trans p2) ((js_up_n (js_nek p3 p0 js_kAO)).trans p3) ((js_up_n (js_nek p4 p0 js_kAO)).trans p4) ((js_up_n (js_nek p5 p0 js_kAO)).trans p5) ((js_up_n (js_nek p6 p0 js_kAO)).trans p6) ((js_up_n (js_nek p7 p0 js_kAO)).trans p7) ((js_up_n (js_nek p8 p0 js_kAO)).trans p8) ((js_up_n (js_nek p9 p0 js_kAO)).trans p9) ((js_up_n (js_nek p10 p0 js_kAO)).trans p10) ((js_up_n (js_nek p11 p0 js_kAO)).trans p11) (fun q hq => ((js_up_n (hq 0 (by decide))).trans rfl)))))⟩
  · refine js_iload_n 1 dX3_tellRow_1 rfl ?_
    refine js_iconst dX3_tellRow_2 ?_
    refine js_bipush dX3_tellRow_3 rfl ?_
    refine eX3_61 rfl dX3_tellRow_5 (com_in (by omega) (by omega) (by omega)) (Nat.le_of_ble_eq_true rfl) (Nat.le_of_ble_eq_true rfl) ?_
    refine js_if_eqB (tgt := 15) dX3_tellRow_8 (by decide) (fun c12 => ?_) (fun c12 => ?_)
    · refine js_iconst dX3_tellRow_15 ?_
      exact J1 _ (by omega)
    · refine js_iconst dX3_tellRow_11 ?_
      refine js_goto (tgt := 16) dX3_tellRow_12 (by decide) ?_
      exact J1 _ (by omega)
theorem pm_tellSpire {ρ : js_R} {h : js_H} {A : Nat → Nat} {f bef asd svd pas rf it wt tx od ln : Int → Int} {isS pm th len at_ wr fa om lm : Int} {T sp : Int} {fm : Nat} (hA : zA A) (hp : zMc A f bef asd svd pas rf it wt tx od ln isS pm th len at_ wr fa om lm h) (hK : zK ρ fm) (hI : zI T f) (rsp : -2147483648 ≤ sp ∧ sp < 2147483648) : js_Con ρ mX3_tellSpire 4 0 0 [.ref (A 0), .int (jI sp)] h (js_ret (some (.int (jI (zv (zt1 (0 ≤ sp ∧ sp ≤ f 1 - 1)) ((ztsp f sp).length : Int))))) (zH A f bef asd svd pas rf it wt tx od (zif (zt1 (0 ≤ sp ∧ sp ≤ f 1 - 1)) ln (zwl ln 0 (ztsp f sp))) isS pm (zt1 (0 ≤ sp ∧ sp ≤ f 1 - 1)) len at_ wr fa om (zif (zt1 (0 ≤ sp ∧ sp ≤ f 1 - 1)) lm ((ztsp f sp).length : Int)) h)) := by
  refine js_body [(0, .ref (A 0)), (1, .int (jI sp))] rfl (by decide) (Nat.le_of_ble_eq_true rfl) rfl ?_
  obtain ⟨p0, p1, p2, p3, p4, p5, p6, p7, p8, p9, p10, p11⟩ := hp
  have h01 := zI_01 hI
  have z0 := zt1_c (0 ≤ sp ∧ sp ≤ f 1 - 1)
  refine js_aload_n 0 dX3_tellSpire_0 rfl ?_
  refine js_join 22 [(0, .ref (A 0)), (1, .int (jI sp))] [.ref (A 0)] h (zt1 (0 ≤ sp ∧ sp ≤ f 1 - 1)) (fun z hz => ?_) (fun J1 => ?_)
  · subst hz
    refine pX3_49 rfl dX3_tellSpire_22 p0 (Nat.le_of_ble_eq_true rfl) rfl rfl ?_
    show js_ok ρ mX3_tellSpire _ 4 0 0 25 [(0, .ref (A 0)), (1, .int (jI sp))] [] (js_up h (A 0) (js_ob true 2 [.ref (A 1), .ref (A 2), .ref (A 3), .ref (A 4), .int (jI isS), .ref (A 5), .int (jI pm), .int (jI (zt1 (0 ≤ sp ∧ sp ≤ f 1 - 1))), .ref (A 6), .ref (A 7), .ref (A 8), .ref (A 9), .int (jI len), .int (jI at_), .int (jI wr), .int (jI fa), .ref (A 10), .int (jI om), .ref (A 11), .int (jI lm)]))
    refine js_aload_n 0 dX3_tellSpire_25 rfl ?_
    refine gX3_49 rfl dX3_tellSpire_26 js_up_s rfl ?_
    refine js_if_le (tgt := 34) dX3_tellSpire_29 (by decide) (by omega) (fun c2 => ?_) (fun c2 => ?_)
    · have hP := zI_P hI (i := sp) (by omega) (by omega)
      unfold zIP at hP
      refine js_aload_n 0 dX3_tellSpire_34 rfl ?_
      refine js_iconst dX3_tellSpire_35 ?_
      refine pX3_302 rfl dX3_tellSpire_36 js_up_s (Nat.le_of_ble_eq_true rfl) rfl rfl ?_
      rw [js_up_up]
      show js_ok ρ mX3_tellSpire _ 4 0 0 39 [(0, .ref (A 0)), (1, .int (jI sp))] [] (js_up h (A 0) (js_ob true 2 [.ref (A 1), .ref (A 2), .ref (A 3), .ref (A 4), .int (jI isS), .ref (A 5), .int (jI pm), .int (jI (zt1 (0 ≤ sp ∧ sp ≤ f 1 - 1))), .ref (A 6), .ref (A 7), .ref (A 8), .ref (A 9), .int (jI len), .int (jI at_), .int (jI wr), .int (jI fa), .ref (A 10), .int (jI om), .ref (A 11), .int (jI 0)]))
      refine js_heq (h' := (zH A f bef asd svd pas rf it wt tx od (zwl ln 0 []) isS pm (zt1 (0 ≤ sp ∧ sp ≤ f 1 - 1)) len at_ wr fa om ((([] : List Int).length : Int)) h)) (zH_eq hA js_up_s ((js_up_n (Ne.symm (js_nek p0 p1 js_kOA))).trans p1) ((js_up_n (Ne.symm (js_nek p0 p2 js_kOA))).trans p2) ((js_up_n (Ne.symm (js_nek p0 p3 js_kOA))).trans p3) ((js_up_n (Ne.symm (js_nek p0 p4 js_kOA))).trans p4) ((js_up_n (Ne.symm (js_nek p0 p5 js_kOA))).trans p5) ((js_up_n (Ne.symm (js_nek p0 p6 js_kOA))).trans p6) ((js_up_n (Ne.symm (js_nek p0 p7 js_kOA))).trans p7) ((js_up_n (Ne.symm (js_nek p0 p8 js_kOA))).trans p8) ((js_up_n (Ne.symm (js_nek p0 p9 js_kOA))).trans p9) ((js_up_n (Ne.symm (js_nek p0 p10 js_kOA))).trans p10) ((js_up_n (Ne.symm (js_nek p0 p11 js_kOA))).trans p11) (fun q hq => ((js_up_n (hq 0 (by decide))).trans rfl))).symm ?_
      obtain ⟨p3_0, p3_1, p3_2, p3_3, p3_4, p3_5, p3_6, p3_7, p3_8, p3_9, p3_10, p3_11⟩ := zH_Mc (h := h) (f := f) (bef := bef) (asd := asd) (svd := svd) (pas := pas) (rf := rf) (it := it) (wt := wt) (tx := tx) (od := od) (ln := zwl ln 0 []) (isS := isS) (pm := pm) (th := zt1 (0 ≤ sp ∧ sp ≤ f 1 - 1)) (len := len) (at_ := at_) (wr := wr) (fa := fa) (om := om) (lm := (([] : List Int).length : Int)) hA
      show js_ok ρ mX3_tellSpire _ 4 0 0 39 [(0, .ref (A 0)), (1, .int (jI sp))] [] (zH A f bef asd svd pas rf it wt tx od (zwl ln 0 []) isS pm (zt1 (0 ≤ sp ∧ sp ≤ f 1 - 1)) len at_ wr fa om ((([] : List Int).length : Int)) h)
      have q0 : ([] : List Int).length ≤ 0 := Nat.le_refl 0
      refine js_aload_n 0 dX3_tellSpire_39 rfl ?_
      refine js_iload_n 1 dX3_tellSpire_40 rfl ?_
      refine eX3_305 rfl dX3_tellSpire_41 p3_0 (com_sn hA ⟨p3_0, p3_1, p3_2, p3_3, p3_4, p3_5, p3_6, p3_7, p3_8, p3_9, p3_10, p3_11⟩ (by omega) (by omega)) (Nat.le_of_ble_eq_true rfl) (Nat.le_of_ble_eq_true rfl) ?_
      rw [zH_fr (fun q hq => (zH_n hq))]
      obtain ⟨p5_0, p5_1, p5_2, p5_3, p5_4, p5_5, p5_6, p5_7, p5_8, p5_9, p5_10, p5_11⟩ := zH_Mc (h := h) (f := f) (bef := bef) (asd := asd) (svd := svd) (pas := pas) (rf := rf) (it := it) (wt := wt) (tx := tx) (od := od) (ln := zwl ln 0 ([] ++ zdig sp)) (isS := isS) (pm := pm) (th := zt1 (0 ≤ sp ∧ sp ≤ f 1 - 1)) (len := len) (at_ := at_) (wr := wr) (fa := fa) (om := om) (lm := (([] ++ zdig sp).length : Int)) hA
      show js_ok ρ mX3_tellSpire _ 4 0 0 44 [(0, .ref (A 0)), (1, .int (jI sp))] [] (zH A f bef asd svd pas rf it wt tx od (zwl ln 0 ([] ++ zdig sp)) isS pm (zt1 (0 ≤ sp ∧ sp ≤ f 1 - 1)) len at_ wr fa om ((([] ++ zdig sp).length : Int)) h)
      have ql4 := zl_n (v := sp) q0
      refine js_aload_n 0 dX3_tellSpire_44 rfl ?_
      refine js_bipush dX3_tellSpire_45 rfl ?_
      refine eX3_308 rfl dX3_tellSpire_47 p5_0 (com_says hA ⟨p5_0, p5_1, p5_2, p5_3, p5_4, p5_5, p5_6, p5_7, p5_8, p5_9, p5_10, p5_11⟩ (by omega) (by omega)) (Nat.le_of_ble_eq_true rfl) (Nat.le_of_ble_eq_true rfl) ?_
      rw [zH_fr (fun q hq => (zH_n hq))]
      obtain ⟨p7_0, p7_1, p7_2, p7_3, p7_4, p7_5, p7_6, p7_7, p7_8, p7_9, p7_10, p7_11⟩ := zH_Mc (h := h) (f := f) (bef := bef) (asd := asd) (svd := svd) (pas := pas) (rf := rf) (it := it) (wt := wt) (tx := tx) (od := od) (ln := zwl ln 0 (([] ++ zdig sp) ++ [64])) (isS := isS) (pm := pm) (th := zt1 (0 ≤ sp ∧ sp ≤ f 1 - 1)) (len := len) (at_ := at_) (wr := wr) (fa := fa) (om := om) (lm := ((([] ++ zdig sp) ++ [64]).length : Int)) hA
      show js_ok ρ mX3_tellSpire _ 4 0 0 50 [(0, .ref (A 0)), (1, .int (jI sp))] [] (zH A f bef asd svd pas rf it wt tx od (zwl ln 0 (([] ++ zdig sp) ++ [64])) isS pm (zt1 (0 ≤ sp ∧ sp ≤ f 1 - 1)) len at_ wr fa om (((([] ++ zdig sp) ++ [64]).length : Int)) h)
      have ql6 := zl_1 (c := 64) ql4
      refine js_aload_n 0 dX3_tellSpire_50 rfl ?_
      refine js_aload_n 0 dX3_tellSpire_51 rfl ?_
      refine gX3_9 rfl dX3_tellSpire_52 p7_0 rfl ?_
      refine js_bipush dX3_tellSpire_55 rfl ?_
      refine js_iconst dX3_tellSpire_57 ?_
      refine js_iload_n 1 dX3_tellSpire_58 rfl ?_
      refine js_imul dX3_tellSpire_59 ?_
      refine js_iadd dX3_tellSpire_60 ?_
      refine js_iaload dX3_tellSpire_61 p7_1 (by omega) ?_
      refine eX3_305 rfl dX3_tellSpire_62 p7_0 (com_sn hA ⟨p7_0, p7_1, p7_2, p7_3, p7_4, p7_5, p7_6, p7_7, p7_8, p7_9, p7_10, p7_11⟩ (by omega) (by omega)) (Nat.le_of_ble_eq_true rfl) (Nat.le_of_ble_eq_true rfl) ?_
      rw [zH_fr (fun q hq => (zH_n hq))]
      obtain ⟨p9_0, p9_1, p9_2, p9_3, p9_4, p9_5, p9_6, p9_7, p9_8, p9_9, p9_10, p9_11⟩ := zH_Mc (h := h) (f := f) (bef := bef) (asd := asd) (svd := svd) (pas := pas) (rf := rf) (it := it) (wt := wt) (tx := tx) (od := od) (ln := zwl ln 0 ((([] ++ zdig sp) ++ [64]) ++ zdig (f (67 + (4 * sp))))) (isS := isS) (pm := pm) (th := zt1 (0 ≤ sp ∧ sp ≤ f 1 - 1)) (len := len) (at_ := at_) (wr := wr) (fa := fa) (om := om) (lm := (((([] ++ zdig sp) ++ [64]) ++ zdig (f (67 + (4 * sp)))).length : Int)) hA
      show js_ok ρ mX3_tellSpire _ 4 0 0 65 [(0, .ref (A 0)), (1, .int (jI sp))] [] (zH A f bef asd svd pas rf it wt tx od (zwl ln 0 ((([] ++ zdig sp) ++ [64]) ++ zdig (f (67 + (4 * sp))))) isS pm (zt1 (0 ≤ sp ∧ sp ≤ f 1 - 1)) len at_ wr fa om ((((([] ++ zdig sp) ++ [64]) ++ zdig (f (67 + (4 * sp)))).length : Int)) h)
      have ql8 := zl_n (v := (f (67 + (4 * sp)))) ql6
      refine js_aload_n 0 dX3_tellSpire_65 rfl ?_
      refine js_aload_n 0 dX3_tellSpire_66 rfl ?_
      refine gX3_9 rfl dX3_tellSpire_67 p9_0 rfl ?_
      refine js_bipush dX3_tellSpire_70 rfl ?_
      refine js_iconst dX3_tellSpire_72 ?_
      refine js_iload_n 1 dX3_tellSpire_73 rfl ?_
      refine js_imul dX3_tellSpire_74 ?_
      refine js_iadd dX3_tellSpire_75 ?_
      refine js_iconst dX3_tellSpire_76 ?_
      refine js_iadd dX3_tellSpire_77 ?_
      refine js_iaload dX3_tellSpire_78 p9_1 (by omega) ?_
      refine eX3_305 rfl dX3_tellSpire_79 p9_0 (com_sn hA ⟨p9_0, p9_1, p9_2, p9_3, p9_4, p9_5, p9_6, p9_7, p9_8, p9_9, p9_10, p9_11⟩ (by omega) (by omega)) (Nat.le_of_ble_eq_true rfl) (Nat.le_of_ble_eq_true rfl) ?_
      rw [zH_fr (fun q hq => (zH_n hq))]
      obtain ⟨p11_0, p11_1, p11_2, p11_3, p11_4, p11_5, p11_6, p11_7, p11_8, p11_9, p11_10, p11_11⟩ := zH_Mc (h := h) (f := f) (bef := bef) (asd := asd) (svd := svd) (pas := pas) (rf := rf) (it := it) (wt := wt) (tx := tx) (od := od) (ln := zwl ln 0 (((([] ++ zdig sp) ++ [64]) ++ zdig (f (67 + (4 * sp)))) ++ zdig (f ((67 + (4 * sp)) + 1)))) (isS := isS) (pm := pm) (th := zt1 (0 ≤ sp ∧ sp ≤ f 1 - 1)) (len := len) (at_ := at_) (wr := wr) (fa := fa) (om := om) (lm := ((((([] ++ zdig sp) ++ [64]) ++ zdig (f (67 + (4 * sp)))) ++ zdig (f ((67 + (4 * sp)) + 1))).length : Int)) hA
      show js_ok ρ mX3_tellSpire _ 4 0 0 82 [(0, .ref (A 0)), (1, .int (jI sp))] [] (zH A f bef asd svd pas rf it wt tx od (zwl ln 0 (((([] ++ zdig sp) ++ [64]) ++ zdig (f (67 + (4 * sp)))) ++ zdig (f ((67 + (4 * sp)) + 1)))) isS pm (zt1 (0 ≤ sp ∧ sp ≤ f 1 - 1)) len at_ wr fa om (((((([] ++ zdig sp) ++ [64]) ++ zdig (f (67 + (4 * sp)))) ++ zdig (f ((67 + (4 * sp)) + 1))).length : Int)) h)
      have ql10 := zl_n (v := (f ((67 + (4 * sp)) + 1))) ql8
      refine js_aload_n 0 dX3_tellSpire_82 rfl ?_
      obtain ⟨ka24, kb24, kx24, ky24, kv24, kh24, ki24⟩ := hK.2.2 24 "-nesw" rfl
      refine js_ldcwS 24 rfl kv24 dX3_tellSpire_83 ?_
      refine js_old (fun o12 => ?_)
      refine js_aload_n 0 dX3_tellSpire_86 rfl ?_
      refine gX3_9 rfl dX3_tellSpire_87 p11_0 rfl ?_
      refine js_bipush dX3_tellSpire_90 rfl ?_
      refine js_iconst dX3_tellSpire_92 ?_
      refine js_iload_n 1 dX3_tellSpire_93 rfl ?_
      refine js_imul dX3_tellSpire_94 ?_
      refine js_iadd dX3_tellSpire_95 ?_
      refine js_iconst dX3_tellSpire_96 ?_
      refine js_iadd dX3_tellSpire_97 ?_
      refine js_iaload dX3_tellSpire_98 p11_1 (by omega) ?_
      have rg13 := zwc_r (f ((67 + (4 * sp)) + 2))
      refine eX3_229 rfl dX3_tellSpire_99 (o12 _ _ kh24).2 (con_charAt hK.1 (o12 _ _ kh24).2 (o12 _ _ ki24).2 (by decide) hK.2.1 (by show 0 ≤ f ((67 + (4 * sp)) + 2) ∧ f ((67 + (4 * sp)) + 2) < 5; omega) rg13) (Nat.le_of_ble_eq_true rfl) (Nat.le_of_ble_eq_true rfl) ?_
      show js_ok ρ mX3_tellSpire _ 4 0 0 102 [(0, .ref (A 0)), (1, .int (jI sp))] [.int (jI (zwc (f ((67 + (4 * sp)) + 2)))), .ref (A 0)] (zH A f bef asd svd pas rf it wt tx od (zwl ln 0 (((([] ++ zdig sp) ++ [64]) ++ zdig (f (67 + (4 * sp)))) ++ zdig (f ((67 + (4 * sp)) + 1)))) isS pm (zt1 (0 ≤ sp ∧ sp ≤ f 1 - 1)) len at_ wr fa om (((((([] ++ zdig sp) ++ [64]) ++ zdig (f (67 + (4 * sp)))) ++ zdig (f ((67 + (4 * sp)) + 1))).length : Int)) h)
      refine eX3_308 rfl dX3_tellSpire_102 p11_0 (com_says hA ⟨p11_0, p11_1, p11_2, p11_3, p11_4, p11_5, p11_6, p11_7, p11_8, p11_9, p11_10, p11_11⟩ (by omega) (by omega)) (Nat.le_of_ble_eq_true rfl) (Nat.le_of_ble_eq_true rfl) ?_
      rw [zH_fr (fun q hq => (zH_n hq))]
      obtain ⟨p15_0, p15_1, p15_2, p15_3, p15_4, p15_5, p15_6, p15_7, p15_8, p15_9, p15_10, p15_11⟩ := zH_Mc (h := h) (f := f) (bef := bef) (asd := asd) (svd := svd) (pas := pas) (rf := rf) (it := it) (wt := wt) (tx := tx) (od := od) (ln := zwl ln 0 ((((([] ++ zdig sp) ++ [64]) ++ zdig (f (67 + (4 * sp)))) ++ zdig (f ((67 + (4 * sp)) + 1))) ++ [(zwc (f ((67 + (4 * sp)) + 2)))])) (isS := isS) (pm := pm) (th := zt1 (0 ≤ sp ∧ sp ≤ f 1 - 1)) (len := len) (at_ := at_) (wr := wr) (fa := fa) (om := om) (lm := (((((([] ++ zdig sp) ++ [64]) ++ zdig (f (67 + (4 * sp)))) ++ zdig (f ((67 + (4 * sp)) + 1))) ++ [(zwc (f ((67 + (4 * sp)) + 2)))]).length : Int)) hA
      show js_ok ρ mX3_tellSpire _ 4 0 0 105 [(0, .ref (A 0)), (1, .int (jI sp))] [] (zH A f bef asd svd pas rf it wt tx od (zwl ln 0 ((((([] ++ zdig sp) ++ [64]) ++ zdig (f (67 + (4 * sp)))) ++ zdig (f ((67 + (4 * sp)) + 1))) ++ [(zwc (f ((67 + (4 * sp)) + 2)))])) isS pm (zt1 (0 ≤ sp ∧ sp ≤ f 1 - 1)) len at_ wr fa om ((((((([] ++ zdig sp) ++ [64]) ++ zdig (f (67 + (4 * sp)))) ++ zdig (f ((67 + (4 * sp)) + 1))) ++ [(zwc (f ((67 + (4 * sp)) + 2)))]).length : Int)) h)
      have ql14 := zl_1 (c := (zwc (f ((67 + (4 * sp)) + 2)))) ql10
      refine js_old (fun o16 => ?_)
      refine js_aload_n 0 dX3_tellSpire_105 rfl ?_
      refine gX3_302 rfl dX3_tellSpire_106 p15_0 rfl ?_
      exact js_iret rfl rfl dX3_tellSpire_109 ⟨js_reti (by first | (rw [zv_p (by omega)]; done) | (rw [zv_n (by omega)]; done) | (rw [zv_n (by omega)]; rfl)), (by first | (simp only [zif_p (show 0 < (zt1 (0 ≤ sp ∧ sp ≤ f 1 - 1)) from by omega)]; done) | (simp only [zif_n (show ¬ 0 < (zt1 (0 ≤ sp ∧ sp ≤ f 1 - 1)) from by omega)]; done) | (simp only [zif_p (show 0 < (zt1 (0 ≤ sp ∧ sp ≤ f 1 - 1)) from by omega)]; exact (zH_eq hA p15_0 p15_1 p15_2 p15_3 p15_4 p15_5 p15_6 p15_7 p15_8 p15_9 p15_10 p15_11 (fun q hq => (zH_n hq)))) | (simp only [zif_n (show ¬ 0 < (zt1 (0 ≤ sp ∧ sp ≤ f 1 - 1)) from by omega)]; exact (zH_eq hA p15_0 p15_1 p15_2 p15_3 p15_4 p15_5 p15_6 p15_7 p15_8 p15_9 p15_10 p15_11 (fun q hq => (zH_n hq)))))⟩
    · refine js_old (fun o17 => ?_)
      refine js_iconst dX3_tellSpire_32 ?_
      exact js_iret rfl rfl dX3_tellSpire_33 ⟨js_reti (by first | (rw [zv_p (by omega)]; done) | (rw [zv_n (by omega)]; done) | (rw [zv_n (by omega)]; rfl)), (by first | (simp only [zif_p (show 0 < (zt1 (0 ≤ sp ∧ sp ≤ f 1 - 1)) from by omega)]; done) | (simp only [zif_n (show ¬ 0 < (zt1 (0 ≤ sp ∧ sp ≤ f 1 - 1)) from by omega)]; done) | (simp only [zif_p (show 0 < (zt1 (0 ≤ sp ∧ sp ≤ f 1 - 1)) from by omega)]; exact (zH_eq hA js_up_s ((js_up_n (js_nek p1 p0 js_kAO)).trans p1) ((js_up_n (js_nek p2 p0 js_kAO)).trans p2) ((js_up_n (js_nek p3 p0 js_kAO)).trans p3) ((js_up_n (js_nek p4 p0 js_kAO)).trans p4) ((js_up_n (js_nek p5 p0 js_kAO)).trans p5) ((js_up_n (js_nek p6 p0 js_kAO)).trans p6) ((js_up_n (js_nek p7 p0 js_kAO)).trans p7) ((js_up_n (js_nek p8 p0 js_kAO)).trans p8) ((js_up_n (js_nek p9 p0 js_kAO)).trans p9) ((js_up_n (js_nek p10 p0 js_kAO)).trans p10) ((js_up_n (js_nek p11 p0 js_kAO)).trans p11) (fun q hq => ((js_up_n (hq 0 (by decide))).trans rfl)))) | (simp only [zif_n (show ¬ 0 < (zt1 (0 ≤ sp ∧ sp ≤ f 1 - 1)) from by omega)]; exact (zH_eq hA js_up_s ((js_up_n (js_nek p1 p0 js_kAO)).trans p1) ((js_up_n (js_nek p2 p0 js_kAO)).trans p2) ((js_up_n (js_nek p3 p0 js_kAO)).trans p3) ((js_up_n (js_nek p4 p0 js_kAO)).trans p4) ((js_up_n (js_nek p5 p0 js_kAO)).trans p5) ((js_up_n (js_nek p6 p0 js_kAO)).trans p6) ((js_up_n (js_nek p7 p0 js_kAO)).trans p7) ((js_up_n (js_nek p8 p0 js_kAO)).trans p8) ((js_up_n (js_nek p9 p0 js_kAO)).trans p9) ((js_up_n (js_nek p10 p0 js_kAO)).trans p10) ((js_up_n (js_nek p11 p0 js_kAO)).trans p11) (fun q hq => ((js_up_n (hq 0 (by decide))).trans rfl)))))⟩
  · refine js_old (fun o18 => ?_)
    refine js_iload_n 1 dX3_tellSpire_1 rfl ?_
    refine js_iconst dX3_tellSpire_2 ?_
    refine js_aload_n 0 dX3_tellSpire_3 rfl ?_
    refine gX3_9 rfl dX3_tellSpire_4 p0 rfl ?_
    refine js_iconst dX3_tellSpire_7 ?_
    refine js_iaload dX3_tellSpire_8 p1 (by omega) ?_
    refine js_iconst dX3_tellSpire_9 ?_
    refine js_isub dX3_tellSpire_10 ?_
    refine eX3_61 rfl dX3_tellSpire_11 (com_in (by omega) (by omega) (by omega)) (Nat.le_of_ble_eq_true rfl) (Nat.le_of_ble_eq_true rfl) ?_
    refine js_if_eqB (tgt := 21) dX3_tellSpire_14 (by decide) (fun c19 => ?_) (fun c19 => ?_)
    · refine js_iconst dX3_tellSpire_21 ?_
      exact J1 _ (by omega)
    · refine js_iconst dX3_tellSpire_17 ?_
      refine js_goto (tgt := 22) dX3_tellSpire_18 (by decide) ?_
      exact J1 _ (by omega)
theorem pm_partners {ρ : js_R} {h : js_H} {A : Nat → Nat} {f bef asd svd pas rf it wt tx od ln : Int → Int} {isS pm th len at_ wr fa om lm : Int} {T b : Int} (hA : zA A) (hp : zMc A f bef asd svd pas rf it wt tx od ln isS pm th len at_ wr fa om lm h) (hI : zI T f) (rb : -2147483648 ≤ b ∧ b < 2147483648) : js_Con ρ mX3_partners 3 0 0 [.ref (A 0), .int (jI b)] h (js_ret (some (.int (zvI (zt1 (0 ≤ b ∧ b ≤ f 0 - 1)) (zpar f b (f 0).toNat)))) (zH A f bef asd svd pas rf it wt tx od ln isS pm (zt1 (0 ≤ b ∧ b ≤ f 0 - 1)) len at_ wr fa om lm h)) := by
  refine js_body [(0, .ref (A 0)), (1, .int (jI b))] rfl (by decide) (Nat.le_of_ble_eq_true rfl) rfl ?_
  obtain ⟨p0, p1, p2, p3, p4, p5, p6, p7, p8, p9, p10, p11⟩ := hp
  have h01 := zI_01 hI
  have z0 := zt1_c (0 ≤ b ∧ b ≤ f 0 - 1)
  refine js_aload_n 0 dX3_partners_0 rfl ?_
  refine js_join 14 [(0, .ref (A 0)), (1, .int (jI b))] [.ref (A 0)] h (zt1 (0 ≤ b ∧ b ≤ f 0 - 1)) (fun z hz => ?_) (fun J1 => ?_)
  · subst hz
    refine pX3_49 rfl dX3_partners_14 p0 (Nat.le_of_ble_eq_true rfl) rfl rfl ?_
    show js_ok ρ mX3_partners _ 3 0 0 17 [(0, .ref (A 0)), (1, .int (jI b))] [] (js_up h (A 0) (js_ob true 2 [.ref (A 1), .ref (A 2), .ref (A 3), .ref (A 4), .int (jI isS), .ref (A 5), .int (jI pm), .int (jI (zt1 (0 ≤ b ∧ b ≤ f 0 - 1))), .ref (A 6), .ref (A 7), .ref (A 8), .ref (A 9), .int (jI len), .int (jI at_), .int (jI wr), .int (jI fa), .ref (A 10), .int (jI om), .ref (A 11), .int (jI lm)]))
    refine js_iconst dX3_partners_17 ?_
    refine js_istore_n (L' := [(2, .int (jI 0)), (0, .ref (A 0)), (1, .int (jI b))]) dX3_partners_18 (by decide) rfl ?_
    refine js_iconst dX3_partners_19 ?_
    refine js_istore_n (L' := [(3, .int (jI 0)), (2, .int (jI 0)), (0, .ref (A 0)), (1, .int (jI b))]) dX3_partners_20 (by decide) rfl ?_
    refine js_sub (L' := [(0, .ref (A 0)), (1, .int (jI b)), (2, .int (jI 0)), (3, .int (jI 0))]) [2, 3, 1, 0] rfl ?_
    refine js_loop (σ := Nat) (fun k => (k : Int) ≤ f 0 ∧ (0 < k → zt1 (0 ≤ b ∧ b ≤ f 0 - 1) = 0)) (fun k => (f 0).toNat - k) (fun k => 0) (fun k => 0) 21 (fun k => [(0, .ref (A 0)), (1, .int (jI b)), (2, .int (zpar f b k)), (3, .int (jI ((k : Int))))]) (fun k => []) (fun k => (js_up h (A 0) (js_ob true 2 [.ref (A 1), .ref (A 2), .ref (A 3), .ref (A 4), .int (jI isS), .ref (A 5), .int (jI pm), .int (jI (zt1 (0 ≤ b ∧ b ≤ f 0 - 1))), .ref (A 6), .ref (A 7), .ref (A 8), .ref (A 9), .int (jI len), .int (jI at_), .int (jI wr), .int (jI fa), .ref (A 10), .int (jI om), .ref (A 11), .int (jI lm)]))) (fun k hk IHk => ?_) 0 ⟨h01.1.1, fun z => absurd z (Nat.lt_irrefl 0)⟩
    show js_ok ρ mX3_partners _ 3 0 0 21 [(0, .ref (A 0)), (1, .int (jI b)), (2, .int (zpar f b k)), (3, .int (jI ((k : Int))))] [] (js_up h (A 0) (js_ob true 2 [.ref (A 1), .ref (A 2), .ref (A 3), .ref (A 4), .int (jI isS), .ref (A 5), .int (jI pm), .int (jI (zt1 (0 ≤ b ∧ b ≤ f 0 - 1))), .ref (A 6), .ref (A 7), .ref (A 8), .ref (A 9), .int (jI len), .int (jI at_), .int (jI wr), .int (jI fa), .ref (A 10), .int (jI om), .ref (A 11), .int (jI lm)]))
    obtain ⟨hk, hkt⟩ := hk
    refine js_iload_n 3 dX3_partners_21 rfl ?_
    refine js_aload_n 0 dX3_partners_22 rfl ?_
    refine gX3_9 rfl dX3_partners_23 js_up_s rfl ?_
    refine js_iconst dX3_partners_26 ?_
    refine js_iaload dX3_partners_27 ((js_up_n (js_nek p1 p0 js_kAO)).trans p1) (by omega) ?_
    refine js_icmp_ge (tgt := 104) dX3_partners_28 (by decide) (by omega) (fun c3 => ?_) (fun c3 => ?_)
    · refine js_iload_n 2 dX3_partners_104 rfl ?_
      exact js_iret rfl rfl dX3_partners_105 ⟨js_retI (by rcases z0 with z | z <;> first | (rw [zvI_p (by omega)]; rw [show k = 0 by omega]; rfl) | (rw [zvI_n (by omega), show (f 0).toNat = k by omega])), (zH_eq hA js_up_s ((js_up_n (js_nek p1 p0 js_kAO)).trans p1) ((js_up_n (js_nek p2 p0 js_kAO)).trans p2) ((js_up_n (js_nek p3 p0 js_kAO)).trans p3) ((js_up_n (js_nek p4 p0 js_kAO)).trans p4) ((js_up_n (js_nek p5 p0 js_kAO)).trans p5) ((js_up_n (js_nek p6 p0 js_kAO)).trans p6) ((js_up_n (js_nek p7 p0 js_kAO)).trans p7) ((js_up_n (js_nek p8 p0 js_kAO)).trans p8) ((js_up_n (js_nek p9 p0 js_kAO)).trans p9) ((js_up_n (js_nek p10 p0 js_kAO)).trans p10) ((js_up_n (js_nek p11 p0 js_kAO)).trans p11) (fun q hq => ((js_up_n (hq 0 (by decide))).trans rfl)))⟩
    · refine js_aload_n 0 dX3_partners_31 rfl ?_
      refine gX3_49 rfl dX3_partners_32 js_up_s rfl ?_
      refine js_if_ne (tgt := 104) dX3_partners_35 (by decide) (by omega) (fun c4 => ?_) (fun c4 => ?_)
      · refine js_iload_n 2 dX3_partners_104 rfl ?_
        exact js_iret rfl rfl dX3_partners_105 ⟨js_retI (by rcases z0 with z | z <;> first | (rw [zvI_p (by omega)]; rw [show k = 0 by omega]; rfl) | (rw [zvI_n (by omega), show (f 0).toNat = k by omega])), (zH_eq hA js_up_s ((js_up_n (js_nek p1 p0 js_kAO)).trans p1) ((js_up_n (js_nek p2 p0 js_kAO)).trans p2) ((js_up_n (js_nek p3 p0 js_kAO)).trans p3) ((js_up_n (js_nek p4 p0 js_kAO)).trans p4) ((js_up_n (js_nek p5 p0 js_kAO)).trans p5) ((js_up_n (js_nek p6 p0 js_kAO)).trans p6) ((js_up_n (js_nek p7 p0 js_kAO)).trans p7) ((js_up_n (js_nek p8 p0 js_kAO)).trans p8) ((js_up_n (js_nek p9 p0 js_kAO)).trans p9) ((js_up_n (js_nek p10 p0 js_kAO)).trans p10) ((js_up_n (js_nek p11 p0 js_kAO)).trans p11) (fun q hq => ((js_up_n (hq 0 (by decide))).trans rfl)))⟩
      · have hb : 0 ≤ b ∧ b < f 0 := by omega
        have hB := zI_B hI hb.1 hb.2
        have hpb := zIB_p hB
        unfold zIB at hB
        have hK := zI_B hI (b := (k : Int)) (by omega) (by omega)
        have hpk := zIB_p hK
        unfold zIB at hK
        have hab := zabs_c (f (13 + 9 * (k : Int) + 2) - f (13 + 9 * b + 2))
        refine js_join 61 [(0, .ref (A 0)), (1, .int (jI b)), (2, .int (zpar f b k)), (3, .int (jI ((k : Int))))] [] (js_up h (A 0) (js_ob true 2 [.ref (A 1), .ref (A 2), .ref (A 3), .ref (A 4), .int (jI isS), .ref (A 5), .int (jI pm), .int (jI (zt1 (0 ≤ b ∧ b ≤ f 0 - 1))), .ref (A 6), .ref (A 7), .ref (A 8), .ref (A 9), .int (jI len), .int (jI at_), .int (jI wr), .int (jI fa), .ref (A 10), .int (jI om), .ref (A 11), .int (jI lm)])) (jb ((k : Int) ≠ b ∧ zpt f (k : Int) = zpt f b)) (fun z hz => ?_) (fun J5 => ?_)
        · subst hz
          refine js_istore (L' := [(4, .int (jI (jb ((k : Int) ≠ b ∧ zpt f (k : Int) = zpt f b)))), (0, .ref (A 0)), (1, .int (jI b)), (2, .int (zpar f b k)), (3, .int (jI ((k : Int))))]) dX3_partners_61 (by decide) rfl ?_
          refine js_iload_n 3 dX3_partners_63 rfl ?_
          have hjb : (jb ((k : Int) ≠ b ∧ zpt f (k : Int) = zpt f b) = 0 ∧ ¬ ((k : Int) ≠ b ∧ zpt f (k : Int) = zpt f b)) ∨ (jb ((k : Int) ≠ b ∧ zpt f (k : Int) = zpt f b) = 1 ∧ ((k : Int) ≠ b ∧ zpt f (k : Int) = zpt f b)) := by
            rcases jb_01 ((k : Int) ≠ b ∧ zpt f (k : Int) = zpt f b) with z | z
            · exact Or.inl ⟨z, jb_0 z⟩
            · exact Or.inr ⟨z, jb_1 z⟩
          refine js_cut (kc' := 0) (ks' := 0) 96 [(4, .int (jI (jb ((k : Int) ≠ b ∧ zpt f (k : Int) = zpt f b)))), (0, .ref (A 0)), (1, .int (jI b)), (2, .int (zpar f b k)), (3, .int (jI ((k : Int))))] [.int (if ((k : Int) ≠ b ∧ zpt f (k : Int) = zpt f b) ∧ zabs (f (13 + 9 * (k : Int) + 2) - f (13 + 9 * b + 2)) < 2 then jI 1 <<< (jI (k : Int) &&& 31) else jI 0), .int (zpar f b k)] (js_up h (A 0) (js_ob true 2 [.ref (A 1), .ref (A 2), .ref (A 3), .ref (A 4), .int (jI isS), .ref (A 5), .int (jI pm), .int (jI (zt1 (0 ≤ b ∧ b ≤ f 0 - 1))), .ref (A 6), .ref (A 7), .ref (A 8), .ref (A 9), .int (jI len), .int (jI at_), .int (jI wr), .int (jI fa), .ref (A 10), .int (jI om), .ref (A 11), .int (jI lm)])) ?_ (fun J6 => ?_)
          · refine js_ior dX3_partners_96 ?_
            refine js_istore_n (L' := [(2, .int ((zpar f b k) ||| (if ((k : Int) ≠ b ∧ zpt f (k : Int) = zpt f b) ∧ zabs (f (13 + 9 * (k : Int) + 2) - f (13 + 9 * b + 2)) < 2 then jI 1 <<< (jI (k : Int) &&& 31) else jI 0))), (4, .int (jI (jb ((k : Int) ≠ b ∧ zpt f (k : Int) = zpt f b)))), (0, .ref (A 0)), (1, .int (jI b)), (3, .int (jI ((k : Int))))]) dX3_partners_97 (by decide) rfl ?_
            refine js_iinc (L' := [(3, .int (jI (((k : Int)) + 1))), (2, .int ((zpar f b k) ||| (if ((k : Int) ≠ b ∧ zpt f (k : Int) = zpt f b) ∧ zabs (f (13 + 9 * (k : Int) + 2) - f (13 + 9 * b + 2)) < 2 then jI 1 <<< (jI (k : Int) &&& 31) else jI 0))), (4, .int (jI (jb ((k : Int) ≠ b ∧ zpt f (k : Int) = zpt f b)))), (0, .ref (A 0)), (1, .int (jI b))]) 4 dX3_partners_98 rfl (by decide) rfl ?_
            refine js_goto (tgt := 21) dX3_partners_101 (by decide) ?_
            refine js_sub (L' := [(0, .ref (A 0)), (1, .int (jI b)), (2, .int ((zpar f b k) ||| (if ((k : Int) ≠ b ∧ zpt f (k : Int) = zpt f b) ∧ zabs (f (13 + 9 * (k : Int) + 2) - f (13 + 9 * b + 2)) < 2 then jI 1 <<< (jI (k : Int) &&& 31) else jI 0))), (3, .int (jI (((k : Int)) + 1)))]) [3, 4, 1, 0] rfl ?_
            exact IHk (k + 1) ⟨by omega, fun _ => by omega⟩ (by omega)
          · refine js_iload 0 dX3_partners_64 rfl ?_
            refine js_if_eq (tgt := 95) dX3_partners_66 (by decide) (by omega) (fun c7 => ?_) (fun c7 => ?_)
            · refine js_iconst dX3_partners_95 ?_
              first | (rw [if_pos (show ((k : Int) ≠ b ∧ zpt f (k : Int) = zpt f b) ∧ zabs (f (13 + 9 * (k : Int) + 2) - f (13 + 9 * b + 2)) < 2 from by omega)] at J6; exact J6) | (rw [if_neg (show ¬ (((k : Int) ≠ b ∧ zpt f (k : Int) = zpt f b) ∧ zabs (f (13 + 9 * (k : Int) + 2) - f (13 + 9 * b + 2)) < 2) from by omega)] at J6; exact J6)
            · refine js_aload_n 1 dX3_partners_69 rfl ?_
              refine js_iload_n 4 dX3_partners_70 rfl ?_
              refine js_iconst dX3_partners_71 ?_
              refine eX3_76 rfl dX3_partners_72 js_up_s (com_of js_up_s ((js_up_n (js_nek p1 p0 js_kAO)).trans p1) (by omega) (by omega)) (Nat.le_of_ble_eq_true rfl) (Nat.le_of_ble_eq_true rfl) ?_
              refine js_aload_n 1 dX3_partners_75 rfl ?_
              refine js_iload_n 2 dX3_partners_76 rfl ?_
              refine js_iconst dX3_partners_77 ?_
              refine eX3_76 rfl dX3_partners_78 js_up_s (com_of js_up_s ((js_up_n (js_nek p1 p0 js_kAO)).trans p1) (by omega) (by omega)) (Nat.le_of_ble_eq_true rfl) (Nat.le_of_ble_eq_true rfl) ?_
              refine js_isub dX3_partners_81 ?_
              refine js_mabs q2426 dX3_partners_82 (by omega) (Nat.le_of_ble_eq_true rfl) (Nat.le_of_ble_eq_true rfl) ?_
              refine js_iconst dX3_partners_85 ?_
              refine js_icmp_ge (tgt := 95) dX3_partners_86 (by decide) (by omega) (fun c8 => ?_) (fun c8 => ?_)
              · refine js_iconst dX3_partners_95 ?_
                first | (rw [if_pos (show ((k : Int) ≠ b ∧ zpt f (k : Int) = zpt f b) ∧ zabs (f (13 + 9 * (k : Int) + 2) - f (13 + 9 * b + 2)) < 2 from by omega)] at J6; exact J6) | (rw [if_neg (show ¬ (((k : Int) ≠ b ∧ zpt f (k : Int) = zpt f b) ∧ zabs (f (13 + 9 * (k : Int) + 2) - f (13 + 9 * b + 2)) < 2) from by omega)] at J6; exact J6)
              · refine js_iconst dX3_partners_89 ?_
                refine js_iload_n 4 dX3_partners_90 rfl ?_
                refine js_ishl dX3_partners_91 ?_
                refine js_goto (tgt := 96) dX3_partners_92 (by decide) ?_
                first | (rw [if_pos (show ((k : Int) ≠ b ∧ zpt f (k : Int) = zpt f b) ∧ zabs (f (13 + 9 * (k : Int) + 2) - f (13 + 9 * b + 2)) < 2 from by omega)] at J6; exact J6) | (rw [if_neg (show ¬ (((k : Int) ≠ b ∧ zpt f (k : Int) = zpt f b) ∧ zabs (f (13 + 9 * (k : Int) + 2) - f (13 + 9 * b + 2)) < 2) from by omega)] at J6; exact J6)
        · refine js_iload_n 3 dX3_partners_38 rfl ?_
          refine js_iload_n 1 dX3_partners_39 rfl ?_
          refine js_icmp_eq (tgt := 60) dX3_partners_40 (by decide) (by omega) (fun c9 => ?_) (fun c9 => ?_)
          · refine js_iconst dX3_partners_60 ?_
            exact J5 _ (by first | exact (jb_t (by omega)).symm | exact (jb_f (by omega)).symm)
          · refine js_aload_n 0 dX3_partners_43 rfl ?_
            refine js_iload_n 3 dX3_partners_44 rfl ?_
            refine eX3_120 rfl dX3_partners_45 js_up_s (com_pointOf js_up_s ((js_up_n (js_nek p1 p0 js_kAO)).trans p1) (by omega)) (Nat.le_of_ble_eq_true rfl) (Nat.le_of_ble_eq_true rfl) ?_
            refine js_aload_n 0 dX3_partners_48 rfl ?_
            refine js_iload_n 1 dX3_partners_49 rfl ?_
            refine eX3_120 rfl dX3_partners_50 js_up_s (com_pointOf js_up_s ((js_up_n (js_nek p1 p0 js_kAO)).trans p1) (by omega)) (Nat.le_of_ble_eq_true rfl) (Nat.le_of_ble_eq_true rfl) ?_
            refine js_icmp_ne (tgt := 60) dX3_partners_53 (by decide) (by omega) (fun c10 => ?_) (fun c10 => ?_)
            · refine js_iconst dX3_partners_60 ?_
              exact J5 _ (by first | exact (jb_t (by omega)).symm | exact (jb_f (by omega)).symm)
            · refine js_iconst dX3_partners_56 ?_
              refine js_goto (tgt := 61) dX3_partners_57 (by decide) ?_
              exact J5 _ (by first | exact (jb_t (by omega)).symm | exact (jb_f (by omega)).symm)
  · refine js_aload_n 0 dX3_partners_1 rfl ?_
    refine js_iload_n 1 dX3_partners_2 rfl ?_
    refine eX3_113 rfl dX3_partners_3 p0 (com_isBalloon p0 p1 (by omega) (by omega)) (Nat.le_of_ble_eq_true rfl) (Nat.le_of_ble_eq_true rfl) ?_
    refine js_if_eqB (tgt := 13) dX3_partners_6 (by decide) (fun c11 => ?_) (fun c11 => ?_)
    · refine js_iconst dX3_partners_13 ?_
      exact J1 _ (by omega)
    · refine js_iconst dX3_partners_9 ?_
      refine js_goto (tgt := 14) dX3_partners_10 (by decide) ?_
      exact J1 _ (by omega)
