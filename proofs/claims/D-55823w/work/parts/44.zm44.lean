set_option maxRecDepth 100000
/-! State.hourOf: next spire and gate (T), next spire (F), none (N); lands (L) or flies on (K) -/
theorem con_hourTL {ρ : js_R} {h : js_H} {st lb ls fa ca wa a es cap x : Nat} {w : Bool} {ms m n0 n1 n2 n3 n4 n5 p0 p1 p2 p3 p4 p5 p6 p7 sp sd rr : Int} {gs : Int → Option Nat} {ww ff cc : Int → Int} {np ht pt sl : Int} (hs : h st = some (js_ob true 1 [.ref lb, .ref ls, .ref fa, .ref ca, .ref wa, .int (jI n0), .int (jI n1), .int (jI n2), .int (jI n3), .int (jI n4), .int (jI n5)])) (ha : h a = some (js_ob true 4 [.int (jI p0), .int (jI p1), .int (jI p2), .int (jI p3), .int (jI p4), .int (jI p5), .int (jI p6), .int (jI p7)])) (hl : h ls = some (js_ob true 15 [.int (jI ms), .ref es, .int (jI m)])) (he : h es = some (js_aQ w 6 cap gs)) (rm : 0 ≤ m ∧ m ≤ cap ∧ cap ≤ 1000) (r4 : 0 ≤ p4 ∧ p4 ≤ 1000) (hw : h wa = some (js_aI true 0 6 ww)) (r0 : 0 ≤ p0 ∧ p0 < 100) (r1 : 0 ≤ p1 ∧ p1 ≤ 5) (rw_ : 0 ≤ ww p1 ∧ ww p1 ≤ 4) (r3 : 0 ≤ p3 ∧ p3 ≤ 1000) (r7 : -1000 ≤ p7 ∧ p7 ≤ 1000) (hf : h fa = some (js_aI true 0 100 ff)) (hc : h ca = some (js_aI true 0 100 cc)) (nfc : fa ≠ ca) (nwc : wa ≠ ca) (lt : p4 < m) (hx : gs p4 = some x) (h5 : h x = some (js_ob true 5 [.int (jI sp), .int (jI sd), .int (jI rr)])) (r5 : 0 ≤ sp ∧ sp < 100) (r6 : 0 ≤ sd ∧ sd ≤ 4) (hG : znext sp sd = znext p0 (ww p1)) (enp : np = znext p0 (ww p1)) (eht : ht = if max 0 (p3 - 1) = 0 then p1 - 1 else p1) (r5p : -1000000 ≤ p5 ∧ p5 ≤ 1000000) (ept : pt = if p7 = p1 then p5 + 10 + 5 else p5 + 10) (esl : sl = if p7 = p1 then 0 else p7) (hld : ht ≤ 0) : js_Con ρ mX2_hourOf 6 0 0 [.ref st, .ref a] h (js_ret (some (.int (jI 1))) (js_up (js_up (js_up (js_up (js_up h a (js_ob true 4 [.int (jI np), .int (jI ht), .int (jI p2), .int (jI (max 0 (p3 - 1))), .int (jI (p4 + 1)), .int (jI pt), .int (jI (p6 + ff np)), .int (jI sl)])) ca (js_aI true 0 100 (js_uz cc np (cc np + ff np)))) st (js_ob true 1 [.ref lb, .ref ls, .ref fa, .ref ca, .ref wa, .int (jI n0), .int (jI n1), .int (jI n2), .int (jI (n3 + ff np)), .int (jI n4), .int (jI n5)])) x (js_ob true 5 [.int (jI sp), .int (jI sd), .int (jI (rr + 1))])) st (js_ob true 1 [.ref lb, .ref ls, .ref fa, .ref ca, .ref wa, .int (jI n0), .int (jI (n1 + 1)), .int (jI (n2 + (if p7 = p1 then 1 else 0))), .int (jI (n3 + ff np)), .int (jI n4), .int (jI n5)]))) := by
  refine js_body [(0, .ref st), (1, .ref a)] rfl (by decide) (Nat.le_of_ble_eq_true rfl) rfl ?_
  have hn := znext_r (p := p0) (w := ww p1) r0
  have hh : ht = p1 - 1 ∨ ht = p1 := by rw [eht]; split <;> simp
  have hq : (p7 = p1 ∧ pt = p5 + 15) ∨ (p7 ≠ p1 ∧ pt = p5 + 10) := by
      rw [ept]
      split <;> omega
  refine js_aload_n 0 dX2_hourOf_0 rfl ?_
  refine js_aload_n 1 dX2_hourOf_1 rfl ?_
  refine eX2_102 rfl dX2_hourOf_2 hs (con_nextS hs ha hl he (by omega) (by omega) (by omega) hx h5) (Nat.le_of_ble_eq_true rfl) (Nat.le_of_ble_eq_true rfl) ?_
  refine js_astore_n (L' := [(2, .ref x), (0, .ref st), (1, .ref a)]) dX2_hourOf_5 (by decide) rfl ?_
  refine js_aload_n 2 dX2_hourOf_6 rfl ?_
  refine gX2_134 rfl dX2_hourOf_7 ha rfl ?_
  refine js_istore_n (L' := [(3, .int (jI p5)), (2, .ref x), (0, .ref st), (1, .ref a)]) dX2_hourOf_10 (by decide) rfl ?_
  refine js_aload_n 2 dX2_hourOf_11 rfl ?_
  refine js_aload_n 3 dX2_hourOf_12 rfl ?_
  refine eX2_137 rfl dX2_hourOf_13 hs (con_passS hs ha hl he (by omega) (by omega) hw (by omega) (by omega) (by omega) (by omega) (by omega) (by omega) hx h5 (by omega) (by omega)) (Nat.le_of_ble_eq_true rfl) (Nat.le_of_ble_eq_true rfl) ?_
  simp only [zg_t hG]
  rw [← enp, ← eht, ← ept, ← esl]
  show js_ok ρ mX2_hourOf _ 6 0 0 16 [(3, .int (jI p5)), (2, .ref x), (0, .ref st), (1, .ref a)] [] (js_up h a (js_ob true 4 [.int (jI np), .int (jI ht), .int (jI p2), .int (jI (max 0 (p3 - 1))), .int (jI (p4 + 1)), .int (jI pt), .int (jI p6), .int (jI sl)]))
  refine js_aload_n 3 dX2_hourOf_16 rfl ?_
  refine gX2_134 rfl dX2_hourOf_17 js_up_s rfl ?_
  refine js_iload_n 0 dX2_hourOf_20 rfl ?_
  refine js_isub dX2_hourOf_21 ?_
  refine js_istore (L' := [(4, .int (jI (pt - p5))), (3, .int (jI p5)), (2, .ref x), (0, .ref st), (1, .ref a)]) dX2_hourOf_22 (by decide) rfl ?_
  refine js_aload_n 4 dX2_hourOf_24 rfl ?_
  refine eX2_86 rfl dX2_hourOf_25 js_up_s (con_flies js_up_s (by omega)) (Nat.le_of_ble_eq_true rfl) (Nat.le_of_ble_eq_true rfl) ?_
  refine js_if_neB (tgt := 37) dX2_hourOf_28 (by decide) (fun c1 => ?_) (fun c1 => ?_)
  · exfalso; omega
  · refine js_aload_n 3 dX2_hourOf_31 rfl ?_
    refine js_aload_n 4 dX2_hourOf_32 rfl ?_
    refine eX2_141 rfl dX2_hourOf_33 ((js_up_n (js_nek hs ha (js_kOO (by decide)))).trans hs) (con_pays ((js_up_n (js_nek hs ha (js_kOO (by decide)))).trans hs) js_up_s ((js_up_n (js_nek hf ha js_kAO)).trans hf) ((js_up_n (js_nek hc ha js_kAO)).trans hc) nfc (by omega)) (Nat.le_of_ble_eq_true rfl) (Nat.le_of_ble_eq_true rfl) ?_
    rw [js_up_up]
    show js_ok ρ mX2_hourOf _ 6 0 0 36 [(4, .int (jI (pt - p5))), (3, .int (jI p5)), (2, .ref x), (0, .ref st), (1, .ref a)] [.int (jI (ff np))] (js_up (js_up (js_up h a (js_ob true 4 [.int (jI np), .int (jI ht), .int (jI p2), .int (jI (max 0 (p3 - 1))), .int (jI (p4 + 1)), .int (jI pt), .int (jI (p6 + ff np)), .int (jI sl)])) ca (js_aI true 0 100 (js_uz cc np (cc np + ff np)))) st (js_ob true 1 [.ref lb, .ref ls, .ref fa, .ref ca, .ref wa, .int (jI n0), .int (jI n1), .int (jI n2), .int (jI (n3 + ff np)), .int (jI n4), .int (jI n5)]))
    refine js_pop dX2_hourOf_36 rfl ?_
    refine js_iload 0 dX2_hourOf_37 rfl ?_
    refine js_if_eq (tgt := 46) dX2_hourOf_39 (by decide) (by omega) (fun c2 => ?_) (fun c2 => ?_)
    · exfalso; omega
    · refine js_aload_n 2 dX2_hourOf_42 rfl ?_
      refine js_ifnonnull (tgt := 48) dX2_hourOf_43 (by decide) ?_
      refine js_aload_n 2 dX2_hourOf_48 rfl ?_
      refine js_dup dX2_hourOf_49 rfl ?_
      refine gX2_145 rfl dX2_hourOf_50 ((js_up_n (Ne.symm (js_nek hs h5 (js_kOO (by decide))))).trans ((js_up_n (js_nek h5 hc js_kOA)).trans ((js_up_n (Ne.symm (js_nek ha h5 (js_kOO (by decide))))).trans h5))) rfl ?_
      refine js_iconst dX2_hourOf_53 ?_
      refine js_iadd dX2_hourOf_54 ?_
      refine pX2_145 rfl dX2_hourOf_55 ((js_up_n (Ne.symm (js_nek hs h5 (js_kOO (by decide))))).trans ((js_up_n (js_nek h5 hc js_kOA)).trans ((js_up_n (Ne.symm (js_nek ha h5 (js_kOO (by decide))))).trans h5))) (Nat.le_of_ble_eq_true rfl) rfl rfl ?_
      show js_ok ρ mX2_hourOf _ 6 0 0 58 [(4, .int (jI (pt - p5))), (3, .int (jI p5)), (2, .ref x), (0, .ref st), (1, .ref a)] [] (js_up (js_up (js_up (js_up h a (js_ob true 4 [.int (jI np), .int (jI ht), .int (jI p2), .int (jI (max 0 (p3 - 1))), .int (jI (p4 + 1)), .int (jI pt), .int (jI (p6 + ff np)), .int (jI sl)])) ca (js_aI true 0 100 (js_uz cc np (cc np + ff np)))) st (js_ob true 1 [.ref lb, .ref ls, .ref fa, .ref ca, .ref wa, .int (jI n0), .int (jI n1), .int (jI n2), .int (jI (n3 + ff np)), .int (jI n4), .int (jI n5)])) x (js_ob true 5 [.int (jI sp), .int (jI sd), .int (jI (rr + 1))]))
      refine js_aload_n 3 dX2_hourOf_58 rfl ?_
      refine js_dup dX2_hourOf_59 rfl ?_
      refine gX2_65 rfl dX2_hourOf_60 ((js_up_n (js_nek hs h5 (js_kOO (by decide)))).trans js_up_s) rfl ?_
      refine js_iconst dX2_hourOf_63 ?_
      refine js_iadd dX2_hourOf_64 ?_
      refine pX2_65 rfl dX2_hourOf_65 ((js_up_n (js_nek hs h5 (js_kOO (by decide)))).trans js_up_s) (Nat.le_of_ble_eq_true rfl) rfl rfl ?_
      show js_ok ρ mX2_hourOf _ 6 0 0 68 [(4, .int (jI (pt - p5))), (3, .int (jI p5)), (2, .ref x), (0, .ref st), (1, .ref a)] [] (js_up (js_up (js_up (js_up (js_up h a (js_ob true 4 [.int (jI np), .int (jI ht), .int (jI p2), .int (jI (max 0 (p3 - 1))), .int (jI (p4 + 1)), .int (jI pt), .int (jI (p6 + ff np)), .int (jI sl)])) ca (js_aI true 0 100 (js_uz cc np (cc np + ff np)))) st (js_ob true 1 [.ref lb, .ref ls, .ref fa, .ref ca, .ref wa, .int (jI n0), .int (jI n1), .int (jI n2), .int (jI (n3 + ff np)), .int (jI n4), .int (jI n5)])) x (js_ob true 5 [.int (jI sp), .int (jI sd), .int (jI (rr + 1))])) st (js_ob true 1 [.ref lb, .ref ls, .ref fa, .ref ca, .ref wa, .int (jI n0), .int (jI (n1 + 1)), .int (jI n2), .int (jI (n3 + ff np)), .int (jI n4), .int (jI n5)]))
      refine js_aload_n 3 dX2_hourOf_68 rfl ?_
      refine js_dup dX2_hourOf_69 rfl ?_
      refine gX2_68 rfl dX2_hourOf_70 js_up_s rfl ?_
      refine js_join 85 [(4, .int (jI (pt - p5))), (3, .int (jI p5)), (2, .ref x), (0, .ref st), (1, .ref a)] [.int (jI n2), .ref st] (js_up (js_up (js_up (js_up (js_up h a (js_ob true 4 [.int (jI np), .int (jI ht), .int (jI p2), .int (jI (max 0 (p3 - 1))), .int (jI (p4 + 1)), .int (jI pt), .int (jI (p6 + ff np)), .int (jI sl)])) ca (js_aI true 0 100 (js_uz cc np (cc np + ff np)))) st (js_ob true 1 [.ref lb, .ref ls, .ref fa, .ref ca, .ref wa, .int (jI n0), .int (jI n1), .int (jI n2), .int (jI (n3 + ff np)), .int (jI n4), .int (jI n5)])) x (js_ob true 5 [.int (jI sp), .int (jI sd), .int (jI (rr + 1))])) st (js_ob true 1 [.ref lb, .ref ls, .ref fa, .ref ca, .ref wa, .int (jI n0), .int (jI (n1 + 1)), .int (jI n2), .int (jI (n3 + ff np)), .int (jI n4), .int (jI n5)])) (if p7 = p1 then 1 else 0) (fun z hz => ?_) (fun J3 => ?_)
      · subst hz
        refine js_iadd dX2_hourOf_85 ?_
        refine pX2_68 rfl dX2_hourOf_86 js_up_s (Nat.le_of_ble_eq_true rfl) rfl rfl ?_
        rw [js_up_up]
        show js_ok ρ mX2_hourOf _ 6 0 0 89 [(4, .int (jI (pt - p5))), (3, .int (jI p5)), (2, .ref x), (0, .ref st), (1, .ref a)] [] (js_up (js_up (js_up (js_up (js_up h a (js_ob true 4 [.int (jI np), .int (jI ht), .int (jI p2), .int (jI (max 0 (p3 - 1))), .int (jI (p4 + 1)), .int (jI pt), .int (jI (p6 + ff np)), .int (jI sl)])) ca (js_aI true 0 100 (js_uz cc np (cc np + ff np)))) st (js_ob true 1 [.ref lb, .ref ls, .ref fa, .ref ca, .ref wa, .int (jI n0), .int (jI n1), .int (jI n2), .int (jI (n3 + ff np)), .int (jI n4), .int (jI n5)])) x (js_ob true 5 [.int (jI sp), .int (jI sd), .int (jI (rr + 1))])) st (js_ob true 1 [.ref lb, .ref ls, .ref fa, .ref ca, .ref wa, .int (jI n0), .int (jI (n1 + 1)), .int (jI (n2 + (if p7 = p1 then 1 else 0))), .int (jI (n3 + ff np)), .int (jI n4), .int (jI n5)]))
        refine js_iconst dX2_hourOf_89 ?_
        exact js_iret rfl rfl dX2_hourOf_90 ⟨rfl, rfl⟩
      · refine js_iload 0 dX2_hourOf_73 rfl ?_
        refine js_bipush dX2_hourOf_75 rfl ?_
        refine js_icmp_le (tgt := 84) dX2_hourOf_77 (by decide) (by omega) (fun c4 => ?_) (fun c4 => ?_)
        · refine js_iconst dX2_hourOf_84 ?_
          exact J3 _ (by (repeat' split) <;> omega)
        · refine js_iconst dX2_hourOf_80 ?_
          refine js_goto (tgt := 85) dX2_hourOf_81 (by decide) ?_
          exact J3 _ (by (repeat' split) <;> omega)
theorem con_hourTK {ρ : js_R} {h : js_H} {st lb ls fa ca wa a es cap x : Nat} {w : Bool} {ms m n0 n1 n2 n3 n4 n5 p0 p1 p2 p3 p4 p5 p6 p7 sp sd rr : Int} {gs : Int → Option Nat} {ww ff cc : Int → Int} {np ht pt sl : Int} (hs : h st = some (js_ob true 1 [.ref lb, .ref ls, .ref fa, .ref ca, .ref wa, .int (jI n0), .int (jI n1), .int (jI n2), .int (jI n3), .int (jI n4), .int (jI n5)])) (ha : h a = some (js_ob true 4 [.int (jI p0), .int (jI p1), .int (jI p2), .int (jI p3), .int (jI p4), .int (jI p5), .int (jI p6), .int (jI p7)])) (hl : h ls = some (js_ob true 15 [.int (jI ms), .ref es, .int (jI m)])) (he : h es = some (js_aQ w 6 cap gs)) (rm : 0 ≤ m ∧ m ≤ cap ∧ cap ≤ 1000) (r4 : 0 ≤ p4 ∧ p4 ≤ 1000) (hw : h wa = some (js_aI true 0 6 ww)) (r0 : 0 ≤ p0 ∧ p0 < 100) (r1 : 0 ≤ p1 ∧ p1 ≤ 5) (rw_ : 0 ≤ ww p1 ∧ ww p1 ≤ 4) (r3 : 0 ≤ p3 ∧ p3 ≤ 1000) (r7 : -1000 ≤ p7 ∧ p7 ≤ 1000) (hf : h fa = some (js_aI true 0 100 ff)) (hc : h ca = some (js_aI true 0 100 cc)) (nfc : fa ≠ ca) (nwc : wa ≠ ca) (lt : p4 < m) (hx : gs p4 = some x) (h5 : h x = some (js_ob true 5 [.int (jI sp), .int (jI sd), .int (jI rr)])) (r5 : 0 ≤ sp ∧ sp < 100) (r6 : 0 ≤ sd ∧ sd ≤ 4) (hG : znext sp sd = znext p0 (ww p1)) (enp : np = znext p0 (ww p1)) (eht : ht = if max 0 (p3 - 1) = 0 then p1 - 1 else p1) (r5p : -1000000 ≤ p5 ∧ p5 ≤ 1000000) (ept : pt = if p7 = p1 then p5 + 10 + 5 else p5 + 10) (esl : sl = if p7 = p1 then 0 else p7) (hld : 0 < ht) : js_Con ρ mX2_hourOf 6 0 0 [.ref st, .ref a] h (js_ret (some (.int (jI 1))) (js_up (js_up (js_up h a (js_ob true 4 [.int (jI np), .int (jI ht), .int (jI p2), .int (jI (max 0 (p3 - 1))), .int (jI (p4 + 1)), .int (jI pt), .int (jI p6), .int (jI sl)])) x (js_ob true 5 [.int (jI sp), .int (jI sd), .int (jI (rr + 1))])) st (js_ob true 1 [.ref lb, .ref ls, .ref fa, .ref ca, .ref wa, .int (jI n0), .int (jI (n1 + 1)), .int (jI (n2 + (if p7 = p1 then 1 else 0))), .int (jI n3), .int (jI n4), .int (jI n5)]))) := by
  refine js_body [(0, .ref st), (1, .ref a)] rfl (by decide) (Nat.le_of_ble_eq_true rfl) rfl ?_
  have hn := znext_r (p := p0) (w := ww p1) r0
  have hh : ht = p1 - 1 ∨ ht = p1 := by rw [eht]; split <;> simp
  have hq : (p7 = p1 ∧ pt = p5 + 15) ∨ (p7 ≠ p1 ∧ pt = p5 + 10) := by
      rw [ept]
      split <;> omega
  refine js_aload_n 0 dX2_hourOf_0 rfl ?_
  refine js_aload_n 1 dX2_hourOf_1 rfl ?_
  refine eX2_102 rfl dX2_hourOf_2 hs (con_nextS hs ha hl he (by omega) (by omega) (by omega) hx h5) (Nat.le_of_ble_eq_true rfl) (Nat.le_of_ble_eq_true rfl) ?_
  refine js_astore_n (L' := [(2, .ref x), (0, .ref st), (1, .ref a)]) dX2_hourOf_5 (by decide) rfl ?_
  refine js_aload_n 2 dX2_hourOf_6 rfl ?_
  refine gX2_134 rfl dX2_hourOf_7 ha rfl ?_
  refine js_istore_n (L' := [(3, .int (jI p5)), (2, .ref x), (0, .ref st), (1, .ref a)]) dX2_hourOf_10 (by decide) rfl ?_
  refine js_aload_n 2 dX2_hourOf_11 rfl ?_
  refine js_aload_n 3 dX2_hourOf_12 rfl ?_
  refine eX2_137 rfl dX2_hourOf_13 hs (con_passS hs ha hl he (by omega) (by omega) hw (by omega) (by omega) (by omega) (by omega) (by omega) (by omega) hx h5 (by omega) (by omega)) (Nat.le_of_ble_eq_true rfl) (Nat.le_of_ble_eq_true rfl) ?_
  simp only [zg_t hG]
  rw [← enp, ← eht, ← ept, ← esl]
  show js_ok ρ mX2_hourOf _ 6 0 0 16 [(3, .int (jI p5)), (2, .ref x), (0, .ref st), (1, .ref a)] [] (js_up h a (js_ob true 4 [.int (jI np), .int (jI ht), .int (jI p2), .int (jI (max 0 (p3 - 1))), .int (jI (p4 + 1)), .int (jI pt), .int (jI p6), .int (jI sl)]))
  refine js_aload_n 3 dX2_hourOf_16 rfl ?_
  refine gX2_134 rfl dX2_hourOf_17 js_up_s rfl ?_
  refine js_iload_n 0 dX2_hourOf_20 rfl ?_
  refine js_isub dX2_hourOf_21 ?_
  refine js_istore (L' := [(4, .int (jI (pt - p5))), (3, .int (jI p5)), (2, .ref x), (0, .ref st), (1, .ref a)]) dX2_hourOf_22 (by decide) rfl ?_
  refine js_aload_n 4 dX2_hourOf_24 rfl ?_
  refine eX2_86 rfl dX2_hourOf_25 js_up_s (con_flies js_up_s (by omega)) (Nat.le_of_ble_eq_true rfl) (Nat.le_of_ble_eq_true rfl) ?_
  refine js_if_neB (tgt := 37) dX2_hourOf_28 (by decide) (fun c1 => ?_) (fun c1 => ?_)
  · refine js_iload 0 dX2_hourOf_37 rfl ?_
    refine js_if_eq (tgt := 46) dX2_hourOf_39 (by decide) (by omega) (fun c2 => ?_) (fun c2 => ?_)
    · exfalso; omega
    · refine js_aload_n 2 dX2_hourOf_42 rfl ?_
      refine js_ifnonnull (tgt := 48) dX2_hourOf_43 (by decide) ?_
      refine js_aload_n 2 dX2_hourOf_48 rfl ?_
      refine js_dup dX2_hourOf_49 rfl ?_
      refine gX2_145 rfl dX2_hourOf_50 ((js_up_n (js_nek h5 ha (js_kOO (by decide)))).trans h5) rfl ?_
      refine js_iconst dX2_hourOf_53 ?_
      refine js_iadd dX2_hourOf_54 ?_
      refine pX2_145 rfl dX2_hourOf_55 ((js_up_n (js_nek h5 ha (js_kOO (by decide)))).trans h5) (Nat.le_of_ble_eq_true rfl) rfl rfl ?_
      show js_ok ρ mX2_hourOf _ 6 0 0 58 [(4, .int (jI (pt - p5))), (3, .int (jI p5)), (2, .ref x), (0, .ref st), (1, .ref a)] [] (js_up (js_up h a (js_ob true 4 [.int (jI np), .int (jI ht), .int (jI p2), .int (jI (max 0 (p3 - 1))), .int (jI (p4 + 1)), .int (jI pt), .int (jI p6), .int (jI sl)])) x (js_ob true 5 [.int (jI sp), .int (jI sd), .int (jI (rr + 1))]))
      refine js_aload_n 3 dX2_hourOf_58 rfl ?_
      refine js_dup dX2_hourOf_59 rfl ?_
      refine gX2_65 rfl dX2_hourOf_60 ((js_up_n (js_nek hs h5 (js_kOO (by decide)))).trans ((js_up_n (js_nek hs ha (js_kOO (by decide)))).trans hs)) rfl ?_
      refine js_iconst dX2_hourOf_63 ?_
      refine js_iadd dX2_hourOf_64 ?_
      refine pX2_65 rfl dX2_hourOf_65 ((js_up_n (js_nek hs h5 (js_kOO (by decide)))).trans ((js_up_n (js_nek hs ha (js_kOO (by decide)))).trans hs)) (Nat.le_of_ble_eq_true rfl) rfl rfl ?_
      show js_ok ρ mX2_hourOf _ 6 0 0 68 [(4, .int (jI (pt - p5))), (3, .int (jI p5)), (2, .ref x), (0, .ref st), (1, .ref a)] [] (js_up (js_up (js_up h a (js_ob true 4 [.int (jI np), .int (jI ht), .int (jI p2), .int (jI (max 0 (p3 - 1))), .int (jI (p4 + 1)), .int (jI pt), .int (jI p6), .int (jI sl)])) x (js_ob true 5 [.int (jI sp), .int (jI sd), .int (jI (rr + 1))])) st (js_ob true 1 [.ref lb, .ref ls, .ref fa, .ref ca, .ref wa, .int (jI n0), .int (jI (n1 + 1)), .int (jI n2), .int (jI n3), .int (jI n4), .int (jI n5)]))
      refine js_aload_n 3 dX2_hourOf_68 rfl ?_
      refine js_dup dX2_hourOf_69 rfl ?_
      refine gX2_68 rfl dX2_hourOf_70 js_up_s rfl ?_
      refine js_join 85 [(4, .int (jI (pt - p5))), (3, .int (jI p5)), (2, .ref x), (0, .ref st), (1, .ref a)] [.int (jI n2), .ref st] (js_up (js_up (js_up h a (js_ob true 4 [.int (jI np), .int (jI ht), .int (jI p2), .int (jI (max 0 (p3 - 1))), .int (jI (p4 + 1)), .int (jI pt), .int (jI p6), .int (jI sl)])) x (js_ob true 5 [.int (jI sp), .int (jI sd), .int (jI (rr + 1))])) st (js_ob true 1 [.ref lb, .ref ls, .ref fa, .ref ca, .ref wa, .int (jI n0), .int (jI (n1 + 1)), .int (jI n2), .int (jI n3), .int (jI n4), .int (jI n5)])) (if p7 = p1 then 1 else 0) (fun z hz => ?_) (fun J3 => ?_)
      · subst hz
        refine js_iadd dX2_hourOf_85 ?_
        refine pX2_68 rfl dX2_hourOf_86 js_up_s (Nat.le_of_ble_eq_true rfl) rfl rfl ?_
        rw [js_up_up]
        show js_ok ρ mX2_hourOf _ 6 0 0 89 [(4, .int (jI (pt - p5))), (3, .int (jI p5)), (2, .ref x), (0, .ref st), (1, .ref a)] [] (js_up (js_up (js_up h a (js_ob true 4 [.int (jI np), .int (jI ht), .int (jI p2), .int (jI (max 0 (p3 - 1))), .int (jI (p4 + 1)), .int (jI pt), .int (jI p6), .int (jI sl)])) x (js_ob true 5 [.int (jI sp), .int (jI sd), .int (jI (rr + 1))])) st (js_ob true 1 [.ref lb, .ref ls, .ref fa, .ref ca, .ref wa, .int (jI n0), .int (jI (n1 + 1)), .int (jI (n2 + (if p7 = p1 then 1 else 0))), .int (jI n3), .int (jI n4), .int (jI n5)]))
        refine js_iconst dX2_hourOf_89 ?_
        exact js_iret rfl rfl dX2_hourOf_90 ⟨rfl, rfl⟩
      · refine js_iload 0 dX2_hourOf_73 rfl ?_
        refine js_bipush dX2_hourOf_75 rfl ?_
        refine js_icmp_le (tgt := 84) dX2_hourOf_77 (by decide) (by omega) (fun c4 => ?_) (fun c4 => ?_)
        · refine js_iconst dX2_hourOf_84 ?_
          exact J3 _ (by (repeat' split) <;> omega)
        · refine js_iconst dX2_hourOf_80 ?_
          refine js_goto (tgt := 85) dX2_hourOf_81 (by decide) ?_
          exact J3 _ (by (repeat' split) <;> omega)
  · exfalso; omega
theorem con_hourFL {ρ : js_R} {h : js_H} {st lb ls fa ca wa a es cap x : Nat} {w w5 : Bool} {ms m n0 n1 n2 n3 n4 n5 p0 p1 p2 p3 p4 p5 p6 p7 sp sd rr : Int} {gs : Int → Option Nat} {ww ff cc : Int → Int} {np ht : Int} (hs : h st = some (js_ob true 1 [.ref lb, .ref ls, .ref fa, .ref ca, .ref wa, .int (jI n0), .int (jI n1), .int (jI n2), .int (jI n3), .int (jI n4), .int (jI n5)])) (ha : h a = some (js_ob true 4 [.int (jI p0), .int (jI p1), .int (jI p2), .int (jI p3), .int (jI p4), .int (jI p5), .int (jI p6), .int (jI p7)])) (hl : h ls = some (js_ob true 15 [.int (jI ms), .ref es, .int (jI m)])) (he : h es = some (js_aQ w 6 cap gs)) (rm : 0 ≤ m ∧ m ≤ cap ∧ cap ≤ 1000) (r4 : 0 ≤ p4 ∧ p4 ≤ 1000) (hw : h wa = some (js_aI true 0 6 ww)) (r0 : 0 ≤ p0 ∧ p0 < 100) (r1 : 0 ≤ p1 ∧ p1 ≤ 5) (rw_ : 0 ≤ ww p1 ∧ ww p1 ≤ 4) (r3 : 0 ≤ p3 ∧ p3 ≤ 1000) (r7 : -1000 ≤ p7 ∧ p7 ≤ 1000) (hf : h fa = some (js_aI true 0 100 ff)) (hc : h ca = some (js_aI true 0 100 cc)) (nfc : fa ≠ ca) (nwc : wa ≠ ca) (lt : p4 < m) (hx : gs p4 = some x) (h5 : h x = some (js_ob w5 5 [.int (jI sp), .int (jI sd), .int (jI rr)])) (r5 : 0 ≤ sp ∧ sp < 100) (r6 : 0 ≤ sd ∧ sd ≤ 4) (hG : ¬ (znext sp sd = znext p0 (ww p1))) (enp : np = znext p0 (ww p1)) (eht : ht = if max 0 (p3 - 1) = 0 then p1 - 1 else p1) (r5p : -1000000 ≤ p5 ∧ p5 ≤ 1000000) (hld : ht ≤ 0) : js_Con ρ mX2_hourOf 6 0 0 [.ref st, .ref a] h (js_ret (some (.int (jI 0))) (js_up (js_up (js_up h a (js_ob true 4 [.int (jI np), .int (jI ht), .int (jI p2), .int (jI (max 0 (p3 - 1))), .int (jI p4), .int (jI p5), .int (jI (p6 + ff np)), .int (jI p7)])) ca (js_aI true 0 100 (js_uz cc np (cc np + ff np)))) st (js_ob true 1 [.ref lb, .ref ls, .ref fa, .ref ca, .ref wa, .int (jI n0), .int (jI n1), .int (jI n2), .int (jI (n3 + ff np)), .int (jI n4), .int (jI n5)]))) := by
  refine js_body [(0, .ref st), (1, .ref a)] rfl (by decide) (Nat.le_of_ble_eq_true rfl) rfl ?_
  have hn := znext_r (p := p0) (w := ww p1) r0
  have hh : ht = p1 - 1 ∨ ht = p1 := by rw [eht]; split <;> simp
  refine js_aload_n 0 dX2_hourOf_0 rfl ?_
  refine js_aload_n 1 dX2_hourOf_1 rfl ?_
  refine eX2_102 rfl dX2_hourOf_2 hs (con_nextS hs ha hl he (by omega) (by omega) (by omega) hx h5) (Nat.le_of_ble_eq_true rfl) (Nat.le_of_ble_eq_true rfl) ?_
  refine js_astore_n (L' := [(2, .ref x), (0, .ref st), (1, .ref a)]) dX2_hourOf_5 (by decide) rfl ?_
  refine js_aload_n 2 dX2_hourOf_6 rfl ?_
  refine gX2_134 rfl dX2_hourOf_7 ha rfl ?_
  refine js_istore_n (L' := [(3, .int (jI p5)), (2, .ref x), (0, .ref st), (1, .ref a)]) dX2_hourOf_10 (by decide) rfl ?_
  refine js_aload_n 2 dX2_hourOf_11 rfl ?_
  refine js_aload_n 3 dX2_hourOf_12 rfl ?_
  refine eX2_137 rfl dX2_hourOf_13 hs (con_passS hs ha hl he (by omega) (by omega) hw (by omega) (by omega) (by omega) (by omega) (by omega) (by omega) hx h5 (by omega) (by omega)) (Nat.le_of_ble_eq_true rfl) (Nat.le_of_ble_eq_true rfl) ?_
  simp only [zg_f hG]
  rw [← enp, ← eht]
  show js_ok ρ mX2_hourOf _ 6 0 0 16 [(3, .int (jI p5)), (2, .ref x), (0, .ref st), (1, .ref a)] [] (js_up h a (js_ob true 4 [.int (jI np), .int (jI ht), .int (jI p2), .int (jI (max 0 (p3 - 1))), .int (jI p4), .int (jI p5), .int (jI p6), .int (jI p7)]))
  refine js_aload_n 3 dX2_hourOf_16 rfl ?_
  refine gX2_134 rfl dX2_hourOf_17 js_up_s rfl ?_
  refine js_iload_n 0 dX2_hourOf_20 rfl ?_
  refine js_isub dX2_hourOf_21 ?_
  refine js_istore (L' := [(4, .int (jI (p5 - p5))), (3, .int (jI p5)), (2, .ref x), (0, .ref st), (1, .ref a)]) dX2_hourOf_22 (by decide) rfl ?_
  refine js_aload_n 4 dX2_hourOf_24 rfl ?_
  refine eX2_86 rfl dX2_hourOf_25 js_up_s (con_flies js_up_s (by omega)) (Nat.le_of_ble_eq_true rfl) (Nat.le_of_ble_eq_true rfl) ?_
  refine js_if_neB (tgt := 37) dX2_hourOf_28 (by decide) (fun c1 => ?_) (fun c1 => ?_)
  · exfalso; omega
  · refine js_aload_n 3 dX2_hourOf_31 rfl ?_
    refine js_aload_n 4 dX2_hourOf_32 rfl ?_
    refine eX2_141 rfl dX2_hourOf_33 ((js_up_n (js_nek hs ha (js_kOO (by decide)))).trans hs) (con_pays ((js_up_n (js_nek hs ha (js_kOO (by decide)))).trans hs) js_up_s ((js_up_n (js_nek hf ha js_kAO)).trans hf) ((js_up_n (js_nek hc ha js_kAO)).trans hc) nfc (by omega)) (Nat.le_of_ble_eq_true rfl) (Nat.le_of_ble_eq_true rfl) ?_
    rw [js_up_up]
    show js_ok ρ mX2_hourOf _ 6 0 0 36 [(4, .int (jI (p5 - p5))), (3, .int (jI p5)), (2, .ref x), (0, .ref st), (1, .ref a)] [.int (jI (ff np))] (js_up (js_up (js_up h a (js_ob true 4 [.int (jI np), .int (jI ht), .int (jI p2), .int (jI (max 0 (p3 - 1))), .int (jI p4), .int (jI p5), .int (jI (p6 + ff np)), .int (jI p7)])) ca (js_aI true 0 100 (js_uz cc np (cc np + ff np)))) st (js_ob true 1 [.ref lb, .ref ls, .ref fa, .ref ca, .ref wa, .int (jI n0), .int (jI n1), .int (jI n2), .int (jI (n3 + ff np)), .int (jI n4), .int (jI n5)]))
    refine js_pop dX2_hourOf_36 rfl ?_
    refine js_iload 0 dX2_hourOf_37 rfl ?_
    refine js_if_eq (tgt := 46) dX2_hourOf_39 (by decide) (by omega) (fun c2 => ?_) (fun c2 => ?_)
    · refine js_iconst dX2_hourOf_46 ?_
      exact js_iret rfl rfl dX2_hourOf_47 ⟨rfl, rfl⟩
    · exfalso; first | omega | (revert c2; decide)
theorem con_hourFK {ρ : js_R} {h : js_H} {st lb ls fa ca wa a es cap x : Nat} {w w5 : Bool} {ms m n0 n1 n2 n3 n4 n5 p0 p1 p2 p3 p4 p5 p6 p7 sp sd rr : Int} {gs : Int → Option Nat} {ww ff cc : Int → Int} {np ht : Int} (hs : h st = some (js_ob true 1 [.ref lb, .ref ls, .ref fa, .ref ca, .ref wa, .int (jI n0), .int (jI n1), .int (jI n2), .int (jI n3), .int (jI n4), .int (jI n5)])) (ha : h a = some (js_ob true 4 [.int (jI p0), .int (jI p1), .int (jI p2), .int (jI p3), .int (jI p4), .int (jI p5), .int (jI p6), .int (jI p7)])) (hl : h ls = some (js_ob true 15 [.int (jI ms), .ref es, .int (jI m)])) (he : h es = some (js_aQ w 6 cap gs)) (rm : 0 ≤ m ∧ m ≤ cap ∧ cap ≤ 1000) (r4 : 0 ≤ p4 ∧ p4 ≤ 1000) (hw : h wa = some (js_aI true 0 6 ww)) (r0 : 0 ≤ p0 ∧ p0 < 100) (r1 : 0 ≤ p1 ∧ p1 ≤ 5) (rw_ : 0 ≤ ww p1 ∧ ww p1 ≤ 4) (r3 : 0 ≤ p3 ∧ p3 ≤ 1000) (r7 : -1000 ≤ p7 ∧ p7 ≤ 1000) (hf : h fa = some (js_aI true 0 100 ff)) (hc : h ca = some (js_aI true 0 100 cc)) (nfc : fa ≠ ca) (nwc : wa ≠ ca) (lt : p4 < m) (hx : gs p4 = some x) (h5 : h x = some (js_ob w5 5 [.int (jI sp), .int (jI sd), .int (jI rr)])) (r5 : 0 ≤ sp ∧ sp < 100) (r6 : 0 ≤ sd ∧ sd ≤ 4) (hG : ¬ (znext sp sd = znext p0 (ww p1))) (enp : np = znext p0 (ww p1)) (eht : ht = if max 0 (p3 - 1) = 0 then p1 - 1 else p1) (r5p : -1000000 ≤ p5 ∧ p5 ≤ 1000000) (hld : 0 < ht) : js_Con ρ mX2_hourOf 6 0 0 [.ref st, .ref a] h (js_ret (some (.int (jI 0))) (js_up h a (js_ob true 4 [.int (jI np), .int (jI ht), .int (jI p2), .int (jI (max 0 (p3 - 1))), .int (jI p4), .int (jI p5), .int (jI p6), .int (jI p7)]))) := by
  refine js_body [(0, .ref st), (1, .ref a)] rfl (by decide) (Nat.le_of_ble_eq_true rfl) rfl ?_
  have hn := znext_r (p := p0) (w := ww p1) r0
  have hh : ht = p1 - 1 ∨ ht = p1 := by rw [eht]; split <;> simp
  refine js_aload_n 0 dX2_hourOf_0 rfl ?_
  refine js_aload_n 1 dX2_hourOf_1 rfl ?_
  refine eX2_102 rfl dX2_hourOf_2 hs (con_nextS hs ha hl he (by omega) (by omega) (by omega) hx h5) (Nat.le_of_ble_eq_true rfl) (Nat.le_of_ble_eq_true rfl) ?_
  refine js_astore_n (L' := [(2, .ref x), (0, .ref st), (1, .ref a)]) dX2_hourOf_5 (by decide) rfl ?_
  refine js_aload_n 2 dX2_hourOf_6 rfl ?_
  refine gX2_134 rfl dX2_hourOf_7 ha rfl ?_
  refine js_istore_n (L' := [(3, .int (jI p5)), (2, .ref x), (0, .ref st), (1, .ref a)]) dX2_hourOf_10 (by decide) rfl ?_
  refine js_aload_n 2 dX2_hourOf_11 rfl ?_
  refine js_aload_n 3 dX2_hourOf_12 rfl ?_
  refine eX2_137 rfl dX2_hourOf_13 hs (con_passS hs ha hl he (by omega) (by omega) hw (by omega) (by omega) (by omega) (by omega) (by omega) (by omega) hx h5 (by omega) (by omega)) (Nat.le_of_ble_eq_true rfl) (Nat.le_of_ble_eq_true rfl) ?_
  simp only [zg_f hG]
  rw [← enp, ← eht]
  show js_ok ρ mX2_hourOf _ 6 0 0 16 [(3, .int (jI p5)), (2, .ref x), (0, .ref st), (1, .ref a)] [] (js_up h a (js_ob true 4 [.int (jI np), .int (jI ht), .int (jI p2), .int (jI (max 0 (p3 - 1))), .int (jI p4), .int (jI p5), .int (jI p6), .int (jI p7)]))
  refine js_aload_n 3 dX2_hourOf_16 rfl ?_
  refine gX2_134 rfl dX2_hourOf_17 js_up_s rfl ?_
  refine js_iload_n 0 dX2_hourOf_20 rfl ?_
  refine js_isub dX2_hourOf_21 ?_
  refine js_istore (L' := [(4, .int (jI (p5 - p5))), (3, .int (jI p5)), (2, .ref x), (0, .ref st), (1, .ref a)]) dX2_hourOf_22 (by decide) rfl ?_
  refine js_aload_n 4 dX2_hourOf_24 rfl ?_
  refine eX2_86 rfl dX2_hourOf_25 js_up_s (con_flies js_up_s (by omega)) (Nat.le_of_ble_eq_true rfl) (Nat.le_of_ble_eq_true rfl) ?_
  refine js_if_neB (tgt := 37) dX2_hourOf_28 (by decide) (fun c1 => ?_) (fun c1 => ?_)
  · refine js_iload 0 dX2_hourOf_37 rfl ?_
    refine js_if_eq (tgt := 46) dX2_hourOf_39 (by decide) (by omega) (fun c2 => ?_) (fun c2 => ?_)
    · refine js_iconst dX2_hourOf_46 ?_
      exact js_iret rfl rfl dX2_hourOf_47 ⟨rfl, rfl⟩
    · exfalso; first | omega | (revert c2; decide)
  · exfalso; omega
theorem con_hourNL {ρ : js_R} {h : js_H} {st lb ls fa ca wa a es cap : Nat} {w : Bool} {ms m n0 n1 n2 n3 n4 n5 p0 p1 p2 p3 p4 p5 p6 p7 : Int} {gs : Int → Option Nat} {ww ff cc : Int → Int} {np ht : Int} (hs : h st = some (js_ob true 1 [.ref lb, .ref ls, .ref fa, .ref ca, .ref wa, .int (jI n0), .int (jI n1), .int (jI n2), .int (jI n3), .int (jI n4), .int (jI n5)])) (ha : h a = some (js_ob true 4 [.int (jI p0), .int (jI p1), .int (jI p2), .int (jI p3), .int (jI p4), .int (jI p5), .int (jI p6), .int (jI p7)])) (hl : h ls = some (js_ob true 15 [.int (jI ms), .ref es, .int (jI m)])) (he : h es = some (js_aQ w 6 cap gs)) (rm : 0 ≤ m ∧ m ≤ cap ∧ cap ≤ 1000) (r4 : 0 ≤ p4 ∧ p4 ≤ 1000) (hw : h wa = some (js_aI true 0 6 ww)) (r0 : 0 ≤ p0 ∧ p0 < 100) (r1 : 0 ≤ p1 ∧ p1 ≤ 5) (rw_ : 0 ≤ ww p1 ∧ ww p1 ≤ 4) (r3 : 0 ≤ p3 ∧ p3 ≤ 1000) (r7 : -1000 ≤ p7 ∧ p7 ≤ 1000) (hf : h fa = some (js_aI true 0 100 ff)) (hc : h ca = some (js_aI true 0 100 cc)) (nfc : fa ≠ ca) (nwc : wa ≠ ca) (lt : m ≤ p4) (enp : np = znext p0 (ww p1)) (eht : ht = if max 0 (p3 - 1) = 0 then p1 - 1 else p1) (r5p : -1000000 ≤ p5 ∧ p5 ≤ 1000000) (hld : ht ≤ 0) : js_Con ρ mX2_hourOf 6 0 0 [.ref st, .ref a] h (js_ret (some (.int (jI 0))) (js_up (js_up (js_up h a (js_ob true 4 [.int (jI np), .int (jI ht), .int (jI p2), .int (jI (max 0 (p3 - 1))), .int (jI p4), .int (jI p5), .int (jI (p6 + ff np)), .int (jI p7)])) ca (js_aI true 0 100 (js_uz cc np (cc np + ff np)))) st (js_ob true 1 [.ref lb, .ref ls, .ref fa, .ref ca, .ref wa, .int (jI n0), .int (jI n1), .int (jI n2), .int (jI (n3 + ff np)), .int (jI n4), .int (jI n5)]))) := by
  refine js_body [(0, .ref st), (1, .ref a)] rfl (by decide) (Nat.le_of_ble_eq_true rfl) rfl ?_
  have hn := znext_r (p := p0) (w := ww p1) r0
  have hh : ht = p1 - 1 ∨ ht = p1 := by rw [eht]; split <;> simp
  refine js_aload_n 0 dX2_hourOf_0 rfl ?_
  refine js_aload_n 1 dX2_hourOf_1 rfl ?_
  refine eX2_102 rfl dX2_hourOf_2 hs (con_nextN hs ha hl he (by omega) (by omega) (by omega)) (Nat.le_of_ble_eq_true rfl) (Nat.le_of_ble_eq_true rfl) ?_
  refine js_astore_nN (L' := [(2, .null), (0, .ref st), (1, .ref a)]) dX2_hourOf_5 (by decide) rfl ?_
  refine js_aload_n 2 dX2_hourOf_6 rfl ?_
  refine gX2_134 rfl dX2_hourOf_7 ha rfl ?_
  refine js_istore_n (L' := [(3, .int (jI p5)), (2, .null), (0, .ref st), (1, .ref a)]) dX2_hourOf_10 (by decide) rfl ?_
  refine js_aload_n 2 dX2_hourOf_11 rfl ?_
  refine js_aload_n 3 dX2_hourOf_12 rfl ?_
  refine eX2_137 rfl dX2_hourOf_13 hs (con_passN hs ha hl he (by omega) (by omega) hw (by omega) (by omega) (by omega) (by omega) (by omega) (by omega)) (Nat.le_of_ble_eq_true rfl) (Nat.le_of_ble_eq_true rfl) ?_
  rw [← enp, ← eht]
  show js_ok ρ mX2_hourOf _ 6 0 0 16 [(3, .int (jI p5)), (2, .null), (0, .ref st), (1, .ref a)] [] (js_up h a (js_ob true 4 [.int (jI np), .int (jI ht), .int (jI p2), .int (jI (max 0 (p3 - 1))), .int (jI p4), .int (jI p5), .int (jI p6), .int (jI p7)]))
  refine js_aload_n 3 dX2_hourOf_16 rfl ?_
  refine gX2_134 rfl dX2_hourOf_17 js_up_s rfl ?_
  refine js_iload_n 0 dX2_hourOf_20 rfl ?_
  refine js_isub dX2_hourOf_21 ?_
  refine js_istore (L' := [(4, .int (jI (p5 - p5))), (3, .int (jI p5)), (2, .null), (0, .ref st), (1, .ref a)]) dX2_hourOf_22 (by decide) rfl ?_
  refine js_aload_n 4 dX2_hourOf_24 rfl ?_
  refine eX2_86 rfl dX2_hourOf_25 js_up_s (con_flies js_up_s (by omega)) (Nat.le_of_ble_eq_true rfl) (Nat.le_of_ble_eq_true rfl) ?_
  refine js_if_neB (tgt := 37) dX2_hourOf_28 (by decide) (fun c1 => ?_) (fun c1 => ?_)
  · exfalso; omega
  · refine js_aload_n 3 dX2_hourOf_31 rfl ?_
    refine js_aload_n 4 dX2_hourOf_32 rfl ?_
    refine eX2_141 rfl dX2_hourOf_33 ((js_up_n (js_nek hs ha (js_kOO (by decide)))).trans hs) (con_pays ((js_up_n (js_nek hs ha (js_kOO (by decide)))).trans hs) js_up_s ((js_up_n (js_nek hf ha js_kAO)).trans hf) ((js_up_n (js_nek hc ha js_kAO)).trans hc) nfc (by omega)) (Nat.le_of_ble_eq_true rfl) (Nat.le_of_ble_eq_true rfl) ?_
    rw [js_up_up]
    show js_ok ρ mX2_hourOf _ 6 0 0 36 [(4, .int (jI (p5 - p5))), (3, .int (jI p5)), (2, .null), (0, .ref st), (1, .ref a)] [.int (jI (ff np))] (js_up (js_up (js_up h a (js_ob true 4 [.int (jI np), .int (jI ht), .int (jI p2), .int (jI (max 0 (p3 - 1))), .int (jI p4), .int (jI p5), .int (jI (p6 + ff np)), .int (jI p7)])) ca (js_aI true 0 100 (js_uz cc np (cc np + ff np)))) st (js_ob true 1 [.ref lb, .ref ls, .ref fa, .ref ca, .ref wa, .int (jI n0), .int (jI n1), .int (jI n2), .int (jI (n3 + ff np)), .int (jI n4), .int (jI n5)]))
    refine js_pop dX2_hourOf_36 rfl ?_
    refine js_iload 0 dX2_hourOf_37 rfl ?_
    refine js_if_eq (tgt := 46) dX2_hourOf_39 (by decide) (by omega) (fun c2 => ?_) (fun c2 => ?_)
    · refine js_iconst dX2_hourOf_46 ?_
      exact js_iret rfl rfl dX2_hourOf_47 ⟨rfl, rfl⟩
    · exfalso; first | omega | (revert c2; decide)
theorem con_hourNK {ρ : js_R} {h : js_H} {st lb ls fa ca wa a es cap : Nat} {w : Bool} {ms m n0 n1 n2 n3 n4 n5 p0 p1 p2 p3 p4 p5 p6 p7 : Int} {gs : Int → Option Nat} {ww ff cc : Int → Int} {np ht : Int} (hs : h st = some (js_ob true 1 [.ref lb, .ref ls, .ref fa, .ref ca, .ref wa, .int (jI n0), .int (jI n1), .int (jI n2), .int (jI n3), .int (jI n4), .int (jI n5)])) (ha : h a = some (js_ob true 4 [.int (jI p0), .int (jI p1), .int (jI p2), .int (jI p3), .int (jI p4), .int (jI p5), .int (jI p6), .int (jI p7)])) (hl : h ls = some (js_ob true 15 [.int (jI ms), .ref es, .int (jI m)])) (he : h es = some (js_aQ w 6 cap gs)) (rm : 0 ≤ m ∧ m ≤ cap ∧ cap ≤ 1000) (r4 : 0 ≤ p4 ∧ p4 ≤ 1000) (hw : h wa = some (js_aI true 0 6 ww)) (r0 : 0 ≤ p0 ∧ p0 < 100) (r1 : 0 ≤ p1 ∧ p1 ≤ 5) (rw_ : 0 ≤ ww p1 ∧ ww p1 ≤ 4) (r3 : 0 ≤ p3 ∧ p3 ≤ 1000) (r7 : -1000 ≤ p7 ∧ p7 ≤ 1000) (hf : h fa = some (js_aI true 0 100 ff)) (hc : h ca = some (js_aI true 0 100 cc)) (nfc : fa ≠ ca) (nwc : wa ≠ ca) (lt : m ≤ p4) (enp : np = znext p0 (ww p1)) (eht : ht = if max 0 (p3 - 1) = 0 then p1 - 1 else p1) (r5p : -1000000 ≤ p5 ∧ p5 ≤ 1000000) (hld : 0 < ht) : js_Con ρ mX2_hourOf 6 0 0 [.ref st, .ref a] h (js_ret (some (.int (jI 0))) (js_up h a (js_ob true 4 [.int (jI np), .int (jI ht), .int (jI p2), .int (jI (max 0 (p3 - 1))), .int (jI p4), .int (jI p5), .int (jI p6), .int (jI p7)]))) := by
  refine js_body [(0, .ref st), (1, .ref a)] rfl (by decide) (Nat.le_of_ble_eq_true rfl) rfl ?_
  have hn := znext_r (p := p0) (w := ww p1) r0
  have hh : ht = p1 - 1 ∨ ht = p1 := by rw [eht]; split <;> simp
  refine js_aload_n 0 dX2_hourOf_0 rfl ?_
  refine js_aload_n 1 dX2_hourOf_1 rfl ?_
  refine eX2_102 rfl dX2_hourOf_2 hs (con_nextN hs ha hl he (by omega) (by omega) (by omega)) (Nat.le_of_ble_eq_true rfl) (Nat.le_of_ble_eq_true rfl) ?_
  refine js_astore_nN (L' := [(2, .null), (0, .ref st), (1, .ref a)]) dX2_hourOf_5 (by decide) rfl ?_
  refine js_aload_n 2 dX2_hourOf_6 rfl ?_
  refine gX2_134 rfl dX2_hourOf_7 ha rfl ?_
  refine js_istore_n (L' := [(3, .int (jI p5)), (2, .null), (0, .ref st), (1, .ref a)]) dX2_hourOf_10 (by decide) rfl ?_
  refine js_aload_n 2 dX2_hourOf_11 rfl ?_
  refine js_aload_n 3 dX2_hourOf_12 rfl ?_
  refine eX2_137 rfl dX2_hourOf_13 hs (con_passN hs ha hl he (by omega) (by omega) hw (by omega) (by omega) (by omega) (by omega) (by omega) (by omega)) (Nat.le_of_ble_eq_true rfl) (Nat.le_of_ble_eq_true rfl) ?_
  rw [← enp, ← eht]
  show js_ok ρ mX2_hourOf _ 6 0 0 16 [(3, .int (jI p5)), (2, .null), (0, .ref st), (1, .ref a)] [] (js_up h a (js_ob true 4 [.int (jI np), .int (jI ht), .int (jI p2), .int (jI (max 0 (p3 - 1))), .int (jI p4), .int (jI p5), .int (jI p6), .int (jI p7)]))
  refine js_aload_n 3 dX2_hourOf_16 rfl ?_
  refine gX2_134 rfl dX2_hourOf_17 js_up_s rfl ?_
  refine js_iload_n 0 dX2_hourOf_20 rfl ?_
  refine js_isub dX2_hourOf_21 ?_
  refine js_istore (L' := [(4, .int (jI (p5 - p5))), (3, .int (jI p5)), (2, .null), (0, .ref st), (1, .ref a)]) dX2_hourOf_22 (by decide) rfl ?_
  refine js_aload_n 4 dX2_hourOf_24 rfl ?_
  refine eX2_86 rfl dX2_hourOf_25 js_up_s (con_flies js_up_s (by omega)) (Nat.le_of_ble_eq_true rfl) (Nat.le_of_ble_eq_true rfl) ?_
  refine js_if_neB (tgt := 37) dX2_hourOf_28 (by decide) (fun c1 => ?_) (fun c1 => ?_)
  · refine js_iload 0 dX2_hourOf_37 rfl ?_
    refine js_if_eq (tgt := 46) dX2_hourOf_39 (by decide) (by omega) (fun c2 => ?_) (fun c2 => ?_)
    · refine js_iconst dX2_hourOf_46 ?_
      exact js_iret rfl rfl dX2_hourOf_47 ⟨rfl, rfl⟩
    · exfalso; first | omega | (revert c2; decide)
  · exfalso; omega
