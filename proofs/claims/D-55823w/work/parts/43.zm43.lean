set_option maxRecDepth 100000
/-! State: small methods -/
theorem con_pays {ρ : js_R} {h : js_H} {st lb ls fa ca wa a : Nat} {n0 n1 n2 n3 n4 n5 p0 p1 p2 p3 p4 p5 p6 p7 : Int} {ff cc : Int → Int} (hs : h st = some (js_ob true 1 [.ref lb, .ref ls, .ref fa, .ref ca, .ref wa, .int (jI n0), .int (jI n1), .int (jI n2), .int (jI n3), .int (jI n4), .int (jI n5)])) (ha : h a = some (js_ob true 4 [.int (jI p0), .int (jI p1), .int (jI p2), .int (jI p3), .int (jI p4), .int (jI p5), .int (jI p6), .int (jI p7)])) (hf : h fa = some (js_aI true 0 100 ff)) (hc : h ca = some (js_aI true 0 100 cc)) (nfc : fa ≠ ca) (rp : 0 ≤ p0 ∧ p0 < 100) : js_Con ρ mX2_pays 0 0 0 [.ref st, .ref a] h (js_ret (some (.int (jI (ff p0)))) (js_up (js_up (js_up h a (js_ob true 4 [.int (jI p0), .int (jI p1), .int (jI p2), .int (jI p3), .int (jI p4), .int (jI p5), .int (jI (p6 + ff p0)), .int (jI p7)])) ca (js_aI true 0 100 (js_uz cc p0 (cc p0 + ff p0)))) st (js_ob true 1 [.ref lb, .ref ls, .ref fa, .ref ca, .ref wa, .int (jI n0), .int (jI n1), .int (jI n2), .int (jI (n3 + ff p0)), .int (jI n4), .int (jI n5)]))) := by
  refine js_body [(0, .ref st), (1, .ref a)] rfl (by decide) (Nat.le_of_ble_eq_true rfl) rfl ?_
  refine js_aload_n 0 dX2_pays_0 rfl ?_
  refine gX2_21 rfl dX2_pays_1 hs rfl ?_
  refine js_aload_n 1 dX2_pays_4 rfl ?_
  refine gX2_109 rfl dX2_pays_5 ha rfl ?_
  refine js_iaload dX2_pays_8 hf (by omega) ?_
  refine js_istore_n (L' := [(2, .int (jI (ff p0))), (0, .ref st), (1, .ref a)]) dX2_pays_9 (by decide) rfl ?_
  refine js_aload_n 2 dX2_pays_10 rfl ?_
  refine js_dup dX2_pays_11 rfl ?_
  refine gX2_133 rfl dX2_pays_12 ha rfl ?_
  refine js_iload_n 0 dX2_pays_15 rfl ?_
  refine js_iadd dX2_pays_16 ?_
  refine pX2_133 rfl dX2_pays_17 ha (Nat.le_of_ble_eq_true rfl) rfl rfl ?_
  show js_ok ρ mX2_pays _ 0 0 0 20 [(2, .int (jI (ff p0))), (0, .ref st), (1, .ref a)] [] (js_up h a (js_ob true 4 [.int (jI p0), .int (jI p1), .int (jI p2), .int (jI p3), .int (jI p4), .int (jI p5), .int (jI (p6 + (ff p0))), .int (jI p7)]))
  refine js_aload_n 1 dX2_pays_20 rfl ?_
  refine gX2_25 rfl dX2_pays_21 ((js_up_n (js_nek hs ha (js_kOO (by decide)))).trans hs) rfl ?_
  refine js_aload_n 2 dX2_pays_24 rfl ?_
  refine gX2_109 rfl dX2_pays_25 js_up_s rfl ?_
  refine js_dup2 dX2_pays_28 rfl rfl ?_
  refine js_iaload dX2_pays_29 ((js_up_n (js_nek hc ha js_kAO)).trans hc) (by omega) ?_
  refine js_iload_n 0 dX2_pays_30 rfl ?_
  refine js_iadd dX2_pays_31 ?_
  refine js_iastore dX2_pays_32 ((js_up_n (js_nek hc ha js_kAO)).trans hc) (by omega) ?_
  show js_ok ρ mX2_pays _ 0 0 0 33 [(2, .int (jI (ff p0))), (0, .ref st), (1, .ref a)] [] (js_up (js_up h a (js_ob true 4 [.int (jI p0), .int (jI p1), .int (jI p2), .int (jI p3), .int (jI p4), .int (jI p5), .int (jI (p6 + (ff p0))), .int (jI p7)])) ca (js_aI true 0 100 (js_uz cc p0 ((cc p0) + (ff p0)))))
  refine js_aload_n 1 dX2_pays_33 rfl ?_
  refine js_dup dX2_pays_34 rfl ?_
  refine gX2_71 rfl dX2_pays_35 ((js_up_n (js_nek hs hc js_kOA)).trans ((js_up_n (js_nek hs ha (js_kOO (by decide)))).trans hs)) rfl ?_
  refine js_iload_n 0 dX2_pays_38 rfl ?_
  refine js_iadd dX2_pays_39 ?_
  refine pX2_71 rfl dX2_pays_40 ((js_up_n (js_nek hs hc js_kOA)).trans ((js_up_n (js_nek hs ha (js_kOO (by decide)))).trans hs)) (Nat.le_of_ble_eq_true rfl) rfl rfl ?_
  show js_ok ρ mX2_pays _ 0 0 0 43 [(2, .int (jI (ff p0))), (0, .ref st), (1, .ref a)] [] (js_up (js_up (js_up h a (js_ob true 4 [.int (jI p0), .int (jI p1), .int (jI p2), .int (jI p3), .int (jI p4), .int (jI p5), .int (jI (p6 + (ff p0))), .int (jI p7)])) ca (js_aI true 0 100 (js_uz cc p0 ((cc p0) + (ff p0))))) st (js_ob true 1 [.ref lb, .ref ls, .ref fa, .ref ca, .ref wa, .int (jI n0), .int (jI n1), .int (jI n2), .int (jI (n3 + (ff p0))), .int (jI n4), .int (jI n5)]))
  refine js_iload_n 0 dX2_pays_43 rfl ?_
  exact js_iret rfl rfl dX2_pays_44 ⟨rfl, rfl⟩
/-- one of two numbers, by a truth -/
noncomputable def zg {α : Type} (G : Prop) (x y : α) : α := @ite α G (Classical.propDecidable _) x y
theorem zg_t {α : Type} {G : Prop} {x y : α} (h : G) : zg G x y = x := if_pos h
theorem zg_f {α : Type} {G : Prop} {x y : α} (h : ¬ G) : zg G x y = y := if_neg h
theorem con_nextS {ρ : js_R} {h : js_H} {st lb ls fa ca wa a es cap x : Nat} {w w5 : Bool} {ms m n0 n1 n2 n3 n4 n5 p0 p1 p2 p3 p4 p5 p6 p7 sp sd rr : Int} {gs : Int → Option Nat} (hs : h st = some (js_ob true 1 [.ref lb, .ref ls, .ref fa, .ref ca, .ref wa, .int (jI n0), .int (jI n1), .int (jI n2), .int (jI n3), .int (jI n4), .int (jI n5)])) (ha : h a = some (js_ob true 4 [.int (jI p0), .int (jI p1), .int (jI p2), .int (jI p3), .int (jI p4), .int (jI p5), .int (jI p6), .int (jI p7)])) (hl : h ls = some (js_ob true 15 [.int (jI ms), .ref es, .int (jI m)])) (he : h es = some (js_aQ w 6 cap gs)) (rm : 0 ≤ m ∧ m ≤ cap ∧ cap ≤ 1000) (r4 : 0 ≤ p4 ∧ p4 ≤ 1000) (lt : p4 < m) (hx : gs p4 = some x) (h5 : h x = some (js_ob w5 5 [.int (jI sp), .int (jI sd), .int (jI rr)])) : js_Con ρ mX2_nextOf 3 0 0 [.ref st, .ref a] h (js_ret (some (.ref x)) h) := by
  refine js_body [(0, .ref st), (1, .ref a)] rfl (by decide) (Nat.le_of_ble_eq_true rfl) rfl ?_
  refine js_aload_n 1 dX2_nextOf_0 rfl ?_
  refine gX2_97 rfl dX2_nextOf_1 ha rfl ?_
  refine js_aload_n 0 dX2_nextOf_4 rfl ?_
  refine gX2_18 rfl dX2_nextOf_5 hs rfl ?_
  refine eX2_89 rfl dX2_nextOf_8 hl (con_lsize hl (by omega)) (Nat.le_of_ble_eq_true rfl) (Nat.le_of_ble_eq_true rfl) ?_
  refine js_icmp_ge (tgt := 31) dX2_nextOf_11 (by decide) (by omega) (fun c1 => ?_) (fun c1 => ?_)
  · exfalso; omega
  · refine js_aload_n 0 dX2_nextOf_14 rfl ?_
    refine gX2_18 rfl dX2_nextOf_15 hs rfl ?_
    refine js_aload_n 1 dX2_nextOf_18 rfl ?_
    refine gX2_97 rfl dX2_nextOf_19 ha rfl ?_
    refine eX2_98 rfl dX2_nextOf_22 hl (con_lget hl (by omega) he (by omega) (by omega)) (Nat.le_of_ble_eq_true rfl) (Nat.le_of_ble_eq_true rfl) ?_
    rw [hx]
    show js_ok ρ mX2_nextOf _ 3 0 0 25 [(0, .ref st), (1, .ref a)] [.ref x] h
    refine js_castS (r := (RX6, TX6, 3)) rfl q517 dX2_nextOf_25 h5 ?_
    refine js_goto (tgt := 32) dX2_nextOf_28 (by decide) ?_
    exact js_aret rfl (Or.inl ⟨_, rfl⟩) (Or.inr ⟨_, rfl⟩) dX2_nextOf_32 ⟨rfl, rfl⟩
theorem con_nextN {ρ : js_R} {h : js_H} {st lb ls fa ca wa a es cap : Nat} {w : Bool} {ms m n0 n1 n2 n3 n4 n5 p0 p1 p2 p3 p4 p5 p6 p7 : Int} {gs : Int → Option Nat} (hs : h st = some (js_ob true 1 [.ref lb, .ref ls, .ref fa, .ref ca, .ref wa, .int (jI n0), .int (jI n1), .int (jI n2), .int (jI n3), .int (jI n4), .int (jI n5)])) (ha : h a = some (js_ob true 4 [.int (jI p0), .int (jI p1), .int (jI p2), .int (jI p3), .int (jI p4), .int (jI p5), .int (jI p6), .int (jI p7)])) (hl : h ls = some (js_ob true 15 [.int (jI ms), .ref es, .int (jI m)])) (he : h es = some (js_aQ w 6 cap gs)) (rm : 0 ≤ m ∧ m ≤ cap ∧ cap ≤ 1000) (r4 : 0 ≤ p4 ∧ p4 ≤ 1000) (lt : m ≤ p4) : js_Con ρ mX2_nextOf 3 0 0 [.ref st, .ref a] h (js_ret (some .null) h) := by
  refine js_body [(0, .ref st), (1, .ref a)] rfl (by decide) (Nat.le_of_ble_eq_true rfl) rfl ?_
  refine js_aload_n 1 dX2_nextOf_0 rfl ?_
  refine gX2_97 rfl dX2_nextOf_1 ha rfl ?_
  refine js_aload_n 0 dX2_nextOf_4 rfl ?_
  refine gX2_18 rfl dX2_nextOf_5 hs rfl ?_
  refine eX2_89 rfl dX2_nextOf_8 hl (con_lsize hl (by omega)) (Nat.le_of_ble_eq_true rfl) (Nat.le_of_ble_eq_true rfl) ?_
  refine js_icmp_ge (tgt := 31) dX2_nextOf_11 (by decide) (by omega) (fun c1 => ?_) (fun c1 => ?_)
  · refine js_null dX2_nextOf_31 ?_
    exact js_aret rfl (Or.inl ⟨_, rfl⟩) (Or.inl rfl) dX2_nextOf_32 ⟨rfl, rfl⟩
  · exfalso; omega
theorem con_atgS {ρ : js_R} {h : js_H} {st lb ls fa ca wa a es cap x : Nat} {w w5 : Bool} {ms m n0 n1 n2 n3 n4 n5 p0 p1 p2 p3 p4 p5 p6 p7 sp sd rr : Int} {gs : Int → Option Nat} (hs : h st = some (js_ob true 1 [.ref lb, .ref ls, .ref fa, .ref ca, .ref wa, .int (jI n0), .int (jI n1), .int (jI n2), .int (jI n3), .int (jI n4), .int (jI n5)])) (ha : h a = some (js_ob true 4 [.int (jI p0), .int (jI p1), .int (jI p2), .int (jI p3), .int (jI p4), .int (jI p5), .int (jI p6), .int (jI p7)])) (hl : h ls = some (js_ob true 15 [.int (jI ms), .ref es, .int (jI m)])) (he : h es = some (js_aQ w 6 cap gs)) (rm : 0 ≤ m ∧ m ≤ cap ∧ cap ≤ 1000) (r4 : 0 ≤ p4 ∧ p4 ≤ 1000) (lt : p4 < m) (hx : gs p4 = some x) (h5 : h x = some (js_ob w5 5 [.int (jI sp), .int (jI sd), .int (jI rr)])) (r0 : 0 ≤ p0 ∧ p0 < 100) (r5 : 0 ≤ sp ∧ sp < 100) (r6 : 0 ≤ sd ∧ sd ≤ 4) : js_Con ρ mX2_isAtGate 4 0 0 [.ref st, .ref a] h (js_ret (some (.int (jI (jb (znext sp sd = p0))))) h) := by
  refine js_body [(0, .ref st), (1, .ref a)] rfl (by decide) (Nat.le_of_ble_eq_true rfl) rfl ?_
  have hz := znext_r (w := sd) r5
  refine js_aload_n 0 dX2_isAtGate_0 rfl ?_
  refine js_aload_n 1 dX2_isAtGate_1 rfl ?_
  refine eX2_102 rfl dX2_isAtGate_2 hs (con_nextS hs ha hl he (by omega) (by omega) (by omega) hx h5) (Nat.le_of_ble_eq_true rfl) (Nat.le_of_ble_eq_true rfl) ?_
  refine js_astore_n (L' := [(2, .ref x), (0, .ref st), (1, .ref a)]) dX2_isAtGate_5 (by decide) rfl ?_
  refine js_aload_n 0 dX2_isAtGate_6 rfl ?_
  refine js_ifnull dX2_isAtGate_7 ?_
  refine js_aload_n 0 dX2_isAtGate_10 rfl ?_
  refine eX2_106 rfl dX2_isAtGate_11 h5 (con_gate h5 (by omega) (by omega)) (Nat.le_of_ble_eq_true rfl) (Nat.le_of_ble_eq_true rfl) ?_
  refine js_aload_n 2 dX2_isAtGate_14 rfl ?_
  refine gX2_109 rfl dX2_isAtGate_15 ha rfl ?_
  refine js_icmp_ne (tgt := 25) dX2_isAtGate_18 (by decide) (by omega) (fun c1 => ?_) (fun c1 => ?_)
  · refine js_iconst dX2_isAtGate_25 ?_
    exact js_iret rfl (js_nar_boolean (by omega)) dX2_isAtGate_26 ⟨js_reti (jb_f (by omega)).symm, rfl⟩
  · refine js_iconst dX2_isAtGate_21 ?_
    refine js_goto (tgt := 26) dX2_isAtGate_22 (by decide) ?_
    exact js_iret rfl (js_nar_boolean (by omega)) dX2_isAtGate_26 ⟨js_reti (jb_t (by omega)).symm, rfl⟩
theorem con_atgN {ρ : js_R} {h : js_H} {st lb ls fa ca wa a es cap : Nat} {w : Bool} {ms m n0 n1 n2 n3 n4 n5 p0 p1 p2 p3 p4 p5 p6 p7 : Int} {gs : Int → Option Nat} (hs : h st = some (js_ob true 1 [.ref lb, .ref ls, .ref fa, .ref ca, .ref wa, .int (jI n0), .int (jI n1), .int (jI n2), .int (jI n3), .int (jI n4), .int (jI n5)])) (ha : h a = some (js_ob true 4 [.int (jI p0), .int (jI p1), .int (jI p2), .int (jI p3), .int (jI p4), .int (jI p5), .int (jI p6), .int (jI p7)])) (hl : h ls = some (js_ob true 15 [.int (jI ms), .ref es, .int (jI m)])) (he : h es = some (js_aQ w 6 cap gs)) (rm : 0 ≤ m ∧ m ≤ cap ∧ cap ≤ 1000) (r4 : 0 ≤ p4 ∧ p4 ≤ 1000) (lt : m ≤ p4) (r0 : 0 ≤ p0 ∧ p0 < 100) : js_Con ρ mX2_isAtGate 4 0 0 [.ref st, .ref a] h (js_ret (some (.int (jI 0))) h) := by
  refine js_body [(0, .ref st), (1, .ref a)] rfl (by decide) (Nat.le_of_ble_eq_true rfl) rfl ?_
  refine js_aload_n 0 dX2_isAtGate_0 rfl ?_
  refine js_aload_n 1 dX2_isAtGate_1 rfl ?_
  refine eX2_102 rfl dX2_isAtGate_2 hs (con_nextN hs ha hl he (by omega) (by omega) (by omega)) (Nat.le_of_ble_eq_true rfl) (Nat.le_of_ble_eq_true rfl) ?_
  refine js_astore_nN (L' := [(2, .null), (0, .ref st), (1, .ref a)]) dX2_isAtGate_5 (by decide) rfl ?_
  refine js_aload_nN 0 dX2_isAtGate_6 rfl ?_
  refine js_ifnullN (tgt := 25) dX2_isAtGate_7 (by decide) ?_
  refine js_iconst dX2_isAtGate_25 ?_
  exact js_iret rfl (js_nar_boolean (by omega)) dX2_isAtGate_26 ⟨rfl, rfl⟩
theorem con_passS {ρ : js_R} {h : js_H} {st lb ls fa ca wa a es cap x : Nat} {w w5 : Bool} {ms m n0 n1 n2 n3 n4 n5 p0 p1 p2 p3 p4 p5 p6 p7 sp sd rr : Int} {gs : Int → Option Nat} {ww : Int → Int} (hs : h st = some (js_ob true 1 [.ref lb, .ref ls, .ref fa, .ref ca, .ref wa, .int (jI n0), .int (jI n1), .int (jI n2), .int (jI n3), .int (jI n4), .int (jI n5)])) (ha : h a = some (js_ob true 4 [.int (jI p0), .int (jI p1), .int (jI p2), .int (jI p3), .int (jI p4), .int (jI p5), .int (jI p6), .int (jI p7)])) (hl : h ls = some (js_ob true 15 [.int (jI ms), .ref es, .int (jI m)])) (he : h es = some (js_aQ w 6 cap gs)) (rm : 0 ≤ m ∧ m ≤ cap ∧ cap ≤ 1000) (r4 : 0 ≤ p4 ∧ p4 ≤ 1000) (hw : h wa = some (js_aI true 0 6 ww)) (r0 : 0 ≤ p0 ∧ p0 < 100) (r1 : 0 ≤ p1 ∧ p1 ≤ 5) (rw_ : 0 ≤ ww p1 ∧ ww p1 ≤ 4) (r3 : 0 ≤ p3 ∧ p3 ≤ 1000) (r7 : -1000 ≤ p7 ∧ p7 ≤ 1000) (lt : p4 < m) (hx : gs p4 = some x) (h5 : h x = some (js_ob w5 5 [.int (jI sp), .int (jI sd), .int (jI rr)])) (r5 : 0 ≤ sp ∧ sp < 100) (r6 : 0 ≤ sd ∧ sd ≤ 4) : js_Con ρ mX2_passes 5 0 0 [.ref st, .ref a] h (js_ret none (js_up h a (js_ob true 4 [.int (jI (znext p0 (ww p1))), .int (jI (if max 0 (p3 - 1) = 0 then p1 - 1 else p1)), .int (jI p2), .int (jI (max 0 (p3 - 1))), .int (jI (zg (znext sp sd = znext p0 (ww p1)) (p4 + 1) (p4))), .int (jI (zg (znext sp sd = znext p0 (ww p1)) (if p7 = p1 then p5 + 10 + 5 else p5 + 10) (p5))), .int (jI p6), .int (jI (zg (znext sp sd = znext p0 (ww p1)) (if p7 = p1 then 0 else p7) (p7)))]))) := by
  refine js_body [(0, .ref st), (1, .ref a)] rfl (by decide) (Nat.le_of_ble_eq_true rfl) rfl ?_
  have hn := znext_r (p := p0) (w := ww p1) r0
  refine js_aload_n 1 dX2_passes_0 rfl ?_
  refine js_aload_n 1 dX2_passes_1 rfl ?_
  refine gX2_109 rfl dX2_passes_2 ha rfl ?_
  refine js_aload_n 0 dX2_passes_5 rfl ?_
  refine gX2_28 rfl dX2_passes_6 hs rfl ?_
  refine js_aload_n 1 dX2_passes_9 rfl ?_
  refine gX2_112 rfl dX2_passes_10 ha rfl ?_
  refine js_iaload dX2_passes_13 hw (by omega) ?_
  refine eX2_115 rfl dX2_passes_14 (con_next (by omega) (by omega)) (Nat.le_of_ble_eq_true rfl) (Nat.le_of_ble_eq_true rfl) ?_
  refine pX2_109 rfl dX2_passes_17 ha (Nat.le_of_ble_eq_true rfl) rfl rfl ?_
  show js_ok ρ mX2_passes _ 5 0 0 20 [(0, .ref st), (1, .ref a)] [] (js_up h a (js_ob true 4 [.int (jI (znext p0 (ww p1))), .int (jI p1), .int (jI p2), .int (jI p3), .int (jI p4), .int (jI p5), .int (jI p6), .int (jI p7)]))
  refine js_aload_n 0 dX2_passes_20 rfl ?_
  refine js_aload_n 1 dX2_passes_21 rfl ?_
  refine eX2_118 rfl dX2_passes_22 ((js_up_n (js_nek hs ha (js_kOO (by decide)))).trans hs) (con_atgS ((js_up_n (js_nek hs ha (js_kOO (by decide)))).trans hs) js_up_s ((js_up_n (js_nek hl ha (js_kOO (by decide)))).trans hl) ((js_up_n (js_nek he ha js_kQO)).trans he) (by omega) (by omega) (by omega) hx ((js_up_n (js_nek h5 ha (js_kOO (by decide)))).trans h5) (by omega) (by omega) (by omega)) (Nat.le_of_ble_eq_true rfl) (Nat.le_of_ble_eq_true rfl) ?_
  refine js_if_eqB (tgt := 32) dX2_passes_25 (by decide) (fun c1 => ?_) (fun c1 => ?_)
  · refine js_aload_n 1 dX2_passes_32 rfl ?_
    refine js_iconst dX2_passes_33 ?_
    refine js_aload_n 1 dX2_passes_34 rfl ?_
    refine gX2_125 rfl dX2_passes_35 js_up_s rfl ?_
    refine js_iconst dX2_passes_38 ?_
    refine js_isub dX2_passes_39 ?_
    refine js_mmax q1322 dX2_passes_40 (by omega) (Nat.le_of_ble_eq_true rfl) (Nat.le_of_ble_eq_true rfl) ?_
    refine pX2_125 rfl dX2_passes_43 js_up_s (Nat.le_of_ble_eq_true rfl) rfl rfl ?_
    rw [js_up_up]
    show js_ok ρ mX2_passes _ 5 0 0 46 [(0, .ref st), (1, .ref a)] [] (js_up h a (js_ob true 4 [.int (jI (znext p0 (ww p1))), .int (jI p1), .int (jI p2), .int (jI (max 0 (p3 - 1))), .int (jI p4), .int (jI p5), .int (jI p6), .int (jI p7)]))
    refine js_aload_n 1 dX2_passes_46 rfl ?_
    refine gX2_125 rfl dX2_passes_47 js_up_s rfl ?_
    refine js_if_ne (tgt := 63) dX2_passes_50 (by decide) (by omega) (fun c2 => ?_) (fun c2 => ?_)
    · exact js_vret rfl dX2_passes_63 ⟨rfl, by first | (simp only [zg_f (show ¬ (znext sp sd = znext p0 (ww p1)) from by assumption)]; first | (rw [if_pos (show max 0 (p3 - 1) = 0 from by omega)]; done) | (rw [if_neg (show ¬ max 0 (p3 - 1) = 0 from by omega)]; done)) | (rw [if_pos (show max 0 (p3 - 1) = 0 from by omega)]; done) | (rw [if_neg (show ¬ max 0 (p3 - 1) = 0 from by omega)]; done)⟩
    · refine js_aload_n 1 dX2_passes_53 rfl ?_
      refine js_dup dX2_passes_54 rfl ?_
      refine gX2_112 rfl dX2_passes_55 js_up_s rfl ?_
      refine js_iconst dX2_passes_58 ?_
      refine js_isub dX2_passes_59 ?_
      refine pX2_112 rfl dX2_passes_60 js_up_s (Nat.le_of_ble_eq_true rfl) rfl rfl ?_
      rw [js_up_up]
      show js_ok ρ mX2_passes _ 5 0 0 63 [(0, .ref st), (1, .ref a)] [] (js_up h a (js_ob true 4 [.int (jI (znext p0 (ww p1))), .int (jI (p1 - 1)), .int (jI p2), .int (jI (max 0 (p3 - 1))), .int (jI p4), .int (jI p5), .int (jI p6), .int (jI p7)]))
      exact js_vret rfl dX2_passes_63 ⟨rfl, by first | (simp only [zg_f (show ¬ (znext sp sd = znext p0 (ww p1)) from by assumption)]; first | (rw [if_pos (show max 0 (p3 - 1) = 0 from by omega)]; done) | (rw [if_neg (show ¬ max 0 (p3 - 1) = 0 from by omega)]; done)) | (rw [if_pos (show max 0 (p3 - 1) = 0 from by omega)]; done) | (rw [if_neg (show ¬ max 0 (p3 - 1) = 0 from by omega)]; done)⟩
  · refine js_aload_n 1 dX2_passes_28 rfl ?_
    refine eX2_122 rfl dX2_passes_29 js_up_s (con_brounds js_up_s (by omega) (by omega)) (Nat.le_of_ble_eq_true rfl) (Nat.le_of_ble_eq_true rfl) ?_
    rw [js_up_up]
    show js_ok ρ mX2_passes _ 5 0 0 32 [(0, .ref st), (1, .ref a)] [] (js_up h a (js_ob true 4 [.int (jI (znext p0 (ww p1))), .int (jI p1), .int (jI p2), .int (jI p3), .int (jI (p4 + 1)), .int (jI (if p7 = p1 then p5 + 10 + 5 else p5 + 10)), .int (jI p6), .int (jI (if p7 = p1 then 0 else p7))]))
    refine js_aload_n 1 dX2_passes_32 rfl ?_
    refine js_iconst dX2_passes_33 ?_
    refine js_aload_n 1 dX2_passes_34 rfl ?_
    refine gX2_125 rfl dX2_passes_35 js_up_s rfl ?_
    refine js_iconst dX2_passes_38 ?_
    refine js_isub dX2_passes_39 ?_
    refine js_mmax q1322 dX2_passes_40 (by omega) (Nat.le_of_ble_eq_true rfl) (Nat.le_of_ble_eq_true rfl) ?_
    refine pX2_125 rfl dX2_passes_43 js_up_s (Nat.le_of_ble_eq_true rfl) rfl rfl ?_
    rw [js_up_up]
    show js_ok ρ mX2_passes _ 5 0 0 46 [(0, .ref st), (1, .ref a)] [] (js_up h a (js_ob true 4 [.int (jI (znext p0 (ww p1))), .int (jI p1), .int (jI p2), .int (jI (max 0 (p3 - 1))), .int (jI (p4 + 1)), .int (jI (if p7 = p1 then p5 + 10 + 5 else p5 + 10)), .int (jI p6), .int (jI (if p7 = p1 then 0 else p7))]))
    refine js_aload_n 1 dX2_passes_46 rfl ?_
    refine gX2_125 rfl dX2_passes_47 js_up_s rfl ?_
    refine js_if_ne (tgt := 63) dX2_passes_50 (by decide) (by omega) (fun c3 => ?_) (fun c3 => ?_)
    · exact js_vret rfl dX2_passes_63 ⟨rfl, by first | (simp only [zg_t (show znext sp sd = znext p0 (ww p1) from by assumption)]; first | (rw [if_pos (show max 0 (p3 - 1) = 0 from by omega)]; done) | (rw [if_neg (show ¬ max 0 (p3 - 1) = 0 from by omega)]; done)) | (rw [if_pos (show max 0 (p3 - 1) = 0 from by omega)]; done) | (rw [if_neg (show ¬ max 0 (p3 - 1) = 0 from by omega)]; done)⟩
    · refine js_aload_n 1 dX2_passes_53 rfl ?_
      refine js_dup dX2_passes_54 rfl ?_
      refine gX2_112 rfl dX2_passes_55 js_up_s rfl ?_
      refine js_iconst dX2_passes_58 ?_
      refine js_isub dX2_passes_59 ?_
      refine pX2_112 rfl dX2_passes_60 js_up_s (Nat.le_of_ble_eq_true rfl) rfl rfl ?_
      rw [js_up_up]
      show js_ok ρ mX2_passes _ 5 0 0 63 [(0, .ref st), (1, .ref a)] [] (js_up h a (js_ob true 4 [.int (jI (znext p0 (ww p1))), .int (jI (p1 - 1)), .int (jI p2), .int (jI (max 0 (p3 - 1))), .int (jI (p4 + 1)), .int (jI (if p7 = p1 then p5 + 10 + 5 else p5 + 10)), .int (jI p6), .int (jI (if p7 = p1 then 0 else p7))]))
      exact js_vret rfl dX2_passes_63 ⟨rfl, by first | (simp only [zg_t (show znext sp sd = znext p0 (ww p1) from by assumption)]; first | (rw [if_pos (show max 0 (p3 - 1) = 0 from by omega)]; done) | (rw [if_neg (show ¬ max 0 (p3 - 1) = 0 from by omega)]; done)) | (rw [if_pos (show max 0 (p3 - 1) = 0 from by omega)]; done) | (rw [if_neg (show ¬ max 0 (p3 - 1) = 0 from by omega)]; done)⟩
theorem con_passN {ρ : js_R} {h : js_H} {st lb ls fa ca wa a es cap : Nat} {w : Bool} {ms m n0 n1 n2 n3 n4 n5 p0 p1 p2 p3 p4 p5 p6 p7 : Int} {gs : Int → Option Nat} {ww : Int → Int} (hs : h st = some (js_ob true 1 [.ref lb, .ref ls, .ref fa, .ref ca, .ref wa, .int (jI n0), .int (jI n1), .int (jI n2), .int (jI n3), .int (jI n4), .int (jI n5)])) (ha : h a = some (js_ob true 4 [.int (jI p0), .int (jI p1), .int (jI p2), .int (jI p3), .int (jI p4), .int (jI p5), .int (jI p6), .int (jI p7)])) (hl : h ls = some (js_ob true 15 [.int (jI ms), .ref es, .int (jI m)])) (he : h es = some (js_aQ w 6 cap gs)) (rm : 0 ≤ m ∧ m ≤ cap ∧ cap ≤ 1000) (r4 : 0 ≤ p4 ∧ p4 ≤ 1000) (hw : h wa = some (js_aI true 0 6 ww)) (r0 : 0 ≤ p0 ∧ p0 < 100) (r1 : 0 ≤ p1 ∧ p1 ≤ 5) (rw_ : 0 ≤ ww p1 ∧ ww p1 ≤ 4) (r3 : 0 ≤ p3 ∧ p3 ≤ 1000) (r7 : -1000 ≤ p7 ∧ p7 ≤ 1000) (lt : m ≤ p4) : js_Con ρ mX2_passes 5 0 0 [.ref st, .ref a] h (js_ret none (js_up h a (js_ob true 4 [.int (jI (znext p0 (ww p1))), .int (jI (if max 0 (p3 - 1) = 0 then p1 - 1 else p1)), .int (jI p2), .int (jI (max 0 (p3 - 1))), .int (jI p4), .int (jI p5), .int (jI p6), .int (jI p7)]))) := by
  refine js_body [(0, .ref st), (1, .ref a)] rfl (by decide) (Nat.le_of_ble_eq_true rfl) rfl ?_
  have hn := znext_r (p := p0) (w := ww p1) r0
  refine js_aload_n 1 dX2_passes_0 rfl ?_
  refine js_aload_n 1 dX2_passes_1 rfl ?_
  refine gX2_109 rfl dX2_passes_2 ha rfl ?_
  refine js_aload_n 0 dX2_passes_5 rfl ?_
  refine gX2_28 rfl dX2_passes_6 hs rfl ?_
  refine js_aload_n 1 dX2_passes_9 rfl ?_
  refine gX2_112 rfl dX2_passes_10 ha rfl ?_
  refine js_iaload dX2_passes_13 hw (by omega) ?_
  refine eX2_115 rfl dX2_passes_14 (con_next (by omega) (by omega)) (Nat.le_of_ble_eq_true rfl) (Nat.le_of_ble_eq_true rfl) ?_
  refine pX2_109 rfl dX2_passes_17 ha (Nat.le_of_ble_eq_true rfl) rfl rfl ?_
  show js_ok ρ mX2_passes _ 5 0 0 20 [(0, .ref st), (1, .ref a)] [] (js_up h a (js_ob true 4 [.int (jI (znext p0 (ww p1))), .int (jI p1), .int (jI p2), .int (jI p3), .int (jI p4), .int (jI p5), .int (jI p6), .int (jI p7)]))
  refine js_aload_n 0 dX2_passes_20 rfl ?_
  refine js_aload_n 1 dX2_passes_21 rfl ?_
  refine eX2_118 rfl dX2_passes_22 ((js_up_n (js_nek hs ha (js_kOO (by decide)))).trans hs) (con_atgN ((js_up_n (js_nek hs ha (js_kOO (by decide)))).trans hs) js_up_s ((js_up_n (js_nek hl ha (js_kOO (by decide)))).trans hl) ((js_up_n (js_nek he ha js_kQO)).trans he) (by omega) (by omega) (by omega) (by omega)) (Nat.le_of_ble_eq_true rfl) (Nat.le_of_ble_eq_true rfl) ?_
  refine js_if_eq (tgt := 32) dX2_passes_25 (by decide) (by omega) (fun c1 => ?_) (fun c1 => ?_)
  · refine js_aload_n 1 dX2_passes_32 rfl ?_
    refine js_iconst dX2_passes_33 ?_
    refine js_aload_n 1 dX2_passes_34 rfl ?_
    refine gX2_125 rfl dX2_passes_35 js_up_s rfl ?_
    refine js_iconst dX2_passes_38 ?_
    refine js_isub dX2_passes_39 ?_
    refine js_mmax q1322 dX2_passes_40 (by omega) (Nat.le_of_ble_eq_true rfl) (Nat.le_of_ble_eq_true rfl) ?_
    refine pX2_125 rfl dX2_passes_43 js_up_s (Nat.le_of_ble_eq_true rfl) rfl rfl ?_
    rw [js_up_up]
    show js_ok ρ mX2_passes _ 5 0 0 46 [(0, .ref st), (1, .ref a)] [] (js_up h a (js_ob true 4 [.int (jI (znext p0 (ww p1))), .int (jI p1), .int (jI p2), .int (jI (max 0 (p3 - 1))), .int (jI p4), .int (jI p5), .int (jI p6), .int (jI p7)]))
    refine js_aload_n 1 dX2_passes_46 rfl ?_
    refine gX2_125 rfl dX2_passes_47 js_up_s rfl ?_
    refine js_if_ne (tgt := 63) dX2_passes_50 (by decide) (by omega) (fun c2 => ?_) (fun c2 => ?_)
    · exact js_vret rfl dX2_passes_63 ⟨rfl, by first | (simp only [zg_f (show ¬ (znext sp sd = znext p0 (ww p1)) from by assumption)]; first | (rw [if_pos (show max 0 (p3 - 1) = 0 from by omega)]; done) | (rw [if_neg (show ¬ max 0 (p3 - 1) = 0 from by omega)]; done)) | (rw [if_pos (show max 0 (p3 - 1) = 0 from by omega)]; done) | (rw [if_neg (show ¬ max 0 (p3 - 1) = 0 from by omega)]; done)⟩
    · refine js_aload_n 1 dX2_passes_53 rfl ?_
      refine js_dup dX2_passes_54 rfl ?_
      refine gX2_112 rfl dX2_passes_55 js_up_s rfl ?_
      refine js_iconst dX2_passes_58 ?_
      refine js_isub dX2_passes_59 ?_
      refine pX2_112 rfl dX2_passes_60 js_up_s (Nat.le_of_ble_eq_true rfl) rfl rfl ?_
      rw [js_up_up]
      show js_ok ρ mX2_passes _ 5 0 0 63 [(0, .ref st), (1, .ref a)] [] (js_up h a (js_ob true 4 [.int (jI (znext p0 (ww p1))), .int (jI (p1 - 1)), .int (jI p2), .int (jI (max 0 (p3 - 1))), .int (jI p4), .int (jI p5), .int (jI p6), .int (jI p7)]))
      exact js_vret rfl dX2_passes_63 ⟨rfl, by first | (simp only [zg_f (show ¬ (znext sp sd = znext p0 (ww p1)) from by assumption)]; first | (rw [if_pos (show max 0 (p3 - 1) = 0 from by omega)]; done) | (rw [if_neg (show ¬ max 0 (p3 - 1) = 0 from by omega)]; done)) | (rw [if_pos (show max 0 (p3 - 1) = 0 from by omega)]; done) | (rw [if_neg (show ¬ max 0 (p3 - 1) = 0 from by omega)]; done)⟩
  · exfalso; revert c1; decide
