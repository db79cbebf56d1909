set_option maxRecDepth 100000
/-! StringBuilder.charAt -/
theorem con_sbch4 {ρ : js_R} {h : js_H} {a vb cap : Nat} {ml n : Int} {g : Int → Int} {i : Int} {fm : Nat} (hK : js_sv ρ 0 = .int (jI 1)) (ha : h a = some (js_ob true 17 [.ref vb, .int (jI 0), .int (jI ml), .int (jI n)])) (hb : h vb = some (js_aI true 2 cap g)) (rc : 0 ≤ n ∧ n ≤ cap ∧ cap ≤ 1000) (hF : js_sv ρ 6 = .ref fm) (ri : 0 ≤ i ∧ i < n) (rg1 : 0 ≤ g i ∧ g i < 128)  : js_Con ρ mJ4_charAt 2 0 0 [.ref a, .int (jI i)] h (js_ret (some (.int (jI (g i)))) h) := by
  refine js_body [(0, .ref a), (1, .int (jI i))] rfl (by decide) (Nat.le_of_ble_eq_true rfl) rfl ?_
  refine js_aload_n 0 dJ4_charAt_0 rfl ?_
  refine gJ4_22 rfl dJ4_charAt_1 ha rfl ?_
  refine js_istore_n (L' := [(2, .int (jI 0)), (0, .ref a), (1, .int (jI i))]) dJ4_charAt_4 (by decide) rfl ?_
  refine js_aload_n 1 dJ4_charAt_5 rfl ?_
  refine gJ4_15 rfl dJ4_charAt_6 ha rfl ?_
  refine js_astore_n (L' := [(3, .ref vb), (2, .int (jI 0)), (0, .ref a), (1, .int (jI i))]) dJ4_charAt_9 (by decide) rfl ?_
  refine js_aload_n 2 dJ4_charAt_10 rfl ?_
  refine gJ4_79 rfl dJ4_charAt_11 ha rfl ?_
  refine js_aload_n 0 dJ4_charAt_14 rfl ?_
  refine js_alenI dJ4_charAt_15 hb (by decide) ?_
  refine js_iload_n 1 dJ4_charAt_16 rfl ?_
  refine js_ishr dJ4_charAt_17 ?_
  refine js_topR (b := (cap : Int)) (zshr0 _) ?_
  refine js_mmin q2038 dJ4_charAt_18 (by omega) (Nat.le_of_ble_eq_true rfl) (Nat.le_of_ble_eq_true rfl) ?_
  refine js_istore (L' := [(4, .int (jI (min n ((cap : Int))))), (3, .ref vb), (2, .int (jI 0)), (0, .ref a), (1, .int (jI i))]) dJ4_charAt_21 (by decide) rfl ?_
  refine js_iload_n 4 dJ4_charAt_23 rfl ?_
  refine js_iload 0 dJ4_charAt_24 rfl ?_
  refine eJ4_144 rfl dJ4_charAt_26 (con_sci (by omega) hF) (Nat.le_of_ble_eq_true rfl) (Nat.le_of_ble_eq_true rfl) ?_
  refine js_iload_n 2 dJ4_charAt_29 rfl ?_
  refine js_if_ne (tgt := 42) dJ4_charAt_30 (by decide) (by omega) (fun c1 => ?_) (fun c1 => ?_)
  · exfalso; first | omega | (revert c1; decide)
  · refine js_aload_n 1 dJ4_charAt_33 rfl ?_
    refine js_iload_n 4 dJ4_charAt_34 rfl ?_
    refine js_baload dJ4_charAt_35 hb (by omega) ?_
    refine js_sipush dJ4_charAt_36 rfl ?_
    refine js_iand dJ4_charAt_39 ?_
    refine js_topR (b := g i) (zand255 rg1) ?_
    refine js_i2c dJ4_charAt_40 (js_i2c0 (by omega)) ?_
    exact js_iret rfl (js_nar_char (by omega)) dJ4_charAt_41 ⟨rfl, rfl⟩
theorem con_sbchar {ρ : js_R} {h : js_H} {a vb cap : Nat} {ml n : Int} {g : Int → Int} {i : Int} {fm : Nat} (hK : js_sv ρ 0 = .int (jI 1)) (ha : h a = some (js_ob true 17 [.ref vb, .int (jI 0), .int (jI ml), .int (jI n)])) (hb : h vb = some (js_aI true 2 cap g)) (rc : 0 ≤ n ∧ n ≤ cap ∧ cap ≤ 1000) (hF : js_sv ρ 6 = .ref fm) (ri : 0 ≤ i ∧ i < n) (rg1 : 0 ≤ g i ∧ g i < 128)  : js_Con ρ mJ5_charAt 3 0 0 [.ref a, .int (jI i)] h (js_ret (some (.int (jI (g i)))) h) := by
  refine js_body [(0, .ref a), (1, .int (jI i))] rfl (by decide) (Nat.le_of_ble_eq_true rfl) rfl ?_
  refine js_aload_n 0 dJ5_charAt_0 rfl ?_
  refine js_iload_n 1 dJ5_charAt_1 rfl ?_
  refine eJ5_329 rfl dJ5_charAt_2 ha (con_sbch4 hK ha hb (by omega) hF ri rg1) (Nat.le_of_ble_eq_true rfl) (Nat.le_of_ble_eq_true rfl) ?_
  exact js_iret rfl (js_nar_char (by omega)) dJ5_charAt_5 ⟨rfl, rfl⟩
