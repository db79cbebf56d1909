set_option maxRecDepth 100000
/-! Balloon, Spire -/
/-- a new object -/
def zNewO (ci : Nat) (fs : List Value) (h : js_H) : js_Q := fun r h' => ∃ b : Nat, r = .inl (some (.ref b)) ∧ h b = none ∧ h' = js_up h b (js_ob true ci fs)
theorem con_binit {ρ : js_R} {h : js_H} {a : Nat} {p s g : Int} (ha : h a = some (js_ob true 4 [.int (jI 0), .int (jI 0), .int (jI 0), .int (jI 0), .int (jI 0), .int (jI 0), .int (jI 0), .int (jI 0)])) : js_Con ρ mX5_init 1 0 0 [.ref a, .int (jI p), .int (jI s), .int (jI g)] h (js_ret none (js_up h a (js_ob true 4 [.int (jI p), .int (jI 0), .int (jI s), .int (jI g), .int (jI 0), .int (jI 0), .int (jI 0), .int (jI 0)]))) := by
  refine js_body [(0, .ref a), (1, .int (jI p)), (2, .int (jI s)), (3, .int (jI g))] rfl (by decide) (Nat.le_of_ble_eq_true rfl) rfl ?_
  refine js_aload_n 0 dX5_init_0 rfl ?_
  refine js_oinit q1028 q156 q157 (Nat.le_of_ble_eq_true rfl) (Nat.le_of_ble_eq_true rfl) dX5_init_1 ?_
  refine js_aload_n 0 dX5_init_4 rfl ?_
  refine js_iload_n 1 dX5_init_5 rfl ?_
  refine pX5_7 rfl dX5_init_6 ha (Nat.le_of_ble_eq_true rfl) rfl rfl ?_
  show js_ok ρ mX5_init _ 1 0 0 9 [(0, .ref a), (1, .int (jI p)), (2, .int (jI s)), (3, .int (jI g))] [] (js_up h a (js_ob true 4 [.int (jI p), .int (jI 0), .int (jI 0), .int (jI 0), .int (jI 0), .int (jI 0), .int (jI 0), .int (jI 0)]))
  refine js_aload_n 0 dX5_init_9 rfl ?_
  refine js_iload_n 2 dX5_init_10 rfl ?_
  refine pX5_13 rfl dX5_init_11 js_up_s (Nat.le_of_ble_eq_true rfl) rfl rfl ?_
  rw [js_up_up]
  show js_ok ρ mX5_init _ 1 0 0 14 [(0, .ref a), (1, .int (jI p)), (2, .int (jI s)), (3, .int (jI g))] [] (js_up h a (js_ob true 4 [.int (jI p), .int (jI 0), .int (jI s), .int (jI 0), .int (jI 0), .int (jI 0), .int (jI 0), .int (jI 0)]))
  refine js_aload_n 0 dX5_init_14 rfl ?_
  refine js_iload_n 3 dX5_init_15 rfl ?_
  refine pX5_16 rfl dX5_init_16 js_up_s (Nat.le_of_ble_eq_true rfl) rfl rfl ?_
  rw [js_up_up]
  show js_ok ρ mX5_init _ 1 0 0 19 [(0, .ref a), (1, .int (jI p)), (2, .int (jI s)), (3, .int (jI g))] [] (js_up h a (js_ob true 4 [.int (jI p), .int (jI 0), .int (jI s), .int (jI g), .int (jI 0), .int (jI 0), .int (jI 0), .int (jI 0)]))
  exact js_vret rfl dX5_init_19 ⟨rfl, rfl⟩
theorem con_brounds {ρ : js_R} {h : js_H} {a : Nat} {p0 p1 p2 p3 p4 p5 p6 p7 : Int} (ha : h a = some (js_ob true 4 [.int (jI p0), .int (jI p1), .int (jI p2), .int (jI p3), .int (jI p4), .int (jI p5), .int (jI p6), .int (jI p7)])) (rp1 : -1000000 ≤ p1 ∧ p1 ≤ 1000000) (rp7 : -1000000 ≤ p7 ∧ p7 ≤ 1000000) : js_Con ρ mX5_rounds 0 0 0 [.ref a] h (js_ret none (js_up h a (js_ob true 4 [.int (jI p0), .int (jI p1), .int (jI p2), .int (jI p3), .int (jI (p4 + 1)), .int (jI (if p7 = p1 then p5 + 10 + 5 else p5 + 10)), .int (jI p6), .int (jI (if p7 = p1 then 0 else p7))]))) := by
  refine js_body [(0, .ref a)] rfl (by decide) (Nat.le_of_ble_eq_true rfl) rfl ?_
  refine js_aload_n 0 dX5_rounds_0 rfl ?_
  refine js_dup dX5_rounds_1 rfl ?_
  refine gX5_22 rfl dX5_rounds_2 ha rfl ?_
  refine js_iconst dX5_rounds_5 ?_
  refine js_iadd dX5_rounds_6 ?_
  refine pX5_22 rfl dX5_rounds_7 ha (Nat.le_of_ble_eq_true rfl) rfl rfl ?_
  show js_ok ρ mX5_rounds _ 0 0 0 10 [(0, .ref a)] [] (js_up h a (js_ob true 4 [.int (jI p0), .int (jI p1), .int (jI p2), .int (jI p3), .int (jI (p4 + 1)), .int (jI p5), .int (jI p6), .int (jI p7)]))
  refine js_aload_n 0 dX5_rounds_10 rfl ?_
  refine js_dup dX5_rounds_11 rfl ?_
  refine gX5_25 rfl dX5_rounds_12 js_up_s rfl ?_
  refine js_bipush dX5_rounds_15 rfl ?_
  refine js_iadd dX5_rounds_17 ?_
  refine pX5_25 rfl dX5_rounds_18 js_up_s (Nat.le_of_ble_eq_true rfl) rfl rfl ?_
  rw [js_up_up]
  show js_ok ρ mX5_rounds _ 0 0 0 21 [(0, .ref a)] [] (js_up h a (js_ob true 4 [.int (jI p0), .int (jI p1), .int (jI p2), .int (jI p3), .int (jI (p4 + 1)), .int (jI (p5 + 10)), .int (jI p6), .int (jI p7)]))
  refine js_aload_n 0 dX5_rounds_21 rfl ?_
  refine gX5_28 rfl dX5_rounds_22 js_up_s rfl ?_
  refine js_aload_n 0 dX5_rounds_25 rfl ?_
  refine gX5_19 rfl dX5_rounds_26 js_up_s rfl ?_
  refine js_icmp_ne (tgt := 47) dX5_rounds_29 (by decide) (by omega) (fun c1 => ?_) (fun c1 => ?_)
  · exact js_vret rfl dX5_rounds_47 ⟨rfl, by first | (rw [if_pos (by omega), if_pos (by omega)]; done) | (rw [if_neg (by omega), if_neg (by omega)]; done)⟩
  · refine js_aload_n 0 dX5_rounds_32 rfl ?_
    refine js_dup dX5_rounds_33 rfl ?_
    refine gX5_25 rfl dX5_rounds_34 js_up_s rfl ?_
    refine js_iconst dX5_rounds_37 ?_
    refine js_iadd dX5_rounds_38 ?_
    refine pX5_25 rfl dX5_rounds_39 js_up_s (Nat.le_of_ble_eq_true rfl) rfl rfl ?_
    rw [js_up_up]
    show js_ok ρ mX5_rounds _ 0 0 0 42 [(0, .ref a)] [] (js_up h a (js_ob true 4 [.int (jI p0), .int (jI p1), .int (jI p2), .int (jI p3), .int (jI (p4 + 1)), .int (jI ((p5 + 10) + 5)), .int (jI p6), .int (jI p7)]))
    refine js_aload_n 0 dX5_rounds_42 rfl ?_
    refine js_iconst dX5_rounds_43 ?_
    refine pX5_28 rfl dX5_rounds_44 js_up_s (Nat.le_of_ble_eq_true rfl) rfl rfl ?_
    rw [js_up_up]
    show js_ok ρ mX5_rounds _ 0 0 0 47 [(0, .ref a)] [] (js_up h a (js_ob true 4 [.int (jI p0), .int (jI p1), .int (jI p2), .int (jI p3), .int (jI (p4 + 1)), .int (jI ((p5 + 10) + 5)), .int (jI p6), .int (jI 0)]))
    exact js_vret rfl dX5_rounds_47 ⟨rfl, by first | (rw [if_pos (by omega), if_pos (by omega)]; done) | (rw [if_neg (by omega), if_neg (by omega)]; done)⟩
theorem zmm {a b : Int} : max a b - min a b = zabs (a - b) := by
  have := zabs_c (a - b)
  omega
theorem con_bapart {ρ : js_R} {h : js_H} {a : Nat} {w : Bool} {p0 p1 p2 p3 p4 p5 p6 p7 : Int} {b : Nat} {w2 : Bool} {q0 q1 q2 q3 q4 q5 q6 q7 : Int} (ha : h a = some (js_ob w 4 [.int (jI p0), .int (jI p1), .int (jI p2), .int (jI p3), .int (jI p4), .int (jI p5), .int (jI p6), .int (jI p7)])) (hb : h b = some (js_ob w2 4 [.int (jI q0), .int (jI q1), .int (jI q2), .int (jI q3), .int (jI q4), .int (jI q5), .int (jI q6), .int (jI q7)])) (rp0 : -1000000 ≤ p0 ∧ p0 ≤ 1000000) (rp1 : -1000000 ≤ p1 ∧ p1 ≤ 1000000) (rq0 : -1000000 ≤ q0 ∧ q0 ≤ 1000000) (rq1 : -1000000 ≤ q1 ∧ q1 ≤ 1000000) : js_Con ρ mX5_apart 1 0 0 [.ref a, .ref b] h (js_ret (some (.int (jI (if p0 = q0 then zabs (p1 - q1) else 9)))) h) := by
  refine js_body [(0, .ref a), (1, .ref b)] rfl (by decide) (Nat.le_of_ble_eq_true rfl) rfl ?_
  refine js_aload_n 0 dX5_apart_0 rfl ?_
  refine gX5_7 rfl dX5_apart_1 ha rfl ?_
  refine js_aload_n 1 dX5_apart_4 rfl ?_
  refine gX5_7 rfl dX5_apart_5 hb rfl ?_
  refine js_icmp_ne (tgt := 37) dX5_apart_8 (by decide) (by omega) (fun c1 => ?_) (fun c1 => ?_)
  · refine js_bipush dX5_apart_37 rfl ?_
    exact js_iret rfl rfl dX5_apart_39 ⟨js_reti (by first | (rw [if_pos (by omega), zmm]; done) | (rw [if_neg (by omega)]; done)), rfl⟩
  · refine js_aload_n 0 dX5_apart_11 rfl ?_
    refine gX5_19 rfl dX5_apart_12 ha rfl ?_
    refine js_aload_n 1 dX5_apart_15 rfl ?_
    refine gX5_19 rfl dX5_apart_16 hb rfl ?_
    refine js_mmax q1255 dX5_apart_19 (by omega) (Nat.le_of_ble_eq_true rfl) (Nat.le_of_ble_eq_true rfl) ?_
    refine js_aload_n 0 dX5_apart_22 rfl ?_
    refine gX5_19 rfl dX5_apart_23 ha rfl ?_
    refine js_aload_n 1 dX5_apart_26 rfl ?_
    refine gX5_19 rfl dX5_apart_27 hb rfl ?_
    refine js_mmin q1256 dX5_apart_30 (by omega) (Nat.le_of_ble_eq_true rfl) (Nat.le_of_ble_eq_true rfl) ?_
    refine js_isub dX5_apart_33 ?_
    refine js_goto (tgt := 39) dX5_apart_34 (by decide) ?_
    exact js_iret rfl rfl dX5_apart_39 ⟨js_reti (by first | (rw [if_pos (by omega), zmm]; done) | (rw [if_neg (by omega)]; done)), rfl⟩
theorem con_bbeside {ρ : js_R} {h : js_H} {a : Nat} {w : Bool} {p0 p1 p2 p3 p4 p5 p6 p7 : Int} {b : Nat} {w2 : Bool} {q0 q1 q2 q3 q4 q5 q6 q7 : Int} (ha : h a = some (js_ob w 4 [.int (jI p0), .int (jI p1), .int (jI p2), .int (jI p3), .int (jI p4), .int (jI p5), .int (jI p6), .int (jI p7)])) (hb : h b = some (js_ob w2 4 [.int (jI q0), .int (jI q1), .int (jI q2), .int (jI q3), .int (jI q4), .int (jI q5), .int (jI q6), .int (jI q7)])) (rp0 : -1000000 ≤ p0 ∧ p0 ≤ 1000000) (rp1 : -1000000 ≤ p1 ∧ p1 ≤ 1000000) (rq0 : -1000000 ≤ q0 ∧ q0 ≤ 1000000) (rq1 : -1000000 ≤ q1 ∧ q1 ≤ 1000000) : js_Con ρ mX5_isBeside 2 0 0 [.ref a, .ref b] h (js_ret (some (.int (jI (jb ((if p0 = q0 then zabs (p1 - q1) else 9) ≤ 1))))) h) := by
  refine js_body [(0, .ref a), (1, .ref b)] rfl (by decide) (Nat.le_of_ble_eq_true rfl) rfl ?_
  have hz := zabs_c (p1 - q1)
  have hr : -3000000 ≤ (if p0 = q0 then zabs (p1 - q1) else 9) ∧ (if p0 = q0 then zabs (p1 - q1) else 9) ≤ 3000000 := by split <;> omega
  generalize hx : (if p0 = q0 then zabs (p1 - q1) else 9) = x at hr
  refine js_aload_n 0 dX5_isBeside_0 rfl ?_
  refine js_aload_n 1 dX5_isBeside_1 rfl ?_
  refine eX5_31 rfl dX5_isBeside_2 ha (con_bapart ha hb (by omega) (by omega) (by omega) (by omega)) (Nat.le_of_ble_eq_true rfl) (Nat.le_of_ble_eq_true rfl) ?_
  rw [hx]
  show js_ok ρ mX5_isBeside _ 2 0 0 5 [(0, .ref a), (1, .ref b)] [.int (jI x)] h
  refine js_iconst dX5_isBeside_5 ?_
  refine js_icmp_gt (tgt := 13) dX5_isBeside_6 (by decide) (by omega) (fun c1 => ?_) (fun c1 => ?_)
  · refine js_iconst dX5_isBeside_13 ?_
    exact js_iret rfl (js_nar_boolean (by omega)) dX5_isBeside_14 ⟨js_reti (jb_f (by omega)).symm, rfl⟩
  · refine js_iconst dX5_isBeside_9 ?_
    refine js_goto (tgt := 14) dX5_isBeside_10 (by decide) ?_
    exact js_iret rfl (js_nar_boolean (by omega)) dX5_isBeside_14 ⟨js_reti (jb_t (by omega)).symm, rfl⟩
theorem con_bahead {ρ : js_R} {h : js_H} {a : Nat} {w : Bool} {p0 p1 p2 p3 p4 p5 p6 p7 : Int} {b : Nat} {w2 : Bool} {q0 q1 q2 q3 q4 q5 q6 q7 : Int} (ha : h a = some (js_ob w 4 [.int (jI p0), .int (jI p1), .int (jI p2), .int (jI p3), .int (jI p4), .int (jI p5), .int (jI p6), .int (jI p7)])) (hb : h b = some (js_ob w2 4 [.int (jI q0), .int (jI q1), .int (jI q2), .int (jI q3), .int (jI q4), .int (jI q5), .int (jI q6), .int (jI q7)])) (rp4 : -1000000 ≤ p4 ∧ p4 ≤ 1000000) (rp5 : -1000000 ≤ p5 ∧ p5 ≤ 1000000) (rp6 : -1000000 ≤ p6 ∧ p6 ≤ 1000000) (rq4 : -1000000 ≤ q4 ∧ q4 ≤ 1000000) (rq5 : -1000000 ≤ q5 ∧ q5 ≤ 1000000) (rq6 : -1000000 ≤ q6 ∧ q6 ≤ 1000000) : js_Con ρ mX5_isAhead 0 0 0 [.ref a, .ref b] h (js_ret (some (.int (jI (jb (p5 > q5 ∨ (p5 = q5 ∧ (p4 > q4 ∨ (p4 = q4 ∧ p6 < q6)))))))) h) := by
  refine js_body [(0, .ref a), (1, .ref b)] rfl (by decide) (Nat.le_of_ble_eq_true rfl) rfl ?_
  refine js_aload_n 0 dX5_isAhead_0 rfl ?_
  refine gX5_25 rfl dX5_isAhead_1 ha rfl ?_
  refine js_aload_n 1 dX5_isAhead_4 rfl ?_
  refine gX5_25 rfl dX5_isAhead_5 hb rfl ?_
  refine js_icmp_eq (tgt := 28) dX5_isAhead_8 (by decide) (by omega) (fun c1 => ?_) (fun c1 => ?_)
  · refine js_aload_n 0 dX5_isAhead_28 rfl ?_
    refine gX5_22 rfl dX5_isAhead_29 ha rfl ?_
    refine js_aload_n 1 dX5_isAhead_32 rfl ?_
    refine gX5_22 rfl dX5_isAhead_33 hb rfl ?_
    refine js_icmp_eq (tgt := 58) dX5_isAhead_36 (by decide) (by omega) (fun c2 => ?_) (fun c2 => ?_)
    · refine js_aload_n 0 dX5_isAhead_58 rfl ?_
      refine gX5_44 rfl dX5_isAhead_59 ha rfl ?_
      refine js_aload_n 1 dX5_isAhead_62 rfl ?_
      refine gX5_44 rfl dX5_isAhead_63 hb rfl ?_
      refine js_icmp_ge (tgt := 73) dX5_isAhead_66 (by decide) (by omega) (fun c3 => ?_) (fun c3 => ?_)
      · refine js_iconst dX5_isAhead_73 ?_
        exact js_iret rfl (js_nar_boolean (by omega)) dX5_isAhead_74 ⟨js_reti (jb_f (by omega)).symm, rfl⟩
      · refine js_iconst dX5_isAhead_69 ?_
        refine js_goto (tgt := 74) dX5_isAhead_70 (by decide) ?_
        exact js_iret rfl (js_nar_boolean (by omega)) dX5_isAhead_74 ⟨js_reti (jb_t (by omega)).symm, rfl⟩
    · refine js_aload_n 0 dX5_isAhead_39 rfl ?_
      refine gX5_22 rfl dX5_isAhead_40 ha rfl ?_
      refine js_aload_n 1 dX5_isAhead_43 rfl ?_
      refine gX5_22 rfl dX5_isAhead_44 hb rfl ?_
      refine js_icmp_le (tgt := 54) dX5_isAhead_47 (by decide) (by omega) (fun c4 => ?_) (fun c4 => ?_)
      · refine js_iconst dX5_isAhead_54 ?_
        refine js_goto (tgt := 74) dX5_isAhead_55 (by decide) ?_
        exact js_iret rfl (js_nar_boolean (by omega)) dX5_isAhead_74 ⟨js_reti (jb_f (by omega)).symm, rfl⟩
      · refine js_iconst dX5_isAhead_50 ?_
        refine js_goto (tgt := 74) dX5_isAhead_51 (by decide) ?_
        exact js_iret rfl (js_nar_boolean (by omega)) dX5_isAhead_74 ⟨js_reti (jb_t (by omega)).symm, rfl⟩
  · refine js_aload_n 0 dX5_isAhead_11 rfl ?_
    refine gX5_25 rfl dX5_isAhead_12 ha rfl ?_
    refine js_aload_n 1 dX5_isAhead_15 rfl ?_
    refine gX5_25 rfl dX5_isAhead_16 hb rfl ?_
    refine js_icmp_le (tgt := 26) dX5_isAhead_19 (by decide) (by omega) (fun c5 => ?_) (fun c5 => ?_)
    · refine js_iconst dX5_isAhead_26 ?_
      exact js_iret rfl (js_nar_boolean (by omega)) dX5_isAhead_27 ⟨js_reti (jb_f (by omega)).symm, rfl⟩
    · refine js_iconst dX5_isAhead_22 ?_
      refine js_goto (tgt := 27) dX5_isAhead_23 (by decide) ?_
      exact js_iret rfl (js_nar_boolean (by omega)) dX5_isAhead_27 ⟨js_reti (jb_t (by omega)).symm, rfl⟩
theorem con_bcopy {ρ : js_R} {h : js_H} {a : Nat} {w : Bool} {p0 p1 p2 p3 p4 p5 p6 p7 : Int} (ha : h a = some (js_ob w 4 [.int (jI p0), .int (jI p1), .int (jI p2), .int (jI p3), .int (jI p4), .int (jI p5), .int (jI p6), .int (jI p7)])) : js_Con ρ mX5_copy 2 1 8 [.ref a] h (zNewO 4 [.int (jI p0), .int (jI p1), .int (jI p2), .int (jI p3), .int (jI p4), .int (jI p5), .int (jI p6), .int (jI p7)] h) := by
  refine js_body [(0, .ref a)] rfl (by decide) (Nat.le_of_ble_eq_true rfl) rfl ?_
  refine nX5_8 (kc' := 0) (ks' := 0) rfl dX5_copy_0 (by omega) (by omega) (fun a1 hf_a1 hB_a1 => ?_)
  refine js_dup dX5_copy_3 rfl ?_
  refine js_aload_n 0 dX5_copy_4 rfl ?_
  refine gX5_7 rfl dX5_copy_5 ((js_up_n (js_nef ha hf_a1)).trans ha) rfl ?_
  refine js_aload_n 0 dX5_copy_8 rfl ?_
  refine gX5_13 rfl dX5_copy_9 ((js_up_n (js_nef ha hf_a1)).trans ha) rfl ?_
  refine js_aload_n 0 dX5_copy_12 rfl ?_
  refine gX5_16 rfl dX5_copy_13 ((js_up_n (js_nef ha hf_a1)).trans ha) rfl ?_
  refine eX5_47 rfl dX5_copy_16 (con_binit js_up_s) (Nat.le_of_ble_eq_true rfl) (Nat.le_of_ble_eq_true rfl) ?_
  rw [js_up_up]
  show js_ok ρ mX5_copy _ 2 0 0 19 [(0, .ref a)] [.ref a1] (js_up h a1 (js_ob true 4 [.int (jI p0), .int (jI 0), .int (jI p2), .int (jI p3), .int (jI 0), .int (jI 0), .int (jI 0), .int (jI 0)]))
  refine js_astore_n (L' := [(1, .ref a1), (0, .ref a)]) dX5_copy_19 (by decide) rfl ?_
  refine js_aload_n 0 dX5_copy_20 rfl ?_
  refine js_aload_n 1 dX5_copy_21 rfl ?_
  refine gX5_19 rfl dX5_copy_22 ((js_up_n (js_nef ha hf_a1)).trans ha) rfl ?_
  refine pX5_19 rfl dX5_copy_25 js_up_s (Nat.le_of_ble_eq_true rfl) rfl rfl ?_
  rw [js_up_up]
  show js_ok ρ mX5_copy _ 2 0 0 28 [(1, .ref a1), (0, .ref a)] [] (js_up h a1 (js_ob true 4 [.int (jI p0), .int (jI p1), .int (jI p2), .int (jI p3), .int (jI 0), .int (jI 0), .int (jI 0), .int (jI 0)]))
  refine js_aload_n 0 dX5_copy_28 rfl ?_
  refine js_aload_n 1 dX5_copy_29 rfl ?_
  refine gX5_22 rfl dX5_copy_30 ((js_up_n (js_nef ha hf_a1)).trans ha) rfl ?_
  refine pX5_22 rfl dX5_copy_33 js_up_s (Nat.le_of_ble_eq_true rfl) rfl rfl ?_
  rw [js_up_up]
  show js_ok ρ mX5_copy _ 2 0 0 36 [(1, .ref a1), (0, .ref a)] [] (js_up h a1 (js_ob true 4 [.int (jI p0), .int (jI p1), .int (jI p2), .int (jI p3), .int (jI p4), .int (jI 0), .int (jI 0), .int (jI 0)]))
  refine js_aload_n 0 dX5_copy_36 rfl ?_
  refine js_aload_n 1 dX5_copy_37 rfl ?_
  refine gX5_25 rfl dX5_copy_38 ((js_up_n (js_nef ha hf_a1)).trans ha) rfl ?_
  refine pX5_25 rfl dX5_copy_41 js_up_s (Nat.le_of_ble_eq_true rfl) rfl rfl ?_
  rw [js_up_up]
  show js_ok ρ mX5_copy _ 2 0 0 44 [(1, .ref a1), (0, .ref a)] [] (js_up h a1 (js_ob true 4 [.int (jI p0), .int (jI p1), .int (jI p2), .int (jI p3), .int (jI p4), .int (jI p5), .int (jI 0), .int (jI 0)]))
  refine js_aload_n 0 dX5_copy_44 rfl ?_
  refine js_aload_n 1 dX5_copy_45 rfl ?_
  refine gX5_44 rfl dX5_copy_46 ((js_up_n (js_nef ha hf_a1)).trans ha) rfl ?_
  refine pX5_44 rfl dX5_copy_49 js_up_s (Nat.le_of_ble_eq_true rfl) rfl rfl ?_
  rw [js_up_up]
  show js_ok ρ mX5_copy _ 2 0 0 52 [(1, .ref a1), (0, .ref a)] [] (js_up h a1 (js_ob true 4 [.int (jI p0), .int (jI p1), .int (jI p2), .int (jI p3), .int (jI p4), .int (jI p5), .int (jI p6), .int (jI 0)]))
  refine js_aload_n 0 dX5_copy_52 rfl ?_
  refine js_aload_n 1 dX5_copy_53 rfl ?_
  refine gX5_28 rfl dX5_copy_54 ((js_up_n (js_nef ha hf_a1)).trans ha) rfl ?_
  refine pX5_28 rfl dX5_copy_57 js_up_s (Nat.le_of_ble_eq_true rfl) rfl rfl ?_
  rw [js_up_up]
  show js_ok ρ mX5_copy _ 2 0 0 60 [(1, .ref a1), (0, .ref a)] [] (js_up h a1 (js_ob true 4 [.int (jI p0), .int (jI p1), .int (jI p2), .int (jI p3), .int (jI p4), .int (jI p5), .int (jI p6), .int (jI p7)]))
  refine js_aload_n 0 dX5_copy_60 rfl ?_
  exact js_aret rfl (Or.inl ⟨_, rfl⟩) (Or.inr ⟨_, rfl⟩) dX5_copy_61 ⟨a1, rfl, hf_a1, rfl⟩
theorem con_sinit {ρ : js_R} {h : js_H} {a : Nat} {p s : Int} (ha : h a = some (js_ob true 5 [.int (jI 0), .int (jI 0), .int (jI 0)])) : js_Con ρ mX6_init 1 0 0 [.ref a, .int (jI p), .int (jI s)] h (js_ret none (js_up h a (js_ob true 5 [.int (jI p), .int (jI s), .int (jI 0)]))) := by
  refine js_body [(0, .ref a), (1, .int (jI p)), (2, .int (jI s))] rfl (by decide) (Nat.le_of_ble_eq_true rfl) rfl ?_
  refine js_aload_n 0 dX6_init_0 rfl ?_
  refine js_oinit q1100 q156 q157 (Nat.le_of_ble_eq_true rfl) (Nat.le_of_ble_eq_true rfl) dX6_init_1 ?_
  refine js_aload_n 0 dX6_init_4 rfl ?_
  refine js_iload_n 1 dX6_init_5 rfl ?_
  refine pX6_7 rfl rfl dX6_init_6 ha (Nat.le_of_ble_eq_true rfl) rfl rfl ?_
  show js_ok ρ mX6_init _ 1 0 0 9 [(0, .ref a), (1, .int (jI p)), (2, .int (jI s))] [] (js_up h a (js_ob true 5 [.int (jI p), .int (jI 0), .int (jI 0)]))
  refine js_aload_n 0 dX6_init_9 rfl ?_
  refine js_iload_n 2 dX6_init_10 rfl ?_
  refine pX6_13 rfl rfl dX6_init_11 js_up_s (Nat.le_of_ble_eq_true rfl) rfl rfl ?_
  rw [js_up_up]
  show js_ok ρ mX6_init _ 1 0 0 14 [(0, .ref a), (1, .int (jI p)), (2, .int (jI s))] [] (js_up h a (js_ob true 5 [.int (jI p), .int (jI s), .int (jI 0)]))
  exact js_vret rfl dX6_init_14 ⟨rfl, rfl⟩
theorem con_gate {ρ : js_R} {h : js_H} {a : Nat} {w : Bool} {p s r : Int} (ha : h a = some (js_ob w 5 [.int (jI p), .int (jI s), .int (jI r)])) (rp : 0 ≤ p ∧ p < 100) (rs : 0 ≤ s ∧ s ≤ 4) : js_Con ρ mX6_gate 3 0 0 [.ref a] h (js_ret (some (.int (jI (znext p s)))) h) := by
  refine js_body [(0, .ref a)] rfl (by decide) (Nat.le_of_ble_eq_true rfl) rfl ?_
  refine js_aload_n 0 dX6_gate_0 rfl ?_
  refine gX6_7 rfl dX6_gate_1 ha rfl ?_
  refine js_aload_n 0 dX6_gate_4 rfl ?_
  refine gX6_13 rfl dX6_gate_5 ha rfl ?_
  refine eX6_16 rfl dX6_gate_8 (con_next (by omega) (by omega)) (Nat.le_of_ble_eq_true rfl) (Nat.le_of_ble_eq_true rfl) ?_
  exact js_iret rfl rfl dX6_gate_11 ⟨rfl, rfl⟩
theorem con_scopy {ρ : js_R} {h : js_H} {a : Nat} {w : Bool} {p s r : Int} (ha : h a = some (js_ob w 5 [.int (jI p), .int (jI s), .int (jI r)])) : js_Con ρ mX6_copy 2 1 3 [.ref a] h (zNewO 5 [.int (jI p), .int (jI s), .int (jI r)] h) := by
  refine js_body [(0, .ref a)] rfl (by decide) (Nat.le_of_ble_eq_true rfl) rfl ?_
  refine nX6_8 (kc' := 0) (ks' := 0) rfl dX6_copy_0 (by omega) (by omega) (fun a1 hf_a1 hB_a1 => ?_)
  refine js_dup dX6_copy_3 rfl ?_
  refine js_aload_n 0 dX6_copy_4 rfl ?_
  refine gX6_7 rfl dX6_copy_5 ((js_up_n (js_nef ha hf_a1)).trans ha) rfl ?_
  refine js_aload_n 0 dX6_copy_8 rfl ?_
  refine gX6_13 rfl dX6_copy_9 ((js_up_n (js_nef ha hf_a1)).trans ha) rfl ?_
  refine eX6_22 rfl dX6_copy_12 (con_sinit js_up_s) (Nat.le_of_ble_eq_true rfl) (Nat.le_of_ble_eq_true rfl) ?_
  rw [js_up_up]
  show js_ok ρ mX6_copy _ 2 0 0 15 [(0, .ref a)] [.ref a1] (js_up h a1 (js_ob true 5 [.int (jI p), .int (jI s), .int (jI 0)]))
  refine js_astore_n (L' := [(1, .ref a1), (0, .ref a)]) dX6_copy_15 (by decide) rfl ?_
  refine js_aload_n 0 dX6_copy_16 rfl ?_
  refine js_aload_n 1 dX6_copy_17 rfl ?_
  refine gX6_25 rfl dX6_copy_18 ((js_up_n (js_nef ha hf_a1)).trans ha) rfl ?_
  refine pX6_25 rfl dX6_copy_21 js_up_s (Nat.le_of_ble_eq_true rfl) rfl rfl ?_
  rw [js_up_up]
  show js_ok ρ mX6_copy _ 2 0 0 24 [(1, .ref a1), (0, .ref a)] [] (js_up h a1 (js_ob true 5 [.int (jI p), .int (jI s), .int (jI r)]))
  refine js_aload_n 0 dX6_copy_24 rfl ?_
  exact js_aret rfl (Or.inl ⟨_, rfl⟩) (Or.inr ⟨_, rfl⟩) dX6_copy_25 ⟨a1, rfl, hf_a1, rfl⟩
