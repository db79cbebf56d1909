set_option maxRecDepth 100000
/-! reason, letter -/
/-- the reason as a row of four numbers -/
def zrr (rs : zRs) : Int → Int := fun j => match rs with
  | none => 0
  | some (p, none) => if j = 0 then p.1 else if j = 1 then p.2 else 0
  | some (p, some q) => if j = 0 then p.1 else if j = 1 then p.2 else if j = 2 then q.1 else q.2
theorem xq_reasonN {ρ : js_R} {h : js_H} {x : Nat} {u0 u1 u2 u3 u4 u5 u6 : Value}  {dp dt : Int} (hx : h x = some (js_ob true 0 [u0, u1, u2, u3, u4, u5, u6, .null])) (rdp : -2147483648 ≤ dp ∧ dp < 2147483648) (hdt : dt = 0 ∨ dt = 1) : js_Con ρ mX1_reason 10 2 12 [.ref x, .int (jI dp), .int (jI dt)] h (zAns (zt2 (0 ≤ dp ∧ dp ≤ 1) (zrr (none) (2 * dp) ≠ 0)) (.int (jI (zrr (none) (2 * dp + (if dt = 0 then 0 else 1))))) "java/lang/IllegalArgumentException" "java/util/NoSuchElementException" h) := by
  refine js_body [(0, .ref x), (1, .int (jI dp)), (2, .int (jI dt))] rfl (by decide) (Nat.le_of_ble_eq_true rfl) rfl ?_
  have z0 : zrr (none) 0 = 0 := rfl
  have z1 : zrr (none) 1 = 0 := rfl
  have z2 : zrr (none) 2 = 0 := rfl
  have z3 : zrr (none) 3 = 0 := rfl
  have t0 := zt2_c (0 ≤ dp ∧ dp ≤ 1) (zrr (none) (2 * dp) ≠ 0)
  have e2 : dp = 0 → zrr (none) (2 * dp) = 0 := fun z => by rw [z]; rfl
  have e3 : dp = 1 → zrr (none) (2 * dp) = 0 := fun z => by rw [z]; rfl
  refine js_iload_n 1 dX1_reason_0 rfl ?_
  refine js_iconst dX1_reason_1 ?_
  refine js_iconst dX1_reason_2 ?_
  refine eX1_49 rfl dX1_reason_3 (con_isBetween (by omega) (by omega) (by omega)) (Nat.le_of_ble_eq_true rfl) (Nat.le_of_ble_eq_true rfl) ?_
  refine vX1_206 (kc' := 1) (ks' := 6) rfl dX1_reason_6 (con_chk) (Nat.le_of_ble_eq_true rfl) (by omega) (by omega) (Nat.le_of_ble_eq_true rfl) (fun v1 g1 q1 => ?_) (fun E1 g1 q1 => ?_)
  · obtain ⟨g0_1, ⟨p1, e1⟩ | ⟨_, e1⟩⟩ := q1
    rotate_left
    · cases e1
    cases e1
    rw [g0_1]
    show js_ok ρ mX1_reason _ 10 1 6 9 [(0, .ref x), (1, .int (jI dp)), (2, .int (jI dt))] [] h
    refine js_aload_n 0 dX1_reason_9 rfl ?_
    refine gX1_42 rfl dX1_reason_10 hx rfl ?_
    refine js_ifnullN (tgt := 20) dX1_reason_13 (by decide) ?_
    refine js_aload_n 0 dX1_reason_20 rfl ?_
    refine gX1_42 rfl dX1_reason_21 hx rfl ?_
    refine js_goto (tgt := 34) dX1_reason_24 (by decide) ?_
    refine js_astore_nN (L' := [(3, .null), (0, .ref x), (1, .int (jI dp)), (2, .int (jI dt))]) dX1_reason_34 (by decide) rfl ?_
    refine js_aload_nN 0 dX1_reason_35 rfl ?_
    refine js_ifnullN (tgt := 43) dX1_reason_36 (by decide) ?_
    refine js_iconst dX1_reason_43 ?_
    refine js_top (b := jb False) (jb_f id).symm ?_
    refine vX1_260 (kc' := 0) (ks' := 0) rfl dX1_reason_44 (con_chkE) (Nat.le_of_ble_eq_true rfl) (by omega) (by omega) (Nat.le_of_ble_eq_true rfl) (fun v2 g2 q2 => ?_) (fun E2 g2 q2 => ?_)
    · obtain ⟨g0_2, ⟨p2, e2⟩ | ⟨_, e2⟩⟩ := q2
      rotate_left
      · cases e2
      cases e2
      rw [g0_2]
      exact absurd p2 id
    · obtain ⟨g0_2, ⟨_, e2⟩ | ⟨p2, e2⟩⟩ := q2
      · cases e2
      · cases e2
        rw [g0_2]
        exact js_out rfl ⟨zFr_refl, Or.inr (Or.inr ⟨by omega, rfl⟩)⟩
  · obtain ⟨g0_1, ⟨_, e1⟩ | ⟨p1, e1⟩⟩ := q1
    · cases e1
    · cases e1
      rw [g0_1]
      exact js_out rfl ⟨zFr_refl, Or.inr (Or.inl ⟨by omega, rfl⟩)⟩
theorem xq_reason1 {ρ : js_R} {h : js_H} {x : Nat} {u0 u1 u2 u3 u4 u5 u6 : Value} {r : Nat} {n1 d1 : Int} {dp dt : Int} (hx : h x = some (js_ob true 0 [u0, u1, u2, u3, u4, u5, u6, .ref r])) (hr : h r = some (js_ob true 3 [.int (jI n1), .int (jI d1), .null])) (n0 : n1 ≠ 0) (rdp : -2147483648 ≤ dp ∧ dp < 2147483648) (hdt : dt = 0 ∨ dt = 1) : js_Con ρ mX1_reason 10 2 12 [.ref x, .int (jI dp), .int (jI dt)] h (zAns (zt2 (0 ≤ dp ∧ dp ≤ 1) (zrr (some ((n1, d1), none)) (2 * dp) ≠ 0)) (.int (jI (zrr (some ((n1, d1), none)) (2 * dp + (if dt = 0 then 0 else 1))))) "java/lang/IllegalArgumentException" "java/util/NoSuchElementException" h) := by
  refine js_body [(0, .ref x), (1, .int (jI dp)), (2, .int (jI dt))] rfl (by decide) (Nat.le_of_ble_eq_true rfl) rfl ?_
  have z0 : zrr (some ((n1, d1), none)) 0 = n1 := rfl
  have z1 : zrr (some ((n1, d1), none)) 1 = d1 := rfl
  have z2 : zrr (some ((n1, d1), none)) 2 = 0 := rfl
  have z3 : zrr (some ((n1, d1), none)) 3 = 0 := rfl
  have t0 := zt2_c (0 ≤ dp ∧ dp ≤ 1) (zrr (some ((n1, d1), none)) (2 * dp) ≠ 0)
  have e2 : dp = 0 → zrr (some ((n1, d1), none)) (2 * dp) = n1 := fun z => by rw [z]; rfl
  have e3 : dp = 1 → zrr (some ((n1, d1), none)) (2 * dp) = 0 := fun z => by rw [z]; rfl
  refine js_iload_n 1 dX1_reason_0 rfl ?_
  refine js_iconst dX1_reason_1 ?_
  refine js_iconst dX1_reason_2 ?_
  refine eX1_49 rfl dX1_reason_3 (con_isBetween (by omega) (by omega) (by omega)) (Nat.le_of_ble_eq_true rfl) (Nat.le_of_ble_eq_true rfl) ?_
  refine vX1_206 (kc' := 1) (ks' := 6) rfl dX1_reason_6 (con_chk) (Nat.le_of_ble_eq_true rfl) (by omega) (by omega) (Nat.le_of_ble_eq_true rfl) (fun v1 g1 q1 => ?_) (fun E1 g1 q1 => ?_)
  · obtain ⟨g0_1, ⟨p1, e1⟩ | ⟨_, e1⟩⟩ := q1
    rotate_left
    · cases e1
    cases e1
    rw [g0_1]
    show js_ok ρ mX1_reason _ 10 1 6 9 [(0, .ref x), (1, .int (jI dp)), (2, .int (jI dt))] [] h
    refine js_aload_n 0 dX1_reason_9 rfl ?_
    refine gX1_42 rfl dX1_reason_10 hx rfl ?_
    refine js_ifnull dX1_reason_13 ?_
    refine js_iload_n 1 dX1_reason_16 rfl ?_
    refine js_if_ne (tgt := 27) dX1_reason_17 (by decide) (by omega) (fun c2 => ?_) (fun c2 => ?_)
    · refine js_aload_n 0 dX1_reason_27 rfl ?_
      refine gX1_42 rfl dX1_reason_28 hx rfl ?_
      refine gX1_433 rfl dX1_reason_31 hr rfl ?_
      refine js_astore_nN (L' := [(3, .null), (0, .ref x), (1, .int (jI dp)), (2, .int (jI dt))]) dX1_reason_34 (by decide) rfl ?_
      refine js_aload_nN 0 dX1_reason_35 rfl ?_
      refine js_ifnullN (tgt := 43) dX1_reason_36 (by decide) ?_
      refine js_iconst dX1_reason_43 ?_
      refine js_top (b := jb False) (jb_f id).symm ?_
      refine vX1_260 (kc' := 0) (ks' := 0) rfl dX1_reason_44 (con_chkE) (Nat.le_of_ble_eq_true rfl) (by omega) (by omega) (Nat.le_of_ble_eq_true rfl) (fun v3 g3 q3 => ?_) (fun E3 g3 q3 => ?_)
      · obtain ⟨g0_3, ⟨p3, e3⟩ | ⟨_, e3⟩⟩ := q3
        rotate_left
        · cases e3
        cases e3
        rw [g0_3]
        exact absurd p3 id
      · obtain ⟨g0_3, ⟨_, e3⟩ | ⟨p3, e3⟩⟩ := q3
        · cases e3
        · cases e3
          rw [g0_3]
          exact js_out rfl ⟨zFr_refl, Or.inr (Or.inr ⟨by omega, rfl⟩)⟩
    · refine js_aload_n 0 dX1_reason_20 rfl ?_
      refine gX1_42 rfl dX1_reason_21 hx rfl ?_
      refine js_goto (tgt := 34) dX1_reason_24 (by decide) ?_
      refine js_astore_n (L' := [(3, .ref r), (0, .ref x), (1, .int (jI dp)), (2, .int (jI dt))]) dX1_reason_34 (by decide) rfl ?_
      refine js_aload_n 0 dX1_reason_35 rfl ?_
      refine js_ifnull dX1_reason_36 ?_
      refine js_iconst dX1_reason_39 ?_
      refine js_goto (tgt := 44) dX1_reason_40 (by decide) ?_
      refine js_top (b := jb True) (jb_t trivial).symm ?_
      refine vX1_260 (kc' := 0) (ks' := 0) rfl dX1_reason_44 (con_chkE) (Nat.le_of_ble_eq_true rfl) (by omega) (by omega) (Nat.le_of_ble_eq_true rfl) (fun v4 g4 q4 => ?_) (fun E4 g4 q4 => ?_)
      · obtain ⟨g0_4, ⟨p4, e4⟩ | ⟨_, e4⟩⟩ := q4
        rotate_left
        · cases e4
        cases e4
        rw [g0_4]
        show js_ok ρ mX1_reason _ 10 0 0 47 [(3, .ref r), (0, .ref x), (1, .int (jI dp)), (2, .int (jI dt))] [] h
        refine js_aload_n 0 dX1_reason_47 rfl ?_
        refine js_ifnonnull (tgt := 55) dX1_reason_48 (by decide) ?_
        refine js_iload_n 3 dX1_reason_55 rfl ?_
        refine js_if_eq (tgt := 66) dX1_reason_56 (by decide) (by omega) (fun c5 => ?_) (fun c5 => ?_)
        · refine js_aload_n 0 dX1_reason_66 rfl ?_
          refine gX1_439 rfl dX1_reason_67 hr rfl ?_
          exact js_iret rfl rfl dX1_reason_70 ⟨zFr_refl, Or.inl ⟨by omega, js_reti (by
              have dd : dp = 0 ∨ dp = 1 := by omega
              rcases dd with rfl | rfl <;> rcases hdt with rfl | rfl <;> first | rfl | omega | (exfalso; omega))⟩⟩
        · refine js_aload_n 0 dX1_reason_59 rfl ?_
          refine gX1_436 rfl dX1_reason_60 hr rfl ?_
          refine js_goto (tgt := 70) dX1_reason_63 (by decide) ?_
          exact js_iret rfl rfl dX1_reason_70 ⟨zFr_refl, Or.inl ⟨by omega, js_reti (by
              have dd : dp = 0 ∨ dp = 1 := by omega
              rcases dd with rfl | rfl <;> rcases hdt with rfl | rfl <;> first | rfl | omega | (exfalso; omega))⟩⟩
      · obtain ⟨g0_4, ⟨_, e4⟩ | ⟨p4, e4⟩⟩ := q4
        · cases e4
        · cases e4
          rw [g0_4]
          exact absurd trivial p4
  · obtain ⟨g0_1, ⟨_, e1⟩ | ⟨p1, e1⟩⟩ := q1
    · cases e1
    · cases e1
      rw [g0_1]
      exact js_out rfl ⟨zFr_refl, Or.inr (Or.inl ⟨by omega, rfl⟩)⟩
theorem xq_reason2 {ρ : js_R} {h : js_H} {x : Nat} {u0 u1 u2 u3 u4 u5 u6 : Value} {r s : Nat} {n1 d1 n2 d2 : Int} {dp dt : Int} (hx : h x = some (js_ob true 0 [u0, u1, u2, u3, u4, u5, u6, .ref r])) (hr : h r = some (js_ob true 3 [.int (jI n1), .int (jI d1), .ref s])) (hs : h s = some (js_ob true 3 [.int (jI n2), .int (jI d2), .null])) (n0 : n1 ≠ 0) (n9 : n2 ≠ 0) (rdp : -2147483648 ≤ dp ∧ dp < 2147483648) (hdt : dt = 0 ∨ dt = 1) : js_Con ρ mX1_reason 10 2 12 [.ref x, .int (jI dp), .int (jI dt)] h (zAns (zt2 (0 ≤ dp ∧ dp ≤ 1) (zrr (some ((n1, d1), some (n2, d2))) (2 * dp) ≠ 0)) (.int (jI (zrr (some ((n1, d1), some (n2, d2))) (2 * dp + (if dt = 0 then 0 else 1))))) "java/lang/IllegalArgumentException" "java/util/NoSuchElementException" h) := by
  refine js_body [(0, .ref x), (1, .int (jI dp)), (2, .int (jI dt))] rfl (by decide) (Nat.le_of_ble_eq_true rfl) rfl ?_
  have z0 : zrr (some ((n1, d1), some (n2, d2))) 0 = n1 := rfl
  have z1 : zrr (some ((n1, d1), some (n2, d2))) 1 = d1 := rfl
  have z2 : zrr (some ((n1, d1), some (n2, d2))) 2 = n2 := rfl
  have z3 : zrr (some ((n1, d1), some (n2, d2))) 3 = d2 := rfl
  have t0 := zt2_c (0 ≤ dp ∧ dp ≤ 1) (zrr (some ((n1, d1), some (n2, d2))) (2 * dp) ≠ 0)
  have e2 : dp = 0 → zrr (some ((n1, d1), some (n2, d2))) (2 * dp) = n1 := fun z => by rw [z]; rfl
  have e3 : dp = 1 → zrr (some ((n1, d1), some (n2, d2))) (2 * dp) = n2 := fun z => by rw [z]; rfl
  refine js_iload_n 1 dX1_reason_0 rfl ?_
  refine js_iconst dX1_reason_1 ?_
  refine js_iconst dX1_reason_2 ?_
  refine eX1_49 rfl dX1_reason_3 (con_isBetween (by omega) (by omega) (by omega)) (Nat.le_of_ble_eq_true rfl) (Nat.le_of_ble_eq_true rfl) ?_
  refine vX1_206 (kc' := 1) (ks' := 6) rfl dX1_reason_6 (con_chk) (Nat.le_of_ble_eq_true rfl) (by omega) (by omega) (Nat.le_of_ble_eq_true rfl) (fun v1 g1 q1 => ?_) (fun E1 g1 q1 => ?_)
  · obtain ⟨g0_1, ⟨p1, e1⟩ | ⟨_, e1⟩⟩ := q1
    rotate_left
    · cases e1
    cases e1
    rw [g0_1]
    show js_ok ρ mX1_reason _ 10 1 6 9 [(0, .ref x), (1, .int (jI dp)), (2, .int (jI dt))] [] h
    refine js_aload_n 0 dX1_reason_9 rfl ?_
    refine gX1_42 rfl dX1_reason_10 hx rfl ?_
    refine js_ifnull dX1_reason_13 ?_
    refine js_iload_n 1 dX1_reason_16 rfl ?_
    refine js_if_ne (tgt := 27) dX1_reason_17 (by decide) (by omega) (fun c2 => ?_) (fun c2 => ?_)
    · refine js_aload_n 0 dX1_reason_27 rfl ?_
      refine gX1_42 rfl dX1_reason_28 hx rfl ?_
      refine gX1_433 rfl dX1_reason_31 hr rfl ?_
      refine js_astore_n (L' := [(3, .ref s), (0, .ref x), (1, .int (jI dp)), (2, .int (jI dt))]) dX1_reason_34 (by decide) rfl ?_
      refine js_aload_n 0 dX1_reason_35 rfl ?_
      refine js_ifnull dX1_reason_36 ?_
      refine js_iconst dX1_reason_39 ?_
      refine js_goto (tgt := 44) dX1_reason_40 (by decide) ?_
      refine js_top (b := jb True) (jb_t trivial).symm ?_
      refine vX1_260 (kc' := 0) (ks' := 0) rfl dX1_reason_44 (con_chkE) (Nat.le_of_ble_eq_true rfl) (by omega) (by omega) (Nat.le_of_ble_eq_true rfl) (fun v3 g3 q3 => ?_) (fun E3 g3 q3 => ?_)
      · obtain ⟨g0_3, ⟨p3, e3⟩ | ⟨_, e3⟩⟩ := q3
        rotate_left
        · cases e3
        cases e3
        rw [g0_3]
        show js_ok ρ mX1_reason _ 10 0 0 47 [(3, .ref s), (0, .ref x), (1, .int (jI dp)), (2, .int (jI dt))] [] h
        refine js_aload_n 0 dX1_reason_47 rfl ?_
        refine js_ifnonnull (tgt := 55) dX1_reason_48 (by decide) ?_
        refine js_iload_n 3 dX1_reason_55 rfl ?_
        refine js_if_eq (tgt := 66) dX1_reason_56 (by decide) (by omega) (fun c4 => ?_) (fun c4 => ?_)
        · refine js_aload_n 0 dX1_reason_66 rfl ?_
          refine gX1_439 rfl dX1_reason_67 hs rfl ?_
          exact js_iret rfl rfl dX1_reason_70 ⟨zFr_refl, Or.inl ⟨by omega, js_reti (by
              have dd : dp = 0 ∨ dp = 1 := by omega
              rcases dd with rfl | rfl <;> rcases hdt with rfl | rfl <;> first | rfl | omega | (exfalso; omega))⟩⟩
        · refine js_aload_n 0 dX1_reason_59 rfl ?_
          refine gX1_436 rfl dX1_reason_60 hs rfl ?_
          refine js_goto (tgt := 70) dX1_reason_63 (by decide) ?_
          exact js_iret rfl rfl dX1_reason_70 ⟨zFr_refl, Or.inl ⟨by omega, js_reti (by
              have dd : dp = 0 ∨ dp = 1 := by omega
              rcases dd with rfl | rfl <;> rcases hdt with rfl | rfl <;> first | rfl | omega | (exfalso; omega))⟩⟩
      · obtain ⟨g0_3, ⟨_, e3⟩ | ⟨p3, e3⟩⟩ := q3
        · cases e3
        · cases e3
          rw [g0_3]
          exact absurd trivial p3
    · refine js_aload_n 0 dX1_reason_20 rfl ?_
      refine gX1_42 rfl dX1_reason_21 hx rfl ?_
      refine js_goto (tgt := 34) dX1_reason_24 (by decide) ?_
      refine js_astore_n (L' := [(3, .ref r), (0, .ref x), (1, .int (jI dp)), (2, .int (jI dt))]) dX1_reason_34 (by decide) rfl ?_
      refine js_aload_n 0 dX1_reason_35 rfl ?_
      refine js_ifnull dX1_reason_36 ?_
      refine js_iconst dX1_reason_39 ?_
      refine js_goto (tgt := 44) dX1_reason_40 (by decide) ?_
      refine js_top (b := jb True) (jb_t trivial).symm ?_
      refine vX1_260 (kc' := 0) (ks' := 0) rfl dX1_reason_44 (con_chkE) (Nat.le_of_ble_eq_true rfl) (by omega) (by omega) (Nat.le_of_ble_eq_true rfl) (fun v5 g5 q5 => ?_) (fun E5 g5 q5 => ?_)
      · obtain ⟨g0_5, ⟨p5, e5⟩ | ⟨_, e5⟩⟩ := q5
        rotate_left
        · cases e5
        cases e5
        rw [g0_5]
        show js_ok ρ mX1_reason _ 10 0 0 47 [(3, .ref r), (0, .ref x), (1, .int (jI dp)), (2, .int (jI dt))] [] h
        refine js_aload_n 0 dX1_reason_47 rfl ?_
        refine js_ifnonnull (tgt := 55) dX1_reason_48 (by decide) ?_
        refine js_iload_n 3 dX1_reason_55 rfl ?_
        refine js_if_eq (tgt := 66) dX1_reason_56 (by decide) (by omega) (fun c6 => ?_) (fun c6 => ?_)
        · refine js_aload_n 0 dX1_reason_66 rfl ?_
          refine gX1_439 rfl dX1_reason_67 hr rfl ?_
          exact js_iret rfl rfl dX1_reason_70 ⟨zFr_refl, Or.inl ⟨by omega, js_reti (by
              have dd : dp = 0 ∨ dp = 1 := by omega
              rcases dd with rfl | rfl <;> rcases hdt with rfl | rfl <;> first | rfl | omega | (exfalso; omega))⟩⟩
        · refine js_aload_n 0 dX1_reason_59 rfl ?_
          refine gX1_436 rfl dX1_reason_60 hr rfl ?_
          refine js_goto (tgt := 70) dX1_reason_63 (by decide) ?_
          exact js_iret rfl rfl dX1_reason_70 ⟨zFr_refl, Or.inl ⟨by omega, js_reti (by
              have dd : dp = 0 ∨ dp = 1 := by omega
              rcases dd with rfl | rfl <;> rcases hdt with rfl | rfl <;> first | rfl | omega | (exfalso; omega))⟩⟩
      · obtain ⟨g0_5, ⟨_, e5⟩ | ⟨p5, e5⟩⟩ := q5
        · cases e5
        · cases e5
          rw [g0_5]
          exact absurd trivial p5
  · obtain ⟨g0_1, ⟨_, e1⟩ | ⟨p1, e1⟩⟩ := q1
    · cases e1
    · cases e1
      rw [g0_1]
      exact js_out rfl ⟨zFr_refl, Or.inr (Or.inl ⟨by omega, rfl⟩)⟩
def zlet (d : Int) : Int := if d = 1 then 110 else if d = 2 then 101 else if d = 3 then 115 else if d = 4 then 119 else 45
theorem xc_letter {ρ : js_R} {h : js_H} {d : Int} (rd : -2147483648 ≤ d ∧ d < 2147483648) : js_Con ρ mX1_letter 0 0 0 [.int (jI d)] h (js_ret (some (.int (jI (zlet d)))) h) := by
  refine js_body [(0, .int (jI d))] rfl (by decide) (Nat.le_of_ble_eq_true rfl) rfl ?_
  refine js_iload_n 0 dX1_letter_0 rfl ?_
  refine js_iconst dX1_letter_1 ?_
  refine js_icmp_ne (tgt := 10) dX1_letter_2 (by decide) (by omega) (fun c1 => ?_) (fun c1 => ?_)
  · refine js_iload_n 0 dX1_letter_10 rfl ?_
    refine js_iconst dX1_letter_11 ?_
    refine js_icmp_ne (tgt := 20) dX1_letter_12 (by decide) (by omega) (fun c2 => ?_) (fun c2 => ?_)
    · refine js_iload_n 0 dX1_letter_20 rfl ?_
      refine js_iconst dX1_letter_21 ?_
      refine js_icmp_ne (tgt := 30) dX1_letter_22 (by decide) (by omega) (fun c3 => ?_) (fun c3 => ?_)
      · refine js_iload_n 0 dX1_letter_30 rfl ?_
        refine js_iconst dX1_letter_31 ?_
        refine js_icmp_ne (tgt := 40) dX1_letter_32 (by decide) (by omega) (fun c4 => ?_) (fun c4 => ?_)
        · refine js_bipush dX1_letter_40 rfl ?_
          exact js_iret rfl (js_nar_char (by omega)) dX1_letter_42 ⟨js_reti (by unfold zlet; (repeat' split) <;> omega), rfl⟩
        · refine js_bipush dX1_letter_35 rfl ?_
          refine js_goto (tgt := 42) dX1_letter_37 (by decide) ?_
          exact js_iret rfl (js_nar_char (by omega)) dX1_letter_42 ⟨js_reti (by unfold zlet; (repeat' split) <;> omega), rfl⟩
      · refine js_bipush dX1_letter_25 rfl ?_
        refine js_goto (tgt := 42) dX1_letter_27 (by decide) ?_
        exact js_iret rfl (js_nar_char (by omega)) dX1_letter_42 ⟨js_reti (by unfold zlet; (repeat' split) <;> omega), rfl⟩
    · refine js_bipush dX1_letter_15 rfl ?_
      refine js_goto (tgt := 42) dX1_letter_17 (by decide) ?_
      exact js_iret rfl (js_nar_char (by omega)) dX1_letter_42 ⟨js_reti (by unfold zlet; (repeat' split) <;> omega), rfl⟩
  · refine js_bipush dX1_letter_5 rfl ?_
    refine js_goto (tgt := 42) dX1_letter_7 (by decide) ?_
    exact js_iret rfl (js_nar_char (by omega)) dX1_letter_42 ⟨js_reti (by unfold zlet; (repeat' split) <;> omega), rfl⟩
