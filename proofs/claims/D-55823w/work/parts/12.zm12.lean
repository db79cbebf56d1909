set_option maxRecDepth 100000
theorem con_isBetween {ρ : js_R} {h : js_H} {v lo hi : Int} (rv : -2147483648 ≤ v ∧ v < 2147483648) (rlo : -2147483648 ≤ lo ∧ lo < 2147483648) (rhi : -2147483648 ≤ hi ∧ hi < 2147483648) : js_Con ρ mX1_isBetween 0 0 0 [.int (jI v), .int (jI lo), .int (jI hi)] h (js_ret (some (.int (jI (jb (lo ≤ v ∧ v ≤ hi))))) h) := by
  refine js_body [(0, .int (jI v)), (1, .int (jI lo)), (2, .int (jI hi))] rfl (by decide) (Nat.le_of_ble_eq_true rfl) rfl ?_
  refine js_iload_n 0 dX1_isBetween_0 rfl ?_
  refine js_iload_n 1 dX1_isBetween_1 rfl ?_
  refine js_icmp_lt (tgt := 14) dX1_isBetween_2 (by decide) (by omega) (fun c1 => ?_) (fun c1 => ?_)
  · refine js_iconst dX1_isBetween_14 ?_
    exact js_iret rfl (js_nar_boolean (by omega)) dX1_isBetween_15 ⟨js_reti (jb_f (by omega)).symm, rfl⟩
  · refine js_iload_n 0 dX1_isBetween_5 rfl ?_
    refine js_iload_n 2 dX1_isBetween_6 rfl ?_
    refine js_icmp_gt (tgt := 14) dX1_isBetween_7 (by decide) (by omega) (fun c2 => ?_) (fun c2 => ?_)
    · refine js_iconst dX1_isBetween_14 ?_
      exact js_iret rfl (js_nar_boolean (by omega)) dX1_isBetween_15 ⟨js_reti (jb_f (by omega)).symm, rfl⟩
    · refine js_iconst dX1_isBetween_10 ?_
      refine js_goto (tgt := 15) dX1_isBetween_11 (by decide) ?_
      exact js_iret rfl (js_nar_boolean (by omega)) dX1_isBetween_15 ⟨js_reti (jb_t (by omega)).symm, rfl⟩
theorem con_isOn {ρ : js_R} {h : js_H} {v : Int} (rv : -2147483648 ≤ v ∧ v < 2147483648) : js_Con ρ mX1_isOn 1 0 0 [.int (jI v)] h (js_ret (some (.int (jI (jb (0 ≤ v ∧ v ≤ 9))))) h) := by
  refine js_body [(0, .int (jI v))] rfl (by decide) (Nat.le_of_ble_eq_true rfl) rfl ?_
  refine js_iload_n 0 dX1_isOn_0 rfl ?_
  refine js_iconst dX1_isOn_1 ?_
  refine js_bipush dX1_isOn_2 rfl ?_
  refine eX1_49 rfl dX1_isOn_4 (con_isBetween (by omega) (by omega) (by omega)) (Nat.le_of_ble_eq_true rfl) (by decide) ?_
  exact js_iret rfl (jb_nar _) dX1_isOn_7 ⟨rfl, rfl⟩
theorem con_next {ρ : js_R} {h : js_H} {p w : Int} (rp : 0 ≤ p ∧ p < 100) (rw_ : 0 ≤ w ∧ w ≤ 4) : js_Con ρ mX1_next 2 0 0 [.int (jI p), .int (jI w)] h (js_ret (some (.int (jI (znext p w)))) h) := by
  refine js_body [(0, .int (jI p)), (1, .int (jI w))] rfl (by decide) (Nat.le_of_ble_eq_true rfl) rfl ?_
  have hx := zdx_r w
  have hy := zdy_r w
  refine js_iload_n 0 dX1_next_0 rfl ?_
  refine js_bipush dX1_next_1 rfl ?_
  refine js_irem dX1_next_3 (by omega) ?_
  refine js_join 23 [(0, .int (jI p)), (1, .int (jI w))] [.int (jI (p % 10))] h (zdx w) (fun z hz => ?_) (fun J1 => ?_)
  · subst hz
    refine js_iadd dX1_next_23 ?_
    refine js_istore_n (L' := [(2, .int (jI ((p % 10) + (zdx w)))), (0, .int (jI p)), (1, .int (jI w))]) dX1_next_24 (by decide) rfl ?_
    refine js_iload_n 1 dX1_next_25 rfl ?_
    refine js_bipush dX1_next_26 rfl ?_
    refine js_idiv dX1_next_28 (by omega) ?_
    refine js_join 48 [(2, .int (jI ((p % 10) + (zdx w)))), (0, .int (jI p)), (1, .int (jI w))] [.int (jI (p / 10))] h (zdy w) (fun z hz => ?_) (fun J2 => ?_)
    · subst hz
      refine js_iadd dX1_next_48 ?_
      refine js_istore_n (L' := [(3, .int (jI ((p / 10) + (zdy w)))), (2, .int (jI ((p % 10) + (zdx w)))), (0, .int (jI p)), (1, .int (jI w))]) dX1_next_49 (by decide) rfl ?_
      refine js_iload_n 1 dX1_next_50 rfl ?_
      refine eX1_69 rfl dX1_next_51 (con_isOn (by omega)) (Nat.le_of_ble_eq_true rfl) (by decide) ?_
      refine js_if_eqB (tgt := 73) dX1_next_54 (by decide) (fun c3 => ?_) (fun c3 => ?_)
      · refine js_iload_n 2 dX1_next_73 rfl ?_
        exact js_iret rfl rfl dX1_next_74 ⟨js_reti (by unfold znext; rw [if_neg (by omega)]), rfl⟩
      · refine js_iload_n 0 dX1_next_57 rfl ?_
        refine eX1_69 rfl dX1_next_58 (con_isOn (by omega)) (Nat.le_of_ble_eq_true rfl) (by decide) ?_
        refine js_if_eqB (tgt := 73) dX1_next_61 (by decide) (fun c4 => ?_) (fun c4 => ?_)
        · refine js_iload_n 2 dX1_next_73 rfl ?_
          exact js_iret rfl rfl dX1_next_74 ⟨js_reti (by unfold znext; rw [if_neg (by omega)]), rfl⟩
        · refine js_bipush dX1_next_64 rfl ?_
          refine js_iload_n 0 dX1_next_66 rfl ?_
          refine js_imul dX1_next_67 ?_
          refine js_iload_n 1 dX1_next_68 rfl ?_
          refine js_iadd dX1_next_69 ?_
          refine js_goto (tgt := 74) dX1_next_70 (by decide) ?_
          exact js_iret rfl rfl dX1_next_74 ⟨js_reti (by unfold znext; rw [if_pos (by omega)]), rfl⟩
    · refine js_iload_n 2 dX1_next_29 rfl ?_
      refine js_iconst dX1_next_30 ?_
      refine js_icmp_ne (tgt := 38) dX1_next_31 (by decide) (by omega) (fun c5 => ?_) (fun c5 => ?_)
      · refine js_iload_n 2 dX1_next_38 rfl ?_
        refine js_iconst dX1_next_39 ?_
        refine js_icmp_ne (tgt := 47) dX1_next_40 (by decide) (by omega) (fun c6 => ?_) (fun c6 => ?_)
        · refine js_iconst dX1_next_47 ?_
          exact J2 _ (by unfold zdy; (repeat' split) <;> omega)
        · refine js_iconst dX1_next_43 ?_
          refine js_goto (tgt := 48) dX1_next_44 (by decide) ?_
          exact J2 _ (by unfold zdy; (repeat' split) <;> omega)
      · refine js_iconst dX1_next_34 ?_
        refine js_goto (tgt := 48) dX1_next_35 (by decide) ?_
        exact J2 _ (by unfold zdy; (repeat' split) <;> omega)
  · refine js_iload_n 1 dX1_next_4 rfl ?_
    refine js_iconst dX1_next_5 ?_
    refine js_icmp_ne (tgt := 13) dX1_next_6 (by decide) (by omega) (fun c7 => ?_) (fun c7 => ?_)
    · refine js_iload_n 1 dX1_next_13 rfl ?_
      refine js_iconst dX1_next_14 ?_
      refine js_icmp_ne (tgt := 22) dX1_next_15 (by decide) (by omega) (fun c8 => ?_) (fun c8 => ?_)
      · refine js_iconst dX1_next_22 ?_
        exact J1 _ (by unfold zdx; (repeat' split) <;> omega)
      · refine js_iconst dX1_next_18 ?_
        refine js_goto (tgt := 23) dX1_next_19 (by decide) ?_
        exact J1 _ (by unfold zdx; (repeat' split) <;> omega)
    · refine js_iconst dX1_next_9 ?_
      refine js_goto (tgt := 23) dX1_next_10 (by decide) ?_
      exact J1 _ (by unfold zdx; (repeat' split) <;> omega)
theorem con_flies {ρ : js_R} {h : js_H} {a : Nat} {w : Bool} {p0 p1 p2 p3 p4 p5 p6 p7 : Int} (ha : h a = some (js_ob w 4 [.int (jI p0), .int (jI p1), .int (jI p2), .int (jI p3), .int (jI p4), .int (jI p5), .int (jI p6), .int (jI p7)])) (rp1 : -1000000 ≤ p1 ∧ p1 ≤ 1000000) : js_Con ρ mX5_flies 0 0 0 [.ref a] h (js_ret (some (.int (jI (jb (0 < p1))))) h) := by
  refine js_body [(0, .ref a)] rfl (by decide) (Nat.le_of_ble_eq_true rfl) rfl ?_
  refine js_aload_n 0 dX5_flies_0 rfl ?_
  refine gX5_19 rfl dX5_flies_1 ha rfl ?_
  refine js_if_le (tgt := 11) dX5_flies_4 (by decide) (by omega) (fun c1 => ?_) (fun c1 => ?_)
  · refine js_iconst dX5_flies_11 ?_
    exact js_iret rfl (js_nar_boolean (by omega)) dX5_flies_12 ⟨js_reti (jb_f (by omega)).symm, rfl⟩
  · refine js_iconst dX5_flies_7 ?_
    refine js_goto (tgt := 12) dX5_flies_8 (by decide) ?_
    exact js_iret rfl (js_nar_boolean (by omega)) dX5_flies_12 ⟨js_reti (jb_t (by omega)).symm, rfl⟩
