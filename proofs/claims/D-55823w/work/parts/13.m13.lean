set_option maxRecDepth 100000
/-! BalloonSpiresModel: the small methods -/
theorem com_in {ρ : js_R} {h : js_H} {v lo hi : Int} (rv : -2147483648 ≤ v ∧ v < 2147483648) (rlo : -2147483648 ≤ lo ∧ lo < 2147483648) (rhi : -2147483648 ≤ hi ∧ hi < 2147483648) : js_Con ρ mX3_in 0 0 0 [.int (jI v), .int (jI lo), .int (jI hi)] h (js_ret (some (.int (jI (jb (lo ≤ v ∧ v ≤ hi))))) h) := by
  refine js_body [(0, .int (jI v)), (1, .int (jI lo)), (2, .int (jI hi))] rfl (by decide) (Nat.le_of_ble_eq_true rfl) rfl ?_
  refine js_iload_n 0 dX3_in_0 rfl ?_
  refine js_iload_n 1 dX3_in_1 rfl ?_
  refine js_icmp_lt (tgt := 14) dX3_in_2 (by decide) (by omega) (fun c1 => ?_) (fun c1 => ?_)
  · refine js_iconst dX3_in_14 ?_
    exact js_iret rfl (js_nar_boolean (by omega)) dX3_in_15 ⟨js_reti (jb_f (by omega)).symm, rfl⟩
  · refine js_iload_n 0 dX3_in_5 rfl ?_
    refine js_iload_n 2 dX3_in_6 rfl ?_
    refine js_icmp_gt (tgt := 14) dX3_in_7 (by decide) (by omega) (fun c2 => ?_) (fun c2 => ?_)
    · refine js_iconst dX3_in_14 ?_
      exact js_iret rfl (js_nar_boolean (by omega)) dX3_in_15 ⟨js_reti (jb_f (by omega)).symm, rfl⟩
    · refine js_iconst dX3_in_10 ?_
      refine js_goto (tgt := 15) dX3_in_11 (by decide) ?_
      exact js_iret rfl (js_nar_boolean (by omega)) dX3_in_15 ⟨js_reti (jb_t (by omega)).symm, rfl⟩
theorem com_code {ρ : js_R} {h : js_H} {x y : Int}  : js_Con ρ mX3_code 0 0 0 [.int (jI x), .int (jI y)] h (js_ret (some (.int (jI (10 * y + x)))) h) := by
  refine js_body [(0, .int (jI x)), (1, .int (jI y))] rfl (by decide) (Nat.le_of_ble_eq_true rfl) rfl ?_
  refine js_bipush dX3_code_0 rfl ?_
  refine js_iload_n 1 dX3_code_2 rfl ?_
  refine js_imul dX3_code_3 ?_
  refine js_iload_n 0 dX3_code_4 rfl ?_
  refine js_iadd dX3_code_5 ?_
  exact js_iret rfl rfl dX3_code_6 ⟨rfl, rfl⟩
theorem com_isPoint {ρ : js_R} {h : js_H} {x y : Int} (rx : -2147483648 ≤ x ∧ x < 2147483648) (ry : -2147483648 ≤ y ∧ y < 2147483648) : js_Con ρ mX3_isPoint 1 0 0 [.int (jI x), .int (jI y)] h (js_ret (some (.int (jI (jb ((0 ≤ x ∧ x ≤ 9) ∧ 0 ≤ y ∧ y ≤ 9))))) h) := by
  refine js_body [(0, .int (jI x)), (1, .int (jI y))] rfl (by decide) (Nat.le_of_ble_eq_true rfl) rfl ?_
  refine js_iload_n 0 dX3_isPoint_0 rfl ?_
  refine js_iconst dX3_isPoint_1 ?_
  refine js_bipush dX3_isPoint_2 rfl ?_
  refine eX3_61 rfl dX3_isPoint_4 (com_in (by omega) (by omega) (by omega)) (Nat.le_of_ble_eq_true rfl) (Nat.le_of_ble_eq_true rfl) ?_
  refine js_if_eqB (tgt := 24) dX3_isPoint_7 (by decide) (fun c1 => ?_) (fun c1 => ?_)
  · refine js_iconst dX3_isPoint_24 ?_
    exact js_iret rfl (js_nar_boolean (by omega)) dX3_isPoint_25 ⟨js_reti (jb_f (by omega)).symm, rfl⟩
  · refine js_iload_n 1 dX3_isPoint_10 rfl ?_
    refine js_iconst dX3_isPoint_11 ?_
    refine js_bipush dX3_isPoint_12 rfl ?_
    refine eX3_61 rfl dX3_isPoint_14 (com_in (by omega) (by omega) (by omega)) (Nat.le_of_ble_eq_true rfl) (Nat.le_of_ble_eq_true rfl) ?_
    refine js_if_eqB (tgt := 24) dX3_isPoint_17 (by decide) (fun c2 => ?_) (fun c2 => ?_)
    · refine js_iconst dX3_isPoint_24 ?_
      exact js_iret rfl (js_nar_boolean (by omega)) dX3_isPoint_25 ⟨js_reti (jb_f (by omega)).symm, rfl⟩
    · refine js_iconst dX3_isPoint_20 ?_
      refine js_goto (tgt := 25) dX3_isPoint_21 (by decide) ?_
      exact js_iret rfl (js_nar_boolean (by omega)) dX3_isPoint_25 ⟨js_reti (jb_t (by omega)).symm, rfl⟩
theorem com_nextTo {ρ : js_R} {h : js_H} {p w : Int} (rp : 0 ≤ p ∧ p < 100) (rw_ : 0 ≤ w ∧ w ≤ 4) : js_Con ρ mX3_nextTo 2 0 0 [.int (jI p), .int (jI w)] h (js_ret (some (.int (jI (znexm p w)))) h) := by
  refine js_body [(0, .int (jI p)), (1, .int (jI w))] rfl (by decide) (Nat.le_of_ble_eq_true rfl) rfl ?_
  have hx := zdx_r w
  have hy := zdy_r w
  refine js_iload_n 0 dX3_nextTo_0 rfl ?_
  refine js_bipush dX3_nextTo_1 rfl ?_
  refine js_irem dX3_nextTo_3 (by omega) ?_
  refine js_join 23 [(0, .int (jI p)), (1, .int (jI w))] [.int (jI (p % 10))] h (zdx w) (fun z hz => ?_) (fun J1 => ?_)
  · subst hz
    refine js_iadd dX3_nextTo_23 ?_
    refine js_istore_n (L' := [(2, .int (jI ((p % 10) + (zdx w)))), (0, .int (jI p)), (1, .int (jI w))]) dX3_nextTo_24 (by decide) rfl ?_
    refine js_iload_n 1 dX3_nextTo_25 rfl ?_
    refine js_bipush dX3_nextTo_26 rfl ?_
    refine js_idiv dX3_nextTo_28 (by omega) ?_
    refine js_join 48 [(2, .int (jI ((p % 10) + (zdx w)))), (0, .int (jI p)), (1, .int (jI w))] [.int (jI (p / 10))] h (zdy w) (fun z hz => ?_) (fun J2 => ?_)
    · subst hz
      refine js_iadd dX3_nextTo_48 ?_
      refine js_istore_n (L' := [(3, .int (jI ((p / 10) + (zdy w)))), (2, .int (jI ((p % 10) + (zdx w)))), (0, .int (jI p)), (1, .int (jI w))]) dX3_nextTo_49 (by decide) rfl ?_
      refine js_iload_n 1 dX3_nextTo_50 rfl ?_
      refine js_iload_n 0 dX3_nextTo_51 rfl ?_
      refine eX3_65 rfl dX3_nextTo_52 (com_isPoint (by omega) (by omega)) (Nat.le_of_ble_eq_true rfl) (Nat.le_of_ble_eq_true rfl) ?_
      refine js_if_eqB (tgt := 66) dX3_nextTo_55 (by decide) (fun c3 => ?_) (fun c3 => ?_)
      · refine js_iconst dX3_nextTo_66 ?_
        exact js_iret rfl rfl dX3_nextTo_67 ⟨js_reti (by unfold znexm; rw [if_neg (by omega)]), rfl⟩
      · refine js_iload_n 1 dX3_nextTo_58 rfl ?_
        refine js_iload_n 0 dX3_nextTo_59 rfl ?_
        refine eX3_69 rfl dX3_nextTo_60 com_code (Nat.le_of_ble_eq_true rfl) (Nat.le_of_ble_eq_true rfl) ?_
        refine js_goto (tgt := 67) dX3_nextTo_63 (by decide) ?_
        exact js_iret rfl rfl dX3_nextTo_67 ⟨js_reti (by unfold znexm; rw [if_pos (by omega)]), rfl⟩
    · refine js_iload_n 2 dX3_nextTo_29 rfl ?_
      refine js_iconst dX3_nextTo_30 ?_
      refine js_icmp_ne (tgt := 38) dX3_nextTo_31 (by decide) (by omega) (fun c4 => ?_) (fun c4 => ?_)
      · refine js_iload_n 2 dX3_nextTo_38 rfl ?_
        refine js_iconst dX3_nextTo_39 ?_
        refine js_icmp_ne (tgt := 47) dX3_nextTo_40 (by decide) (by omega) (fun c5 => ?_) (fun c5 => ?_)
        · refine js_iconst dX3_nextTo_47 ?_
          exact J2 _ (by unfold zdy; (repeat' split) <;> omega)
        · refine js_iconst dX3_nextTo_43 ?_
          refine js_goto (tgt := 48) dX3_nextTo_44 (by decide) ?_
          exact J2 _ (by unfold zdy; (repeat' split) <;> omega)
      · refine js_iconst dX3_nextTo_34 ?_
        refine js_goto (tgt := 48) dX3_nextTo_35 (by decide) ?_
        exact J2 _ (by unfold zdy; (repeat' split) <;> omega)
  · refine js_iload_n 1 dX3_nextTo_4 rfl ?_
    refine js_iconst dX3_nextTo_5 ?_
    refine js_icmp_ne (tgt := 13) dX3_nextTo_6 (by decide) (by omega) (fun c6 => ?_) (fun c6 => ?_)
    · refine js_iload_n 1 dX3_nextTo_13 rfl ?_
      refine js_iconst dX3_nextTo_14 ?_
      refine js_icmp_ne (tgt := 22) dX3_nextTo_15 (by decide) (by omega) (fun c7 => ?_) (fun c7 => ?_)
      · refine js_iconst dX3_nextTo_22 ?_
        exact J1 _ (by unfold zdx; (repeat' split) <;> omega)
      · refine js_iconst dX3_nextTo_18 ?_
        refine js_goto (tgt := 23) dX3_nextTo_19 (by decide) ?_
        exact J1 _ (by unfold zdx; (repeat' split) <;> omega)
    · refine js_iconst dX3_nextTo_9 ?_
      refine js_goto (tgt := 23) dX3_nextTo_10 (by decide) ?_
      exact J1 _ (by unfold zdx; (repeat' split) <;> omega)
theorem com_drifted {ρ : js_R} {h : js_H} {m s : Nat} {v1 v2 v3 v4 v5 v6 v7 v8 v9 v10 v11 v12 v13 v14 v15 v16 v17 v18 v19 : Value} {f : Int → Int} {p i : Int} (hm : h m = some (js_ob true 2 [.ref s, v1, v2, v3, v4, v5, v6, v7, v8, v9, v10, v11, v12, v13, v14, v15, v16, v17, v18, v19])) (hs : h s = some (js_aI true 0 287 f)) (rp : 0 ≤ p ∧ p < 100) (ri : 1 ≤ i ∧ i ≤ 5) (rw_ : 0 ≤ f (8 + i - 1) ∧ f (8 + i - 1) ≤ 4) : js_Con ρ mX3_drifted 3 0 0 [.ref m, .int (jI p), .int (jI i)] h (js_ret (some (.int (jI (znext p (f (8 + i - 1)))))) h) := by
  refine js_body [(0, .ref m), (1, .int (jI p)), (2, .int (jI i))] rfl (by decide) (Nat.le_of_ble_eq_true rfl) rfl ?_
  have hz := znexm_r (w := f (8 + i - 1)) rp
  refine js_iload_n 1 dX3_drifted_0 rfl ?_
  refine js_aload_n 0 dX3_drifted_1 rfl ?_
  refine gX3_9 rfl dX3_drifted_2 hm rfl ?_
  refine js_bipush dX3_drifted_5 rfl ?_
  refine js_iload_n 2 dX3_drifted_7 rfl ?_
  refine js_iadd dX3_drifted_8 ?_
  refine js_iconst dX3_drifted_9 ?_
  refine js_isub dX3_drifted_10 ?_
  refine js_iaload dX3_drifted_11 hs (by omega) ?_
  refine eX3_73 rfl dX3_drifted_12 (com_nextTo (by omega) (by omega)) (Nat.le_of_ble_eq_true rfl) (Nat.le_of_ble_eq_true rfl) ?_
  refine js_istore_n (L' := [(3, .int (jI (znexm p (f ((8 + i) - 1))))), (0, .ref m), (1, .int (jI p)), (2, .int (jI i))]) dX3_drifted_15 (by decide) rfl ?_
  refine js_iload_n 0 dX3_drifted_16 rfl ?_
  refine js_if_ge (tgt := 24) dX3_drifted_17 (by decide) (by omega) (fun c1 => ?_) (fun c1 => ?_)
  · refine js_iload_n 0 dX3_drifted_24 rfl ?_
    exact js_iret rfl rfl dX3_drifted_25 ⟨js_reti (znexm_t c1), rfl⟩
  · refine js_iload_n 2 dX3_drifted_20 rfl ?_
    refine js_goto (tgt := 25) dX3_drifted_21 (by decide) ?_
    exact js_iret rfl rfl dX3_drifted_25 ⟨js_reti (znexm_f c1 rp).symm, rfl⟩
theorem com_isBalloon {ρ : js_R} {h : js_H} {m s : Nat} {v1 v2 v3 v4 v5 v6 v7 v8 v9 v10 v11 v12 v13 v14 v15 v16 v17 v18 v19 : Value} {f : Int → Int} {b : Int} (hm : h m = some (js_ob true 2 [.ref s, v1, v2, v3, v4, v5, v6, v7, v8, v9, v10, v11, v12, v13, v14, v15, v16, v17, v18, v19])) (hs : h s = some (js_aI true 0 287 f)) (rb : -2147483648 ≤ b ∧ b < 2147483648) (r0 : 0 ≤ f 0 ∧ f 0 ≤ 1000) : js_Con ρ mX3_isBalloon 1 0 0 [.ref m, .int (jI b)] h (js_ret (some (.int (jI (jb (0 ≤ b ∧ b ≤ f 0 - 1))))) h) := by
  refine js_body [(0, .ref m), (1, .int (jI b))] rfl (by decide) (Nat.le_of_ble_eq_true rfl) rfl ?_
  refine js_iload_n 1 dX3_isBalloon_0 rfl ?_
  refine js_iconst dX3_isBalloon_1 ?_
  refine js_aload_n 0 dX3_isBalloon_2 rfl ?_
  refine gX3_9 rfl dX3_isBalloon_3 hm rfl ?_
  refine js_iconst dX3_isBalloon_6 ?_
  refine js_iaload dX3_isBalloon_7 hs (by omega) ?_
  refine js_iconst dX3_isBalloon_8 ?_
  refine js_isub dX3_isBalloon_9 ?_
  refine eX3_61 rfl dX3_isBalloon_10 (com_in (by omega) (by omega) (by omega)) (Nat.le_of_ble_eq_true rfl) (Nat.le_of_ble_eq_true rfl) ?_
  exact js_iret rfl (jb_nar _) dX3_isBalloon_13 ⟨rfl, rfl⟩
theorem com_of {ρ : js_R} {h : js_H} {m s : Nat} {v1 v2 v3 v4 v5 v6 v7 v8 v9 v10 v11 v12 v13 v14 v15 v16 v17 v18 v19 : Value} {f : Int → Int} {b k : Int} (hm : h m = some (js_ob true 2 [.ref s, v1, v2, v3, v4, v5, v6, v7, v8, v9, v10, v11, v12, v13, v14, v15, v16, v17, v18, v19])) (hs : h s = some (js_aI true 0 287 f)) (rb : 0 ≤ b ∧ b ≤ 5) (rk : 0 ≤ k ∧ k ≤ 8) : js_Con ρ mX3_of 0 0 0 [.ref m, .int (jI b), .int (jI k)] h (js_ret (some (.int (jI (f (13 + 9 * b + k))))) h) := by
  refine js_body [(0, .ref m), (1, .int (jI b)), (2, .int (jI k))] rfl (by decide) (Nat.le_of_ble_eq_true rfl) rfl ?_
  refine js_aload_n 0 dX3_of_0 rfl ?_
  refine gX3_9 rfl dX3_of_1 hm rfl ?_
  refine js_bipush dX3_of_4 rfl ?_
  refine js_bipush dX3_of_6 rfl ?_
  refine js_iload_n 1 dX3_of_8 rfl ?_
  refine js_imul dX3_of_9 ?_
  refine js_iadd dX3_of_10 ?_
  refine js_iload_n 2 dX3_of_11 rfl ?_
  refine js_iadd dX3_of_12 ?_
  refine js_iaload dX3_of_13 hs (by omega) ?_
  exact js_iret rfl rfl dX3_of_14 ⟨rfl, rfl⟩
theorem com_sets {ρ : js_R} {h : js_H} {m s : Nat} {v1 v2 v3 v4 v5 v6 v7 v8 v9 v10 v11 v12 v13 v14 v15 v16 v17 v18 v19 : Value} {f : Int → Int} {b k v : Int} (hm : h m = some (js_ob true 2 [.ref s, v1, v2, v3, v4, v5, v6, v7, v8, v9, v10, v11, v12, v13, v14, v15, v16, v17, v18, v19])) (hs : h s = some (js_aI true 0 287 f)) (rb : 0 ≤ b ∧ b ≤ 5) (rk : 0 ≤ k ∧ k ≤ 8) : js_Con ρ mX3_sets 0 0 0 [.ref m, .int (jI b), .int (jI k), .int (jI v)] h (js_ret none (js_up h s (js_aI true 0 287 (js_uz f (13 + 9 * b + k) v)))) := by
  refine js_body [(0, .ref m), (1, .int (jI b)), (2, .int (jI k)), (3, .int (jI v))] rfl (by decide) (Nat.le_of_ble_eq_true rfl) rfl ?_
  refine js_aload_n 0 dX3_sets_0 rfl ?_
  refine gX3_9 rfl dX3_sets_1 hm rfl ?_
  refine js_bipush dX3_sets_4 rfl ?_
  refine js_bipush dX3_sets_6 rfl ?_
  refine js_iload_n 1 dX3_sets_8 rfl ?_
  refine js_imul dX3_sets_9 ?_
  refine js_iadd dX3_sets_10 ?_
  refine js_iload_n 2 dX3_sets_11 rfl ?_
  refine js_iadd dX3_sets_12 ?_
  refine js_iload_n 3 dX3_sets_13 rfl ?_
  refine js_iastore dX3_sets_14 hs (by omega) ?_
  show js_ok ρ mX3_sets _ 0 0 0 15 [(0, .ref m), (1, .int (jI b)), (2, .int (jI k)), (3, .int (jI v))] [] (js_up h s (js_aI true 0 287 (js_uz f ((13 + (9 * b)) + k) v)))
  exact js_vret rfl dX3_sets_15 ⟨rfl, rfl⟩
theorem com_pointOf {ρ : js_R} {h : js_H} {m s : Nat} {v1 v2 v3 v4 v5 v6 v7 v8 v9 v10 v11 v12 v13 v14 v15 v16 v17 v18 v19 : Value} {f : Int → Int} {b : Int} (hm : h m = some (js_ob true 2 [.ref s, v1, v2, v3, v4, v5, v6, v7, v8, v9, v10, v11, v12, v13, v14, v15, v16, v17, v18, v19])) (hs : h s = some (js_aI true 0 287 f)) (rb : 0 ≤ b ∧ b ≤ 5) : js_Con ρ mX3_pointOf 1 0 0 [.ref m, .int (jI b)] h (js_ret (some (.int (jI (zpt f b)))) h) := by
  refine js_body [(0, .ref m), (1, .int (jI b))] rfl (by decide) (Nat.le_of_ble_eq_true rfl) rfl ?_
  refine js_aload_n 0 dX3_pointOf_0 rfl ?_
  refine js_iload_n 1 dX3_pointOf_1 rfl ?_
  refine js_iconst dX3_pointOf_2 ?_
  refine eX3_76 rfl dX3_pointOf_3 hm (com_of hm hs (by omega) (by omega)) (Nat.le_of_ble_eq_true rfl) (Nat.le_of_ble_eq_true rfl) ?_
  refine js_aload_n 0 dX3_pointOf_6 rfl ?_
  refine js_iload_n 1 dX3_pointOf_7 rfl ?_
  refine js_iconst dX3_pointOf_8 ?_
  refine eX3_76 rfl dX3_pointOf_9 hm (com_of hm hs (by omega) (by omega)) (Nat.le_of_ble_eq_true rfl) (Nat.le_of_ble_eq_true rfl) ?_
  refine eX3_69 rfl dX3_pointOf_12 com_code (Nat.le_of_ble_eq_true rfl) (Nat.le_of_ble_eq_true rfl) ?_
  exact js_iret rfl rfl dX3_pointOf_15 ⟨rfl, rfl⟩
theorem com_gate {ρ : js_R} {h : js_H} {m s : Nat} {v1 v2 v3 v4 v5 v6 v7 v8 v9 v10 v11 v12 v13 v14 v15 v16 v17 v18 v19 : Value} {f : Int → Int} {i : Int} (hm : h m = some (js_ob true 2 [.ref s, v1, v2, v3, v4, v5, v6, v7, v8, v9, v10, v11, v12, v13, v14, v15, v16, v17, v18, v19])) (hs : h s = some (js_aI true 0 287 f)) (ri : 0 ≤ i ∧ i ≤ 4) (r1 : 0 ≤ zsp f i ∧ zsp f i < 100) (r2 : 0 ≤ f (67 + 4 * i + 2) ∧ f (67 + 4 * i + 2) ≤ 4) : js_Con ρ mX3_gate 3 0 0 [.ref m, .int (jI i)] h (js_ret (some (.int (jI (zgt f i)))) h) := by
  refine js_body [(0, .ref m), (1, .int (jI i))] rfl (by decide) (Nat.le_of_ble_eq_true rfl) rfl ?_
  unfold zsp at r1
  refine js_bipush dX3_gate_0 rfl ?_
  refine js_iconst dX3_gate_2 ?_
  refine js_iload_n 1 dX3_gate_3 rfl ?_
  refine js_imul dX3_gate_4 ?_
  refine js_iadd dX3_gate_5 ?_
  refine js_istore_n (L' := [(2, .int (jI (67 + (4 * i)))), (0, .ref m), (1, .int (jI i))]) dX3_gate_6 (by decide) rfl ?_
  refine js_aload_n 1 dX3_gate_7 rfl ?_
  refine gX3_9 rfl dX3_gate_8 hm rfl ?_
  refine js_iload_n 0 dX3_gate_11 rfl ?_
  refine js_iaload dX3_gate_12 hs (by omega) ?_
  refine js_aload_n 1 dX3_gate_13 rfl ?_
  refine gX3_9 rfl dX3_gate_14 hm rfl ?_
  refine js_iload_n 0 dX3_gate_17 rfl ?_
  refine js_iconst dX3_gate_18 ?_
  refine js_iadd dX3_gate_19 ?_
  refine js_iaload dX3_gate_20 hs (by omega) ?_
  refine eX3_69 rfl dX3_gate_21 com_code (Nat.le_of_ble_eq_true rfl) (Nat.le_of_ble_eq_true rfl) ?_
  refine js_aload_n 1 dX3_gate_24 rfl ?_
  refine gX3_9 rfl dX3_gate_25 hm rfl ?_
  refine js_iload_n 0 dX3_gate_28 rfl ?_
  refine js_iconst dX3_gate_29 ?_
  refine js_iadd dX3_gate_30 ?_
  refine js_iaload dX3_gate_31 hs (by omega) ?_
  refine eX3_73 rfl dX3_gate_32 (com_nextTo (by omega) (by omega)) (Nat.le_of_ble_eq_true rfl) (Nat.le_of_ble_eq_true rfl) ?_
  exact js_iret rfl rfl dX3_gate_35 ⟨rfl, rfl⟩
theorem com_wrong {ρ : js_R} {h : js_H} {a b c e : Int} (ra : -2147483648 ≤ a ∧ a < 2147483648) (rb : -2147483648 ≤ b ∧ b < 2147483648) (rc : -2147483648 ≤ c ∧ c < 2147483648) (re : -2147483648 ≤ e ∧ e < 2147483648) : js_Con ρ mX3_wrong 1 0 0 [.int (jI a), .int (jI b), .int (jI c), .int (jI e)] h (js_ret (some (.int (jI (if ¬ (0 ≤ a ∧ a ≤ b) then 0 else if ¬ (0 ≤ c ∧ c ≤ e) then 1 else 2)))) h) := by
  refine js_body [(0, .int (jI a)), (1, .int (jI b)), (2, .int (jI c)), (3, .int (jI e))] rfl (by decide) (Nat.le_of_ble_eq_true rfl) rfl ?_
  refine js_iload_n 0 dX3_wrong_0 rfl ?_
  refine js_iconst dX3_wrong_1 ?_
  refine js_iload_n 1 dX3_wrong_2 rfl ?_
  refine eX3_61 rfl dX3_wrong_3 (com_in (by omega) (by omega) (by omega)) (Nat.le_of_ble_eq_true rfl) (Nat.le_of_ble_eq_true rfl) ?_
  refine js_if_neB (tgt := 13) dX3_wrong_6 (by decide) (fun c1 => ?_) (fun c1 => ?_)
  · refine js_iload_n 2 dX3_wrong_13 rfl ?_
    refine js_iconst dX3_wrong_14 ?_
    refine js_iload_n 3 dX3_wrong_15 rfl ?_
    refine eX3_61 rfl dX3_wrong_16 (com_in (by omega) (by omega) (by omega)) (Nat.le_of_ble_eq_true rfl) (Nat.le_of_ble_eq_true rfl) ?_
    refine js_if_neB (tgt := 26) dX3_wrong_19 (by decide) (fun c2 => ?_) (fun c2 => ?_)
    · refine js_iconst dX3_wrong_26 ?_
      exact js_iret rfl rfl dX3_wrong_27 ⟨js_reti (by (repeat' split) <;> omega), rfl⟩
    · refine js_iconst dX3_wrong_22 ?_
      refine js_goto (tgt := 27) dX3_wrong_23 (by decide) ?_
      exact js_iret rfl rfl dX3_wrong_27 ⟨js_reti (by (repeat' split) <;> omega), rfl⟩
  · refine js_iconst dX3_wrong_9 ?_
    refine js_goto (tgt := 27) dX3_wrong_10 (by decide) ?_
    exact js_iret rfl rfl dX3_wrong_27 ⟨js_reti (by (repeat' split) <;> omega), rfl⟩
