set_option maxRecDepth 100000
/-! a new StringBuilder -/
theorem con_sb4ini {ρ : js_R} {h : js_H} {a : Nat} (hK : js_sv ρ 0 = .int (jI 1)) (ha : h a = some (js_ob true 17 [.null, .int (jI 0), .int (jI 0), .int (jI 0)])) : js_Con ρ mJ4_init 2 1 16 [.ref a, .int (jI 16)] h (fun r h' => ∃ (v : Nat) (ml : Int), r = .inl none ∧ h v = none ∧ (ml = 0 ∨ ml = 1) ∧ h' = js_up (js_up h v (js_aI true 2 16 (fun _ => 0))) a (js_ob true 17 [.ref v, .int (jI 0), .int (jI ml), .int (jI 0)])) := by
  refine js_body [(0, .ref a), (1, .int (jI 16))] rfl (by decide) (Nat.le_of_ble_eq_true rfl) rfl ?_
  refine js_aload_n 0 dJ4_init_0 rfl ?_
  refine js_oinit q270 q156 q157 (Nat.le_of_ble_eq_true rfl) (Nat.le_of_ble_eq_true rfl) dJ4_init_1 ?_
  refine js_gets 0 rfl q271 dJ4_init_4 ?_
  rw [hK]
  show js_ok ρ mJ4_init _ 2 1 16 7 [(0, .ref a), (1, .int (jI 16))] [.int (jI 1)] h
  refine js_if_eq (tgt := 25) dJ4_init_7 (by decide) (by omega) (fun c1 => ?_) (fun c1 => ?_)
  · exfalso; first | omega | (revert c1; decide)
  · refine js_aload_n 0 dJ4_init_10 rfl ?_
    refine js_iload_n 1 dJ4_init_11 rfl ?_
    refine js_newaI (t := 2) (N := 16) (kc' := 0) (ks' := 0) (by decide) rfl q294 dJ4_init_12 (by omega) (by omega) (by omega) (by omega) (fun a2 hf_a2 hB_a2 => ?_)
    refine pJ4_15 rfl dJ4_init_14 ((js_up_n (js_nef ha hf_a2)).trans ha) (Nat.le_of_ble_eq_true rfl) rfl rfl ?_
    show js_ok ρ mJ4_init _ 2 0 0 17 [(0, .ref a), (1, .int (jI 16))] [] (js_up (js_up h a2 (js_aI true 2 16 (fun _ => 0))) a (js_ob true 17 [.ref a2, .int (jI 0), .int (jI 0), .int (jI 0)]))
    refine js_aload_n 0 dJ4_init_17 rfl ?_
    refine js_iconst dJ4_init_18 ?_
    refine pJ4_22 rfl dJ4_init_19 js_up_s (Nat.le_of_ble_eq_true rfl) rfl rfl ?_
    rw [js_up_up]
    show js_ok ρ mJ4_init _ 2 0 0 22 [(0, .ref a), (1, .int (jI 16))] [] (js_up (js_up h a2 (js_aI true 2 16 (fun _ => 0))) a (js_ob true 17 [.ref a2, .int (jI 0), .int (jI 0), .int (jI 0)]))
    refine js_goto (tgt := 38) dJ4_init_22 (by decide) ?_
    exact js_vret rfl dJ4_init_38 ⟨a2, _, rfl, hf_a2, by omega, rfl⟩
theorem con_sbini {ρ : js_R} {h : js_H} {a : Nat} (hK : js_sv ρ 0 = .int (jI 1)) (ha : h a = some (js_ob true 17 [.null, .int (jI 0), .int (jI 0), .int (jI 0)])) : js_Con ρ mJ5_init 3 1 16 [.ref a] h (fun r h' => ∃ (v : Nat) (ml : Int), r = .inl none ∧ h v = none ∧ (ml = 0 ∨ ml = 1) ∧ h' = js_up (js_up h v (js_aI true 2 16 (fun _ => 0))) a (js_ob true 17 [.ref v, .int (jI 0), .int (jI ml), .int (jI 0)])) := by
  refine js_body [(0, .ref a)] rfl (by decide) (Nat.le_of_ble_eq_true rfl) rfl ?_
  refine js_aload_n 0 dJ5_init_0 rfl ?_
  refine js_bipush dJ5_init_1 rfl ?_
  refine vJ5_1 (kc' := 0) (ks' := 0) rfl dJ5_init_3 (con_sb4ini hK ha) (Nat.le_of_ble_eq_true rfl) (by omega) (by omega) (Nat.le_of_ble_eq_true rfl) (fun v1 g1 q1 => ?_) (fun E1 g1 q1 => by obtain ⟨_, _, q1, _⟩ := q1; cases q1)
  obtain ⟨vn, ml, e1, rest⟩ := q1
  cases e1
  show js_ok ρ mJ5_init _ 3 0 0 6 [(0, .ref a)] [] g1
  exact js_vret rfl dJ5_init_6 ⟨vn, ml, rfl, rest⟩
