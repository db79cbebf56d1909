set_option maxRecDepth 100000
/-! BalloonSpires: what throws -/
/-- returns if c holds; else throws E; the heap stays -/
def zChk (c : Prop) (E : String) (h : js_H) : js_Q := fun r h' => h' = h ∧ ((c ∧ r = .inl none) ∨ (¬ c ∧ r = .inr E))
theorem con_chk {ρ : js_R} {h : js_H} {c : Prop}  : js_Con ρ mX1_check 9 1 6 [.int (jI (jb c))] h (zChk c "java/lang/IllegalArgumentException" h) := by
  refine js_body [(0, .int (jI (jb c)))] rfl (by decide) (Nat.le_of_ble_eq_true rfl) rfl ?_
  refine js_iload_n 0 dX1_check_0 rfl ?_
  refine js_if_neB (tgt := 12) dX1_check_1 (by decide) (fun c1 => ?_) (fun c1 => ?_)
  · exact js_vret rfl dX1_check_12 ⟨rfl, Or.inl ⟨by assumption, rfl⟩⟩
  · exact js_throw (kc' := 0) (ks' := 0) thX1_59 q1377 q130 rfl (Nat.le_of_ble_eq_true rfl) (by omega) (by omega) (by omega) (by decide) dX1_check_4 dX1_check_7 dX1_check_8 dX1_check_11 ⟨rfl, Or.inr ⟨by assumption, rfl⟩⟩
theorem con_chkI {ρ : js_R} {h : js_H} {c : Prop}  : js_Con ρ mX1_checkIndex 9 1 6 [.int (jI (jb c))] h (zChk c "java/lang/IndexOutOfBoundsException" h) := by
  refine js_body [(0, .int (jI (jb c)))] rfl (by decide) (Nat.le_of_ble_eq_true rfl) rfl ?_
  refine js_iload_n 0 dX1_checkIndex_0 rfl ?_
  refine js_if_neB (tgt := 12) dX1_checkIndex_1 (by decide) (fun c1 => ?_) (fun c1 => ?_)
  · exact js_vret rfl dX1_checkIndex_12 ⟨rfl, Or.inl ⟨by assumption, rfl⟩⟩
  · exact js_throw (kc' := 0) (ks' := 0) thX1_62 q1359 q128 rfl (Nat.le_of_ble_eq_true rfl) (by omega) (by omega) (by omega) (by decide) dX1_checkIndex_4 dX1_checkIndex_7 dX1_checkIndex_8 dX1_checkIndex_11 ⟨rfl, Or.inr ⟨by assumption, rfl⟩⟩
theorem con_chkE {ρ : js_R} {h : js_H} {c : Prop}  : js_Con ρ mX1_checkElement 9 1 6 [.int (jI (jb c))] h (zChk c "java/util/NoSuchElementException" h) := by
  refine js_body [(0, .int (jI (jb c)))] rfl (by decide) (Nat.le_of_ble_eq_true rfl) rfl ?_
  refine js_iload_n 0 dX1_checkElement_0 rfl ?_
  refine js_if_neB (tgt := 12) dX1_checkElement_1 (by decide) (fun c1 => ?_) (fun c1 => ?_)
  · exact js_vret rfl dX1_checkElement_12 ⟨rfl, Or.inl ⟨by assumption, rfl⟩⟩
  · exact js_throw (kc' := 0) (ks' := 0) thX1_65 q1497 q116 rfl (Nat.le_of_ble_eq_true rfl) (by omega) (by omega) (by omega) (by decide) dX1_checkElement_4 dX1_checkElement_7 dX1_checkElement_8 dX1_checkElement_11 ⟨rfl, Or.inr ⟨by assumption, rfl⟩⟩
theorem con_chkS {ρ : js_R} {h : js_H} {c : Prop}  : js_Con ρ mX1_checkState 9 1 6 [.int (jI (jb c))] h (zChk c "java/lang/IllegalStateException" h) := by
  refine js_body [(0, .int (jI (jb c)))] rfl (by decide) (Nat.le_of_ble_eq_true rfl) rfl ?_
  refine js_iload_n 0 dX1_checkState_0 rfl ?_
  refine js_if_neB (tgt := 12) dX1_checkState_1 (by decide) (fun c1 => ?_) (fun c1 => ?_)
  · exact js_vret rfl dX1_checkState_12 ⟨rfl, Or.inl ⟨by assumption, rfl⟩⟩
  · exact js_throw (kc' := 0) (ks' := 0) thX1_68 q1620 q125 rfl (Nat.le_of_ble_eq_true rfl) (by omega) (by omega) (by omega) (by decide) dX1_checkState_4 dX1_checkState_7 dX1_checkState_8 dX1_checkState_11 ⟨rfl, Or.inr ⟨by assumption, rfl⟩⟩
theorem con_rinit {ρ : js_R} {h : js_H} {a : Nat} {n d : Int} (ha : h a = some (js_ob true 3 [.int (jI 0), .int (jI 0), .null])) : js_Con ρ mX4_init 1 0 0 [.ref a, .int (jI n), .int (jI d), .null] h (js_ret none (js_up h a (js_ob true 3 [.int (jI n), .int (jI d), .null]))) := by
  refine js_body [(0, .ref a), (1, .int (jI n)), (2, .int (jI d)), (3, .null)] rfl (by decide) (Nat.le_of_ble_eq_true rfl) rfl ?_
  refine js_aload_n 0 dX4_init_0 rfl ?_
  refine js_oinit q1141 q156 q157 (Nat.le_of_ble_eq_true rfl) (Nat.le_of_ble_eq_true rfl) dX4_init_1 ?_
  refine js_aload_n 0 dX4_init_4 rfl ?_
  refine js_iload_n 1 dX4_init_5 rfl ?_
  refine pX4_7 rfl rfl dX4_init_6 ha (Nat.le_of_ble_eq_true rfl) rfl rfl ?_
  show js_ok ρ mX4_init _ 1 0 0 9 [(0, .ref a), (1, .int (jI n)), (2, .int (jI d)), (3, .null)] [] (js_up h a (js_ob true 3 [.int (jI n), .int (jI 0), .null]))
  refine js_aload_n 0 dX4_init_9 rfl ?_
  refine js_iload_n 2 dX4_init_10 rfl ?_
  refine pX4_13 rfl rfl dX4_init_11 js_up_s (Nat.le_of_ble_eq_true rfl) rfl rfl ?_
  rw [js_up_up]
  show js_ok ρ mX4_init _ 1 0 0 14 [(0, .ref a), (1, .int (jI n)), (2, .int (jI d)), (3, .null)] [] (js_up h a (js_ob true 3 [.int (jI n), .int (jI d), .null]))
  refine js_aload_n 0 dX4_init_14 rfl ?_
  refine js_aload_nN 3 dX4_init_15 rfl ?_
  refine pX4_16 rfl rfl dX4_init_16 js_up_s (Nat.le_of_ble_eq_true rfl) rfl rfl ?_
  rw [js_up_up]
  show js_ok ρ mX4_init _ 1 0 0 19 [(0, .ref a), (1, .int (jI n)), (2, .int (jI d)), (3, .null)] [] (js_up h a (js_ob true 3 [.int (jI n), .int (jI d), .null]))
  exact js_vret rfl dX4_init_19 ⟨rfl, rfl⟩
theorem con_rinit2 {ρ : js_R} {h : js_H} {a b : Nat} {n d : Int} (ha : h a = some (js_ob true 3 [.int (jI 0), .int (jI 0), .null])) : js_Con ρ mX4_init 1 0 0 [.ref a, .int (jI n), .int (jI d), .ref b] h (js_ret none (js_up h a (js_ob true 3 [.int (jI n), .int (jI d), .ref b]))) := by
  refine js_body [(0, .ref a), (1, .int (jI n)), (2, .int (jI d)), (3, .ref b)] rfl (by decide) (Nat.le_of_ble_eq_true rfl) rfl ?_
  refine js_aload_n 0 dX4_init_0 rfl ?_
  refine js_oinit q1141 q156 q157 (Nat.le_of_ble_eq_true rfl) (Nat.le_of_ble_eq_true rfl) dX4_init_1 ?_
  refine js_aload_n 0 dX4_init_4 rfl ?_
  refine js_iload_n 1 dX4_init_5 rfl ?_
  refine pX4_7 rfl rfl dX4_init_6 ha (Nat.le_of_ble_eq_true rfl) rfl rfl ?_
  show js_ok ρ mX4_init _ 1 0 0 9 [(0, .ref a), (1, .int (jI n)), (2, .int (jI d)), (3, .ref b)] [] (js_up h a (js_ob true 3 [.int (jI n), .int (jI 0), .null]))
  refine js_aload_n 0 dX4_init_9 rfl ?_
  refine js_iload_n 2 dX4_init_10 rfl ?_
  refine pX4_13 rfl rfl dX4_init_11 js_up_s (Nat.le_of_ble_eq_true rfl) rfl rfl ?_
  rw [js_up_up]
  show js_ok ρ mX4_init _ 1 0 0 14 [(0, .ref a), (1, .int (jI n)), (2, .int (jI d)), (3, .ref b)] [] (js_up h a (js_ob true 3 [.int (jI n), .int (jI d), .null]))
  refine js_aload_n 0 dX4_init_14 rfl ?_
  refine js_aload_n 3 dX4_init_15 rfl ?_
  refine pX4_16 rfl rfl dX4_init_16 js_up_s (Nat.le_of_ble_eq_true rfl) rfl rfl ?_
  rw [js_up_up]
  show js_ok ρ mX4_init _ 1 0 0 19 [(0, .ref a), (1, .int (jI n)), (2, .int (jI d)), (3, .ref b)] [] (js_up h a (js_ob true 3 [.int (jI n), .int (jI d), .ref b]))
  exact js_vret rfl dX4_init_19 ⟨rfl, rfl⟩
