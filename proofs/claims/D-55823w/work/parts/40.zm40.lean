set_option maxRecDepth 100000
/-! ArrayList and its iterator -/
theorem con_pciN {ρ : js_R} {h : js_H} {i n : Int} (ri : 0 ≤ i ∧ i < n ∧ n < 2147483648) : js_Con ρ mJ15_checkIndex 0 0 0 [.int (jI i), .int (jI n), .null] h (js_ret (some (.int (jI i))) h) := by
  refine js_body [(0, .int (jI i)), (1, .int (jI n)), (2, .null)] rfl (by decide) (Nat.le_of_ble_eq_true rfl) rfl ?_
  refine js_iload_n 0 dJ15_checkIndex_0 rfl ?_
  refine js_if_lt (tgt := 9) dJ15_checkIndex_1 (by decide) (by omega) (fun c1 => ?_) (fun c1 => ?_)
  · exfalso; omega
  · refine js_iload_n 0 dJ15_checkIndex_4 rfl ?_
    refine js_iload_n 1 dJ15_checkIndex_5 rfl ?_
    refine js_icmp_lt (tgt := 16) dJ15_checkIndex_6 (by decide) (by omega) (fun c2 => ?_) (fun c2 => ?_)
    · refine js_iload_n 0 dJ15_checkIndex_16 rfl ?_
      exact js_iret rfl rfl dJ15_checkIndex_17 ⟨rfl, rfl⟩
    · exfalso; omega
theorem con_oci {ρ : js_R} {h : js_H} {i n : Int} (ri : 0 ≤ i ∧ i < n ∧ n < 2147483648) : js_Con ρ mJ14_checkIndex 1 0 0 [.int (jI i), .int (jI n)] h (js_ret (some (.int (jI i))) h) := by
  refine js_body [(0, .int (jI i)), (1, .int (jI n))] rfl (by decide) (Nat.le_of_ble_eq_true rfl) rfl ?_
  refine js_iload_n 0 dJ14_checkIndex_0 rfl ?_
  refine js_iload_n 1 dJ14_checkIndex_1 rfl ?_
  refine js_null dJ14_checkIndex_2 ?_
  refine eJ14_105 rfl dJ14_checkIndex_3 (con_pciN (by omega)) (Nat.le_of_ble_eq_true rfl) (Nat.le_of_ble_eq_true rfl) ?_
  exact js_iret rfl rfl dJ14_checkIndex_6 ⟨rfl, rfl⟩
theorem con_lsize {ρ : js_R} {h : js_H} {l e : Nat} {w : Bool} {mc n : Int} (hl : h l = some (js_ob w 15 [.int (jI mc), .ref e, .int (jI n)])) (rn : 0 ≤ n ∧ n ≤ 1000) : js_Con ρ mJ2_size 0 0 0 [.ref l] h (js_ret (some (.int (jI n))) h) := by
  refine js_body [(0, .ref l)] rfl (by decide) (Nat.le_of_ble_eq_true rfl) rfl ?_
  refine js_aload_n 0 dJ2_size_0 rfl ?_
  refine gJ2_48 rfl dJ2_size_1 hl rfl ?_
  exact js_iret rfl rfl dJ2_size_4 ⟨rfl, rfl⟩
theorem con_lempty {ρ : js_R} {h : js_H} {l e : Nat} {w : Bool} {mc n : Int} (hl : h l = some (js_ob w 15 [.int (jI mc), .ref e, .int (jI n)])) (rn : 0 ≤ n ∧ n ≤ 1000) : js_Con ρ mJ2_isEmpty 0 0 0 [.ref l] h (js_ret (some (.int (jI (jb (n = 0))))) h) := by
  refine js_body [(0, .ref l)] rfl (by decide) (Nat.le_of_ble_eq_true rfl) rfl ?_
  refine js_aload_n 0 dJ2_isEmpty_0 rfl ?_
  refine gJ2_48 rfl dJ2_isEmpty_1 hl rfl ?_
  refine js_if_ne (tgt := 11) dJ2_isEmpty_4 (by decide) (by omega) (fun c1 => ?_) (fun c1 => ?_)
  · refine js_iconst dJ2_isEmpty_11 ?_
    exact js_iret rfl (js_nar_boolean (by omega)) dJ2_isEmpty_12 ⟨js_reti (jb_f (by omega)).symm, rfl⟩
  · refine js_iconst dJ2_isEmpty_7 ?_
    refine js_goto (tgt := 12) dJ2_isEmpty_8 (by decide) ?_
    exact js_iret rfl (js_nar_boolean (by omega)) dJ2_isEmpty_12 ⟨js_reti (jb_t (by omega)).symm, rfl⟩
theorem con_lel {ρ : js_R} {h : js_H} {l e cap : Nat} {w w2 : Bool} {mc n : Int} {g : Int → Option Nat} {i : Int} (hl : h l = some (js_ob w 15 [.int (jI mc), .ref e, .int (jI n)])) (rn : 0 ≤ n ∧ n ≤ 1000) (he : h e = some (js_aQ w2 6 cap g)) (rc : n ≤ cap ∧ cap < 2147483648) (ri : 0 ≤ i ∧ i < n) : js_Con ρ mJ2_elementData 0 0 0 [.ref l, .int (jI i)] h (js_ret (some (va_rf (g i))) h) := by
  refine js_body [(0, .ref l), (1, .int (jI i))] rfl (by decide) (Nat.le_of_ble_eq_true rfl) rfl ?_
  refine js_aload_n 0 dJ2_elementData_0 rfl ?_
  refine gJ2_9 rfl dJ2_elementData_1 hl rfl ?_
  refine js_iload_n 1 dJ2_elementData_4 rfl ?_
  refine js_aaload (by decide) dJ2_elementData_5 he (by omega) ?_
  exact js_aret rfl (Or.inl ⟨_, rfl⟩) (va_rf_or _) dJ2_elementData_6 ⟨rfl, rfl⟩
theorem con_lget {ρ : js_R} {h : js_H} {l e cap : Nat} {w w2 : Bool} {mc n : Int} {g : Int → Option Nat} {i : Int} (hl : h l = some (js_ob w 15 [.int (jI mc), .ref e, .int (jI n)])) (rn : 0 ≤ n ∧ n ≤ 1000) (he : h e = some (js_aQ w2 6 cap g)) (rc : n ≤ cap ∧ cap < 2147483648) (ri : 0 ≤ i ∧ i < n) : js_Con ρ mJ2_get 2 0 0 [.ref l, .int (jI i)] h (js_ret (some (va_rf (g i))) h) := by
  refine js_body [(0, .ref l), (1, .int (jI i))] rfl (by decide) (Nat.le_of_ble_eq_true rfl) rfl ?_
  refine js_iload_n 1 dJ2_get_0 rfl ?_
  refine js_aload_n 0 dJ2_get_1 rfl ?_
  refine gJ2_48 rfl dJ2_get_2 hl rfl ?_
  refine eJ2_118 rfl dJ2_get_5 (con_oci (by omega)) (Nat.le_of_ble_eq_true rfl) (Nat.le_of_ble_eq_true rfl) ?_
  refine js_pop dJ2_get_8 rfl ?_
  refine js_aload_n 0 dJ2_get_9 rfl ?_
  refine js_iload_n 1 dJ2_get_10 rfl ?_
  refine eJ2_123 rfl dJ2_get_11 hl (con_lel hl (by omega) he (by omega) (by omega)) (Nat.le_of_ble_eq_true rfl) (Nat.le_of_ble_eq_true rfl) ?_
  exact js_aret rfl (Or.inl ⟨_, rfl⟩) (va_rf_or _) dJ2_get_14 ⟨rfl, rfl⟩
theorem con_itc {ρ : js_R} {h : js_H} {t l e cap : Nat} {w w2 : Bool} {mc n cu lr : Int} {g : Int → Option Nat} (ht : h t = some (js_ob true 19 [.int (jI cu), .int (jI lr), .int (jI mc), .ref l])) (hl : h l = some (js_ob w 15 [.int (jI mc), .ref e, .int (jI n)])) (rn : 0 ≤ n ∧ n ≤ 1000) (he : h e = some (js_aQ w2 6 cap g)) (rc : n ≤ cap ∧ cap < 2147483648) (rm : -1000000 ≤ mc ∧ mc ≤ 1000000) (rcu : 0 ≤ cu ∧ cu ≤ n) : js_Con ρ mJ12_checkForComodification 0 0 0 [.ref t] h (js_ret none h) := by
  refine js_body [(0, .ref t)] rfl (by decide) (Nat.le_of_ble_eq_true rfl) rfl ?_
  refine js_aload_n 0 dJ12_checkForComodification_0 rfl ?_
  refine gJ12_1 rfl dJ12_checkForComodification_1 ht rfl ?_
  refine gJ12_17 rfl dJ12_checkForComodification_4 hl rfl ?_
  refine js_aload_n 0 dJ12_checkForComodification_7 rfl ?_
  refine gJ12_22 rfl dJ12_checkForComodification_8 ht rfl ?_
  refine js_icmp_eq (tgt := 22) dJ12_checkForComodification_11 (by decide) (by omega) (fun c1 => ?_) (fun c1 => ?_)
  · exact js_vret rfl dJ12_checkForComodification_22 ⟨rfl, rfl⟩
  · exfalso; omega
theorem con_ithas {ρ : js_R} {h : js_H} {t l e cap : Nat} {w w2 : Bool} {mc n cu lr : Int} {g : Int → Option Nat} (ht : h t = some (js_ob true 19 [.int (jI cu), .int (jI lr), .int (jI mc), .ref l])) (hl : h l = some (js_ob w 15 [.int (jI mc), .ref e, .int (jI n)])) (rn : 0 ≤ n ∧ n ≤ 1000) (he : h e = some (js_aQ w2 6 cap g)) (rc : n ≤ cap ∧ cap < 2147483648) (rm : -1000000 ≤ mc ∧ mc ≤ 1000000) (rcu : 0 ≤ cu ∧ cu ≤ n) : js_Con ρ mJ12_hasNext 0 0 0 [.ref t] h (js_ret (some (.int (jI (jb (cu < n))))) h) := by
  refine js_body [(0, .ref t)] rfl (by decide) (Nat.le_of_ble_eq_true rfl) rfl ?_
  refine js_aload_n 0 dJ12_hasNext_0 rfl ?_
  refine gJ12_25 rfl dJ12_hasNext_1 ht rfl ?_
  refine js_aload_n 0 dJ12_hasNext_4 rfl ?_
  refine gJ12_1 rfl dJ12_hasNext_5 ht rfl ?_
  refine gJ12_28 rfl dJ12_hasNext_8 hl rfl ?_
  refine js_icmp_eq (tgt := 18) dJ12_hasNext_11 (by decide) (by omega) (fun c1 => ?_) (fun c1 => ?_)
  · refine js_iconst dJ12_hasNext_18 ?_
    exact js_iret rfl (js_nar_boolean (by omega)) dJ12_hasNext_19 ⟨js_reti (jb_f (by omega)).symm, rfl⟩
  · refine js_iconst dJ12_hasNext_14 ?_
    refine js_goto (tgt := 19) dJ12_hasNext_15 (by decide) ?_
    exact js_iret rfl (js_nar_boolean (by omega)) dJ12_hasNext_19 ⟨js_reti (jb_t (by omega)).symm, rfl⟩
theorem con_itnext {ρ : js_R} {h : js_H} {t l e cap : Nat} {w w2 : Bool} {mc n cu lr : Int} {g : Int → Option Nat} (ht : h t = some (js_ob true 19 [.int (jI cu), .int (jI lr), .int (jI mc), .ref l])) (hl : h l = some (js_ob w 15 [.int (jI mc), .ref e, .int (jI n)])) (rn : 0 ≤ n ∧ n ≤ 1000) (he : h e = some (js_aQ w2 6 cap g)) (rc : n ≤ cap ∧ cap < 2147483648) (rm : -1000000 ≤ mc ∧ mc ≤ 1000000) (rcu : 0 ≤ cu ∧ cu ≤ n) (rl : cu < n) : js_Con ρ mJ12_next 1 0 0 [.ref t] h (js_ret (some (va_rf (g cu))) (js_up h t (js_ob true 19 [.int (jI (cu + 1)), .int (jI cu), .int (jI mc), .ref l]))) := by
  refine js_body [(0, .ref t)] rfl (by decide) (Nat.le_of_ble_eq_true rfl) rfl ?_
  refine js_aload_n 0 dJ12_next_0 rfl ?_
  refine eJ12_31 rfl dJ12_next_1 ht (con_itc ht hl (by omega) he (by omega) (by omega) (by omega)) (Nat.le_of_ble_eq_true rfl) (Nat.le_of_ble_eq_true rfl) ?_
  refine js_aload_n 0 dJ12_next_4 rfl ?_
  refine gJ12_25 rfl dJ12_next_5 ht rfl ?_
  refine js_istore_n (L' := [(1, .int (jI cu)), (0, .ref t)]) dJ12_next_8 (by decide) rfl ?_
  refine js_iload_n 0 dJ12_next_9 rfl ?_
  refine js_aload_n 1 dJ12_next_10 rfl ?_
  refine gJ12_1 rfl dJ12_next_11 ht rfl ?_
  refine gJ12_28 rfl dJ12_next_14 hl rfl ?_
  refine js_icmp_lt (tgt := 28) dJ12_next_17 (by decide) (by omega) (fun c1 => ?_) (fun c1 => ?_)
  · refine js_aload_n 1 dJ12_next_28 rfl ?_
    refine gJ12_1 rfl dJ12_next_29 ht rfl ?_
    refine gJ12_37 rfl dJ12_next_32 hl rfl ?_
    refine js_astore_n (L' := [(2, .ref e), (1, .int (jI cu)), (0, .ref t)]) dJ12_next_35 (by decide) rfl ?_
    refine js_iload_n 1 dJ12_next_36 rfl ?_
    refine js_aload_n 0 dJ12_next_37 rfl ?_
    refine js_alenQ dJ12_next_38 he (by decide) ?_
    refine js_icmp_lt (tgt := 50) dJ12_next_39 (by decide) (by omega) (fun c2 => ?_) (fun c2 => ?_)
    · refine js_aload_n 2 dJ12_next_50 rfl ?_
      refine js_iload_n 1 dJ12_next_51 rfl ?_
      refine js_iconst dJ12_next_52 ?_
      refine js_iadd dJ12_next_53 ?_
      refine pJ12_25 rfl dJ12_next_54 ht (Nat.le_of_ble_eq_true rfl) rfl rfl ?_
      show js_ok ρ mJ12_next _ 1 0 0 57 [(2, .ref e), (1, .int (jI cu)), (0, .ref t)] [] (js_up h t (js_ob true 19 [.int (jI (cu + 1)), .int (jI lr), .int (jI mc), .ref l]))
      refine js_aload_n 0 dJ12_next_57 rfl ?_
      refine js_aload_n 2 dJ12_next_58 rfl ?_
      refine js_iload_n 1 dJ12_next_59 rfl ?_
      refine js_dup_x1 dJ12_next_60 rfl rfl ?_
      refine pJ12_13 rfl dJ12_next_61 js_up_s (Nat.le_of_ble_eq_true rfl) rfl rfl ?_
      rw [js_up_up]
      show js_ok ρ mJ12_next _ 1 0 0 64 [(2, .ref e), (1, .int (jI cu)), (0, .ref t)] [.int (jI cu), .ref e] (js_up h t (js_ob true 19 [.int (jI (cu + 1)), .int (jI cu), .int (jI mc), .ref l]))
      refine js_aaload (by decide) dJ12_next_64 ((js_up_n (js_nek he ht js_kQO)).trans he) (by omega) ?_
      exact js_aret rfl (Or.inl ⟨_, rfl⟩) (va_rf_or _) dJ12_next_65 ⟨rfl, rfl⟩
    · exfalso; omega
  · exfalso; omega
theorem con_ladd2 {ρ : js_R} {h : js_H} {l e cap : Nat} {wv : Bool} {mc n : Int} {g : Int → Option Nat} {v ci : Nat} {fs : List Value} {r : vw_C} (hl : h l = some (js_ob true 15 [.int (jI mc), .ref e, .int (jI n)])) (rn : 0 ≤ n ∧ n ≤ 1000) (he : h e = some (js_aQ true 6 cap g)) (rc : n < cap ∧ cap ≤ 1000) (hv : h v = some (js_ob wv ci fs)) (hr9 : js_cl[ci]? = some r) (hca : Cond.castable r.1 "java/lang/Object" ∈ js_nw) (nv : v ≠ l) : js_Con ρ mJ2_add_2 1 0 0 [.ref l, .ref v, .ref e, .int (jI n)] h (js_ret none (js_up (js_up h e (js_aQ true 6 cap (js_uz g n (some v)))) l (js_ob true 15 [.int (jI mc), .ref e, .int (jI (n + 1))]))) := by
  refine js_body [(0, .ref l), (1, .ref v), (2, .ref e), (3, .int (jI n))] rfl (by decide) (Nat.le_of_ble_eq_true rfl) rfl ?_
  refine js_iload_n 3 dJ2_add_2_0 rfl ?_
  refine js_aload_n 2 dJ2_add_2_1 rfl ?_
  refine js_alenQ dJ2_add_2_2 he (by decide) ?_
  refine js_icmp_ne (tgt := 11) dJ2_add_2_3 (by decide) (by omega) (fun c1 => ?_) (fun c1 => ?_)
  · refine js_aload_n 2 dJ2_add_2_11 rfl ?_
    refine js_iload_n 3 dJ2_add_2_12 rfl ?_
    refine js_aload_n 1 dJ2_add_2_13 rfl ?_
    refine js_aastore (by decide) rfl hr9 hca dJ2_add_2_14 he hv (by omega) ?_
    show js_ok ρ mJ2_add_2 _ 1 0 0 15 [(0, .ref l), (1, .ref v), (2, .ref e), (3, .int (jI n))] [] (js_up h e (js_aQ true 6 cap (js_uz g n ((some v)))))
    refine js_aload_n 0 dJ2_add_2_15 rfl ?_
    refine js_iload_n 3 dJ2_add_2_16 rfl ?_
    refine js_iconst dJ2_add_2_17 ?_
    refine js_iadd dJ2_add_2_18 ?_
    refine pJ2_48 rfl dJ2_add_2_19 ((js_up_n (js_nek hl he js_kOQ)).trans hl) (Nat.le_of_ble_eq_true rfl) rfl rfl ?_
    show js_ok ρ mJ2_add_2 _ 1 0 0 22 [(0, .ref l), (1, .ref v), (2, .ref e), (3, .int (jI n))] [] (js_up (js_up h e (js_aQ true 6 cap (js_uz g n ((some v))))) l (js_ob true 15 [.int (jI mc), .ref e, .int (jI (n + 1))]))
    exact js_vret rfl dJ2_add_2_22 ⟨rfl, rfl⟩
  · exfalso; omega
theorem con_ladd {ρ : js_R} {h : js_H} {l e cap : Nat} {wv : Bool} {mc n : Int} {g : Int → Option Nat} {v ci : Nat} {fs : List Value} {r : vw_C} (hl : h l = some (js_ob true 15 [.int (jI mc), .ref e, .int (jI n)])) (rn : 0 ≤ n ∧ n ≤ 1000) (he : h e = some (js_aQ true 6 cap g)) (rc : n < cap ∧ cap ≤ 1000) (hv : h v = some (js_ob wv ci fs)) (hr9 : js_cl[ci]? = some r) (hca : Cond.castable r.1 "java/lang/Object" ∈ js_nw) (nv : v ≠ l) : js_Con ρ mJ2_add 2 0 0 [.ref l, .ref v] h (js_ret (some (.int (jI 1))) (js_up (js_up h e (js_aQ true 6 cap (js_uz g n (some v)))) l (js_ob true 15 [.int (jI (mc + 1)), .ref e, .int (jI (n + 1))]))) := by
  refine js_body [(0, .ref l), (1, .ref v)] rfl (by decide) (Nat.le_of_ble_eq_true rfl) rfl ?_
  refine js_aload_n 0 dJ2_add_0 rfl ?_
  refine js_dup dJ2_add_1 rfl ?_
  refine gJ2_63 rfl dJ2_add_2 hl rfl ?_
  refine js_iconst dJ2_add_5 ?_
  refine js_iadd dJ2_add_6 ?_
  refine pJ2_63 rfl dJ2_add_7 hl (Nat.le_of_ble_eq_true rfl) rfl rfl ?_
  show js_ok ρ mJ2_add _ 2 0 0 10 [(0, .ref l), (1, .ref v)] [] (js_up h l (js_ob true 15 [.int (jI (mc + 1)), .ref e, .int (jI n)]))
  refine js_aload_n 0 dJ2_add_10 rfl ?_
  refine js_aload_n 1 dJ2_add_11 rfl ?_
  refine js_aload_n 0 dJ2_add_12 rfl ?_
  refine gJ2_9 rfl dJ2_add_13 js_up_s rfl ?_
  refine js_aload_n 0 dJ2_add_16 rfl ?_
  refine gJ2_48 rfl dJ2_add_17 js_up_s rfl ?_
  refine eJ2_131 rfl dJ2_add_20 js_up_s (con_ladd2 js_up_s (by omega) ((js_up_n (js_nek he hl js_kQO)).trans he) (by omega) ((js_up_n nv).trans hv) hr9 hca nv) (Nat.le_of_ble_eq_true rfl) (Nat.le_of_ble_eq_true rfl) ?_
  show js_ok ρ mJ2_add _ 2 0 0 23 [(0, .ref l), (1, .ref v)] [] (js_up (js_up (js_up h l (js_ob true 15 [.int (jI (mc + 1)), .ref e, .int (jI n)])) e (js_aQ true 6 cap (js_uz g n ((some v))))) l (js_ob true 15 [.int (jI (mc + 1)), .ref e, .int (jI (n + 1))]))
  refine js_iconst dJ2_add_23 ?_
  exact js_iret rfl (js_nar_boolean (by omega)) dJ2_add_24 ⟨rfl, by rw [js_up_comm (Ne.symm (js_nek he hl js_kQO)), js_up_up]⟩
/-- the row without the element i of n -/
def zrm (g : Int → Option Nat) (n i : Int) : Int → Option Nat := js_uz (if i < n - 1 then js_cp g g (i + 1) i (n - 1 - i) else g) (n - 1) none
/-- every element of a row is an object that an Object[] holds -/
def zels (h : js_H) (g : Int → Option Nat) (n : Int) : Prop := ∀ j : Int, 0 ≤ j → j < n → ∀ y : Nat, g j = some y → ∃ (w9 : Bool) (ci9 : Nat) (fs9 : List Value) (r9 : vw_C), h y = some (js_ob w9 ci9 fs9) ∧ js_cl[ci9]? = some r9 ∧ Cond.castable r9.1 "java/lang/Object" ∈ js_nw
theorem zels_up {h : js_H} {g : Int → Option Nat} {n : Int} {l ci : Nat} {fs fs2 : List Value} (hl : h l = some (js_ob true ci fs)) (k : zels h g n) : zels (js_up h l (js_ob true ci fs2)) g n := by
  intro j j1 j2 y e
  obtain ⟨w9, ci9, fs9, r9, a, b, c⟩ := k j j1 j2 y e
  by_cases q : y = l
  · subst q
    rw [hl] at a
    have a2 := Option.some.inj a
    have a3 : ci = ci9 := congrArg Prod.fst (Sum.inl.inj (Sum.inr.inj (congrArg Prod.snd a2)))
    subst a3
    exact ⟨true, ci, fs2, r9, js_up_s, b, c⟩
  · exact ⟨w9, ci9, fs9, r9, (js_up_n q).trans a, b, c⟩
theorem con_lfr {ρ : js_R} {h : js_H} {l e cap : Nat} {mc n i : Int} {g : Int → Option Nat} (hl : h l = some (js_ob true 15 [.int (jI mc), .ref e, .int (jI n)])) (rn : 0 ≤ n ∧ n ≤ 1000) (he : h e = some (js_aQ true 6 cap g)) (rc : n ≤ cap ∧ cap ≤ 1000) (ri : 0 ≤ i ∧ i < n) (hk : zels h g n) : js_Con ρ mJ2_fastRemove 3 0 0 [.ref l, .ref e, .int (jI i)] h (js_ret none (js_up (js_up h l (js_ob true 15 [.int (jI (mc + 1)), .ref e, .int (jI (n - 1))])) e (js_aQ true 6 cap (zrm g n i)))) := by
  refine js_body [(0, .ref l), (1, .ref e), (2, .int (jI i))] rfl (by decide) (Nat.le_of_ble_eq_true rfl) rfl ?_
  refine js_aload_n 0 dJ2_fastRemove_0 rfl ?_
  refine js_dup dJ2_fastRemove_1 rfl ?_
  refine gJ2_63 rfl dJ2_fastRemove_2 hl rfl ?_
  refine js_iconst dJ2_fastRemove_5 ?_
  refine js_iadd dJ2_fastRemove_6 ?_
  refine pJ2_63 rfl dJ2_fastRemove_7 hl (Nat.le_of_ble_eq_true rfl) rfl rfl ?_
  show js_ok ρ mJ2_fastRemove _ 3 0 0 10 [(0, .ref l), (1, .ref e), (2, .int (jI i))] [] (js_up h l (js_ob true 15 [.int (jI (mc + 1)), .ref e, .int (jI n)]))
  refine js_aload_n 0 dJ2_fastRemove_10 rfl ?_
  refine gJ2_48 rfl dJ2_fastRemove_11 js_up_s rfl ?_
  refine js_iconst dJ2_fastRemove_14 ?_
  refine js_isub dJ2_fastRemove_15 ?_
  refine js_dup dJ2_fastRemove_16 rfl ?_
  refine js_istore_n (L' := [(3, .int (jI (n - 1))), (0, .ref l), (1, .ref e), (2, .int (jI i))]) dJ2_fastRemove_17 (by decide) rfl ?_
  refine js_iload_n 3 dJ2_fastRemove_18 rfl ?_
  refine js_icmp_le (tgt := 34) dJ2_fastRemove_19 (by decide) (by omega) (fun c1 => ?_) (fun c1 => ?_)
  · refine js_aload_n 2 dJ2_fastRemove_34 rfl ?_
    refine js_aload_n 1 dJ2_fastRemove_35 rfl ?_
    refine js_iload_n 0 dJ2_fastRemove_36 rfl ?_
    refine js_dup_x1 dJ2_fastRemove_37 rfl rfl ?_
    refine pJ2_48 rfl dJ2_fastRemove_38 js_up_s (Nat.le_of_ble_eq_true rfl) rfl rfl ?_
    rw [js_up_up]
    show js_ok ρ mJ2_fastRemove _ 3 0 0 41 [(3, .int (jI (n - 1))), (0, .ref l), (1, .ref e), (2, .int (jI i))] [.int (jI (n - 1)), .ref e] (js_up h l (js_ob true 15 [.int (jI (mc + 1)), .ref e, .int (jI (n - 1))]))
    refine js_null dJ2_fastRemove_41 ?_
    refine js_aastoreN (by decide) rfl dJ2_fastRemove_42 ((js_up_n (Ne.symm (js_nek hl he js_kOQ))).trans he) (by omega) ?_
    show js_ok ρ mJ2_fastRemove _ 3 0 0 43 [(3, .int (jI (n - 1))), (0, .ref l), (1, .ref e), (2, .int (jI i))] [] (js_up (js_up h l (js_ob true 15 [.int (jI (mc + 1)), .ref e, .int (jI (n - 1))])) e (js_aQ true 6 cap (js_uz g (n - 1) none)))
    exact js_vret rfl dJ2_fastRemove_43 ⟨rfl, by unfold zrm; rw [if_neg (by omega)]⟩
  · refine js_aload_n 2 dJ2_fastRemove_22 rfl ?_
    refine js_iload_n 3 dJ2_fastRemove_23 rfl ?_
    refine js_iconst dJ2_fastRemove_24 ?_
    refine js_iadd dJ2_fastRemove_25 ?_
    refine js_aload_n 2 dJ2_fastRemove_26 rfl ?_
    refine js_iload_n 3 dJ2_fastRemove_27 rfl ?_
    refine js_iload_n 0 dJ2_fastRemove_28 rfl ?_
    refine js_iload_n 3 dJ2_fastRemove_29 rfl ?_
    refine js_isub dJ2_fastRemove_30 ?_
    refine js_copyQ rfl q1340 dJ2_fastRemove_31 ((js_up_n (js_nek he hl js_kQO)).trans he) ((js_up_n (js_nek he hl js_kQO)).trans he) (by omega) (Nat.le_of_ble_eq_true rfl) (Nat.le_of_ble_eq_true rfl) (fun j j1 j2 => zels_up hl hk j (by omega) (by omega)) ?_
    show js_ok ρ mJ2_fastRemove _ 3 0 0 34 [(3, .int (jI (n - 1))), (0, .ref l), (1, .ref e), (2, .int (jI i))] [] (js_up (js_up h l (js_ob true 15 [.int (jI (mc + 1)), .ref e, .int (jI n)])) e (js_aQ true 6 cap (js_cp g g (i + 1) i ((n - 1) - i))))
    refine js_aload_n 2 dJ2_fastRemove_34 rfl ?_
    refine js_aload_n 1 dJ2_fastRemove_35 rfl ?_
    refine js_iload_n 0 dJ2_fastRemove_36 rfl ?_
    refine js_dup_x1 dJ2_fastRemove_37 rfl rfl ?_
    refine pJ2_48 rfl dJ2_fastRemove_38 ((js_up_n (js_nek hl he js_kOQ)).trans js_up_s) (Nat.le_of_ble_eq_true rfl) rfl rfl ?_
    show js_ok ρ mJ2_fastRemove _ 3 0 0 41 [(3, .int (jI (n - 1))), (0, .ref l), (1, .ref e), (2, .int (jI i))] [.int (jI (n - 1)), .ref e] (js_up (js_up (js_up h l (js_ob true 15 [.int (jI (mc + 1)), .ref e, .int (jI n)])) e (js_aQ true 6 cap (js_cp g g (i + 1) i ((n - 1) - i)))) l (js_ob true 15 [.int (jI (mc + 1)), .ref e, .int (jI (n - 1))]))
    refine js_null dJ2_fastRemove_41 ?_
    refine js_aastoreN (by decide) rfl dJ2_fastRemove_42 ((js_up_n (Ne.symm (js_nek hl he js_kOQ))).trans js_up_s) (by omega) ?_
    show js_ok ρ mJ2_fastRemove _ 3 0 0 43 [(3, .int (jI (n - 1))), (0, .ref l), (1, .ref e), (2, .int (jI i))] [] (js_up (js_up (js_up (js_up h l (js_ob true 15 [.int (jI (mc + 1)), .ref e, .int (jI n)])) e (js_aQ true 6 cap (js_cp g g (i + 1) i ((n - 1) - i)))) l (js_ob true 15 [.int (jI (mc + 1)), .ref e, .int (jI (n - 1))])) e (js_aQ true 6 cap (js_uz (js_cp g g (i + 1) i ((n - 1) - i)) (n - 1) none)))
    exact js_vret rfl dJ2_fastRemove_43 ⟨rfl, by unfold zrm; rw [if_pos (by omega), js_up_comm (js_nek he hl js_kQO), js_up_up, js_up_up]⟩
theorem con_lrm {ρ : js_R} {h : js_H} {l e cap : Nat} {mc n i : Int} {g : Int → Option Nat} {x : Nat} (hl : h l = some (js_ob true 15 [.int (jI mc), .ref e, .int (jI n)])) (rn : 0 ≤ n ∧ n ≤ 1000) (he : h e = some (js_aQ true 6 cap g)) (rc : n ≤ cap ∧ cap ≤ 1000) (ri : 0 ≤ i ∧ i < n) (hk : zels h g n) (hx : g i = some x) : js_Con ρ mJ2_remove 4 0 0 [.ref l, .int (jI i)] h (js_ret (some (.ref x)) (js_up (js_up h l (js_ob true 15 [.int (jI (mc + 1)), .ref e, .int (jI (n - 1))])) e (js_aQ true 6 cap (zrm g n i)))) := by
  refine js_body [(0, .ref l), (1, .int (jI i))] rfl (by decide) (Nat.le_of_ble_eq_true rfl) rfl ?_
  refine js_iload_n 1 dJ2_remove_0 rfl ?_
  refine js_aload_n 0 dJ2_remove_1 rfl ?_
  refine gJ2_48 rfl dJ2_remove_2 hl rfl ?_
  refine eJ2_118 rfl dJ2_remove_5 (con_oci (by omega)) (Nat.le_of_ble_eq_true rfl) (Nat.le_of_ble_eq_true rfl) ?_
  refine js_pop dJ2_remove_8 rfl ?_
  refine js_aload_n 0 dJ2_remove_9 rfl ?_
  refine gJ2_9 rfl dJ2_remove_10 hl rfl ?_
  refine js_astore_n (L' := [(2, .ref e), (0, .ref l), (1, .int (jI i))]) dJ2_remove_13 (by decide) rfl ?_
  refine js_aload_n 0 dJ2_remove_14 rfl ?_
  refine js_iload_n 2 dJ2_remove_15 rfl ?_
  refine js_aaload (by decide) dJ2_remove_16 he (by omega) ?_
  rw [hx]
  show js_ok ρ mJ2_remove _ 4 0 0 17 [(2, .ref e), (0, .ref l), (1, .int (jI i))] [.ref x] h
  refine js_astore_n (L' := [(3, .ref x), (2, .ref e), (0, .ref l), (1, .int (jI i))]) dJ2_remove_17 (by decide) rfl ?_
  refine js_aload_n 2 dJ2_remove_18 rfl ?_
  refine js_aload_n 1 dJ2_remove_19 rfl ?_
  refine js_iload_n 3 dJ2_remove_20 rfl ?_
  refine eJ2_144 rfl dJ2_remove_21 hl (con_lfr hl (by omega) he (by omega) (by omega) hk) (Nat.le_of_ble_eq_true rfl) (Nat.le_of_ble_eq_true rfl) ?_
  show js_ok ρ mJ2_remove _ 4 0 0 24 [(3, .ref x), (2, .ref e), (0, .ref l), (1, .int (jI i))] [] (js_up (js_up h l (js_ob true 15 [.int (jI (mc + 1)), .ref e, .int (jI (n - 1))])) e (js_aQ true 6 cap (zrm g n i)))
  refine js_aload_n 0 dJ2_remove_24 rfl ?_
  exact js_aret rfl (Or.inl ⟨_, rfl⟩) (Or.inr ⟨_, rfl⟩) dJ2_remove_25 ⟨rfl, rfl⟩
theorem con_acinit {ρ : js_R} {h : js_H} {l : Nat} (hl : h l = some (js_ob true 15 [.int (jI 0), .null, .int (jI 0)])) : js_Con ρ mJ0_init 1 0 0 [.ref l] h (js_ret none h) := by
  refine js_body [(0, .ref l)] rfl (by decide) (Nat.le_of_ble_eq_true rfl) rfl ?_
  refine js_aload_n 0 dJ0_init_0 rfl ?_
  refine js_oinit q175 q156 q157 (Nat.le_of_ble_eq_true rfl) (Nat.le_of_ble_eq_true rfl) dJ0_init_1 ?_
  exact js_vret rfl dJ0_init_4 ⟨rfl, rfl⟩
theorem con_alinit {ρ : js_R} {h : js_H} {l : Nat} (hl : h l = some (js_ob true 15 [.int (jI 0), .null, .int (jI 0)])) : js_Con ρ mJ1_init 2 0 0 [.ref l] h (js_ret none (js_up h l (js_ob true 15 [.int (jI 0), .null, .int (jI 0)]))) := by
  refine js_body [(0, .ref l)] rfl (by decide) (Nat.le_of_ble_eq_true rfl) rfl ?_
  refine js_aload_n 0 dJ1_init_0 rfl ?_
  refine eJ1_1 rfl dJ1_init_1 (con_acinit hl) (Nat.le_of_ble_eq_true rfl) (Nat.le_of_ble_eq_true rfl) ?_
  refine js_aload_n 0 dJ1_init_4 rfl ?_
  refine js_iconst dJ1_init_5 ?_
  refine pJ1_7 rfl dJ1_init_6 hl (Nat.le_of_ble_eq_true rfl) rfl rfl ?_
  show js_ok ρ mJ1_init _ 2 0 0 9 [(0, .ref l)] [] (js_up h l (js_ob true 15 [.int (jI 0), .null, .int (jI 0)]))
  exact js_vret rfl dJ1_init_9 ⟨rfl, rfl⟩
theorem con_linit {ρ : js_R} {h : js_H} {l em : Nat} (hl : h l = some (js_ob true 15 [.int (jI 0), .null, .int (jI 0)])) (hE : js_sv ρ 1 = .ref em) : js_Con ρ mJ2_init 3 0 0 [.ref l] h (js_ret none (js_up h l (js_ob true 15 [.int (jI 0), .ref em, .int (jI 0)]))) := by
  refine js_body [(0, .ref l)] rfl (by decide) (Nat.le_of_ble_eq_true rfl) rfl ?_
  refine js_aload_n 0 dJ2_init_0 rfl ?_
  refine eJ2_1 rfl dJ2_init_1 (con_alinit hl) (Nat.le_of_ble_eq_true rfl) (Nat.le_of_ble_eq_true rfl) ?_
  show js_ok ρ mJ2_init _ 3 0 0 4 [(0, .ref l)] [] (js_up h l (js_ob true 15 [.int (jI 0), .null, .int (jI 0)]))
  refine js_aload_n 0 dJ2_init_4 rfl ?_
  refine js_gets 1 rfl q176 dJ2_init_5 ?_
  rw [hE]
  show js_ok ρ mJ2_init _ 3 0 0 8 [(0, .ref l)] [.ref em, .ref l] (js_up h l (js_ob true 15 [.int (jI 0), .null, .int (jI 0)]))
  refine pJ2_9 rfl dJ2_init_8 js_up_s (Nat.le_of_ble_eq_true rfl) rfl rfl ?_
  rw [js_up_up]
  show js_ok ρ mJ2_init _ 3 0 0 11 [(0, .ref l)] [] (js_up h l (js_ob true 15 [.int (jI 0), .ref em, .int (jI 0)]))
  exact js_vret rfl dJ2_init_11 ⟨rfl, rfl⟩
theorem con_itinit {ρ : js_R} {h : js_H} {t l e : Nat} {w : Bool} {mc n : Int} (hl : h l = some (js_ob w 15 [.int (jI mc), .ref e, .int (jI n)])) (rn : 0 ≤ n ∧ n ≤ 1000) (ht : h t = some (js_ob true 19 [.int (jI 0), .int (jI 0), .int (jI 0), .null])) (nt : t ≠ l) : js_Con ρ mJ12_init 1 0 0 [.ref t, .ref l] h (js_ret none (js_up h t (js_ob true 19 [.int (jI 0), .int (jI (-1)), .int (jI mc), .ref l]))) := by
  refine js_body [(0, .ref t), (1, .ref l)] rfl (by decide) (Nat.le_of_ble_eq_true rfl) rfl ?_
  refine js_aload_n 0 dJ12_init_0 rfl ?_
  refine js_aload_n 1 dJ12_init_1 rfl ?_
  refine pJ12_1 rfl rfl dJ12_init_2 ht (Nat.le_of_ble_eq_true rfl) rfl rfl ?_
  show js_ok ρ mJ12_init _ 1 0 0 5 [(0, .ref t), (1, .ref l)] [] (js_up h t (js_ob true 19 [.int (jI 0), .int (jI 0), .int (jI 0), .ref l]))
  refine js_aload_n 0 dJ12_init_5 rfl ?_
  refine js_oinit q335 q156 q157 (Nat.le_of_ble_eq_true rfl) (Nat.le_of_ble_eq_true rfl) dJ12_init_6 ?_
  refine js_aload_n 0 dJ12_init_9 rfl ?_
  refine js_iconst dJ12_init_10 ?_
  refine pJ12_13 rfl dJ12_init_11 js_up_s (Nat.le_of_ble_eq_true rfl) rfl rfl ?_
  rw [js_up_up]
  show js_ok ρ mJ12_init _ 1 0 0 14 [(0, .ref t), (1, .ref l)] [] (js_up h t (js_ob true 19 [.int (jI 0), .int (jI (-1)), .int (jI 0), .ref l]))
  refine js_aload_n 0 dJ12_init_14 rfl ?_
  refine js_aload_n 0 dJ12_init_15 rfl ?_
  refine gJ12_1 rfl dJ12_init_16 js_up_s rfl ?_
  refine gJ12_17 rfl dJ12_init_19 ((js_up_n (js_nek hl ht (js_kOO (by decide)))).trans hl) rfl ?_
  refine pJ12_22 rfl dJ12_init_22 js_up_s (Nat.le_of_ble_eq_true rfl) rfl rfl ?_
  rw [js_up_up]
  show js_ok ρ mJ12_init _ 1 0 0 25 [(0, .ref t), (1, .ref l)] [] (js_up h t (js_ob true 19 [.int (jI 0), .int (jI (-1)), .int (jI mc), .ref l]))
  exact js_vret rfl dJ12_init_25 ⟨rfl, rfl⟩
