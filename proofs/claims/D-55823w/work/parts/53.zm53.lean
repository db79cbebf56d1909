set_option maxRecDepth 100000
/-! ArrayDeque -/
/-- n elements q from place hd of a row of cap, round its end -/
def zDr (cap : Nat) (hd tl n : Int) (ge : Int → Option Nat) (q : Int → Nat) : Prop := (0 ≤ hd ∧ hd < cap) ∧ (0 ≤ tl ∧ tl < cap) ∧ (0 ≤ n ∧ n < cap) ∧ (tl = hd + n ∨ tl = hd + n - cap) ∧ ∀ j : Int, 0 ≤ j → j < n → ge (if hd + j < cap then hd + j else hd + j - cap) = some (q j)
theorem zDr_0 {cap : Nat} {ge : Int → Option Nat} {q : Int → Nat} (h : 0 < cap) : zDr cap 0 0 0 ge q := ⟨by omega, by omega, by omega, by omega, fun j a b => absurd b (by omega)⟩
theorem zDr_add {cap v : Nat} {hd tl n tl' : Int} {ge : Int → Option Nat} {q : Int → Nat} (k : zDr cap hd tl n ge q) (hn : n + 1 < cap) (ht : tl' = if tl + 1 < cap then tl + 1 else 0) : zDr cap hd tl' (n + 1) (js_uz ge tl (some v)) (js_uz q n v) := by
  obtain ⟨a, b, c, d, e⟩ := k
  refine ⟨a, by rw [ht]; split <;> omega, by omega, by rw [ht]; split <;> omega, fun j j1 j2 => ?_⟩
  by_cases x : j = n
  · subst x
    rw [js_uz_s, show (if hd + j < cap then hd + j else hd + j - cap) = tl by split <;> omega, js_uz_s]
  · rw [js_uz_n x, js_uz_n (by split <;> omega)]
    exact e j j1 (by omega)
theorem zDr_first {cap : Nat} {hd tl n hd' : Int} {ge : Int → Option Nat} {q : Int → Nat} (k : zDr cap hd tl n ge q) (hn : 0 < n) (ht : hd' = if hd + 1 < cap then hd + 1 else 0) : ge hd = some (q 0) ∧ zDr cap hd' tl (n - 1) (js_uz ge hd none) (fun j => q (j + 1)) := by
  obtain ⟨a, b, c, d, e⟩ := k
  refine ⟨?_, by rw [ht]; split <;> omega, b, by omega, by rw [ht]; split <;> omega, fun j j1 j2 => ?_⟩
  · have := e 0 (by omega) hn
    rw [show (if hd + 0 < (cap : Int) then hd + 0 else hd + 0 - cap) = hd by split <;> omega] at this
    exact this
  · have z := e (j + 1) (by omega) (by omega)
    have y : (if hd' + j < (cap : Int) then hd' + j else hd' + j - cap) = (if hd + (j + 1) < (cap : Int) then hd + (j + 1) else hd + (j + 1) - cap) := by rw [ht]; (repeat' split) <;> omega
    rw [y, js_uz_n (by split <;> omega)]
    exact z
theorem zDr_last {cap : Nat} {hd tl n tl' : Int} {ge : Int → Option Nat} {q : Int → Nat} (k : zDr cap hd tl n ge q) (hn : 0 < n) (ht : tl' = if 0 ≤ tl - 1 then tl - 1 else cap - 1) : ge tl' = some (q (n - 1)) ∧ zDr cap hd tl' (n - 1) (js_uz ge tl' none) q := by
  obtain ⟨a, b, c, d, e⟩ := k
  refine ⟨?_, a, by rw [ht]; split <;> omega, by omega, by rw [ht]; split <;> omega, fun j j1 j2 => ?_⟩
  · have := e (n - 1) (by omega) (by omega)
    rw [show (if hd + (n - 1) < (cap : Int) then hd + (n - 1) else hd + (n - 1) - cap) = tl' by rw [ht]; (repeat' split) <;> omega] at this
    exact this
  · rw [js_uz_n (by rw [ht]; (repeat' split) <;> omega)]
    exact e j j1 (by omega)
theorem con_dinc {ρ : js_R} {h : js_H} {i m : Int} (r : 0 ≤ i ∧ i < m ∧ m ≤ 1000000) : js_Con ρ mJ3_inc 0 0 0 [.int (jI i), .int (jI m)] h (js_ret (some (.int (jI (if i + 1 < m then i + 1 else 0)))) h) := by
  refine js_body [(0, .int (jI i)), (1, .int (jI m))] rfl (by decide) (Nat.le_of_ble_eq_true rfl) rfl ?_
  refine js_iinc (L' := [(0, .int (jI (i + 1))), (1, .int (jI m))]) 0 dJ3_inc_0 rfl (by decide) rfl ?_
  refine js_iload_n 0 dJ3_inc_3 rfl ?_
  refine js_iload_n 1 dJ3_inc_4 rfl ?_
  refine js_icmp_lt (tgt := 10) dJ3_inc_5 (by decide) (by omega) (fun c1 => ?_) (fun c1 => ?_)
  · refine js_iload_n 0 dJ3_inc_10 rfl ?_
    exact js_iret rfl rfl dJ3_inc_11 ⟨js_reti (by (repeat' split) <;> omega), rfl⟩
  · refine js_iconst dJ3_inc_8 ?_
    refine js_istore_n (L' := [(0, .int (jI 0)), (1, .int (jI m))]) dJ3_inc_9 (by decide) rfl ?_
    refine js_iload_n 0 dJ3_inc_10 rfl ?_
    exact js_iret rfl rfl dJ3_inc_11 ⟨js_reti (by (repeat' split) <;> omega), rfl⟩
theorem con_ddec {ρ : js_R} {h : js_H} {i m : Int} (r : 0 ≤ i ∧ i < m ∧ m ≤ 1000000) : js_Con ρ mJ3_dec 0 0 0 [.int (jI i), .int (jI m)] h (js_ret (some (.int (jI (if 0 ≤ i - 1 then i - 1 else m - 1)))) h) := by
  refine js_body [(0, .int (jI i)), (1, .int (jI m))] rfl (by decide) (Nat.le_of_ble_eq_true rfl) rfl ?_
  refine js_iinc (L' := [(0, .int (jI (i + (-1)))), (1, .int (jI m))]) 0 dJ3_dec_0 rfl (by decide) rfl ?_
  refine js_iload_n 0 dJ3_dec_3 rfl ?_
  refine js_if_ge (tgt := 11) dJ3_dec_4 (by decide) (by omega) (fun c1 => ?_) (fun c1 => ?_)
  · refine js_iload_n 0 dJ3_dec_11 rfl ?_
    exact js_iret rfl rfl dJ3_dec_12 ⟨js_reti (by (repeat' split) <;> omega), rfl⟩
  · refine js_iload_n 1 dJ3_dec_7 rfl ?_
    refine js_iconst dJ3_dec_8 ?_
    refine js_isub dJ3_dec_9 ?_
    refine js_istore_n (L' := [(0, .int (jI (m - 1))), (1, .int (jI m))]) dJ3_dec_10 (by decide) rfl ?_
    refine js_iload_n 0 dJ3_dec_11 rfl ?_
    exact js_iret rfl rfl dJ3_dec_12 ⟨js_reti (by (repeat' split) <;> omega), rfl⟩
theorem con_dsub {ρ : js_R} {h : js_H} {i j m : Int} (r : 0 ≤ i ∧ i < m ∧ 0 ≤ j ∧ j < m ∧ m ≤ 1000000) : js_Con ρ mJ3_sub 0 0 0 [.int (jI i), .int (jI j), .int (jI m)] h (js_ret (some (.int (jI (if 0 ≤ i - j then i - j else i - j + m)))) h) := by
  refine js_body [(0, .int (jI i)), (1, .int (jI j)), (2, .int (jI m))] rfl (by decide) (Nat.le_of_ble_eq_true rfl) rfl ?_
  refine js_iload_n 0 dJ3_sub_0 rfl ?_
  refine js_iload_n 1 dJ3_sub_1 rfl ?_
  refine js_isub dJ3_sub_2 ?_
  refine js_dup dJ3_sub_3 rfl ?_
  refine js_istore_n (L' := [(0, .int (jI (i - j))), (1, .int (jI j)), (2, .int (jI m))]) dJ3_sub_4 (by decide) rfl ?_
  refine js_if_ge (tgt := 12) dJ3_sub_5 (by decide) (by omega) (fun c1 => ?_) (fun c1 => ?_)
  · refine js_iload_n 0 dJ3_sub_12 rfl ?_
    exact js_iret rfl rfl dJ3_sub_13 ⟨js_reti (by (repeat' split) <;> omega), rfl⟩
  · refine js_iload_n 0 dJ3_sub_8 rfl ?_
    refine js_iload_n 2 dJ3_sub_9 rfl ?_
    refine js_iadd dJ3_sub_10 ?_
    refine js_istore_n (L' := [(0, .int (jI ((i - j) + m))), (1, .int (jI j)), (2, .int (jI m))]) dJ3_sub_11 (by decide) rfl ?_
    refine js_iload_n 0 dJ3_sub_12 rfl ?_
    exact js_iret rfl rfl dJ3_sub_13 ⟨js_reti (by (repeat' split) <;> omega), rfl⟩
theorem con_dempty {ρ : js_R} {h : js_H} {d ed cap : Nat} {hd tl n : Int} {ge : Int → Option Nat} {q : Int → Nat} (hq : h d = some (js_ob true 16 [.ref ed, .int (jI hd), .int (jI tl)])) (he : h ed = some (js_aQ true 6 cap ge)) (k : zDr cap hd tl n ge q) (rc : cap ≤ 1000000) : js_Con ρ mJ3_isEmpty 0 0 0 [.ref d] h (js_ret (some (.int (jI (jb (n = 0))))) h) := by
  refine js_body [(0, .ref d)] rfl (by decide) (Nat.le_of_ble_eq_true rfl) rfl ?_
  have k0 := k
  obtain ⟨ka, kb, kc_, kd, ke⟩ := k
  refine js_aload_n 0 dJ3_isEmpty_0 rfl ?_
  refine gJ3_24 rfl dJ3_isEmpty_1 hq rfl ?_
  refine js_aload_n 0 dJ3_isEmpty_4 rfl ?_
  refine gJ3_20 rfl dJ3_isEmpty_5 hq rfl ?_
  refine js_icmp_ne (tgt := 15) dJ3_isEmpty_8 (by decide) (by omega) (fun c1 => ?_) (fun c1 => ?_)
  · refine js_iconst dJ3_isEmpty_15 ?_
    exact js_iret rfl (js_nar_boolean (by omega)) dJ3_isEmpty_16 ⟨js_reti (jb_f (by omega)).symm, rfl⟩
  · refine js_iconst dJ3_isEmpty_11 ?_
    refine js_goto (tgt := 16) dJ3_isEmpty_12 (by decide) ?_
    exact js_iret rfl (js_nar_boolean (by omega)) dJ3_isEmpty_16 ⟨js_reti (jb_t (by omega)).symm, rfl⟩
theorem con_dsize {ρ : js_R} {h : js_H} {d ed cap : Nat} {hd tl n : Int} {ge : Int → Option Nat} {q : Int → Nat} (hq : h d = some (js_ob true 16 [.ref ed, .int (jI hd), .int (jI tl)])) (he : h ed = some (js_aQ true 6 cap ge)) (k : zDr cap hd tl n ge q) (rc : cap ≤ 1000000) : js_Con ρ mJ3_size 1 0 0 [.ref d] h (js_ret (some (.int (jI n))) h) := by
  refine js_body [(0, .ref d)] rfl (by decide) (Nat.le_of_ble_eq_true rfl) rfl ?_
  have k0 := k
  obtain ⟨ka, kb, kc_, kd, ke⟩ := k
  refine js_aload_n 0 dJ3_size_0 rfl ?_
  refine gJ3_20 rfl dJ3_size_1 hq rfl ?_
  refine js_aload_n 0 dJ3_size_4 rfl ?_
  refine gJ3_24 rfl dJ3_size_5 hq rfl ?_
  refine js_aload_n 0 dJ3_size_8 rfl ?_
  refine gJ3_3 rfl dJ3_size_9 hq rfl ?_
  refine js_alenQ dJ3_size_12 he (by decide) ?_
  refine eJ3_127 rfl dJ3_size_13 (con_dsub (by omega)) (Nat.le_of_ble_eq_true rfl) (Nat.le_of_ble_eq_true rfl) ?_
  exact js_iret rfl rfl dJ3_size_16 ⟨js_reti (by split <;> omega), rfl⟩
theorem con_dadd {ρ : js_R} {h : js_H} {d ed cap v ci : Nat} {hd tl n tl2 : Int} {ge : Int → Option Nat} {q : Int → Nat} {wv : Bool} {fs : List Value} {r : vw_C} (hq : h d = some (js_ob true 16 [.ref ed, .int (jI hd), .int (jI tl)])) (he : h ed = some (js_aQ true 6 cap ge)) (k : zDr cap hd tl n ge q) (rc : cap ≤ 1000000) (hv : h v = some (js_ob wv ci fs)) (hr9 : js_cl[ci]? = some r) (hca : Cond.castable r.1 "java/lang/Object" ∈ js_nw) (nv : v ≠ d) (hn : n + 1 < cap) (ht : tl2 = if tl + 1 < (cap : Int) then tl + 1 else 0) : js_Con ρ mJ3_addLast 1 0 0 [.ref d, .ref v] h (js_ret none (js_up (js_up h ed (js_aQ true 6 cap (js_uz ge tl (some v)))) d (js_ob true 16 [.ref ed, .int (jI hd), .int (jI tl2)]))) := by
  refine js_body [(0, .ref d), (1, .ref v)] rfl (by decide) (Nat.le_of_ble_eq_true rfl) rfl ?_
  have k0 := k
  obtain ⟨ka, kb, kc_, kd, ke⟩ := k
  refine js_aload_n 1 dJ3_addLast_0 rfl ?_
  refine js_ifnonnull (tgt := 12) dJ3_addLast_1 (by decide) ?_
  refine js_aload_n 0 dJ3_addLast_12 rfl ?_
  refine gJ3_3 rfl dJ3_addLast_13 hq rfl ?_
  refine js_astore_n (L' := [(2, .ref ed), (0, .ref d), (1, .ref v)]) dJ3_addLast_16 (by decide) rfl ?_
  refine js_aload_n 0 dJ3_addLast_17 rfl ?_
  refine js_aload_n 1 dJ3_addLast_18 rfl ?_
  refine gJ3_20 rfl dJ3_addLast_19 hq rfl ?_
  refine js_aload_n 2 dJ3_addLast_22 rfl ?_
  refine js_aastore (by decide) rfl hr9 hca dJ3_addLast_23 he hv (by omega) ?_
  show js_ok ρ mJ3_addLast _ 1 0 0 24 [(2, .ref ed), (0, .ref d), (1, .ref v)] [] (js_up h ed (js_aQ true 6 cap (js_uz ge tl ((some v)))))
  refine js_aload_n 1 dJ3_addLast_24 rfl ?_
  refine gJ3_24 rfl dJ3_addLast_25 ((js_up_n (js_nek hq he js_kOQ)).trans hq) rfl ?_
  refine js_aload_n 1 dJ3_addLast_28 rfl ?_
  refine js_aload_n 1 dJ3_addLast_29 rfl ?_
  refine gJ3_20 rfl dJ3_addLast_30 ((js_up_n (js_nek hq he js_kOQ)).trans hq) rfl ?_
  refine js_aload_n 0 dJ3_addLast_33 rfl ?_
  refine js_alenQ dJ3_addLast_34 js_up_s (by decide) ?_
  refine eJ3_74 rfl dJ3_addLast_35 (con_dinc (by omega)) (Nat.le_of_ble_eq_true rfl) (Nat.le_of_ble_eq_true rfl) ?_
  refine js_top (b := tl2) (by rw [ht]) ?_
  have rt2 : 0 ≤ tl2 ∧ tl2 < cap ∧ tl2 ≠ hd := by rw [ht]; split <;> omega
  refine js_dup_x1 dJ3_addLast_38 rfl rfl ?_
  refine pJ3_20 rfl dJ3_addLast_39 ((js_up_n (js_nek hq he js_kOQ)).trans hq) (Nat.le_of_ble_eq_true rfl) rfl rfl ?_
  show js_ok ρ mJ3_addLast _ 1 0 0 42 [(2, .ref ed), (0, .ref d), (1, .ref v)] [.int (jI tl2), .int (jI hd)] (js_up (js_up h ed (js_aQ true 6 cap (js_uz ge tl ((some v))))) d (js_ob true 16 [.ref ed, .int (jI hd), .int (jI tl2)]))
  refine js_icmp_ne (tgt := 50) dJ3_addLast_42 (by decide) (by omega) (fun c1 => ?_) (fun c1 => ?_)
  · exact js_vret rfl dJ3_addLast_50 ⟨rfl, rfl⟩
  · exfalso; omega
theorem con_dat {ρ : js_R} {h : js_H} {e cap : Nat} {i : Int} {ge : Int → Option Nat} (he : h e = some (js_aQ true 6 cap ge)) (ri : 0 ≤ i ∧ i < cap ∧ cap ≤ 1000000) : js_Con ρ mJ3_elementAt 0 0 0 [.ref e, .int (jI i)] h (js_ret (some (va_rf (ge i))) h) := by
  refine js_body [(0, .ref e), (1, .int (jI i))] rfl (by decide) (Nat.le_of_ble_eq_true rfl) rfl ?_
  refine js_aload_n 0 dJ3_elementAt_0 rfl ?_
  refine js_iload_n 1 dJ3_elementAt_1 rfl ?_
  refine js_aaload (by decide) dJ3_elementAt_2 he (by omega) ?_
  exact js_aret rfl (Or.inl ⟨_, rfl⟩) (va_rf_or _) dJ3_elementAt_3 ⟨rfl, rfl⟩
theorem con_dpollF {ρ : js_R} {h : js_H} {d ed cap : Nat} {hd tl n hd2 : Int} {ge : Int → Option Nat} {q : Int → Nat} (hq : h d = some (js_ob true 16 [.ref ed, .int (jI hd), .int (jI tl)])) (he : h ed = some (js_aQ true 6 cap ge)) (k : zDr cap hd tl n ge q) (rc : cap ≤ 1000000) (hn : 0 < n) (ht : hd2 = if hd + 1 < (cap : Int) then hd + 1 else 0) : js_Con ρ mJ3_pollFirst 1 0 0 [.ref d] h (js_ret (some (.ref (q 0))) (js_up (js_up h ed (js_aQ true 6 cap (js_uz ge hd none))) d (js_ob true 16 [.ref ed, .int (jI hd2), .int (jI tl)]))) := by
  refine js_body [(0, .ref d)] rfl (by decide) (Nat.le_of_ble_eq_true rfl) rfl ?_
  have k1 := (zDr_first k hn ht).1
  have k0 := k
  obtain ⟨ka, kb, kc_, kd, ke⟩ := k
  refine js_aload_n 0 dJ3_pollFirst_0 rfl ?_
  refine gJ3_3 rfl dJ3_pollFirst_1 hq rfl ?_
  refine js_dup dJ3_pollFirst_4 rfl ?_
  refine js_astore_n (L' := [(1, .ref ed), (0, .ref d)]) dJ3_pollFirst_5 (by decide) rfl ?_
  refine js_aload_n 1 dJ3_pollFirst_6 rfl ?_
  refine gJ3_24 rfl dJ3_pollFirst_7 hq rfl ?_
  refine js_dup dJ3_pollFirst_10 rfl ?_
  refine js_istore_n (L' := [(2, .int (jI hd)), (1, .ref ed), (0, .ref d)]) dJ3_pollFirst_11 (by decide) rfl ?_
  refine eJ3_103 rfl dJ3_pollFirst_12 (con_dat he (by omega)) (Nat.le_of_ble_eq_true rfl) (Nat.le_of_ble_eq_true rfl) ?_
  rw [show ge hd = some (q 0) from k1]
  show js_ok ρ mJ3_pollFirst _ 1 0 0 15 [(2, .int (jI hd)), (1, .ref ed), (0, .ref d)] [.ref (q 0)] h
  refine js_astore_n (L' := [(3, .ref (q 0)), (2, .int (jI hd)), (1, .ref ed), (0, .ref d)]) dJ3_pollFirst_15 (by decide) rfl ?_
  refine js_aload_n 0 dJ3_pollFirst_16 rfl ?_
  refine js_ifnull dJ3_pollFirst_17 ?_
  refine js_aload_n 2 dJ3_pollFirst_20 rfl ?_
  refine js_iload_n 1 dJ3_pollFirst_21 rfl ?_
  refine js_null dJ3_pollFirst_22 ?_
  refine js_aastoreN (by decide) rfl dJ3_pollFirst_23 he (by omega) ?_
  show js_ok ρ mJ3_pollFirst _ 1 0 0 24 [(3, .ref (q 0)), (2, .int (jI hd)), (1, .ref ed), (0, .ref d)] [] (js_up h ed (js_aQ true 6 cap (js_uz ge hd none)))
  refine js_aload_n 3 dJ3_pollFirst_24 rfl ?_
  refine js_iload_n 1 dJ3_pollFirst_25 rfl ?_
  refine js_aload_n 2 dJ3_pollFirst_26 rfl ?_
  refine js_alenQ dJ3_pollFirst_27 js_up_s (by decide) ?_
  refine eJ3_74 rfl dJ3_pollFirst_28 (con_dinc (by omega)) (Nat.le_of_ble_eq_true rfl) (Nat.le_of_ble_eq_true rfl) ?_
  refine js_top (b := hd2) (by rw [ht]) ?_
  have rt2 : 0 ≤ hd2 ∧ hd2 < cap := by rw [ht]; split <;> omega
  refine pJ3_24 rfl dJ3_pollFirst_31 ((js_up_n (js_nek hq he js_kOQ)).trans hq) (Nat.le_of_ble_eq_true rfl) rfl rfl ?_
  show js_ok ρ mJ3_pollFirst _ 1 0 0 34 [(3, .ref (q 0)), (2, .int (jI hd)), (1, .ref ed), (0, .ref d)] [] (js_up (js_up h ed (js_aQ true 6 cap (js_uz ge hd none))) d (js_ob true 16 [.ref ed, .int (jI hd2), .int (jI tl)]))
  refine js_aload_n 0 dJ3_pollFirst_34 rfl ?_
  exact js_aret rfl (Or.inl ⟨_, rfl⟩) (Or.inr ⟨_, rfl⟩) dJ3_pollFirst_35 ⟨rfl, rfl⟩
theorem con_drmF {ρ : js_R} {h : js_H} {d ed cap : Nat} {hd tl n hd2 : Int} {ge : Int → Option Nat} {q : Int → Nat} (hq : h d = some (js_ob true 16 [.ref ed, .int (jI hd), .int (jI tl)])) (he : h ed = some (js_aQ true 6 cap ge)) (k : zDr cap hd tl n ge q) (rc : cap ≤ 1000000) (hn : 0 < n) (ht : hd2 = if hd + 1 < (cap : Int) then hd + 1 else 0) : js_Con ρ mJ3_removeFirst 2 0 0 [.ref d] h (js_ret (some (.ref (q 0))) (js_up (js_up h ed (js_aQ true 6 cap (js_uz ge hd none))) d (js_ob true 16 [.ref ed, .int (jI hd2), .int (jI tl)]))) := by
  refine js_body [(0, .ref d)] rfl (by decide) (Nat.le_of_ble_eq_true rfl) rfl ?_
  have k0 := k
  obtain ⟨ka, kb, kc_, kd, ke⟩ := k
  refine js_aload_n 0 dJ3_removeFirst_0 rfl ?_
  refine eJ3_93 rfl dJ3_removeFirst_1 hq (con_dpollF hq he k0 rc hn ht) (Nat.le_of_ble_eq_true rfl) (Nat.le_of_ble_eq_true rfl) ?_
  show js_ok ρ mJ3_removeFirst _ 2 0 0 4 [(0, .ref d)] [.ref (q 0)] (js_up (js_up h ed (js_aQ true 6 cap (js_uz ge hd none))) d (js_ob true 16 [.ref ed, .int (jI hd2), .int (jI tl)]))
  refine js_astore_n (L' := [(1, .ref (q 0)), (0, .ref d)]) dJ3_removeFirst_4 (by decide) rfl ?_
  refine js_aload_n 0 dJ3_removeFirst_5 rfl ?_
  refine js_ifnonnull (tgt := 17) dJ3_removeFirst_6 (by decide) ?_
  refine js_aload_n 0 dJ3_removeFirst_17 rfl ?_
  exact js_aret rfl (Or.inl ⟨_, rfl⟩) (Or.inr ⟨_, rfl⟩) dJ3_removeFirst_18 ⟨rfl, rfl⟩
theorem con_dpollL {ρ : js_R} {h : js_H} {d ed cap : Nat} {hd tl n tl2 : Int} {ge : Int → Option Nat} {q : Int → Nat} (hq : h d = some (js_ob true 16 [.ref ed, .int (jI hd), .int (jI tl)])) (he : h ed = some (js_aQ true 6 cap ge)) (k : zDr cap hd tl n ge q) (rc : cap ≤ 1000000) (hn : 0 < n) (ht : tl2 = if 0 ≤ tl - 1 then tl - 1 else (cap : Int) - 1) : js_Con ρ mJ3_pollLast 1 0 0 [.ref d] h (js_ret (some (.ref (q (n - 1)))) (js_up (js_up h ed (js_aQ true 6 cap (js_uz ge tl2 none))) d (js_ob true 16 [.ref ed, .int (jI hd), .int (jI tl2)]))) := by
  refine js_body [(0, .ref d)] rfl (by decide) (Nat.le_of_ble_eq_true rfl) rfl ?_
  have k1 := (zDr_last k hn ht).1
  have k0 := k
  obtain ⟨ka, kb, kc_, kd, ke⟩ := k
  refine js_aload_n 0 dJ3_pollLast_0 rfl ?_
  refine gJ3_3 rfl dJ3_pollLast_1 hq rfl ?_
  refine js_dup dJ3_pollLast_4 rfl ?_
  refine js_astore_n (L' := [(1, .ref ed), (0, .ref d)]) dJ3_pollLast_5 (by decide) rfl ?_
  refine js_aload_n 1 dJ3_pollLast_6 rfl ?_
  refine gJ3_20 rfl dJ3_pollLast_7 hq rfl ?_
  refine js_aload_n 0 dJ3_pollLast_10 rfl ?_
  refine js_alenQ dJ3_pollLast_11 he (by decide) ?_
  refine eJ3_68 rfl dJ3_pollLast_12 (con_ddec (by omega)) (Nat.le_of_ble_eq_true rfl) (Nat.le_of_ble_eq_true rfl) ?_
  refine js_top (b := tl2) (by rw [ht]) ?_
  have rt2 : 0 ≤ tl2 ∧ tl2 < cap := by rw [ht]; split <;> omega
  refine js_dup dJ3_pollLast_15 rfl ?_
  refine js_istore_n (L' := [(2, .int (jI tl2)), (1, .ref ed), (0, .ref d)]) dJ3_pollLast_16 (by decide) rfl ?_
  refine eJ3_103 rfl dJ3_pollLast_17 (con_dat he (by omega)) (Nat.le_of_ble_eq_true rfl) (Nat.le_of_ble_eq_true rfl) ?_
  rw [show ge tl2 = some (q (n - 1)) from k1]
  show js_ok ρ mJ3_pollLast _ 1 0 0 20 [(2, .int (jI tl2)), (1, .ref ed), (0, .ref d)] [.ref (q (n - 1))] h
  refine js_astore_n (L' := [(3, .ref (q (n - 1))), (2, .int (jI tl2)), (1, .ref ed), (0, .ref d)]) dJ3_pollLast_20 (by decide) rfl ?_
  refine js_aload_n 0 dJ3_pollLast_21 rfl ?_
  refine js_ifnull dJ3_pollLast_22 ?_
  refine js_aload_n 2 dJ3_pollLast_25 rfl ?_
  refine js_aload_n 3 dJ3_pollLast_26 rfl ?_
  refine js_iload_n 1 dJ3_pollLast_27 rfl ?_
  refine js_dup_x1 dJ3_pollLast_28 rfl rfl ?_
  refine pJ3_20 rfl dJ3_pollLast_29 hq (Nat.le_of_ble_eq_true rfl) rfl rfl ?_
  show js_ok ρ mJ3_pollLast _ 1 0 0 32 [(3, .ref (q (n - 1))), (2, .int (jI tl2)), (1, .ref ed), (0, .ref d)] [.int (jI tl2), .ref ed] (js_up h d (js_ob true 16 [.ref ed, .int (jI hd), .int (jI tl2)]))
  refine js_null dJ3_pollLast_32 ?_
  refine js_aastoreN (by decide) rfl dJ3_pollLast_33 ((js_up_n (js_nek he hq js_kQO)).trans he) (by omega) ?_
  show js_ok ρ mJ3_pollLast _ 1 0 0 34 [(3, .ref (q (n - 1))), (2, .int (jI tl2)), (1, .ref ed), (0, .ref d)] [] (js_up (js_up h d (js_ob true 16 [.ref ed, .int (jI hd), .int (jI tl2)])) ed (js_aQ true 6 cap (js_uz ge tl2 none)))
  refine js_aload_n 0 dJ3_pollLast_34 rfl ?_
  exact js_aret rfl (Or.inl ⟨_, rfl⟩) (Or.inr ⟨_, rfl⟩) dJ3_pollLast_35 ⟨rfl, by rw [js_up_comm (js_nek hq he js_kOQ)]⟩
theorem con_drmL {ρ : js_R} {h : js_H} {d ed cap : Nat} {hd tl n tl2 : Int} {ge : Int → Option Nat} {q : Int → Nat} (hq : h d = some (js_ob true 16 [.ref ed, .int (jI hd), .int (jI tl)])) (he : h ed = some (js_aQ true 6 cap ge)) (k : zDr cap hd tl n ge q) (rc : cap ≤ 1000000) (hn : 0 < n) (ht : tl2 = if 0 ≤ tl - 1 then tl - 1 else (cap : Int) - 1) : js_Con ρ mJ3_removeLast 2 0 0 [.ref d] h (js_ret (some (.ref (q (n - 1)))) (js_up (js_up h ed (js_aQ true 6 cap (js_uz ge tl2 none))) d (js_ob true 16 [.ref ed, .int (jI hd), .int (jI tl2)]))) := by
  refine js_body [(0, .ref d)] rfl (by decide) (Nat.le_of_ble_eq_true rfl) rfl ?_
  have k0 := k
  obtain ⟨ka, kb, kc_, kd, ke⟩ := k
  refine js_aload_n 0 dJ3_removeLast_0 rfl ?_
  refine eJ3_100 rfl dJ3_removeLast_1 hq (con_dpollL hq he k0 rc hn ht) (Nat.le_of_ble_eq_true rfl) (Nat.le_of_ble_eq_true rfl) ?_
  show js_ok ρ mJ3_removeLast _ 2 0 0 4 [(0, .ref d)] [.ref (q (n - 1))] (js_up (js_up h ed (js_aQ true 6 cap (js_uz ge tl2 none))) d (js_ob true 16 [.ref ed, .int (jI hd), .int (jI tl2)]))
  refine js_astore_n (L' := [(1, .ref (q (n - 1))), (0, .ref d)]) dJ3_removeLast_4 (by decide) rfl ?_
  refine js_aload_n 0 dJ3_removeLast_5 rfl ?_
  refine js_ifnonnull (tgt := 17) dJ3_removeLast_6 (by decide) ?_
  refine js_aload_n 0 dJ3_removeLast_17 rfl ?_
  exact js_aret rfl (Or.inl ⟨_, rfl⟩) (Or.inr ⟨_, rfl⟩) dJ3_removeLast_18 ⟨rfl, rfl⟩
theorem con_acinit16 {ρ : js_R} {h : js_H} {l : Nat} {fs : List Value} (hl : h l = some (js_ob true 16 fs)) : js_Con ρ mJ0_init 1 0 0 [.ref l] h (js_ret none h) := by
  refine js_body [(0, .ref l)] rfl (by decide) (Nat.le_of_ble_eq_true rfl) rfl ?_
  refine js_aload_n 0 dJ0_init_0 rfl ?_
  refine js_oinit q175 q156 q157 (Nat.le_of_ble_eq_true rfl) (Nat.le_of_ble_eq_true rfl) dJ0_init_1 ?_
  exact js_vret rfl dJ0_init_4 ⟨rfl, rfl⟩
theorem con_dinit {ρ : js_R} {h : js_H} {d : Nat} (hq : h d = some (js_ob true 16 [.null, .int (jI 0), .int (jI 0)])) : js_Con ρ mJ3_init 2 1 17 [.ref d] h (fun r h' => ∃ ed : Nat, r = .inl none ∧ h ed = none ∧ h' = js_up (js_up h ed (js_aQ true 6 17 (fun _ => none))) d (js_ob true 16 [.ref ed, .int (jI 0), .int (jI 0)])) := by
  refine js_body [(0, .ref d)] rfl (by decide) (Nat.le_of_ble_eq_true rfl) rfl ?_
  refine js_aload_n 0 dJ3_init_0 rfl ?_
  refine eJ3_42 rfl dJ3_init_1 (con_acinit16 hq) (Nat.le_of_ble_eq_true rfl) (Nat.le_of_ble_eq_true rfl) ?_
  refine js_aload_n 0 dJ3_init_4 rfl ?_
  refine js_bipush dJ3_init_5 rfl ?_
  refine js_newq (t := 6) (n := 17) (kc' := 0) (ks' := 0) (by decide) rfl (fun k => k.2.2.2.2.2.2.1) q248 dJ3_init_7 (by omega) (by omega) (by omega) (fun a1 hf_a1 hB_a1 => ?_)
  show js_ok ρ mJ3_init _ 2 0 0 10 [(0, .ref d)] [.ref a1, .ref d] (js_up h a1 (js_aQ true 6 17 ((fun _ => none))))
  refine pJ3_3 rfl dJ3_init_10 ((js_up_n (js_nef hq hf_a1)).trans hq) (Nat.le_of_ble_eq_true rfl) rfl rfl ?_
  show js_ok ρ mJ3_init _ 2 0 0 13 [(0, .ref d)] [] (js_up (js_up h a1 (js_aQ true 6 17 ((fun _ => none)))) d (js_ob true 16 [.ref a1, .int (jI 0), .int (jI 0)]))
  exact js_vret rfl dJ3_init_13 ⟨_, rfl, (by assumption), rfl⟩
