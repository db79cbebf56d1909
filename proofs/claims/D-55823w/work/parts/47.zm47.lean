set_option maxRecDepth 100000
/-! Flying, State.hour -/
/-- the first balloon from j on that flies, or all -/
def zFm (f : zF) (j i : Int) : Prop := j ≤ i ∧ i ≤ f 0 ∧ (∀ k : Int, j ≤ k → k < i → f (13 + 9 * k + 2) ≤ 0) ∧ (i < f 0 → 0 < f (13 + 9 * i + 2))
theorem zFm_ex {f : zF} (n : Nat) : ∀ {j : Int}, 0 ≤ j → j ≤ f 0 → f 0 - j ≤ n → ∃ i : Int, zFm f j i := by
  induction n with
  | zero => exact fun {j} a b c => ⟨j, Int.le_refl j, b, fun k k1 k2 => by omega, fun z => by omega⟩
  | succ n ih =>
    intro j a b c
    by_cases q : j < f 0 ∧ f (13 + 9 * j + 2) ≤ 0
    · obtain ⟨i, x1, x2, x3, x4⟩ := ih (j := j + 1) (by omega) (by omega) (by omega)
      refine ⟨i, by omega, x2, fun k k1 k2 => ?_, x4⟩
      by_cases e : k = j
      · subst e; exact q.2
      · exact x3 k (by omega) k2
    · exact ⟨j, Int.le_refl j, b, fun k k1 k2 => by omega, fun z => by omega⟩
theorem con_from {ρ : js_R} {h : js_H} {em : Nat} {T : Int} {P : Nat → Prop} {B : Nat → Nat} {Bb Bs : Int → Nat} {f : zF} {fl it : Nat} {wf : Bool} {at_ : Int} {j i : Int} (hZ : zSt em T P B Bb Bs f h) {T2 : Int} (hI : zI T2 f) (hfl : h fl = some (js_ob wf 6 [.ref (B 0)])) (hit : h it = some (js_ob true 7 [.int (jI at_), .ref fl])) (hj : 0 ≤ j) (hi : zFm f j i) : js_Con ρ mX8_from 4 0 0 [.ref it, .int (jI j)] h (js_ret (some (.int (jI i))) h) := by
  refine js_body [(0, .ref it), (1, .int (jI j))] rfl (by decide) (Nat.le_of_ble_eq_true rfl) rfl ?_
  have h01 := zI_01 hI
  obtain ⟨m1, m2, m3, m4⟩ := id hi
  obtain ⟨z_10, z_11, ⟨mb_1, rb_1, z_12⟩, ⟨ms_1, rs_1, z_13⟩, z_14, z_15, z_16, z_17, z_18, z_19, z_110, z_111, z_112⟩ := id hZ
  obtain ⟨sa_1, sb_1, sc_1, sd_1, se_1, sf_1, sg_1⟩ := z_111
  obtain ⟨wb_1, cb_1, gb_1, heb_1, rcb_1, hgb_1⟩ := zL_rd z_17 z_10 (by omega)
  obtain ⟨ws_1, cs_1, gs_1, hes_1, rcs_1, hgs_1⟩ := zL_rd z_18 z_10 (by omega)
  obtain ⟨gm_1, ze_1⟩ := z_10
  refine js_iload_n 1 dX8_from_0 rfl ?_
  refine js_top (b := j + ((0 : Nat) : Int)) (by omega) ?_
  refine js_istore_n (L' := [(2, .int (jI (j + ((0 : Nat) : Int)))), (0, .ref it), (1, .int (jI j))]) dX8_from_1 (by decide) rfl ?_
  refine js_sub (L' := [(0, .ref it), (1, .int (jI j)), (2, .int (jI (j + ((0 : Nat) : Int))))]) [1, 2, 0] rfl ?_
  refine js_loop (σ := Nat) (fun k => j + (k : Int) ≤ i) (fun k => (i - j).toNat - k) (fun k => 0) (fun k => 0) 2 (fun k => [(0, .ref it), (1, .int (jI j)), (2, .int (jI (j + (k : Int))))]) (fun k => []) (fun k => h) (fun k hk IHk => ?_) 0 (by omega)
  show js_ok ρ mX8_from _ 4 0 0 2 [(0, .ref it), (1, .int (jI j)), (2, .int (jI (j + (k : Int))))] [] h
  have x3 := fun z : j + (k : Int) < i => m3 (j + k) (by omega) z
  have x4 : j + (k : Int) = i → i < f 0 → 0 < f (13 + 9 * (j + (k : Int)) + 2) := fun z y => by rw [z]; exact m4 y
  refine js_iload_n 2 dX8_from_2 rfl ?_
  refine js_aload_n 0 dX8_from_3 rfl ?_
  refine gX8_1 rfl dX8_from_4 hit rfl ?_
  refine gX8_21 rfl dX8_from_7 hfl rfl ?_
  refine gX8_27 rfl dX8_from_10 z_11 rfl ?_
  refine eX8_33 rfl dX8_from_13 z_12 (con_lsize z_12 (by omega)) (Nat.le_of_ble_eq_true rfl) (Nat.le_of_ble_eq_true rfl) ?_
  refine js_icmp_ge (tgt := 48) dX8_from_16 (by decide) (by omega) (fun c3 => ?_) (fun c3 => ?_)
  · refine js_iload_n 2 dX8_from_48 rfl ?_
    exact js_iret rfl rfl dX8_from_49 ⟨js_reti (by omega), rfl⟩
  · have hB := zI_B hI (b := j + k) (by omega) (by omega)
    unfold zIB at hB
    refine js_aload_n 0 dX8_from_19 rfl ?_
    refine gX8_1 rfl dX8_from_20 hit rfl ?_
    refine gX8_21 rfl dX8_from_23 hfl rfl ?_
    refine gX8_27 rfl dX8_from_26 z_11 rfl ?_
    refine js_iload_n 2 dX8_from_29 rfl ?_
    refine eX8_39 rfl dX8_from_30 z_12 (con_lget z_12 (by omega) heb_1 (by omega) (by omega)) (Nat.le_of_ble_eq_true rfl) (Nat.le_of_ble_eq_true rfl) ?_
    rw [show gb_1 (j + (k : Int)) = some (Bb (j + (k : Int))) from hgb_1 _ (by omega) (by omega)]
    show js_ok ρ mX8_from _ 4 0 0 33 [(0, .ref it), (1, .int (jI j)), (2, .int (jI (j + (k : Int))))] [.ref (Bb (j + (k : Int)))] h
    refine js_castS (r := (RX5, TX5, 8)) rfl q472 dX8_from_33 (z_19 (j + (k : Int)) (by omega) (by omega)) ?_
    refine eX8_45 rfl dX8_from_36 (z_19 (j + (k : Int)) (by omega) (by omega)) (con_flies (z_19 (j + (k : Int)) (by omega) (by omega)) (by omega)) (Nat.le_of_ble_eq_true rfl) (Nat.le_of_ble_eq_true rfl) ?_
    refine js_if_neB (tgt := 48) dX8_from_39 (by decide) (fun c4 => ?_) (fun c4 => ?_)
    · refine js_iload_n 2 dX8_from_48 rfl ?_
      exact js_iret rfl rfl dX8_from_49 ⟨js_reti (by omega), rfl⟩
    · refine js_iinc (L' := [(2, .int (jI ((j + (k : Int)) + 1))), (0, .ref it), (1, .int (jI j))]) 2 dX8_from_42 rfl (by decide) rfl ?_
      refine js_goto (tgt := 2) dX8_from_45 (by decide) ?_
      rw [show (j + (k : Int) + 1 : Int) = j + ((k + 1 : Nat) : Int) from by omega]
      show js_ok ρ mX8_from _ 4 0 0 2 [(2, .int (jI (j + ((k + 1 : Nat) : Int)))), (0, .ref it), (1, .int (jI j))] [] h
      refine js_sub (L' := [(0, .ref it), (1, .int (jI j)), (2, .int (jI (j + ((k + 1 : Nat) : Int))))]) [1, 2, 0] rfl ?_
      exact IHk (k + 1) (by omega) (by omega)
theorem zflk_sk {f : zF} {a : Nat} (n : Nat) (h : ∀ k : Int, (a : Int) ≤ k → k < (a + n : Nat) → zflk f a (13 + 9 * k + 2) ≤ 0) : zflk f (a + n) = zflk f a := by
  induction n with
  | zero => rfl
  | succ n ih =>
    have e := ih (fun k k1 k2 => h k k1 (by omega))
    show (if zflk f (a + n) (13 + 9 * ((a + n : Nat) : Int) + 2) ≤ 0 then zflk f (a + n) else zfly (zflk f (a + n)) ((a + n : Nat) : Int)) = _
    rw [e, if_pos (h _ (by omega) (by omega))]
theorem zall_sk {f : zF} {a : Nat} (n : Nat) (h : ∀ k : Int, (a : Int) ≤ k → k < (a + n : Nat) → f (13 + 9 * k + 2) ≤ 0) : zall f 2 0 (a + n) = zall f 2 0 a := by
  induction n with
  | zero => rfl
  | succ n ih =>
    have e := ih (fun k k1 k2 => h k k1 (by omega))
    show zall f 2 0 (a + n) + (if (0 : Int) = 0 then (if 0 < f (13 + 9 * ((a + n : Nat) : Int) + 2) then 1 else 0) else f (13 + 9 * ((a + n : Nat) : Int) + 2)) = _
    have := h ((a + n : Nat) : Int) (by omega) (by omega)
    rw [e, if_pos rfl, if_neg (by omega), Int.add_zero]
/-- the balloons between two that fly don't: the hour leaves them out -/
theorem zflk_nx {T : Int} {f : zF} {a i : Int} (hI : zI T f) (hT : T + 12 ≤ 1000000) (ha : 0 ≤ a ∧ a < f 0) (h3 : 0 < zflk f a.toNat (13 + 9 * a + 2)) (hi : zFm (zflk f a.toNat) (a + 1) i) :
    zflk f i.toNat = zfly (zflk f a.toNat) a ∧ (i < f 0 → 0 < zflk f i.toNat (13 + 9 * i + 2)) := by
  have h01 := zI_01 hI
  obtain ⟨iK, e0, e1⟩ := zflk_I hI hT a.toNat (by omega)
  obtain ⟨m1, m2, m3, m4⟩ := hi
  rw [e0] at m2 m4
  have st := (zfly_step (b := a) iK ha.1 (by omega) (by omega) (by omega)).1.2.2.1
  have es : zflk f (a.toNat + 1) = zfly (zflk f a.toNat) a := by
    show (if zflk f a.toNat (13 + 9 * (a.toNat : Int) + 2) ≤ 0 then zflk f a.toNat else zfly (zflk f a.toNat) (a.toNat : Int)) = _
    rw [show ((a.toNat : Nat) : Int) = a by omega, if_neg (by omega)]
  have ei : i.toNat = (a.toNat + 1) + (i.toNat - (a.toNat + 1)) := by omega
  have sk := zflk_sk (f := f) (a := a.toNat + 1) (i.toNat - (a.toNat + 1)) (fun k k1 k2 => by
    rw [es, st k 2 (by omega) (by omega) (by omega) (by omega) (by omega)]
    exact m3 k (by omega) (by omega))
  rw [← ei] at sk
  refine ⟨sk.trans es, fun z => ?_⟩
  rw [sk, es, st i 2 (by omega) (by omega) (by omega) (by omega) (by omega)]
  exact m4 z
theorem zflk_0 {f : zF} {i : Int} (hi : zFm f 0 i) : zflk f i.toNat = f := by
  have := zflk_sk (f := f) (a := 0) i.toNat (fun k k1 k2 => hi.2.2.1 k (by omega) (by omega))
  rw [Nat.zero_add] at this
  exact this
theorem con_finit {ρ : js_R} {h : js_H} {fl s : Nat} (hfl : h fl = some (js_ob true 6 [.null])) : js_Con ρ mX7_init 1 0 0 [.ref fl, .ref s] h (js_ret none (js_up h fl (js_ob true 6 [.ref s]))) := by
  refine js_body [(0, .ref fl), (1, .ref s)] rfl (by decide) (Nat.le_of_ble_eq_true rfl) rfl ?_
  refine js_aload_n 0 dX7_init_0 rfl ?_
  refine js_aload_n 1 dX7_init_1 rfl ?_
  refine pX7_1 rfl rfl dX7_init_2 hfl (Nat.le_of_ble_eq_true rfl) rfl rfl ?_
  show js_ok ρ mX7_init _ 1 0 0 5 [(0, .ref fl), (1, .ref s)] [] (js_up h fl (js_ob true 6 [.ref s]))
  refine js_aload_n 0 dX7_init_5 rfl ?_
  refine js_oinit q1281 q156 q157 (Nat.le_of_ble_eq_true rfl) (Nat.le_of_ble_eq_true rfl) dX7_init_6 ?_
  exact js_vret rfl dX7_init_9 ⟨rfl, rfl⟩
theorem con_fitinit {ρ : js_R} {h : js_H} {em : Nat} {T : Int} {P : Nat → Prop} {B : Nat → Nat} {Bb Bs : Int → Nat} {f : zF} {fl it : Nat} {wf : Bool} {i : Int} (hZ : zSt em T P B Bb Bs f h) {T2 : Int} (hI : zI T2 f) (hfl : h fl = some (js_ob wf 6 [.ref (B 0)])) (hit : h it = some (js_ob true 7 [.int (jI 0), .null])) (nit : ¬ P it) (hi : zFm f 0 i) : js_Con ρ mX8_init 5 0 0 [.ref it, .ref fl] h (js_ret none (js_up h it (js_ob true 7 [.int (jI i), .ref fl]))) := by
  refine js_body [(0, .ref it), (1, .ref fl)] rfl (by decide) (Nat.le_of_ble_eq_true rfl) rfl ?_
  have h01 := zI_01 hI
  obtain ⟨z_10, z_11, ⟨mb_1, rb_1, z_12⟩, ⟨ms_1, rs_1, z_13⟩, z_14, z_15, z_16, z_17, z_18, z_19, z_110, z_111, z_112⟩ := id hZ
  obtain ⟨sa_1, sb_1, sc_1, sd_1, se_1, sf_1, sg_1⟩ := z_111
  obtain ⟨wb_1, cb_1, gb_1, heb_1, rcb_1, hgb_1⟩ := zL_rd z_17 z_10 (by omega)
  obtain ⟨ws_1, cs_1, gs_1, hes_1, rcs_1, hgs_1⟩ := zL_rd z_18 z_10 (by omega)
  obtain ⟨gm_1, ze_1⟩ := z_10
  refine js_aload_n 0 dX8_init_0 rfl ?_
  refine js_aload_n 1 dX8_init_1 rfl ?_
  refine pX8_1 rfl rfl dX8_init_2 hit (Nat.le_of_ble_eq_true rfl) rfl rfl ?_
  show js_ok ρ mX8_init _ 5 0 0 5 [(0, .ref it), (1, .ref fl)] [] (js_up h it (js_ob true 7 [.int (jI 0), .ref fl]))
  refine js_aload_n 0 dX8_init_5 rfl ?_
  refine js_oinit q1295 q156 q157 (Nat.le_of_ble_eq_true rfl) (Nat.le_of_ble_eq_true rfl) dX8_init_6 ?_
  refine js_aload_n 0 dX8_init_9 rfl ?_
  refine js_aload_n 0 dX8_init_10 rfl ?_
  refine js_iconst dX8_init_11 ?_
  refine eX8_13 rfl dX8_init_12 js_up_s (con_from (zSt_upO hZ nit (js_nek hit ze_1 js_kOQ)) hI ((js_up_n (js_nek hfl hit (js_kOO (by decide)))).trans hfl) js_up_s (by omega) hi) (Nat.le_of_ble_eq_true rfl) (Nat.le_of_ble_eq_true rfl) ?_
  refine pX8_17 rfl dX8_init_15 js_up_s (Nat.le_of_ble_eq_true rfl) rfl rfl ?_
  rw [js_up_up]
  show js_ok ρ mX8_init _ 5 0 0 18 [(0, .ref it), (1, .ref fl)] [] (js_up h it (js_ob true 7 [.int (jI i), .ref fl]))
  exact js_vret rfl dX8_init_18 ⟨rfl, rfl⟩
theorem con_fiter {ρ : js_R} {h : js_H} {em : Nat} {T : Int} {P : Nat → Prop} {B : Nat → Nat} {Bb Bs : Int → Nat} {f : zF} {fl : Nat} {wf : Bool} {i : Int} (hZ : zSt em T P B Bb Bs f h) {T2 : Int} (hI : zI T2 f) (hfl : h fl = some (js_ob wf 6 [.ref (B 0)])) (hi : zFm f 0 i) : js_Con ρ mX7_iterator 6 1 2 [.ref fl] h (zNewO 7 [.int (jI i), .ref fl] h) := by
  refine js_body [(0, .ref fl)] rfl (by decide) (Nat.le_of_ble_eq_true rfl) rfl ?_
  have h01 := zI_01 hI
  obtain ⟨z_10, z_11, ⟨mb_1, rb_1, z_12⟩, ⟨ms_1, rs_1, z_13⟩, z_14, z_15, z_16, z_17, z_18, z_19, z_110, z_111, z_112⟩ := id hZ
  obtain ⟨sa_1, sb_1, sc_1, sd_1, se_1, sf_1, sg_1⟩ := z_111
  obtain ⟨wb_1, cb_1, gb_1, heb_1, rcb_1, hgb_1⟩ := zL_rd z_17 z_10 (by omega)
  obtain ⟨ws_1, cs_1, gs_1, hes_1, rcs_1, hgs_1⟩ := zL_rd z_18 z_10 (by omega)
  obtain ⟨gm_1, ze_1⟩ := z_10
  refine nX7_13 (kc' := 0) (ks' := 0) rfl dX7_iterator_0 (by omega) (by omega) (fun a2 hf_a2 hB_a2 => ?_)
  refine js_dup dX7_iterator_3 rfl ?_
  refine js_aload_n 0 dX7_iterator_4 rfl ?_
  refine eX7_15 rfl dX7_iterator_5 (con_fitinit (zSt_upO hZ (zSt_dom hZ hf_a2) (fun z => by rw [z, ze_1] at hf_a2; cases hf_a2)) hI ((js_up_n (js_nef hfl hf_a2)).trans hfl) js_up_s (zSt_dom hZ hf_a2) hi) (Nat.le_of_ble_eq_true rfl) (Nat.le_of_ble_eq_true rfl) ?_
  rw [js_up_up]
  show js_ok ρ mX7_iterator _ 6 0 0 8 [(0, .ref fl)] [.ref a2] (js_up h a2 (js_ob true 7 [.int (jI i), .ref fl]))
  exact js_aret rfl (Or.inl ⟨_, rfl⟩) (Or.inr ⟨_, rfl⟩) dX7_iterator_8 ⟨a2, rfl, hf_a2, rfl⟩
theorem con_fithas {ρ : js_R} {h : js_H} {em : Nat} {T : Int} {P : Nat → Prop} {B : Nat → Nat} {Bb Bs : Int → Nat} {f : zF} {fl it : Nat} {wf : Bool} {at_ : Int} (hZ : zSt em T P B Bb Bs f h) {T2 : Int} (hI : zI T2 f) (hfl : h fl = some (js_ob wf 6 [.ref (B 0)])) (hit : h it = some (js_ob true 7 [.int (jI at_), .ref fl])) (ra : 0 ≤ at_ ∧ at_ ≤ f 0)  : js_Con ρ mX8_hasNext 1 0 0 [.ref it] h (js_ret (some (.int (jI (jb (at_ < f 0))))) h) := by
  refine js_body [(0, .ref it)] rfl (by decide) (Nat.le_of_ble_eq_true rfl) rfl ?_
  have h01 := zI_01 hI
  obtain ⟨z_10, z_11, ⟨mb_1, rb_1, z_12⟩, ⟨ms_1, rs_1, z_13⟩, z_14, z_15, z_16, z_17, z_18, z_19, z_110, z_111, z_112⟩ := id hZ
  obtain ⟨sa_1, sb_1, sc_1, sd_1, se_1, sf_1, sg_1⟩ := z_111
  obtain ⟨wb_1, cb_1, gb_1, heb_1, rcb_1, hgb_1⟩ := zL_rd z_17 z_10 (by omega)
  obtain ⟨ws_1, cs_1, gs_1, hes_1, rcs_1, hgs_1⟩ := zL_rd z_18 z_10 (by omega)
  obtain ⟨gm_1, ze_1⟩ := z_10
  refine js_aload_n 0 dX8_hasNext_0 rfl ?_
  refine gX8_17 rfl dX8_hasNext_1 hit rfl ?_
  refine js_aload_n 0 dX8_hasNext_4 rfl ?_
  refine gX8_1 rfl dX8_hasNext_5 hit rfl ?_
  refine gX8_21 rfl dX8_hasNext_8 hfl rfl ?_
  refine gX8_27 rfl dX8_hasNext_11 z_11 rfl ?_
  refine eX8_33 rfl dX8_hasNext_14 z_12 (con_lsize z_12 (by omega)) (Nat.le_of_ble_eq_true rfl) (Nat.le_of_ble_eq_true rfl) ?_
  refine js_icmp_ge (tgt := 24) dX8_hasNext_17 (by decide) (by omega) (fun c2 => ?_) (fun c2 => ?_)
  · refine js_iconst dX8_hasNext_24 ?_
    exact js_iret rfl (js_nar_boolean (by omega)) dX8_hasNext_25 ⟨js_reti (jb_f (by omega)).symm, rfl⟩
  · refine js_iconst dX8_hasNext_20 ?_
    refine js_goto (tgt := 25) dX8_hasNext_21 (by decide) ?_
    exact js_iret rfl (js_nar_boolean (by omega)) dX8_hasNext_25 ⟨js_reti (jb_t (by omega)).symm, rfl⟩
theorem con_fnx2 {ρ : js_R} {h : js_H} {em : Nat} {T : Int} {P : Nat → Prop} {B : Nat → Nat} {Bb Bs : Int → Nat} {f : zF} {fl it : Nat} {wf : Bool} {at_ : Int} {i : Int} (hZ : zSt em T P B Bb Bs f h) {T2 : Int} (hI : zI T2 f) (hfl : h fl = some (js_ob wf 6 [.ref (B 0)])) (hit : h it = some (js_ob true 7 [.int (jI at_), .ref fl])) (ra : 0 ≤ at_ ∧ at_ < f 0) (nit : ¬ P it) (hi : zFm f (at_ + 1) i)  : js_Con ρ mX8_next_2 5 0 0 [.ref it] h (js_ret (some (.ref (Bb at_))) (js_up h it (js_ob true 7 [.int (jI i), .ref fl]))) := by
  refine js_body [(0, .ref it)] rfl (by decide) (Nat.le_of_ble_eq_true rfl) rfl ?_
  have h01 := zI_01 hI
  obtain ⟨m1, m2, m3, m4⟩ := id hi
  obtain ⟨z_10, z_11, ⟨mb_1, rb_1, z_12⟩, ⟨ms_1, rs_1, z_13⟩, z_14, z_15, z_16, z_17, z_18, z_19, z_110, z_111, z_112⟩ := id hZ
  obtain ⟨sa_1, sb_1, sc_1, sd_1, se_1, sf_1, sg_1⟩ := z_111
  obtain ⟨wb_1, cb_1, gb_1, heb_1, rcb_1, hgb_1⟩ := zL_rd z_17 z_10 (by omega)
  obtain ⟨ws_1, cs_1, gs_1, hes_1, rcs_1, hgs_1⟩ := zL_rd z_18 z_10 (by omega)
  obtain ⟨gm_1, ze_1⟩ := z_10
  refine js_aload_n 0 dX8_next_2_0 rfl ?_
  refine eX8_49 rfl dX8_next_2_1 hit (con_fithas hZ hI hfl hit (by omega)) (Nat.le_of_ble_eq_true rfl) (Nat.le_of_ble_eq_true rfl) ?_
  refine js_if_neB (tgt := 15) dX8_next_2_4 (by decide) (fun c2 => ?_) (fun c2 => ?_)
  · refine js_aload_n 0 dX8_next_2_15 rfl ?_
    refine gX8_1 rfl dX8_next_2_16 hit rfl ?_
    refine gX8_21 rfl dX8_next_2_19 hfl rfl ?_
    refine gX8_27 rfl dX8_next_2_22 z_11 rfl ?_
    refine js_aload_n 0 dX8_next_2_25 rfl ?_
    refine gX8_17 rfl dX8_next_2_26 hit rfl ?_
    refine eX8_39 rfl dX8_next_2_29 z_12 (con_lget z_12 (by omega) heb_1 (by omega) (by omega)) (Nat.le_of_ble_eq_true rfl) (Nat.le_of_ble_eq_true rfl) ?_
    rw [show gb_1 at_ = some (Bb at_) from hgb_1 _ (by omega) (by omega)]
    show js_ok ρ mX8_next_2 _ 5 0 0 32 [(0, .ref it)] [.ref (Bb at_)] h
    refine js_castS (r := (RX5, TX5, 8)) rfl q472 dX8_next_2_32 (z_19 at_ (by omega) (by omega)) ?_
    refine js_astore_n (L' := [(1, .ref (Bb at_)), (0, .ref it)]) dX8_next_2_35 (by decide) rfl ?_
    refine js_aload_n 1 dX8_next_2_36 rfl ?_
    refine js_aload_n 1 dX8_next_2_37 rfl ?_
    refine js_aload_n 1 dX8_next_2_38 rfl ?_
    refine gX8_17 rfl dX8_next_2_39 hit rfl ?_
    refine js_iconst dX8_next_2_42 ?_
    refine js_iadd dX8_next_2_43 ?_
    refine eX8_13 rfl dX8_next_2_44 hit (con_from hZ hI hfl hit (by omega) hi) (Nat.le_of_ble_eq_true rfl) (Nat.le_of_ble_eq_true rfl) ?_
    refine pX8_17 rfl dX8_next_2_47 hit (Nat.le_of_ble_eq_true rfl) rfl rfl ?_
    show js_ok ρ mX8_next_2 _ 5 0 0 50 [(1, .ref (Bb at_)), (0, .ref it)] [] (js_up h it (js_ob true 7 [.int (jI i), .ref fl]))
    refine js_aload_n 0 dX8_next_2_50 rfl ?_
    exact js_aret rfl (Or.inl ⟨_, rfl⟩) (Or.inr ⟨_, rfl⟩) dX8_next_2_51 ⟨rfl, rfl⟩
  · exfalso; omega
theorem con_fnx {ρ : js_R} {h : js_H} {em : Nat} {T : Int} {P : Nat → Prop} {B : Nat → Nat} {Bb Bs : Int → Nat} {f : zF} {fl it : Nat} {wf : Bool} {at_ : Int} {i : Int} (hZ : zSt em T P B Bb Bs f h) {T2 : Int} (hI : zI T2 f) (hfl : h fl = some (js_ob wf 6 [.ref (B 0)])) (hit : h it = some (js_ob true 7 [.int (jI at_), .ref fl])) (ra : 0 ≤ at_ ∧ at_ < f 0) (nit : ¬ P it) (hi : zFm f (at_ + 1) i)  : js_Con ρ mX8_next 6 0 0 [.ref it] h (js_ret (some (.ref (Bb at_))) (js_up h it (js_ob true 7 [.int (jI i), .ref fl]))) := by
  refine js_body [(0, .ref it)] rfl (by decide) (Nat.le_of_ble_eq_true rfl) rfl ?_
  have h01 := zI_01 hI
  obtain ⟨z_10, z_11, ⟨mb_1, rb_1, z_12⟩, ⟨ms_1, rs_1, z_13⟩, z_14, z_15, z_16, z_17, z_18, z_19, z_110, z_111, z_112⟩ := id hZ
  obtain ⟨sa_1, sb_1, sc_1, sd_1, se_1, sf_1, sg_1⟩ := z_111
  obtain ⟨wb_1, cb_1, gb_1, heb_1, rcb_1, hgb_1⟩ := zL_rd z_17 z_10 (by omega)
  obtain ⟨ws_1, cs_1, gs_1, hes_1, rcs_1, hgs_1⟩ := zL_rd z_18 z_10 (by omega)
  obtain ⟨gm_1, ze_1⟩ := z_10
  refine js_aload_n 0 dX8_next_0 rfl ?_
  refine eX8_55 rfl dX8_next_1 hit (con_fnx2 hZ hI hfl hit (by omega) nit hi) (Nat.le_of_ble_eq_true rfl) (Nat.le_of_ble_eq_true rfl) ?_
  show js_ok ρ mX8_next _ 6 0 0 4 [(0, .ref it)] [.ref (Bb at_)] (js_up h it (js_ob true 7 [.int (jI i), .ref fl]))
  exact js_aret rfl (Or.inl ⟨_, rfl⟩) (Or.inr ⟨_, rfl⟩) dX8_next_4 ⟨rfl, rfl⟩
theorem zSt_new2 {em : Nat} {T : Int} {P : Nat → Prop} {B : Nat → Nat} {Bb Bs : Int → Nat} {f : zF} {h : js_H} {a : Nat} (hZ : zSt em T P B Bb Bs f h) (k : h a = none) : ¬ P a ∧ zNe a em := ⟨zSt_dom hZ k, fun z => by
  obtain ⟨gm, e⟩ := hZ.1
  rw [z, e] at k
  cases k⟩
theorem zup_none {h : js_H} {a b : Nat} {e : js_E} (k : js_up h a e b = none) : h b = none := by
  by_cases q : b = a
  · rw [q, js_up_s] at k; cases k
  · rw [js_up_n q] at k; exact k
theorem zc_hour {ρ : js_R} {h : js_H} {em : Nat} {T : Int} {P : Nat → Prop} {B : Nat → Nat} {Bb Bs : Int → Nat} {f : zF} (hZ : zSt em T P B Bb Bs f h) {T2 : Int} (hI : zI T2 f) (hT : T2 + 13 ≤ 1000000) : js_Con ρ mX2_hour 7 2 3 [.ref (B 0)] h (zOk (some (.int (jI (zhr f 3 - f 3)))) P (zSt em T P B Bb Bs (zhr f)) h) := by
  refine js_body [(0, .ref (B 0))] rfl (by decide) (Nat.le_of_ble_eq_true rfl) rfl ?_
  have h01 := zI_01 hI
  obtain ⟨i, hi⟩ := zFm_ex (f := f) 6 (j := 0) (Int.le_refl 0) (by omega) (by omega)
  obtain ⟨z_10, z_11, ⟨mb_1, rb_1, z_12⟩, ⟨ms_1, rs_1, z_13⟩, z_14, z_15, z_16, z_17, z_18, z_19, z_110, z_111, z_112⟩ := id hZ
  obtain ⟨sa_1, sb_1, sc_1, sd_1, se_1, sf_1, sg_1⟩ := z_111
  obtain ⟨wb_1, cb_1, gb_1, heb_1, rcb_1, hgb_1⟩ := zL_rd z_17 z_10 (by omega)
  obtain ⟨ws_1, cs_1, gs_1, hes_1, rcs_1, hgs_1⟩ := zL_rd z_18 z_10 (by omega)
  obtain ⟨gm_1, ze_1⟩ := z_10
  refine js_iconst dX2_hour_0 ?_
  refine js_top (b := zflk f i.toNat 3 - f 3) (by rw [zflk_0 hi]; omega) ?_
  refine js_istore_n (L' := [(1, .int (jI (zflk f i.toNat 3 - f 3))), (0, .ref (B 0))]) dX2_hour_1 (by decide) rfl ?_
  refine nX2_80 (kc' := 1) (ks' := 2) rfl dX2_hour_2 (by omega) (by omega) (fun a2 hf_a2 hB_a2 => ?_)
  refine js_dup dX2_hour_5 rfl ?_
  refine js_aload_n 1 dX2_hour_6 rfl ?_
  refine eX2_82 rfl dX2_hour_7 (con_finit js_up_s) (Nat.le_of_ble_eq_true rfl) (Nat.le_of_ble_eq_true rfl) ?_
  rw [js_up_up]
  show js_ok ρ mX2_hour _ 7 1 2 10 [(1, .int (jI (zflk f i.toNat 3 - f 3))), (0, .ref (B 0))] [.ref a2] (js_up h a2 (js_ob true 6 [.ref (B 0)]))
  refine vX2_85 (kc' := 0) (ks' := 0) rfl dX2_hour_10 js_up_s (con_fiter (zSt_upO hZ (zSt_dom hZ hf_a2) (fun z => by rw [z, ze_1] at hf_a2; cases hf_a2)) hI js_up_s hi) (Nat.le_of_ble_eq_true rfl) (by omega) (by omega) (Nat.le_of_ble_eq_true rfl) (fun v3 g3 q3 => ?_) (fun E3 g3 q3 => by obtain ⟨_, q3, _⟩ := q3; cases q3)
  obtain ⟨it, e3, hf_it, rfl⟩ := q3
  cases e3
  show js_ok ρ mX2_hour _ 7 0 0 13 [(1, .int (jI (zflk f i.toNat 3 - f 3))), (0, .ref (B 0))] [.ref it] (js_up (js_up h a2 (js_ob true 6 [.ref (B 0)])) it (js_ob true 7 [.int (jI i), .ref a2]))
  refine js_astore_n (L' := [(2, .ref it), (1, .int (jI (zflk f i.toNat 3 - f 3))), (0, .ref (B 0))]) dX2_hour_13 (by decide) rfl ?_
  have nf := zSt_new2 hZ hf_a2
  have nt := zSt_new2 hZ (zup_none hf_it)
  refine js_sub (L' := [(0, .ref (B 0)), (1, .int (jI (zflk f i.toNat 3 - f 3))), (2, .ref it)]) [2, 1, 0] rfl ?_
  refine js_loop (σ := Int × js_H) (fun s => (0 ≤ s.1 ∧ s.1 ≤ f 0) ∧ (s.1 < f 0 → 0 < zflk f s.1.toNat (13 + 9 * s.1 + 2)) ∧ zSt em T P B Bb Bs (zflk f s.1.toNat) s.2 ∧ s.2 it = some (js_ob true 7 [.int (jI s.1), .ref a2]) ∧ s.2 a2 = some (js_ob true 6 [.ref (B 0)]) ∧ zFr P h s.2) (fun s => (f 0 - s.1).toNat) (fun s => 0) (fun s => 0) 14 (fun s => [(0, .ref (B 0)), (1, .int (jI (zflk f s.1.toNat 3 - f 3))), (2, .ref it)]) (fun s => []) (fun s => s.2) (fun s hk IHs => ?_) (i, (js_up (js_up h a2 (js_ob true 6 [.ref (B 0)])) it (js_ob true 7 [.int (jI i), .ref a2]))) (⟨⟨hi.1, hi.2.1⟩, fun z => by rw [zflk_0 hi]; exact hi.2.2.2 z, (by rw [zflk_0 hi]; exact zSt_upO (zSt_upO hZ nf.1 nf.2) nt.1 nt.2), js_up_s, ((js_up_n (js_nef js_up_s hf_it)).trans js_up_s), zFr_upN (zFr_upN zFr_refl hf_a2) (zup_none hf_it)⟩)
  obtain ⟨a, g⟩ := s
  have hk : (0 ≤ a ∧ a ≤ f 0) ∧ (a < f 0 → 0 < zflk f a.toNat (13 + 9 * a + 2)) ∧ zSt em T P B Bb Bs (zflk f a.toNat) g ∧ g it = some (js_ob true 7 [.int (jI a), .ref a2]) ∧ g a2 = some (js_ob true 6 [.ref (B 0)]) ∧ zFr P h g := hk
  show js_ok ρ mX2_hour _ 7 0 0 14 [(0, .ref (B 0)), (1, .int (jI (zflk f a.toNat 3 - f 3))), (2, .ref it)] [] g
  obtain ⟨ha, h3, yZ, yit, yfl, yfr⟩ := hk
  obtain ⟨iK, e0, e1⟩ := zflk_I hI (by omega) a.toNat (by omega)
  obtain ⟨i2, hi2⟩ : ∃ i2 : Int, a < f 0 → zFm (zflk f a.toNat) (a + 1) i2 := by
    by_cases q : a < f 0
    · obtain ⟨i2, k⟩ := zFm_ex (f := zflk f a.toNat) 6 (j := a + 1) (by omega) (by omega) (by omega)
      exact ⟨i2, fun _ => k⟩
    · exact ⟨0, fun z => absurd z q⟩
  have hn3 := zI_n hI 3 (by decide) (by decide)
  have hn3K := zI_n iK 3 (by decide) (by decide)
  have hn2K := zI_n iK 2 (by decide) (by decide)
  have h01K := zI_01 iK
  obtain ⟨z_40, z_41, ⟨mb_4, rb_4, z_42⟩, ⟨ms_4, rs_4, z_43⟩, z_44, z_45, z_46, z_47, z_48, z_49, z_410, z_411, z_412⟩ := id yZ
  obtain ⟨sa_4, sb_4, sc_4, sd_4, se_4, sf_4, sg_4⟩ := z_411
  obtain ⟨wb_4, cb_4, gb_4, heb_4, rcb_4, hgb_4⟩ := zL_rd z_47 z_40 (by omega)
  obtain ⟨ws_4, cs_4, gs_4, hes_4, rcs_4, hgs_4⟩ := zL_rd z_48 z_40 (by omega)
  obtain ⟨gm_4, ze_4⟩ := z_40
  refine js_aload_n 2 dX2_hour_14 rfl ?_
  refine eX2_36_X8 rfl dX2_hour_15 yit (con_fithas yZ iK yfl yit (by omega)) (Nat.le_of_ble_eq_true rfl) (Nat.le_of_ble_eq_true rfl) ?_
  refine js_if_eqB (tgt := 44) dX2_hour_20 (by decide) (fun c5 => ?_) (fun c5 => ?_)
  · have ea : zflk f a.toNat = zflk f (f 0).toNat := by rw [show a = f 0 by omega]
    refine js_aload_n 0 dX2_hour_44 rfl ?_
    refine js_dup dX2_hour_45 rfl ?_
    refine gX2_61 rfl dX2_hour_46 z_41 rfl ?_
    refine js_iconst dX2_hour_49 ?_
    refine js_iadd dX2_hour_50 ?_
    refine pX2_61 rfl dX2_hour_51 z_41 (Nat.le_of_ble_eq_true rfl) rfl rfl ?_
    show js_ok ρ mX2_hour _ 7 0 0 54 [(0, .ref (B 0)), (1, .int (jI (zflk f a.toNat 3 - f 3))), (2, .ref it)] [] (js_up g (B 0) (js_ob true 1 [.ref (B 1), .ref (B 2), .ref (B 3), .ref (B 4), .ref (B 5), .int (jI (((zflk f a.toNat) 2) + 1)), .int (jI ((zflk f a.toNat) 3)), .int (jI ((zflk f a.toNat) 4)), .int (jI ((zflk f a.toNat) 5)), .int (jI ((zflk f a.toNat) 6)), .int (jI ((zflk f a.toNat) 7))]))
    refine js_iload_n 1 dX2_hour_54 rfl ?_
    exact js_iret rfl rfl dX2_hour_55 ⟨by rw [show zhr f 3 = zflk f a.toNat 3 from by rw [ea]; exact js_uz_n (by decide)], zSt_upT (f := zflk f a.toNat) yZ ⟨by omega, by omega⟩ (fun k k1 k2 k3 => by rw [ea]; exact js_uz_n (by omega)) (by rw [ea]; rfl), zFr_up yfr sa_4.1⟩
  · refine js_aload_n 2 dX2_hour_23 rfl ?_
    have haf : a < f 0 := by omega
    have hB := zI_B iK ha.1 (by omega)
    have hB' := hB
    unfold zIB at hB'
    have h3' := h3 haf
    refine eX2_42_X8 rfl dX2_hour_24 yit (con_fnx yZ iK yfl yit (by omega) nt.1 (hi2 haf)) (Nat.le_of_ble_eq_true rfl) (Nat.le_of_ble_eq_true rfl) ?_
    show js_ok ρ mX2_hour _ 7 0 0 29 [(0, .ref (B 0)), (1, .int (jI (zflk f a.toNat 3 - f 3))), (2, .ref it)] [.ref (Bb a)] (js_up g it (js_ob true 7 [.int (jI i2), .ref a2]))
    refine js_castS (r := (RX5, TX5, 8)) rfl q1018 dX2_hour_29 ((js_up_n (js_nek (z_49 a ha.1 (by omega)) yit (js_kOO (by decide)))).trans (z_49 a ha.1 (by omega))) ?_
    refine js_astore_n (L' := [(3, .ref (Bb a)), (0, .ref (B 0)), (1, .int (jI (zflk f a.toNat 3 - f 3))), (2, .ref it)]) dX2_hour_32 (by decide) rfl ?_
    refine js_iload_n 2 dX2_hour_33 rfl ?_
    refine js_aload_n 1 dX2_hour_34 rfl ?_
    refine js_aload_n 0 dX2_hour_35 rfl ?_
    refine vX2_146 (kc' := 0) (ks' := 0) rfl dX2_hour_36 ((js_up_n (js_nek z_41 yit (js_kOO (by decide)))).trans z_41) (zc_hourOf (zSt_upO yZ nt.1 nt.2) iK (by omega) ⟨ha.1, by omega⟩ (by omega)) (Nat.le_of_ble_eq_true rfl) (by omega) (by omega) (Nat.le_of_ble_eq_true rfl) (fun v6 g6 q6 => ?_) (fun E6 g6 q6 => by cases q6.1)
    obtain ⟨e6, y6, fr6⟩ := q6
    cases e6
    obtain ⟨ei2, p3⟩ := zflk_nx hI (by omega) ⟨ha.1, haf⟩ h3' (hi2 haf)
    have j3 := (hi2 haf)
    obtain ⟨m1, m2, m3, m4⟩ := j3
    have st3 := (zfly_step (b := a) iK ha.1 (by omega) (by omega) (by omega)).2
    have k3 := zI_n st3 3 (by decide) (by decide)
    rw [← ei2] at y6 k3
    refine js_iadd dX2_hour_39 ?_
    rw [show (zflk f a.toNat 3 - f 3 + (zfly (zflk f a.toNat) a 3 - zflk f a.toNat 3) : Int) = zflk f i2.toNat 3 - f 3 from by rw [ei2]; omega]
    show js_ok ρ mX2_hour _ 7 0 0 40 [(3, .ref (Bb a)), (0, .ref (B 0)), (1, .int (jI (zflk f a.toNat 3 - f 3))), (2, .ref it)] [.int (jI (zflk f i2.toNat 3 - f 3))] g6
    refine js_istore_n (L' := [(1, .int (jI (zflk f i2.toNat 3 - f 3))), (3, .ref (Bb a)), (0, .ref (B 0)), (2, .ref it)]) dX2_hour_40 (by decide) rfl ?_
    refine js_goto (tgt := 14) dX2_hour_41 (by decide) ?_
    refine js_sub (L' := [(0, .ref (B 0)), (1, .int (jI (zflk f i2.toNat 3 - f 3))), (2, .ref it)]) [2, 0, 3] rfl ?_
    exact IHs (i2, g6) (show (0 ≤ i2 ∧ i2 ≤ f 0) ∧ (i2 < f 0 → 0 < zflk f i2.toNat (13 + 9 * i2 + 2)) ∧ zSt em T P B Bb Bs (zflk f i2.toNat) g6 ∧ g6 it = some (js_ob true 7 [.int (jI i2), .ref a2]) ∧ g6 a2 = some (js_ob true 6 [.ref (B 0)]) ∧ zFr P h g6 from ⟨by omega, p3, y6, fr6 _ _ nt.1 js_up_s, fr6 _ _ nf.1 ((js_up_n (js_nek yfl yit (js_kOO (by decide)))).trans yfl), zFr_trans (zFr_upN yfr (zup_none hf_it)) fr6⟩) (show (f 0 - i2).toNat < (f 0 - a).toNat by omega)
