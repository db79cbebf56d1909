set_option maxRecDepth 100000
/-! reach -/
theorem xc_pgo {ρ : js_R} {h : js_H} {em : Nat} {T : Int} {P : Nat → Prop} {B : Nat → Nat} {Bb Bs : Int → Nat} {f : zF} {x : Nat} {u1 u2 u3 u4 u5 u6 u7 : Value} {o aa : Nat} {g : Int → Int} (hx : h x = some (js_ob true 0 [.ref (B 0), u1, u2, u3, u4, u5, u6, u7])) (hZ : zSt em T P B Bb Bs f h) {T2 : Int} (hI : zI T2 f) (ho : h o = some (js_ob true 9 [.ref aa, .ref x])) (hg : h aa = some (js_aI true 1 100 g)) (rg : ∀ j : Int, g j = 0 ∨ g j = 1)  : js_Con ρ mX10_goesOn 4 1 100 [.ref o] h (fun r h' => ∃ v : Nat, r = .inl none ∧ h v = none ∧ h' = js_up (js_up h v (js_aI true 1 100 (zgo f g 100))) o (js_ob true 9 [.ref v, .ref x])) := by
  refine js_body [(0, .ref o)] rfl (by decide) (Nat.le_of_ble_eq_true rfl) rfl ?_
  have h01 := zI_01 hI
  obtain ⟨z_10, z_11, ⟨mb_1, rb_1, z_12⟩, ⟨ms_1, rs_1, z_13⟩, z_14, z_15, z_16, z_17, z_18, z_19, z_110, z_111, z_112⟩ := id hZ
  obtain ⟨sa_1, sb_1, sc_1, sd_1, se_1, sf_1, sg_1⟩ := z_111
  obtain ⟨wb_1, cb_1, gb_1, heb_1, rcb_1, hgb_1⟩ := zL_rd z_17 z_10 (by omega)
  obtain ⟨ws_1, cs_1, gs_1, hes_1, rcs_1, hgs_1⟩ := zL_rd z_18 z_10 (by omega)
  obtain ⟨gm_1, ze_1⟩ := z_10
  refine js_bipush dX10_goesOn_0 rfl ?_
  refine js_newaI (t := 1) (N := 100) (kc' := 0) (ks' := 0) (by decide) rfl q1581 dX10_goesOn_2 (by omega) (by omega) (by omega) (by omega) (fun a2 hf_a2 hB_a2 => ?_)
  refine js_astore_n (L' := [(1, .ref a2), (0, .ref o)]) dX10_goesOn_4 (by decide) rfl ?_
  refine js_iconst dX10_goesOn_5 ?_
  refine js_istore_n (L' := [(2, .int (jI 0)), (1, .ref a2), (0, .ref o)]) dX10_goesOn_6 (by decide) rfl ?_
  refine js_norm (g' := zgo f g 0) js_up_s (fun j j1 j2 => by show zpnt (-1) j = 0; unfold zpnt; rw [if_neg (by omega)]) ?_
  rw [js_up_up]
  show js_ok ρ mX10_goesOn _ 4 0 0 7 [(2, .int (jI 0)), (1, .ref a2), (0, .ref o)] [] (js_up h a2 (js_aI true 1 100 (zgo f g 0)))
  refine js_sub (L' := [(0, .ref o), (1, .ref a2), (2, .int (jI 0))]) [2, 1, 0] rfl ?_
  refine js_loop (σ := Nat) (fun k => (k : Int) ≤ 100) (fun k => 100 - k) (fun k => 0) (fun k => 0) 7 (fun k => [(0, .ref o), (1, .ref a2), (2, .int (jI ((k : Int))))]) (fun k => []) (fun k => (js_up h a2 (js_aI true 1 100 (zgo f g k)))) (fun k hk IHk => ?_) 0 (by omega)
  show js_ok ρ mX10_goesOn _ 4 0 0 7 [(0, .ref o), (1, .ref a2), (2, .int (jI ((k : Int))))] [] (js_up h a2 (js_aI true 1 100 (zgo f g k)))
  refine js_iload_n 2 dX10_goesOn_7 rfl ?_
  refine js_bipush dX10_goesOn_8 rfl ?_
  refine js_icmp_ge (tgt := 60) dX10_goesOn_10 (by decide) (by omega) (fun c4 => ?_) (fun c4 => ?_)
  · refine js_aload_n 0 dX10_goesOn_60 rfl ?_
    refine js_aload_n 1 dX10_goesOn_61 rfl ?_
    refine pX10_15 rfl dX10_goesOn_62 ((js_up_n (js_nef ho hf_a2)).trans ho) (Nat.le_of_ble_eq_true rfl) rfl rfl ?_
    show js_ok ρ mX10_goesOn _ 4 0 0 65 [(0, .ref o), (1, .ref a2), (2, .int (jI ((k : Int))))] [] (js_up (js_up h a2 (js_aI true 1 100 (zgo f g k))) o (js_ob true 9 [.ref a2, .ref x]))
    exact js_vret rfl dX10_goesOn_65 ⟨_, rfl, (by assumption), by rw [show k = 100 by omega]⟩
  · refine js_iconst dX10_goesOn_13 ?_
    refine js_istore_n (L' := [(3, .int (jI 1)), (0, .ref o), (1, .ref a2), (2, .int (jI ((k : Int))))]) dX10_goesOn_14 (by decide) rfl ?_
    have hgk := rg (k : Int)
    refine js_sub (L' := [(0, .ref o), (1, .ref a2), (2, .int (jI ((k : Int)))), (3, .int (jI 1))]) [1, 2, 3, 0] rfl ?_
    refine js_loop (σ := Nat) (fun m => m ≤ 5 ∧ (g (k : Int) = 0 → m = 0)) (fun m => 5 - m) (fun m => 0) (fun m => 0) 15 (fun m => [(0, .ref o), (1, .ref a2), (2, .int (jI ((k : Int)))), (3, .int (jI ((m : Int) + 1)))]) (fun m => []) (fun m => (js_up h a2 (js_aI true 1 100 (zgi f k (zgo f g k) m)))) (fun m hm IHm => ?_) 0 ⟨by omega, fun _ => rfl⟩
    show js_ok ρ mX10_goesOn _ 4 0 0 15 [(0, .ref o), (1, .ref a2), (2, .int (jI ((k : Int)))), (3, .int (jI ((m : Int) + 1)))] [] (js_up h a2 (js_aI true 1 100 (zgi f k (zgo f g k) m)))
    refine js_iload_n 3 dX10_goesOn_15 rfl ?_
    refine js_iconst dX10_goesOn_16 ?_
    refine js_icmp_gt (tgt := 54) dX10_goesOn_17 (by decide) (by omega) (fun c6 => ?_) (fun c6 => ?_)
    · have em : zgi f k (zgo f g k) m = zgo f g (k + 1) := by
        show _ = if g k = 0 then zgo f g k else zgi f k (zgo f g k) 5
        by_cases z : g (k : Int) = 0
        · rw [if_pos z, hm.2 z]; rfl
        · rw [if_neg z, show m = 5 by omega]
      rw [em]
      show js_ok ρ mX10_goesOn _ 4 0 0 54 [(0, .ref o), (1, .ref a2), (2, .int (jI ((k : Int)))), (3, .int (jI ((m : Int) + 1)))] [] (js_up h a2 (js_aI true 1 100 (zgo f g (k + 1))))
      refine js_iinc (L' := [(2, .int (jI (((k : Int)) + 1))), (0, .ref o), (1, .ref a2), (3, .int (jI ((m : Int) + 1)))]) 2 dX10_goesOn_54 rfl (by decide) rfl ?_
      refine js_goto (tgt := 7) dX10_goesOn_57 (by decide) ?_
      refine js_sub (L' := [(0, .ref o), (1, .ref a2), (2, .int (jI (((k : Int)) + 1)))]) [1, 2, 0] rfl ?_
      exact IHk (k + 1) (by omega) (by omega)
    · have gw : zwa f ((m : Int) + 1) = f (8 + ((m : Int) + 1) - 1) := by rw [zwa_g (by omega)]; congr 1; omega
      have rw8 := zI_w hI (8 + ((m : Int) + 1) - 1) (by omega) (by omega)
      have hnx := znext_r (p := (k : Int)) (w := f (8 + ((m : Int) + 1) - 1)) (by omega)
      refine js_aload_n 0 dX10_goesOn_20 rfl ?_
      refine gX10_15 rfl dX10_goesOn_21 ((js_up_n (js_nef ho hf_a2)).trans ho) rfl ?_
      refine js_iload_n 2 dX10_goesOn_24 rfl ?_
      refine js_zaload dX10_goesOn_25 ((js_up_n (js_nef hg hf_a2)).trans hg) (by omega) ?_
      refine js_if_eq (tgt := 54) dX10_goesOn_26 (by decide) (by omega) (fun c7 => ?_) (fun c7 => ?_)
      · have em : zgi f k (zgo f g k) m = zgo f g (k + 1) := by
          show _ = if g k = 0 then zgo f g k else zgi f k (zgo f g k) 5
          by_cases z : g (k : Int) = 0
          · rw [if_pos z, hm.2 z]; rfl
          · rw [if_neg z, show m = 5 by omega]
        rw [em]
        show js_ok ρ mX10_goesOn _ 4 0 0 54 [(0, .ref o), (1, .ref a2), (2, .int (jI ((k : Int)))), (3, .int (jI ((m : Int) + 1)))] [] (js_up h a2 (js_aI true 1 100 (zgo f g (k + 1))))
        refine js_iinc (L' := [(2, .int (jI (((k : Int)) + 1))), (0, .ref o), (1, .ref a2), (3, .int (jI ((m : Int) + 1)))]) 2 dX10_goesOn_54 rfl (by decide) rfl ?_
        refine js_goto (tgt := 7) dX10_goesOn_57 (by decide) ?_
        refine js_sub (L' := [(0, .ref o), (1, .ref a2), (2, .int (jI (((k : Int)) + 1)))]) [1, 2, 0] rfl ?_
        exact IHk (k + 1) (by omega) (by omega)
      · refine js_aload_n 1 dX10_goesOn_29 rfl ?_
        refine js_iload_n 2 dX10_goesOn_30 rfl ?_
        refine js_aload_n 0 dX10_goesOn_31 rfl ?_
        refine gX10_3 rfl dX10_goesOn_32 ((js_up_n (js_nef ho hf_a2)).trans ho) rfl ?_
        refine gX10_19 rfl dX10_goesOn_35 ((js_up_n (js_nef hx hf_a2)).trans hx) rfl ?_
        refine gX10_23 rfl dX10_goesOn_38 ((js_up_n (js_nef z_11 hf_a2)).trans z_11) rfl ?_
        refine js_iload_n 3 dX10_goesOn_41 rfl ?_
        refine js_iaload dX10_goesOn_42 ((js_up_n (js_nef z_16 hf_a2)).trans z_16) (by omega) ?_
        refine js_top (b := f (8 + ((m : Int) + 1) - 1)) (by exact gw) ?_
        refine eX10_29 rfl dX10_goesOn_43 (con_next (by omega) (by omega)) (Nat.le_of_ble_eq_true rfl) (Nat.le_of_ble_eq_true rfl) ?_
        refine js_iconst dX10_goesOn_46 ?_
        refine js_zastore dX10_goesOn_47 js_up_s (by omega) (by omega) ?_
        rw [js_up_up]
        show js_ok ρ mX10_goesOn _ 4 0 0 48 [(0, .ref o), (1, .ref a2), (2, .int (jI ((k : Int)))), (3, .int (jI ((m : Int) + 1)))] [] (js_up h a2 (js_aI true 1 100 (js_uz (zgi f k (zgo f g k) m) (znext ((k : Int)) (f (8 + ((m : Int) + 1) - 1))) 1)))
        show js_ok ρ mX10_goesOn _ 4 0 0 48 [(0, .ref o), (1, .ref a2), (2, .int (jI ((k : Int)))), (3, .int (jI ((m : Int) + 1)))] [] (js_up h a2 (js_aI true 1 100 (zgi f k (zgo f g k) (m + 1))))
        refine js_iinc (L' := [(3, .int (jI (((m : Int) + 1) + 1))), (0, .ref o), (1, .ref a2), (2, .int (jI ((k : Int))))]) 3 dX10_goesOn_48 rfl (by decide) rfl ?_
        refine js_goto (tgt := 15) dX10_goesOn_51 (by decide) ?_
        refine js_sub (L' := [(0, .ref o), (1, .ref a2), (2, .int (jI ((k : Int)))), (3, .int (jI (((m : Int) + 1) + 1)))]) [1, 2, 3, 0] rfl ?_
        exact IHm (m + 1) ⟨by omega, fun z => by omega⟩ (by omega)
theorem xc_pmany {ρ : js_R} {h : js_H} {o aa x : Nat} {g : Int → Int} (ho : h o = some (js_ob true 9 [.ref aa, .ref x])) (hg : h aa = some (js_aI true 1 100 g)) (rg : ∀ j : Int, g j = 0 ∨ g j = 1)  : js_Con ρ mX10_many 0 0 0 [.ref o] h (js_ret (some (.int (jI (zcn g 100)))) h) := by
  refine js_body [(0, .ref o)] rfl (by decide) (Nat.le_of_ble_eq_true rfl) rfl ?_
  refine js_iconst dX10_many_0 ?_
  refine js_top (b := zcn g 0) (by rfl) ?_
  refine js_istore_n (L' := [(1, .int (jI (zcn g 0))), (0, .ref o)]) dX10_many_1 (by decide) rfl ?_
  refine js_aload_n 1 dX10_many_2 rfl ?_
  refine gX10_15 rfl dX10_many_3 ho rfl ?_
  refine js_astore_n (L' := [(2, .ref aa), (1, .int (jI (zcn g 0))), (0, .ref o)]) dX10_many_6 (by decide) rfl ?_
  refine js_aload_n 0 dX10_many_7 rfl ?_
  refine js_alenI dX10_many_8 hg (by decide) ?_
  refine js_istore_n (L' := [(3, .int (jI ((100 : Int)))), (2, .ref aa), (1, .int (jI (zcn g 0))), (0, .ref o)]) dX10_many_9 (by decide) rfl ?_
  refine js_iconst dX10_many_10 ?_
  refine js_istore (L' := [(4, .int (jI 0)), (3, .int (jI ((100 : Int)))), (2, .ref aa), (1, .int (jI (zcn g 0))), (0, .ref o)]) dX10_many_11 (by decide) rfl ?_
  refine js_sub (L' := [(0, .ref o), (1, .int (jI (zcn g 0))), (2, .ref aa), (3, .int (jI ((100 : Int)))), (4, .int (jI 0))]) [4, 3, 2, 1, 0] rfl ?_
  refine js_loop (σ := Nat) (fun k => (k : Int) ≤ 100) (fun k => 100 - k) (fun k => 0) (fun k => 0) 13 (fun k => [(0, .ref o), (1, .int (jI (zcn g k))), (2, .ref aa), (3, .int (jI ((100 : Int)))), (4, .int (jI ((k : Int))))]) (fun k => []) (fun k => h) (fun k hk IHk => ?_) 0 (by omega)
  show js_ok ρ mX10_many _ 0 0 0 13 [(0, .ref o), (1, .int (jI (zcn g k))), (2, .ref aa), (3, .int (jI ((100 : Int)))), (4, .int (jI ((k : Int))))] [] h
  refine js_iload 4 dX10_many_13 rfl ?_
  refine js_iload_n 3 dX10_many_15 rfl ?_
  refine js_icmp_ge (tgt := 44) dX10_many_16 (by decide) (by omega) (fun c2 => ?_) (fun c2 => ?_)
  · refine js_iload_n 1 dX10_many_44 rfl ?_
    exact js_iret rfl rfl dX10_many_45 ⟨by rw [show (100 : Nat) = k by omega], rfl⟩
  · have hgk := rg (k : Int)
    refine js_aload_n 2 dX10_many_19 rfl ?_
    refine js_iload 4 dX10_many_20 rfl ?_
    refine js_zaload dX10_many_22 hg (by omega) ?_
    refine js_istore (L' := [(5, .int (jI (g ((k : Int))))), (0, .ref o), (1, .int (jI (zcn g k))), (2, .ref aa), (3, .int (jI ((100 : Int)))), (4, .int (jI ((k : Int))))]) dX10_many_23 (by decide) rfl ?_
    refine js_iload_n 2 dX10_many_25 rfl ?_
    refine js_iload 0 dX10_many_26 rfl ?_
    refine js_if_eq (tgt := 35) dX10_many_28 (by decide) (by omega) (fun c3 => ?_) (fun c3 => ?_)
    · refine js_iconst dX10_many_35 ?_
      refine js_iadd dX10_many_36 ?_
      refine js_top (b := zcn g (k + 1)) (by show _ = zcn g k + (if g (k : Int) = 0 then 0 else 1); split <;> omega) ?_
      refine js_istore_n (L' := [(1, .int (jI (zcn g (k + 1)))), (5, .int (jI (g ((k : Int))))), (0, .ref o), (2, .ref aa), (3, .int (jI ((100 : Int)))), (4, .int (jI ((k : Int))))]) dX10_many_37 (by decide) rfl ?_
      refine js_iinc (L' := [(4, .int (jI (((k : Int)) + 1))), (1, .int (jI (zcn g (k + 1)))), (5, .int (jI (g ((k : Int))))), (0, .ref o), (2, .ref aa), (3, .int (jI ((100 : Int))))]) 5 dX10_many_38 rfl (by decide) rfl ?_
      refine js_goto (tgt := 13) dX10_many_41 (by decide) ?_
      refine js_sub (L' := [(0, .ref o), (1, .int (jI (zcn g (k + 1)))), (2, .ref aa), (3, .int (jI ((100 : Int)))), (4, .int (jI (((k : Int)) + 1)))]) [3, 1, 4, 5, 0] rfl ?_
      exact IHk (k + 1) (by omega) (by omega)
    · refine js_iconst dX10_many_31 ?_
      refine js_goto (tgt := 36) dX10_many_32 (by decide) ?_
      refine js_iadd dX10_many_36 ?_
      refine js_top (b := zcn g (k + 1)) (by show _ = zcn g k + (if g (k : Int) = 0 then 0 else 1); split <;> omega) ?_
      refine js_istore_n (L' := [(1, .int (jI (zcn g (k + 1)))), (5, .int (jI (g ((k : Int))))), (0, .ref o), (2, .ref aa), (3, .int (jI ((100 : Int)))), (4, .int (jI ((k : Int))))]) dX10_many_37 (by decide) rfl ?_
      refine js_iinc (L' := [(4, .int (jI (((k : Int)) + 1))), (1, .int (jI (zcn g (k + 1)))), (5, .int (jI (g ((k : Int))))), (0, .ref o), (2, .ref aa), (3, .int (jI ((100 : Int))))]) 5 dX10_many_38 rfl (by decide) rfl ?_
      refine js_goto (tgt := 13) dX10_many_41 (by decide) ?_
      refine js_sub (L' := [(0, .ref o), (1, .int (jI (zcn g (k + 1)))), (2, .ref aa), (3, .int (jI ((100 : Int)))), (4, .int (jI (((k : Int)) + 1)))]) [3, 1, 4, 5, 0] rfl ?_
      exact IHk (k + 1) (by omega) (by omega)
