set_option maxRecDepth 100000
/-! changes: retire, enter, spire -/
theorem zOp_rt {em : Nat} {T : Int} {col col1 : Nat → Nat} {c : Nat} {B : Nat → Nat} {Bb Bs Bb' : Int → Nat} {x : Nat} {f f' : zF} {Y : zY} {o : zO} {h g h' : js_H} {v w : Int} (ho : o = .inr (v, f')) (hC : zC em T col1 c B Bb Bs x f (zpush Y f) g) (k : zKe col col1 h g) (hI : zI (T + 400) f') (hz : zSt em (T + 1) (fun q => col1 q = c) B Bb' Bs f' h') (fr : zFr (fun q => col1 q = c) g h') (hv : w = v) : zOp em T col c B Bb Bs x f Y o h (.inl (some (.int (jI w)))) h' := by
  rw [ho]
  have c3 := hC.2.2.1
  have hd : ∀ a : Nat, g a ≠ none → h' a ≠ none := fun a n => by
    by_cases q : col1 a = c
    · exact hz.2.2.2.2.2.2.2.2.2.2.2.2 a q
    · exact zdom_k (fun e w => fr a e q w) n
  have hd2 : ∀ a : Nat, h' a = none → col1 a = 0 := fun a n => hC.1 a (by
    cases q : g a with
    | none => rfl
    | some e => exact absurd n (hd a (by rw [q]; exact fun z => by cases z)))
  refine ⟨by rw [hv], col1, B, Bb', Bs, rfl, zC_keep (c2 := 0) hC (by omega) hI (zSt_fr hz (by omega) (fun a e _ w => w)) rfl hd2 (fun a e n w => fr a e n w) (fun _ _ => rfl) (fun a z => Or.inl (hC.1 a z)), zKe_trans k ⟨fun _ _ => rfl, fun a e z w => fr a e (fun y => ?_) w, hd⟩⟩
  have y : col1 a = c := y
  omega
theorem xo_retire {ρ : js_R} {h : js_H} {em : Nat} {T : Int} {col : Nat → Nat} {c : Nat} {B : Nat → Nat} {Bb Bs : Int → Nat} {x : Nat} {f : zF} {Y : zY} {b : Int} (hC : zC em T col c B Bb Bs x f Y h) (hE : js_sv ρ 1 = .ref em) (hw : Y.2.2.2.2.1 = 0 ∨ Y.2.2.2.2.1 = 1) (hT : T + 400 ≤ 1000000) (rb : -2147483648 ≤ b ∧ b < 2147483648) : js_Con ρ mX1_retire 12 40 440 [.ref x, .int (jI b)] h (zOp em T col c B Bb Bs x f Y (zdoRetire f b) h) := by
  refine js_body [(0, .ref x), (1, .int (jI b))] rfl (by decide) (Nat.le_of_ble_eq_true rfl) rfl ?_
  obtain ⟨cz1, cz2, cz3, ⟨c4a, hI⟩, hZ, sv, rv, hi, ib, lb, vi, vl, cs, hx, cz7, cz8, ⟨cz9, c9a, c9b⟩, cz10, cz11⟩ := id hC
  obtain ⟨tT1, tT2⟩ := zI_T hI
  have h01 := zI_01 hI
  obtain ⟨z_10, z_11, ⟨mb_1, rb_1, z_12⟩, ⟨ms_1, rs_1, z_13⟩, z_14, z_15, z_16, z_17, z_18, z_19, z_110, z_111, z_112⟩ := id hZ
  obtain ⟨sa_1, sb_1, sc_1, sd_1, se_1, sf_1, sg_1⟩ := z_111
  obtain ⟨wb_1, cb_1, gb_1, heb_1, rcb_1, hgb_1⟩ := zL_rd z_17 z_10 (by omega)
  obtain ⟨ws_1, cs_1, gs_1, hes_1, rcs_1, hgs_1⟩ := zL_rd z_18 z_10 (by omega)
  obtain ⟨gm_1, ze_1⟩ := z_10
  refine js_aload_n 0 dX1_retire_0 rfl ?_
  refine js_iload_n 1 dX1_retire_1 rfl ?_
  refine vX1_154 (kc' := 38) (ks' := 431) rfl dX1_retire_2 hx (xc_mustB hx hZ hI (by omega)) (Nat.le_of_ble_eq_true rfl) (by omega) (by omega) (Nat.le_of_ble_eq_true rfl) (fun v2 g2 q2 => ?_) (fun E2 g2 q2 => ?_)
  · obtain ⟨p2, e2, g0_2⟩ | ⟨_, e2, _⟩ := q2
    rotate_left
    · cases e2
    cases e2
    rw [g0_2]
    show js_ok ρ mX1_retire _ 12 38 431 5 [(0, .ref x), (1, .int (jI b))] [] h
    refine js_aload_n 0 dX1_retire_5 rfl ?_
    have ho : zdoRetire f b = .inr (f 0 - 1, js_uz (js_cp f f (13 + 9 * b + 9) (13 + 9 * b) (9 * (f 0 - 1 - b))) 0 (f 0 - 1)) := by unfold zdoRetire; (repeat' split) <;> first | rfl | (exfalso; omega)
    have hI' := zdoRetire_I hI hT ho
    refine vX1_111 (kc' := 7) (ks' := 27) rfl dX1_retire_6 hx (xc_change hC hE hw) (Nat.le_of_ble_eq_true rfl) (by omega) (by omega) (Nat.le_of_ble_eq_true rfl) (fun v3 g3 q3 => ?_) (fun E3 g3 q3 => by cases q3.1)
    obtain ⟨e3, col1, hC1, kk1⟩ := q3
    cases e3
    obtain ⟨_, _, _, _, hZ1, sv1, rv1, hi1, ib1, lb1, _, _, _, hx1, _⟩ := id hC1
    obtain ⟨z_40, z_41, ⟨mb_4, rb_4, z_42⟩, ⟨ms_4, rs_4, z_43⟩, z_44, z_45, z_46, z_47, z_48, z_49, z_410, z_411, z_412⟩ := id hZ1
    obtain ⟨sa_4, sb_4, sc_4, sd_4, se_4, sf_4, sg_4⟩ := z_411
    obtain ⟨wb_4, cb_4, gb_4, heb_4, rcb_4, hgb_4⟩ := zL_rd z_47 z_40 (by omega)
    obtain ⟨ws_4, cs_4, gs_4, hes_4, rcs_4, hgs_4⟩ := zL_rd z_48 z_40 (by omega)
    obtain ⟨gm_4, ze_4⟩ := z_40
    show js_ok ρ mX1_retire _ 12 7 27 9 [(0, .ref x), (1, .int (jI b))] [] g3
    refine js_aload_n 0 dX1_retire_9 rfl ?_
    refine gX1_10 rfl dX1_retire_10 hx1 rfl ?_
    refine gX1_104 rfl dX1_retire_13 z_41 rfl ?_
    refine js_iload_n 1 dX1_retire_16 rfl ?_
    have q6 : B 6 ≠ em ∧ g3 (B 6) = some (js_aQ true 6 10 (zgb Bb (f 0))) := by
      rcases z_47 with y | y
      · omega
      · exact y
    have hk9 : zels g3 (zgb Bb (f 0)) (f 0) := fun j j1 j2 y e => by
      unfold zgb at e
      rw [if_pos ⟨j1, j2⟩] at e
      have e := Option.some.inj e
      rw [← e]
      exact ⟨true, 4, _, _, z_49 j j1 j2, rfl, List.mem_filter.mpr ⟨q2820, rfl⟩⟩
    refine eX1_196 rfl dX1_retire_17 z_42 (con_lrm z_42 (by omega) q6.2 (by omega) (by omega) hk9 (show zgb Bb (f 0) b = some (Bb b) from if_pos (by omega))) (Nat.le_of_ble_eq_true rfl) (Nat.le_of_ble_eq_true rfl) ?_
    show js_ok ρ mX1_retire _ 12 7 27 20 [(0, .ref x), (1, .int (jI b))] [.ref (Bb b)] (js_up (js_up g3 (B 1) (js_ob true 15 [.int (jI (mb_4 + 1)), .ref (B 6), .int (jI (f 0 - 1))])) (B 6) (js_aQ true 6 10 (zrm (zgb Bb (f 0)) (f 0) b)))
    refine js_pop dX1_retire_20 rfl ?_
    refine js_aload_n 0 dX1_retire_21 rfl ?_
    refine gX1_10 rfl dX1_retire_22 ((js_up_n (js_nek hx1 q6.2 js_kOQ)).trans ((js_up_n (js_nek hx1 z_42 (js_kOO (by decide)))).trans hx1)) rfl ?_
    refine gX1_104 rfl dX1_retire_25 ((js_up_n (js_nek z_41 q6.2 js_kOQ)).trans ((js_up_n (js_nek z_41 z_42 (js_kOO (by decide)))).trans z_41)) rfl ?_
    refine eX1_108 rfl dX1_retire_28 ((js_up_n (js_nek z_42 q6.2 js_kOQ)).trans js_up_s) (con_lsize ((js_up_n (js_nek z_42 q6.2 js_kOQ)).trans js_up_s) (by omega)) (Nat.le_of_ble_eq_true rfl) (Nat.le_of_ble_eq_true rfl) ?_
    exact js_iret rfl rfl dX1_retire_31 (zOp_rt ho hC1 kk1 hI' (zSt_rmB hZ1 rb_4 ⟨by omega, by omega⟩ ⟨by omega, by omega⟩) (zFr_up (zFr_up zFr_refl sa_4.2.1) (sb_4 q6.1)) rfl)
  · obtain ⟨_, e2, _⟩ | ⟨p2, e2, r2⟩ := q2
    · cases e2
    · cases e2
      exact js_out rfl (zOp_rf (by unfold zdoRetire; (repeat' split) <;> first | rfl | (exfalso; omega)) hC hx r2)
