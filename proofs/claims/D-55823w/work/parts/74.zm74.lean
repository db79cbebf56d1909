set_option maxRecDepth 100000
/-! save, undo, restore -/
theorem con_dcc {ρ : js_R} {h : js_H} {e cap : Nat} {i j : Int} {ge : Int → Option Nat} (he : h e = some (js_aQ true 6 cap ge)) (ri : 0 ≤ i ∧ i < cap ∧ 0 ≤ j ∧ j < cap ∧ cap ≤ 1000000) : js_Con ρ mJ3_circularClear 0 0 0 [.ref e, .int (jI i), .int (jI j)] h (fun r h' => r = .inl none ∧ ∃ g0 : Int → Option Nat, h' = js_up h e (js_aQ true 6 cap g0)) := by
  refine js_body [(0, .ref e), (1, .int (jI i)), (2, .int (jI j))] rfl (by decide) (Nat.le_of_ble_eq_true rfl) rfl ?_
  refine js_iload_n 1 dJ3_circularClear_0 rfl ?_
  refine js_iload_n 2 dJ3_circularClear_1 rfl ?_
  refine js_icmp_gt (tgt := 9) dJ3_circularClear_2 (by decide) (by omega) (fun c1 => ?_) (fun c1 => ?_)
  · refine js_aload_n 0 dJ3_circularClear_9 rfl ?_
    refine js_alenQ dJ3_circularClear_10 he (by decide) ?_
    refine js_istore_n (L' := [(3, .int (jI (((cap : Nat) : Int)))), (0, .ref e), (1, .int (jI i)), (2, .int (jI j))]) dJ3_circularClear_11 (by decide) rfl ?_
    refine js_sub (L' := [(0, .ref e), (1, .int (jI i)), (2, .int (jI j)), (3, .int (jI (((cap : Nat) : Int))))]) [1, 2, 3, 0] rfl ?_
    refine js_loop (σ := Int × Int × js_H) (fun s => (0 ≤ s.1 ∧ s.1 ≤ cap) ∧ (0 ≤ s.2.1 ∧ s.2.1 ≤ cap) ∧ (s.2.1 = cap ∨ s.2.1 = j) ∧ ∃ gz : Int → Option Nat, (s.2.2 : js_H) = js_up h e (js_aQ true 6 cap gz)) (fun s => ((if s.2.1 = j then 0 else (cap : Int) + 1) + ((cap : Int) + s.2.1 - s.1)).toNat) (fun s => 0) (fun s => 0) 12 (fun s => [(0, .ref e), (1, .int (jI s.1)), (2, .int (jI j)), (3, .int (jI s.2.1))]) (fun s => []) (fun s => s.2.2) (fun s hk IHs => ?_) (i, ((cap : Nat) : Int), h) ((show (0 ≤ i ∧ i ≤ cap) ∧ (0 ≤ (((cap : Nat) : Int)) ∧ (((cap : Nat) : Int)) ≤ cap) ∧ ((((cap : Nat) : Int)) = cap ∨ (((cap : Nat) : Int)) = j) ∧ ∃ gz : Int → Option Nat, (h : js_H) = js_up h e (js_aQ true 6 cap gz) from ⟨by omega, by omega, by omega, ge, (js_selfU he).symm⟩))
    obtain ⟨a, b, g⟩ := s
    have hk : (0 ≤ a ∧ a ≤ cap) ∧ (0 ≤ b ∧ b ≤ cap) ∧ (b = cap ∨ b = j) ∧ ∃ gz : Int → Option Nat, (g : js_H) = js_up h e (js_aQ true 6 cap gz) := hk
    show js_ok ρ mJ3_circularClear _ 0 0 0 12 [(0, .ref e), (1, .int (jI a)), (2, .int (jI j)), (3, .int (jI b))] [] g
    obtain ⟨k1, k2, k3, g0, rfl⟩ := hk
    show js_ok ρ mJ3_circularClear _ 0 0 0 12 [(0, .ref e), (1, .int (jI a)), (2, .int (jI j)), (3, .int (jI b))] [] (js_up h e (js_aQ true 6 cap g0))
    refine js_iload_n 1 dJ3_circularClear_12 rfl ?_
    refine js_iload_n 3 dJ3_circularClear_13 rfl ?_
    refine js_icmp_ge (tgt := 27) dJ3_circularClear_14 (by decide) (by omega) (fun c2 => ?_) (fun c2 => ?_)
    · refine js_iload_n 3 dJ3_circularClear_27 rfl ?_
      refine js_iload_n 2 dJ3_circularClear_28 rfl ?_
      refine js_icmp_ne (tgt := 35) dJ3_circularClear_29 (by decide) (by omega) (fun c3 => ?_) (fun c3 => ?_)
      · refine js_iconst dJ3_circularClear_35 ?_
        refine js_istore_n (L' := [(1, .int (jI 0)), (0, .ref e), (2, .int (jI j)), (3, .int (jI b))]) dJ3_circularClear_36 (by decide) rfl ?_
        refine js_iload_n 2 dJ3_circularClear_37 rfl ?_
        refine js_istore_n (L' := [(3, .int (jI j)), (1, .int (jI 0)), (0, .ref e), (2, .int (jI j))]) dJ3_circularClear_38 (by decide) rfl ?_
        refine js_goto (tgt := 12) dJ3_circularClear_39 (by decide) ?_
        refine js_sub (L' := [(0, .ref e), (1, .int (jI 0)), (2, .int (jI j)), (3, .int (jI j))]) [2, 1, 3, 0] rfl ?_
        exact IHs ((0 : Int), j, (js_up h e (js_aQ true 6 cap g0))) (show (0 ≤ ((0 : Int)) ∧ ((0 : Int)) ≤ cap) ∧ (0 ≤ j ∧ j ≤ cap) ∧ (j = cap ∨ j = j) ∧ ∃ gz : Int → Option Nat, (((js_up h e (js_aQ true 6 cap g0))) : js_H) = js_up h e (js_aQ true 6 cap gz) from ⟨by omega, by omega, by omega, _, rfl⟩) (show ((if j = j then 0 else (cap : Int) + 1) + ((cap : Int) + j - ((0 : Int)))).toNat < ((if b = j then 0 else (cap : Int) + 1) + ((cap : Int) + b - a)).toNat by omega)
      · refine js_goto (tgt := 42) dJ3_circularClear_32 (by decide) ?_
        exact js_vret rfl dJ3_circularClear_42 ⟨rfl, _, rfl⟩
    · refine js_aload_n 0 dJ3_circularClear_17 rfl ?_
      refine js_iload_n 1 dJ3_circularClear_18 rfl ?_
      refine js_null dJ3_circularClear_19 ?_
      refine js_aastoreN (by decide) rfl dJ3_circularClear_20 js_up_s (by omega) ?_
      rw [js_up_up]
      show js_ok ρ mJ3_circularClear _ 0 0 0 21 [(0, .ref e), (1, .int (jI a)), (2, .int (jI j)), (3, .int (jI b))] [] (js_up h e (js_aQ true 6 cap (js_uz g0 a none)))
      refine js_iinc (L' := [(1, .int (jI (a + 1))), (0, .ref e), (2, .int (jI j)), (3, .int (jI b))]) 1 dJ3_circularClear_21 rfl (by decide) rfl ?_
      refine js_goto (tgt := 12) dJ3_circularClear_24 (by decide) ?_
      refine js_sub (L' := [(0, .ref e), (1, .int (jI (a + 1))), (2, .int (jI j)), (3, .int (jI b))]) [1, 0, 2, 3] rfl ?_
      exact IHs ((a + 1 : Int), b, (js_up h e (js_aQ true 6 cap (js_uz g0 a none)))) (show (0 ≤ ((a + 1 : Int)) ∧ ((a + 1 : Int)) ≤ cap) ∧ (0 ≤ b ∧ b ≤ cap) ∧ (b = cap ∨ b = j) ∧ ∃ gz : Int → Option Nat, (((js_up h e (js_aQ true 6 cap (js_uz g0 a none)))) : js_H) = js_up h e (js_aQ true 6 cap gz) from ⟨by omega, by omega, by omega, _, rfl⟩) (show ((if b = j then 0 else (cap : Int) + 1) + ((cap : Int) + b - ((a + 1 : Int)))).toNat < ((if b = j then 0 else (cap : Int) + 1) + ((cap : Int) + b - a)).toNat by omega)
  · refine js_iload_n 2 dJ3_circularClear_5 rfl ?_
    refine js_goto (tgt := 11) dJ3_circularClear_6 (by decide) ?_
    refine js_istore_n (L' := [(3, .int (jI j)), (0, .ref e), (1, .int (jI i)), (2, .int (jI j))]) dJ3_circularClear_11 (by decide) rfl ?_
    refine js_sub (L' := [(0, .ref e), (1, .int (jI i)), (2, .int (jI j)), (3, .int (jI j))]) [1, 2, 3, 0] rfl ?_
    refine js_loop (σ := Int × Int × js_H) (fun s => (0 ≤ s.1 ∧ s.1 ≤ cap) ∧ (0 ≤ s.2.1 ∧ s.2.1 ≤ cap) ∧ (s.2.1 = cap ∨ s.2.1 = j) ∧ ∃ gz : Int → Option Nat, (s.2.2 : js_H) = js_up h e (js_aQ true 6 cap gz)) (fun s => ((if s.2.1 = j then 0 else (cap : Int) + 1) + ((cap : Int) + s.2.1 - s.1)).toNat) (fun s => 0) (fun s => 0) 12 (fun s => [(0, .ref e), (1, .int (jI s.1)), (2, .int (jI j)), (3, .int (jI s.2.1))]) (fun s => []) (fun s => s.2.2) (fun s hk IHs => ?_) (i, j, h) ((show (0 ≤ i ∧ i ≤ cap) ∧ (0 ≤ j ∧ j ≤ cap) ∧ (j = cap ∨ j = j) ∧ ∃ gz : Int → Option Nat, (h : js_H) = js_up h e (js_aQ true 6 cap gz) from ⟨by omega, by omega, by omega, ge, (js_selfU he).symm⟩))
    obtain ⟨a, b, g⟩ := s
    have hk : (0 ≤ a ∧ a ≤ cap) ∧ (0 ≤ b ∧ b ≤ cap) ∧ (b = cap ∨ b = j) ∧ ∃ gz : Int → Option Nat, (g : js_H) = js_up h e (js_aQ true 6 cap gz) := hk
    show js_ok ρ mJ3_circularClear _ 0 0 0 12 [(0, .ref e), (1, .int (jI a)), (2, .int (jI j)), (3, .int (jI b))] [] g
    obtain ⟨k1, k2, k3, g0, rfl⟩ := hk
    show js_ok ρ mJ3_circularClear _ 0 0 0 12 [(0, .ref e), (1, .int (jI a)), (2, .int (jI j)), (3, .int (jI b))] [] (js_up h e (js_aQ true 6 cap g0))
    refine js_iload_n 1 dJ3_circularClear_12 rfl ?_
    refine js_iload_n 3 dJ3_circularClear_13 rfl ?_
    refine js_icmp_ge (tgt := 27) dJ3_circularClear_14 (by decide) (by omega) (fun c4 => ?_) (fun c4 => ?_)
    · refine js_iload_n 3 dJ3_circularClear_27 rfl ?_
      refine js_iload_n 2 dJ3_circularClear_28 rfl ?_
      refine js_icmp_ne (tgt := 35) dJ3_circularClear_29 (by decide) (by omega) (fun c5 => ?_) (fun c5 => ?_)
      · refine js_iconst dJ3_circularClear_35 ?_
        refine js_istore_n (L' := [(1, .int (jI 0)), (0, .ref e), (2, .int (jI j)), (3, .int (jI b))]) dJ3_circularClear_36 (by decide) rfl ?_
        refine js_iload_n 2 dJ3_circularClear_37 rfl ?_
        refine js_istore_n (L' := [(3, .int (jI j)), (1, .int (jI 0)), (0, .ref e), (2, .int (jI j))]) dJ3_circularClear_38 (by decide) rfl ?_
        refine js_goto (tgt := 12) dJ3_circularClear_39 (by decide) ?_
        refine js_sub (L' := [(0, .ref e), (1, .int (jI 0)), (2, .int (jI j)), (3, .int (jI j))]) [2, 1, 3, 0] rfl ?_
        exact IHs ((0 : Int), j, (js_up h e (js_aQ true 6 cap g0))) (show (0 ≤ ((0 : Int)) ∧ ((0 : Int)) ≤ cap) ∧ (0 ≤ j ∧ j ≤ cap) ∧ (j = cap ∨ j = j) ∧ ∃ gz : Int → Option Nat, (((js_up h e (js_aQ true 6 cap g0))) : js_H) = js_up h e (js_aQ true 6 cap gz) from ⟨by omega, by omega, by omega, _, rfl⟩) (show ((if j = j then 0 else (cap : Int) + 1) + ((cap : Int) + j - ((0 : Int)))).toNat < ((if b = j then 0 else (cap : Int) + 1) + ((cap : Int) + b - a)).toNat by omega)
      · refine js_goto (tgt := 42) dJ3_circularClear_32 (by decide) ?_
        exact js_vret rfl dJ3_circularClear_42 ⟨rfl, _, rfl⟩
    · refine js_aload_n 0 dJ3_circularClear_17 rfl ?_
      refine js_iload_n 1 dJ3_circularClear_18 rfl ?_
      refine js_null dJ3_circularClear_19 ?_
      refine js_aastoreN (by decide) rfl dJ3_circularClear_20 js_up_s (by omega) ?_
      rw [js_up_up]
      show js_ok ρ mJ3_circularClear _ 0 0 0 21 [(0, .ref e), (1, .int (jI a)), (2, .int (jI j)), (3, .int (jI b))] [] (js_up h e (js_aQ true 6 cap (js_uz g0 a none)))
      refine js_iinc (L' := [(1, .int (jI (a + 1))), (0, .ref e), (2, .int (jI j)), (3, .int (jI b))]) 1 dJ3_circularClear_21 rfl (by decide) rfl ?_
      refine js_goto (tgt := 12) dJ3_circularClear_24 (by decide) ?_
      refine js_sub (L' := [(0, .ref e), (1, .int (jI (a + 1))), (2, .int (jI j)), (3, .int (jI b))]) [1, 0, 2, 3] rfl ?_
      exact IHs ((a + 1 : Int), b, (js_up h e (js_aQ true 6 cap (js_uz g0 a none)))) (show (0 ≤ ((a + 1 : Int)) ∧ ((a + 1 : Int)) ≤ cap) ∧ (0 ≤ b ∧ b ≤ cap) ∧ (b = cap ∨ b = j) ∧ ∃ gz : Int → Option Nat, (((js_up h e (js_aQ true 6 cap (js_uz g0 a none)))) : js_H) = js_up h e (js_aQ true 6 cap gz) from ⟨by omega, by omega, by omega, _, rfl⟩) (show ((if b = j then 0 else (cap : Int) + 1) + ((cap : Int) + b - ((a + 1 : Int)))).toNat < ((if b = j then 0 else (cap : Int) + 1) + ((cap : Int) + b - a)).toNat by omega)
theorem con_dclear {ρ : js_R} {h : js_H} {d ed cap : Nat} {hd tl : Int} {ge : Int → Option Nat} (hq : h d = some (js_ob true 16 [.ref ed, .int (jI hd), .int (jI tl)])) (he : h ed = some (js_aQ true 6 cap ge)) (ri : 0 ≤ hd ∧ hd < cap ∧ 0 ≤ tl ∧ tl < cap ∧ cap ≤ 1000000) : js_Con ρ mJ3_clear 1 0 0 [.ref d] h (fun r h' => r = .inl none ∧ ∃ g0 : Int → Option Nat, h' = js_up (js_up h ed (js_aQ true 6 cap g0)) d (js_ob true 16 [.ref ed, .int (jI 0), .int (jI 0)])) := by
  refine js_body [(0, .ref d)] rfl (by decide) (Nat.le_of_ble_eq_true rfl) rfl ?_
  refine js_aload_n 0 dJ3_clear_0 rfl ?_
  refine gJ3_3 rfl dJ3_clear_1 hq rfl ?_
  refine js_aload_n 0 dJ3_clear_4 rfl ?_
  refine gJ3_24 rfl dJ3_clear_5 hq rfl ?_
  refine js_aload_n 0 dJ3_clear_8 rfl ?_
  refine gJ3_20 rfl dJ3_clear_9 hq rfl ?_
  refine vJ3_181 (kc' := 0) (ks' := 0) rfl dJ3_clear_12 (con_dcc he (by omega)) (Nat.le_of_ble_eq_true rfl) (by omega) (by omega) (Nat.le_of_ble_eq_true rfl) (fun v1 g1 q1 => ?_) (fun E1 g1 q1 => by cases q1.1)
  obtain ⟨e1, gc, rfl⟩ := q1
  cases e1
  show js_ok ρ mJ3_clear _ 1 0 0 15 [(0, .ref d)] [] (js_up h ed (js_aQ true 6 cap gc))
  refine js_aload_n 0 dJ3_clear_15 rfl ?_
  refine js_aload_n 0 dJ3_clear_16 rfl ?_
  refine js_iconst dJ3_clear_17 ?_
  refine js_dup_x1 dJ3_clear_18 rfl rfl ?_
  refine pJ3_20 rfl dJ3_clear_19 ((js_up_n (js_nek hq he js_kOQ)).trans hq) (Nat.le_of_ble_eq_true rfl) rfl rfl ?_
  show js_ok ρ mJ3_clear _ 1 0 0 22 [(0, .ref d)] [.int (jI 0), .ref d] (js_up (js_up h ed (js_aQ true 6 cap gc)) d (js_ob true 16 [.ref ed, .int (jI hd), .int (jI 0)]))
  refine pJ3_24 rfl dJ3_clear_22 js_up_s (Nat.le_of_ble_eq_true rfl) rfl rfl ?_
  rw [js_up_up]
  show js_ok ρ mJ3_clear _ 1 0 0 25 [(0, .ref d)] [] (js_up (js_up h ed (js_aQ true 6 cap gc)) d (js_ob true 16 [.ref ed, .int (jI 0), .int (jI 0)]))
  exact js_vret rfl dJ3_clear_25 ⟨rfl, _, rfl⟩
theorem xo_save {ρ : js_R} {h : js_H} {em : Nat} {T : Int} {col : Nat → Nat} {c : Nat} {B : Nat → Nat} {Bb Bs : Int → Nat} {x : Nat} {f : zF} {Y : zY} (hC : zC em T col c B Bb Bs x f Y h) (hE : js_sv ρ 1 = .ref em)  : js_Con ρ mX1_save 8 31 404 [.ref x] h (fun r h' => r = .inl (some (.int (jI (f 0)))) ∧ ∃ col' : Nat → Nat, zC em T col' c B Bb Bs x f (some f, Y.2) h' ∧ zKe col col' h h') := by
  refine js_body [(0, .ref x)] rfl (by decide) (Nat.le_of_ble_eq_true rfl) rfl ?_
  obtain ⟨cz1, cz2, cz3, ⟨c4a, hI⟩, hZ, sv, rv, hi, ib, lb, vi, vl, cs, hx, cz7, cz8, ⟨cz9, c9a, c9b⟩, cz10, cz11⟩ := id hC
  obtain ⟨tT1, tT2⟩ := zI_T hI
  have h01 := zI_01 hI
  obtain ⟨ed, hd, tl, q, ge, ch, y1, y2, y3, y4, y5, y6⟩ := cz9
  obtain ⟨z_10, z_11, ⟨mb_1, rb_1, z_12⟩, ⟨ms_1, rs_1, z_13⟩, z_14, z_15, z_16, z_17, z_18, z_19, z_110, z_111, z_112⟩ := id hZ
  obtain ⟨sa_1, sb_1, sc_1, sd_1, se_1, sf_1, sg_1⟩ := z_111
  obtain ⟨wb_1, cb_1, gb_1, heb_1, rcb_1, hgb_1⟩ := zL_rd z_17 z_10 (by omega)
  obtain ⟨ws_1, cs_1, gs_1, hes_1, rcs_1, hgs_1⟩ := zL_rd z_18 z_10 (by omega)
  obtain ⟨gm_1, ze_1⟩ := z_10
  refine js_aload_n 0 dX1_save_0 rfl ?_
  refine js_aload_n 0 dX1_save_1 rfl ?_
  refine gX1_10 rfl dX1_save_2 hx rfl ?_
  refine vX1_77 (kc' := 0) (ks' := 0) rfl dX1_save_5 z_11 (zc_copy hZ hI hE (by omega)) (Nat.le_of_ble_eq_true rfl) (by omega) (by omega) (Nat.le_of_ble_eq_true rfl) (fun v2 g2 q2 => ?_) (fun E2 g2 q2 => by obtain ⟨_, q2, _⟩ := q2; cases q2)
  obtain ⟨cc, e2, ⟨C, Cb, Cs, P2, rfl, zC, hP2⟩, frc⟩ := q2
  cases e2
  show js_ok ρ mX1_save _ 8 0 0 8 [(0, .ref x)] [.ref (C 0), .ref x] g2
  refine pX1_505 rfl dX1_save_8 (frc _ _ (fun z => z) hx) (Nat.le_of_ble_eq_true rfl) rfl rfl ?_
  show js_ok ρ mX1_save _ 8 0 0 11 [(0, .ref x)] [] (js_up g2 x (js_ob true 0 [.ref (B 0), .ref (C 0), .ref hi, .ref ib, .ref lb, .int (jI Y.2.2.2.2.1), .int (jI Y.2.2.2.2.2.1), rv]))
  refine js_aload_n 0 dX1_save_11 rfl ?_
  refine gX1_10 rfl dX1_save_12 js_up_s rfl ?_
  refine gX1_104 rfl dX1_save_15 ((js_up_n (js_nek (frc _ _ (fun z => z) z_11) (frc _ _ (fun z => z) hx) (js_kOO (by decide)))).trans (frc _ _ (fun z => z) z_11)) rfl ?_
  refine eX1_108 rfl dX1_save_18 ((js_up_n (js_nek (frc _ _ (fun z => z) z_12) (frc _ _ (fun z => z) hx) (js_kOO (by decide)))).trans (frc _ _ (fun z => z) z_12)) (con_lsize ((js_up_n (js_nek (frc _ _ (fun z => z) z_12) (frc _ _ (fun z => z) hx) (js_kOO (by decide)))).trans (frc _ _ (fun z => z) z_12)) (by omega)) (Nat.le_of_ble_eq_true rfl) (Nat.le_of_ble_eq_true rfl) ?_
  exact js_iret rfl rfl dX1_save_21 ⟨rfl, zC_save cz1 cz2 cz3 ⟨c4a, hI⟩ hZ hx cz7 cz8 y1 y2 y3 y4 y5 y6 ⟨c9a, c9b⟩ cz10 cz11 hI zC hP2 frc rfl⟩
def zUn (em : Nat) (T : Int) (col : Nat → Nat) (x : Nat) (f : zF) (Y : zY) (h : js_H) : js_Q := fun r h' => (Y.2.1.1 = 0 ∧ r = .inr "java/lang/IllegalStateException" ∧ zFr (fun _ => False) h h') ∨ (Y.2.1.1 ≠ 0 ∧ r = .inl (some (.int (jI (Y.2.1.1 - 1)))) ∧ (∃ (c' : Nat) (B' : Nat → Nat) (Bb' Bs' : Int → Nat), zC em T col c' B' Bb' Bs' x (Y.2.1.2 (Y.2.1.1 - 1)) (Y.1, (Y.2.1.1 - 1, Y.2.1.2), Y.2.2) h') ∧ zKe col col h h')
theorem xo_undo {ρ : js_R} {h : js_H} {em : Nat} {T : Int} {col : Nat → Nat} {c : Nat} {B : Nat → Nat} {Bb Bs : Int → Nat} {x : Nat} {f : zF} {Y : zY} (hC : zC em T col c B Bb Bs x f Y h)  : js_Con ρ mX1_undo 10 1 6 [.ref x] h (zUn em T col x f Y h) := by
  refine js_body [(0, .ref x)] rfl (by decide) (Nat.le_of_ble_eq_true rfl) rfl ?_
  obtain ⟨cz1, cz2, cz3, ⟨c4a, hI⟩, hZ, sv, rv, hi, ib, lb, vi, vl, cs, hx, cz7, cz8, ⟨cz9, c9a, c9b⟩, cz10, cz11⟩ := id hC
  obtain ⟨tT1, tT2⟩ := zI_T hI
  have h01 := zI_01 hI
  obtain ⟨ed, hd, tl, q, ge, ch, y1, y2, y3, y4, y5, y6⟩ := cz9
  obtain ⟨z_10, z_11, ⟨mb_1, rb_1, z_12⟩, ⟨ms_1, rs_1, z_13⟩, z_14, z_15, z_16, z_17, z_18, z_19, z_110, z_111, z_112⟩ := id hZ
  obtain ⟨sa_1, sb_1, sc_1, sd_1, se_1, sf_1, sg_1⟩ := z_111
  obtain ⟨wb_1, cb_1, gb_1, heb_1, rcb_1, hgb_1⟩ := zL_rd z_17 z_10 (by omega)
  obtain ⟨ws_1, cs_1, gs_1, hes_1, rcs_1, hgs_1⟩ := zL_rd z_18 z_10 (by omega)
  obtain ⟨gm_1, ze_1⟩ := z_10
  refine js_aload_n 0 dX1_undo_0 rfl ?_
  refine gX1_19 rfl dX1_undo_1 hx rfl ?_
  refine eX1_278 rfl dX1_undo_4 y1 (con_dempty y1 y2 y3 (by omega)) (Nat.le_of_ble_eq_true rfl) (Nat.le_of_ble_eq_true rfl) ?_
  show js_ok ρ mX1_undo _ 10 1 6 7 [(0, .ref x)] [.int (jI (jb (Y.2.1.1 = 0)))] h
  refine js_if_neB (tgt := 14) dX1_undo_7 (by decide) (fun c2 => ?_) (fun c2 => ?_)
  · refine js_iconst dX1_undo_14 ?_
    refine js_top (b := jb False) (jb_f id).symm ?_
    refine vX1_404 (kc' := 0) (ks' := 0) rfl dX1_undo_15 (con_chkS) (Nat.le_of_ble_eq_true rfl) (by omega) (by omega) (Nat.le_of_ble_eq_true rfl) (fun v3 g3 q3 => ?_) (fun E3 g3 q3 => ?_)
    · obtain ⟨g0_3, ⟨p3, e3⟩ | ⟨_, e3⟩⟩ := q3
      rotate_left
      · cases e3
      cases e3
      rw [g0_3]
      exact absurd p3 id
    · obtain ⟨g0_3, ⟨_, e3⟩ | ⟨p3, e3⟩⟩ := q3
      · cases e3
      · cases e3
        rw [g0_3]
        exact js_out rfl (Or.inl ⟨by omega, rfl, zFr_refl⟩)
  · refine js_iconst dX1_undo_10 ?_
    refine js_goto (tgt := 15) dX1_undo_11 (by decide) ?_
    refine js_top (b := jb True) (jb_t trivial).symm ?_
    refine vX1_404 (kc' := 0) (ks' := 0) rfl dX1_undo_15 (con_chkS) (Nat.le_of_ble_eq_true rfl) (by omega) (by omega) (Nat.le_of_ble_eq_true rfl) (fun v4 g4 q4 => ?_) (fun E4 g4 q4 => ?_)
    · obtain ⟨g0_4, ⟨p4, e4⟩ | ⟨_, e4⟩⟩ := q4
      rotate_left
      · cases e4
      cases e4
      rw [g0_4]
      show js_ok ρ mX1_undo _ 10 0 0 18 [(0, .ref x)] [] h
      refine js_aload_n 0 dX1_undo_18 rfl ?_
      refine js_aload_n 0 dX1_undo_19 rfl ?_
      refine gX1_19 rfl dX1_undo_20 hx rfl ?_
      obtain ⟨tl2, ht2⟩ : ∃ tl2 : Int, tl2 = if 0 ≤ tl - 1 then tl - 1 else ((17 : Nat) : Int) - 1 := ⟨_, rfl⟩
      have y3c := (zDr_last y3 (by omega) ht2).2
      obtain ⟨mI, B9, Bb9, Bs9, b9, z9⟩ := (y5 (Y.2.1.1 - 1) (by omega) (by omega)).2
      have z91 := z9.2.1
      rw [b9] at z91
      refine eX1_502 rfl dX1_undo_23 y1 (con_drmL y1 y2 y3 (by omega) (by omega) ht2) (Nat.le_of_ble_eq_true rfl) (Nat.le_of_ble_eq_true rfl) ?_
      show js_ok ρ mX1_undo _ 10 0 0 26 [(0, .ref x)] [.ref (q (Y.2.1.1 - 1)), .ref x] (js_up (js_up h ed (js_aQ true 6 17 (js_uz ge tl2 none))) hi (js_ob true 16 [.ref ed, .int (jI hd), .int (jI tl2)]))
      refine js_castS (r := (RX2, TX2, 11)) rfl q158 dX1_undo_26 ((js_up_n (Ne.symm (js_nek y1 z91 (js_kOO (by decide))))).trans ((js_up_n (js_nek z91 y2 js_kOQ)).trans z91)) ?_
      refine pX1_10 rfl dX1_undo_29 ((js_up_n (js_nek hx y1 (js_kOO (by decide)))).trans ((js_up_n (js_nek hx y2 js_kOQ)).trans hx)) (Nat.le_of_ble_eq_true rfl) rfl rfl ?_
      show js_ok ρ mX1_undo _ 10 0 0 32 [(0, .ref x)] [] (js_up (js_up (js_up h ed (js_aQ true 6 17 (js_uz ge tl2 none))) hi (js_ob true 16 [.ref ed, .int (jI hd), .int (jI tl2)])) x (js_ob true 0 [.ref (q (Y.2.1.1 - 1)), sv, .ref hi, .ref ib, .ref lb, .int (jI Y.2.2.2.2.1), .int (jI Y.2.2.2.2.2.1), rv]))
      refine js_aload_n 0 dX1_undo_32 rfl ?_
      refine gX1_19 rfl dX1_undo_33 js_up_s rfl ?_
      refine eX1_85 rfl dX1_undo_36 ((js_up_n (Ne.symm (js_nek hx y1 (js_kOO (by decide))))).trans js_up_s) (con_dsize ((js_up_n (Ne.symm (js_nek hx y1 (js_kOO (by decide))))).trans js_up_s) ((js_up_n (Ne.symm (js_nek hx y2 js_kOQ))).trans ((js_up_n (Ne.symm (js_nek y1 y2 js_kOQ))).trans js_up_s)) y3c (by omega)) (Nat.le_of_ble_eq_true rfl) (Nat.le_of_ble_eq_true rfl) ?_
      exact js_iret rfl rfl dX1_undo_39 (Or.inr ⟨by omega, rfl, zC_undo (h1 := h) cz1 cz2 cz3 ⟨c4a, hI⟩ hZ hx cz7 cz8 y1 y2 y3 y4 y5 y6 ⟨c9a, c9b⟩ cz10 cz11 (by omega) y3c rfl⟩)
    · obtain ⟨g0_4, ⟨_, e4⟩ | ⟨p4, e4⟩⟩ := q4
      · cases e4
      · cases e4
        rw [g0_4]
        exact absurd trivial p4
def zRs_ (em : Nat) (T : Int) (col : Nat → Nat) (x : Nat) (f : zF) (Y : zY) (g : zF) (h : js_H) : js_Q := fun r h' => r = .inl (some (.int (jI (g 0)))) ∧ ∃ (col' : Nat → Nat) (c' : Nat) (B' : Nat → Nat) (Bb' Bs' : Int → Nat), zC em T col' c' B' Bb' Bs' x g (Y.1, (0, Y.2.1.2), Y.2.2) h' ∧ zKe col col' h h'
theorem xo_restoreN {ρ : js_R} {h : js_H} {em : Nat} {T : Int} {col : Nat → Nat} {c : Nat} {B : Nat → Nat} {Bb Bs : Int → Nat} {x : Nat} {f : zF} {Y : zY} (hC : zC em T col c B Bb Bs x f Y h) (hY : Y.1 = none)  : js_Con ρ mX1_restore 10 1 6 [.ref x] h (fun r h' => r = .inr "java/lang/IllegalStateException" ∧ zFr (fun _ => False) h h') := by
  refine js_body [(0, .ref x)] rfl (by decide) (Nat.le_of_ble_eq_true rfl) rfl ?_
  obtain ⟨cz1, cz2, cz3, ⟨c4a, hI⟩, hZ, sv, rv, hi, ib, lb, vi, vl, cs, hx, cz7, cz8, ⟨cz9, c9a, c9b⟩, cz10, cz11⟩ := id hC
  obtain ⟨tT1, tT2⟩ := zI_T hI
  have h01 := zI_01 hI
  obtain ⟨ed, hd, tl, q, ge, ch, y1, y2, y3, y4, y5, y6⟩ := cz9
  have es : sv = .null := by have s := cz8.2; rw [hY] at s; exact s
  subst es
  obtain ⟨z_10, z_11, ⟨mb_1, rb_1, z_12⟩, ⟨ms_1, rs_1, z_13⟩, z_14, z_15, z_16, z_17, z_18, z_19, z_110, z_111, z_112⟩ := id hZ
  obtain ⟨sa_1, sb_1, sc_1, sd_1, se_1, sf_1, sg_1⟩ := z_111
  obtain ⟨wb_1, cb_1, gb_1, heb_1, rcb_1, hgb_1⟩ := zL_rd z_17 z_10 (by omega)
  obtain ⟨ws_1, cs_1, gs_1, hes_1, rcs_1, hgs_1⟩ := zL_rd z_18 z_10 (by omega)
  obtain ⟨gm_1, ze_1⟩ := z_10
  refine js_aload_n 0 dX1_restore_0 rfl ?_
  refine gX1_505 rfl dX1_restore_1 hx rfl ?_
  refine js_ifnullN (tgt := 11) dX1_restore_4 (by decide) ?_
  refine js_iconst dX1_restore_11 ?_
  refine js_top (b := jb False) (jb_f id).symm ?_
  refine vX1_404 (kc' := 0) (ks' := 0) rfl dX1_restore_12 (con_chkS) (Nat.le_of_ble_eq_true rfl) (by omega) (by omega) (Nat.le_of_ble_eq_true rfl) (fun v2 g2 q2 => ?_) (fun E2 g2 q2 => ?_)
  · obtain ⟨g0_2, ⟨p2, e2⟩ | ⟨_, e2⟩⟩ := q2
    rotate_left
    · cases e2
    cases e2
    rw [g0_2]
    exact absurd p2 id
  · obtain ⟨g0_2, ⟨_, e2⟩ | ⟨p2, e2⟩⟩ := q2
    · cases e2
    · cases e2
      rw [g0_2]
      exact js_out rfl ⟨rfl, zFr_refl⟩
theorem xo_restoreS {ρ : js_R} {h : js_H} {em : Nat} {T : Int} {col : Nat → Nat} {c : Nat} {B : Nat → Nat} {Bb Bs : Int → Nat} {x : Nat} {f : zF} {Y : zY} {g : zF} (hC : zC em T col c B Bb Bs x f Y h) (hE : js_sv ρ 1 = .ref em) (hY : Y.1 = some g)  : js_Con ρ mX1_restore 10 33 420 [.ref x] h (zRs_ em T col x f Y g h) := by
  refine js_body [(0, .ref x)] rfl (by decide) (Nat.le_of_ble_eq_true rfl) rfl ?_
  obtain ⟨cz1, cz2, cz3, ⟨c4a, hI⟩, hZ, sv, rv, hi, ib, lb, vi, vl, cs, hx, cz7, cz8, ⟨cz9, c9a, c9b⟩, cz10, cz11⟩ := id hC
  obtain ⟨tT1, tT2⟩ := zI_T hI
  have h01 := zI_01 hI
  obtain ⟨ed, hd, tl, q, ge, ch, y1, y2, y3, y4, y5, y6⟩ := cz9
  have es : ∃ a : Nat, sv = .ref a ∧ zSx em T col cs a g h := by have s := cz8.2; rw [hY] at s; exact s
  obtain ⟨a9, rfl, ⟨iG, B9, Bb9, Bs9, rfl, zG⟩⟩ := es
  obtain ⟨z_10, z_11, ⟨mb_1, rb_1, z_12⟩, ⟨ms_1, rs_1, z_13⟩, z_14, z_15, z_16, z_17, z_18, z_19, z_110, z_111, z_112⟩ := id hZ
  obtain ⟨sa_1, sb_1, sc_1, sd_1, se_1, sf_1, sg_1⟩ := z_111
  obtain ⟨wb_1, cb_1, gb_1, heb_1, rcb_1, hgb_1⟩ := zL_rd z_17 z_10 (by omega)
  obtain ⟨ws_1, cs_1, gs_1, hes_1, rcs_1, hgs_1⟩ := zL_rd z_18 z_10 (by omega)
  obtain ⟨gm_1, ze_1⟩ := z_10
  refine js_aload_n 0 dX1_restore_0 rfl ?_
  refine gX1_505 rfl dX1_restore_1 hx rfl ?_
  refine js_ifnull dX1_restore_4 ?_
  refine js_iconst dX1_restore_7 ?_
  refine js_goto (tgt := 12) dX1_restore_8 (by decide) ?_
  refine js_top (b := jb True) (jb_t trivial).symm ?_
  refine vX1_404 (kc' := 32) (ks' := 414) rfl dX1_restore_12 (con_chkS) (Nat.le_of_ble_eq_true rfl) (by omega) (by omega) (Nat.le_of_ble_eq_true rfl) (fun v2 g2 q2 => ?_) (fun E2 g2 q2 => ?_)
  · obtain ⟨g0_2, ⟨p2, e2⟩ | ⟨_, e2⟩⟩ := q2
    rotate_left
    · cases e2
    cases e2
    rw [g0_2]
    show js_ok ρ mX1_restore _ 10 32 414 15 [(0, .ref x)] [] h
    refine js_aload_n 0 dX1_restore_15 rfl ?_
    refine js_aload_n 0 dX1_restore_16 rfl ?_
    refine gX1_505 rfl dX1_restore_17 hx rfl ?_
    refine vX1_77 (kc' := 1) (ks' := 10) rfl dX1_restore_20 zG.2.1 (zc_copy zG iG hE (by omega)) (Nat.le_of_ble_eq_true rfl) (by omega) (by omega) (Nat.le_of_ble_eq_true rfl) (fun v3 g3 q3 => ?_) (fun E3 g3 q3 => by obtain ⟨_, q3, _⟩ := q3; cases q3)
    obtain ⟨cc, e3, ⟨C, Cb, Cs, P2, rfl, zC, hP2⟩, frc⟩ := q3
    cases e3
    obtain ⟨mb2, rb2, zl2⟩ := zC.2.2.1
    have g01 := zI_01 iG
    show js_ok ρ mX1_restore _ 10 1 10 23 [(0, .ref x)] [.ref (C 0), .ref x] g3
    refine pX1_10 rfl dX1_restore_23 (frc _ _ (fun z => z) hx) (Nat.le_of_ble_eq_true rfl) rfl rfl ?_
    show js_ok ρ mX1_restore _ 10 1 10 26 [(0, .ref x)] [] (js_up g3 x (js_ob true 0 [.ref (C 0), .ref (B9 0), .ref hi, .ref ib, .ref lb, .int (jI Y.2.2.2.2.1), .int (jI Y.2.2.2.2.2.1), rv]))
    refine js_aload_n 0 dX1_restore_26 rfl ?_
    refine gX1_19 rfl dX1_restore_27 js_up_s rfl ?_
    obtain ⟨ka, kb, _⟩ := id y3
    refine vX1_508 (kc' := 1) (ks' := 10) rfl dX1_restore_30 ((js_up_n (js_nek (frc _ _ (fun z => z) y1) (frc _ _ (fun z => z) hx) (js_kOO (by decide)))).trans (frc _ _ (fun z => z) y1)) (con_dclear ((js_up_n (js_nek (frc _ _ (fun z => z) y1) (frc _ _ (fun z => z) hx) (js_kOO (by decide)))).trans (frc _ _ (fun z => z) y1)) ((js_up_n (js_nek (frc _ _ (fun z => z) y2) (frc _ _ (fun z => z) hx) js_kQO)).trans (frc _ _ (fun z => z) y2)) (by omega)) (Nat.le_of_ble_eq_true rfl) (by omega) (by omega) (Nat.le_of_ble_eq_true rfl) (fun v4 g4 q4 => ?_) (fun E4 g4 q4 => by cases q4.1)
    obtain ⟨e4, gc, rfl⟩ := q4
    cases e4
    show js_ok ρ mX1_restore _ 10 1 10 33 [(0, .ref x)] [] (js_up (js_up (js_up g3 x (js_ob true 0 [.ref (C 0), .ref (B9 0), .ref hi, .ref ib, .ref lb, .int (jI Y.2.2.2.2.1), .int (jI Y.2.2.2.2.2.1), rv])) ed (js_aQ true 6 17 gc)) hi (js_ob true 16 [.ref ed, .int (jI 0), .int (jI 0)]))
    refine js_aload_n 0 dX1_restore_33 rfl ?_
    refine gX1_10 rfl dX1_restore_34 ((js_up_n (js_nek (frc _ _ (fun z => z) hx) (frc _ _ (fun z => z) y1) (js_kOO (by decide)))).trans ((js_up_n (js_nek (frc _ _ (fun z => z) hx) (frc _ _ (fun z => z) y2) js_kOQ)).trans js_up_s)) rfl ?_
    refine gX1_104 rfl dX1_restore_37 ((js_up_n (Ne.symm (js_nek (frc _ _ (fun z => z) y1) zC.2.1 (js_kOO (by decide))))).trans ((js_up_n (Ne.symm (js_nek (frc _ _ (fun z => z) y2) zC.2.1 js_kQO))).trans ((js_up_n (js_nek zC.2.1 (frc _ _ (fun z => z) hx) (js_kOO (by decide)))).trans zC.2.1))) rfl ?_
    refine eX1_108 rfl dX1_restore_40 ((js_up_n (Ne.symm (js_nek (frc _ _ (fun z => z) y1) zl2 (js_kOO (by decide))))).trans ((js_up_n (Ne.symm (js_nek (frc _ _ (fun z => z) y2) zl2 js_kQO))).trans ((js_up_n (js_nek zl2 (frc _ _ (fun z => z) hx) (js_kOO (by decide)))).trans zl2))) (con_lsize ((js_up_n (Ne.symm (js_nek (frc _ _ (fun z => z) y1) zl2 (js_kOO (by decide))))).trans ((js_up_n (Ne.symm (js_nek (frc _ _ (fun z => z) y2) zl2 js_kQO))).trans ((js_up_n (js_nek zl2 (frc _ _ (fun z => z) hx) (js_kOO (by decide)))).trans zl2))) (by omega)) (Nat.le_of_ble_eq_true rfl) (Nat.le_of_ble_eq_true rfl) ?_
    exact js_iret rfl rfl dX1_restore_43 ⟨rfl, (zC_restore cz1 cz2 cz3 ⟨c4a, hI⟩ hZ hx cz7 cz8 y1 y2 y3 y4 y5 y6 ⟨c9a, c9b⟩ cz10 cz11 iG zC hP2 frc rfl).elim (fun col' k => k.elim (fun c' k => ⟨col', c', C, Cb, Cs, k⟩))⟩
  · obtain ⟨g0_2, ⟨_, e2⟩ | ⟨p2, e2⟩⟩ := q2
    · cases e2
    · cases e2
      rw [g0_2]
      exact absurd trivial p2
