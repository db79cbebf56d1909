set_option maxRecDepth 100000
/-! trials -/
/-- what hours never change -/
def zKp (f g : zF) : Prop := (g 0 = f 0 ∧ g 1 = f 1) ∧ (∀ k : Int, 8 ≤ k → k < 13 → g k = f k) ∧ (∀ i k : Int, 0 ≤ i → i < 5 → 0 ≤ k → k < 3 → g (67 + 4 * i + k) = f (67 + 4 * i + k))
theorem zKp_flk {T : Int} {f : zF} (h : zI T f) (hT : T + 13 ≤ 1000000) (k : Nat) (hk : (k : Int) ≤ f 0) : zKp f (zflk f k) := by
  have h01 := zI_01 h
  induction k with
  | zero => exact ⟨⟨rfl, rfl⟩, fun _ _ _ => rfl, fun _ _ _ _ _ _ => rfl⟩
  | succ k ih =>
    obtain ⟨a, b, c⟩ := ih (by omega)
    obtain ⟨iK, e0, e1⟩ := zflk_I h (by omega) k (by omega)
    show zKp f (if zflk f k (13 + 9 * (k : Int) + 2) ≤ 0 then zflk f k else zfly (zflk f k) k)
    split
    · exact ⟨a, b, c⟩
    · have st := (zfly_step (b := (k : Int)) iK (by omega) (by omega) (by omega) (by omega)).1
      exact ⟨⟨st.1.1.trans a.1, st.1.2.trans a.2⟩, fun j j1 j2 => (st.2.1 j j1 j2).trans (b j j1 j2), fun i j i1 i2 j1 j2 => (st.2.2.2.1 i j i1 i2 j1 j2).trans (c i j i1 i2 j1 j2)⟩
theorem zKp_hrs {T : Int} {f : zF} (h : zI T f) (k : Nat) (hT : T + 13 * k ≤ 1000000) : zKp f (zhrs f k) := by
  induction k with
  | zero => exact ⟨⟨rfl, rfl⟩, fun _ _ _ => rfl, fun _ _ _ _ _ _ => rfl⟩
  | succ k ih =>
    obtain ⟨a, b, c⟩ := ih (by omega)
    obtain ⟨iK, e0, e1⟩ := zhrs_I h k (by omega)
    have h01 := zI_01 iK
    obtain ⟨a2, b2, c2⟩ := zKp_flk iK (by omega) (zhrs f k 0).toNat (by omega)
    refine ⟨⟨?_, ?_⟩, fun j j1 j2 => ?_, fun i j i1 i2 j1 j2 => ?_⟩
    · show js_uz (zflk (zhrs f k) (zhrs f k 0).toNat) 2 (zflk (zhrs f k) (zhrs f k 0).toNat 2 + 1) 0 = f 0
      rw [js_uz_n (by decide)]; exact a2.1.trans a.1
    · show js_uz (zflk (zhrs f k) (zhrs f k 0).toNat) 2 (zflk (zhrs f k) (zhrs f k 0).toNat 2 + 1) 1 = f 1
      rw [js_uz_n (by decide)]; exact a2.2.trans a.2
    · show js_uz (zflk (zhrs f k) (zhrs f k 0).toNat) 2 (zflk (zhrs f k) (zhrs f k 0).toNat 2 + 1) j = f j
      rw [js_uz_n (by omega)]; exact ((b2 j j1 j2).trans (b j j1 j2))
    · show js_uz (zflk (zhrs f k) (zhrs f k 0).toNat) 2 (zflk (zhrs f k) (zhrs f k 0).toNat 2 + 1) (67 + 4 * i + j) = f (67 + 4 * i + j)
      rw [js_uz_n (by omega)]; exact ((c2 i j i1 i2 j1 j2).trans (c i j i1 i2 j1 j2))
/-- a balloon's picture, its fees apart -/
abbrev zBt (f : zF) (b pd : Int) : js_E := js_ob true 4 [.int (jI (zpt f b)), .int (jI (f (13 + 9 * b + 2))), .int (jI (f (13 + 9 * b + 3))), .int (jI (f (13 + 9 * b + 4))), .int (jI (f (13 + 9 * b + 5))), .int (jI (f (13 + 9 * b + 6))), .int (jI pd), .int (jI (f (13 + 9 * b + 8)))]
theorem zc_pass {ρ : js_R} {h : js_H} {em a : Nat} {T b pd : Int} {P : Nat → Prop} {B : Nat → Nat} {Bb Bs : Int → Nat} {f g : zF} (hZ : zSt em T P B Bb Bs f h) {T2 T3 : Int} (hI : zI T2 f) (hg : zI T3 g) (kp : zKp f g) (hb : 0 ≤ b ∧ b < g 0) (h3 : 1 ≤ g (13 + 9 * b + 2)) (ha : h a = some (zBt g b pd)) : js_Con ρ mX2_passes 5 0 0 [.ref (B 0), .ref a] h (js_ret none (js_up h a (zBt (zfly g b) b pd))) := by
  have h01 := zI_01 hI
  have hB := zI_B hg hb.1 hb.2
  have hpr := zIB_p hB
  unfold zIB at hB
  obtain ⟨kp0, kpw, kps⟩ := kp
  obtain ⟨z0, z1, ⟨mb, rb, z2⟩, ⟨ms, rs, z3⟩, z4, z5, z6, z7, z8, z9, z10, z11, z12⟩ := id hZ
  obtain ⟨ws, cs, gs, hes, rcs, hgs⟩ := zL_rd z8 z0 (by omega)
  obtain ⟨p, ep⟩ : ∃ p : Int, p = znext (zpt g b) (g (7 + g (13 + 9 * b + 2))) := ⟨_, rfl⟩
  have hv := zfly_v hg hb.1 hb.2 h3 ep
  have hw7 : zwa f (g (13 + 9 * b + 2)) = g (7 + g (13 + 9 * b + 2)) := (zwa_g (by omega)).trans (kpw _ (by omega) (by omega)).symm
  have hw8 := zI_w hg (7 + g (13 + 9 * b + 2)) (by omega) (by omega)
  generalize zfly g b = g' at hv ⊢
  obtain ⟨v0, v2, v3, v4, v7, v5, vc, vq, vn, vG, vN⟩ := hv
  by_cases lt : g (13 + 9 * b + 5) < f 1
  · obtain ⟨n, en⟩ : ∃ n : Int, g (13 + 9 * b + 5) = n := ⟨_, rfl⟩
    have n1 : 0 ≤ n := by omega
    have hP := zI_P hI (i := n) n1 (by omega)
    have hPp := zIP_p hP
    have k0 := kps n 0 n1 (by omega) (by omega) (by omega)
    rw [Int.add_zero] at k0
    have esp : zsp g n = zsp f n := by unfold zsp; rw [k0, kps n 1 n1 (by omega) (by omega) (by omega)]
    have esd := kps n 2 n1 (by omega) (by omega) (by omega)
    unfold zIP at hP
    refine js_Con.post (con_passS z1 ha z3 hes (by omega) (by omega) z6 hpr (by omega) (by rw [hw7]; omega) (by omega) (by omega) lt (by rw [en]; exact hgs n n1 (by omega)) (z10 n n1 (by omega)) hPp (by omega)) ?_
    rintro r h' ⟨rfl, rfl⟩
    rw [hw7, ← ep]
    have hGe : zgG g b p ↔ znext (zsp f n) (f (67 + 4 * n + 2)) = p := by
      unfold zgG
      rw [en, esp, esd]
      exact ⟨fun z => z.2, fun z => ⟨by omega, z⟩⟩
    refine ⟨rfl, ?_⟩
    by_cases G : zgG g b p
    · obtain ⟨g5, gr, g3, ga, gb, gi⟩ := vG G
      have hG2 := hGe.mp G
      rw [zg_t hG2, zg_t hG2, zg_t hG2]
      by_cases q : g (13 + 9 * b + 8) = g (13 + 9 * b + 2)
      · obtain ⟨y1, y2, y3⟩ := ga q
        unfold zBt
        rw [v0, v2, v3, v4, g5, y1, y2, if_pos q, if_pos q]
      · obtain ⟨y1, y2, y3⟩ := gb q
        unfold zBt
        rw [v0, v2, v3, v4, g5, y1, y2, if_neg q, if_neg q]
    · obtain ⟨g5, g3, g6, g8, g4, gi⟩ := vN G
      have hG2 : ¬ znext (zsp f n) (f (67 + 4 * n + 2)) = p := fun z => G (hGe.mpr z)
      rw [zg_f hG2, zg_f hG2, zg_f hG2]
      unfold zBt
      rw [v0, v2, v3, v4, g5, g6, g8]
  · refine js_Con.post (con_passN z1 ha z3 hes (by omega) (by omega) z6 hpr (by omega) (by rw [hw7]; omega) (by omega) (by omega) (by omega)) ?_
    rintro r h' ⟨rfl, rfl⟩
    rw [hw7, ← ep]
    obtain ⟨g5, g3, g6, g8, g4, gi⟩ := vN (fun z => lt (by have := z.1; omega))
    refine ⟨rfl, ?_⟩
    unfold zBt
    rw [v0, v2, v3, v4, g5, g6, g8]
theorem zBt_hr {T : Int} {f : zF} {b pd : Int} (h : zI T f) (hb : 0 ≤ b ∧ b < f 0) (hT : T + 13 ≤ 1000000) : zBt (z1 f b) b pd = zBt (zhr f) b pd := by
  have a := (zAg_hr h hb hT).2.2.1
  unfold zBt zpt
  rw [a 1 (by decide) (by decide), a 0 (by decide) (by decide), a 2 (by decide) (by decide), a 3 (by decide) (by decide), a 4 (by decide) (by decide), a 5 (by decide) (by decide), a 6 (by decide) (by decide), a 8 (by decide) (by decide)]
theorem xc_tgo {ρ : js_R} {h : js_H} {em : Nat} {T : Int} {P : Nat → Prop} {B : Nat → Nat} {Bb Bs : Int → Nat} {f : zF} {x : Nat} {u1 u2 u3 u4 u5 u6 u7 : Value} {t th : Nat} {b pd : Int} {k : Nat} (hx : h x = some (js_ob true 0 [.ref (B 0), u1, u2, u3, u4, u5, u6, u7])) (hZ : zSt em T P B Bb Bs f h) {T2 : Int} (hI : zI T2 f) (hT : T2 + 1000 ≤ 1000000) (ht : h t = some (js_ob true 8 [.ref th, .int (jI k), .ref x])) (hth : h th = some (zBt (zhrs f k) b pd)) (nt : ¬ P t ∧ zNe t em) (nth : ¬ P th ∧ zNe th em) (hb : 0 ≤ b ∧ b < f 0) (hk : k ≤ 70)  : js_Con ρ mX9_goesOn 6 0 0 [.ref t] h (js_ret none (js_up (js_up h th (zBt (zhrs f (k + 1)) b pd)) t (js_ob true 8 [.ref th, .int (jI (k + 1)), .ref x]))) := by
  refine js_body [(0, .ref t)] rfl (by decide) (Nat.le_of_ble_eq_true rfl) rfl ?_
  have h01 := zI_01 hI
  obtain ⟨iK, e0, e1⟩ := zhrs_I hI k (by omega)
  have hBK := zI_B iK hb.1 (by omega)
  unfold zIB at hBK
  obtain ⟨z_10, z_11, ⟨mb_1, rb_1, z_12⟩, ⟨ms_1, rs_1, z_13⟩, z_14, z_15, z_16, z_17, z_18, z_19, z_110, z_111, z_112⟩ := id hZ
  obtain ⟨sa_1, sb_1, sc_1, sd_1, se_1, sf_1, sg_1⟩ := z_111
  obtain ⟨wb_1, cb_1, gb_1, heb_1, rcb_1, hgb_1⟩ := zL_rd z_17 z_10 (by omega)
  obtain ⟨ws_1, cs_1, gs_1, hes_1, rcs_1, hgs_1⟩ := zL_rd z_18 z_10 (by omega)
  obtain ⟨gm_1, ze_1⟩ := z_10
  refine js_aload_n 0 dX9_goesOn_0 rfl ?_
  refine gX9_37 rfl dX9_goesOn_1 ht rfl ?_
  refine eX9_41 rfl dX9_goesOn_4 hth (con_flies hth (by omega)) (Nat.le_of_ble_eq_true rfl) (Nat.le_of_ble_eq_true rfl) ?_
  refine js_if_eqB (tgt := 24) dX9_goesOn_7 (by decide) (fun c2 => ?_) (fun c2 => ?_)
  · refine js_aload_n 0 dX9_goesOn_24 rfl ?_
    refine js_dup dX9_goesOn_25 rfl ?_
    refine gX9_49 rfl dX9_goesOn_26 ht rfl ?_
    refine js_iconst dX9_goesOn_29 ?_
    refine js_iadd dX9_goesOn_30 ?_
    refine pX9_49 rfl dX9_goesOn_31 ht (Nat.le_of_ble_eq_true rfl) rfl rfl ?_
    show js_ok ρ mX9_goesOn _ 6 0 0 34 [(0, .ref t)] [] (js_up h t (js_ob true 8 [.ref th, .int (jI (((k : Int)) + 1)), .ref x]))
    exact js_vret rfl dX9_goesOn_34 ⟨rfl, by rw [show zBt (zhrs f (k + 1)) b pd = zBt (zhrs f k) b pd from (zBt_hr iK ⟨hb.1, by omega⟩ (by omega)).symm.trans (by rw [show z1 (zhrs f k) b = zhrs f k from if_pos (by omega)]), js_selfU hth]⟩
  · refine js_aload_n 0 dX9_goesOn_10 rfl ?_
    refine gX9_1 rfl dX9_goesOn_11 ht rfl ?_
    refine gX9_13 rfl dX9_goesOn_14 hx rfl ?_
    refine js_aload_n 0 dX9_goesOn_17 rfl ?_
    refine gX9_37 rfl dX9_goesOn_18 ht rfl ?_
    refine eX9_45 rfl dX9_goesOn_21 z_11 (zc_pass hZ hI iK (zKp_hrs hI k (by omega)) ⟨hb.1, by omega⟩ (by omega) hth) (Nat.le_of_ble_eq_true rfl) (Nat.le_of_ble_eq_true rfl) ?_
    show js_ok ρ mX9_goesOn _ 6 0 0 24 [(0, .ref t)] [] (js_up h th (js_ob true 4 [.int (jI (zpt ((zfly (zhrs f k) b)) b)), .int (jI (((zfly (zhrs f k) b)) (13 + 9 * b + 2))), .int (jI (((zfly (zhrs f k) b)) (13 + 9 * b + 3))), .int (jI (((zfly (zhrs f k) b)) (13 + 9 * b + 4))), .int (jI (((zfly (zhrs f k) b)) (13 + 9 * b + 5))), .int (jI (((zfly (zhrs f k) b)) (13 + 9 * b + 6))), .int (jI pd), .int (jI (((zfly (zhrs f k) b)) (13 + 9 * b + 8)))]))
    refine js_aload_n 0 dX9_goesOn_24 rfl ?_
    refine js_dup dX9_goesOn_25 rfl ?_
    refine gX9_49 rfl dX9_goesOn_26 ((js_up_n (js_nek ht hth (js_kOO (by decide)))).trans ht) rfl ?_
    refine js_iconst dX9_goesOn_29 ?_
    refine js_iadd dX9_goesOn_30 ?_
    refine pX9_49 rfl dX9_goesOn_31 ((js_up_n (js_nek ht hth (js_kOO (by decide)))).trans ht) (Nat.le_of_ble_eq_true rfl) rfl rfl ?_
    show js_ok ρ mX9_goesOn _ 6 0 0 34 [(0, .ref t)] [] (js_up (js_up h th (js_ob true 4 [.int (jI (zpt ((zfly (zhrs f k) b)) b)), .int (jI (((zfly (zhrs f k) b)) (13 + 9 * b + 2))), .int (jI (((zfly (zhrs f k) b)) (13 + 9 * b + 3))), .int (jI (((zfly (zhrs f k) b)) (13 + 9 * b + 4))), .int (jI (((zfly (zhrs f k) b)) (13 + 9 * b + 5))), .int (jI (((zfly (zhrs f k) b)) (13 + 9 * b + 6))), .int (jI pd), .int (jI (((zfly (zhrs f k) b)) (13 + 9 * b + 8)))])) t (js_ob true 8 [.ref th, .int (jI (((k : Int)) + 1)), .ref x]))
    exact js_vret rfl dX9_goesOn_34 ⟨rfl, by rw [show zBt (zhrs f (k + 1)) b pd = zBt (zfly (zhrs f k) b) b pd from by rw [show zfly (zhrs f k) b = z1 (zhrs f k) b from (if_neg (by omega)).symm]; exact (zBt_hr iK ⟨hb.1, by omega⟩ (by omega)).symm]⟩
theorem xc_tin {ρ : js_R} {h : js_H} {em : Nat} {T : Int} {P : Nat → Prop} {B : Nat → Nat} {Bb Bs : Int → Nat} {f : zF} {x : Nat} {u1 u2 u3 u4 u5 u6 u7 : Value} {t th : Nat} {b pd : Int} {n : Nat} (hx : h x = some (js_ob true 0 [.ref (B 0), u1, u2, u3, u4, u5, u6, u7])) (hZ : zSt em T P B Bb Bs f h) {T2 : Int} (hI : zI T2 f) (hT : T2 + 1000 ≤ 1000000) (ht : h t = some (js_ob true 8 [.ref th, .int (jI 0), .ref x])) (hth : h th = some (zBt (zhrs f 0) b pd)) (nt : ¬ P t ∧ zNe t em) (nth : ¬ P th ∧ zNe th em) (hb : 0 ≤ b ∧ b < f 0) (hn : n ≤ 60) : js_Con ρ mX9_in 7 0 0 [.ref t, .int (jI ((n : Int)))] h (fun r h' => r = .inl (some (.ref t)) ∧ zFr (fun a => a = t ∨ a = th) h h' ∧ h' t = some (js_ob true 8 [.ref th, .int (jI ((n : Nat) : Int)), .ref x]) ∧ h' th = some (zBt (zhrs f n) b pd)) := by
  refine js_body [(0, .ref t), (1, .int (jI ((n : Int))))] rfl (by decide) (Nat.le_of_ble_eq_true rfl) rfl ?_
  have ntt : zNe t th := js_nek ht hth (js_kOO (by decide))
  have nxt : zNe x t := js_nek hx ht (js_kOO (by decide))
  have nxth : zNe x th := js_nek hx hth (js_kOO (by decide))
  have h01 := zI_01 hI
  obtain ⟨z_10, z_11, ⟨mb_1, rb_1, z_12⟩, ⟨ms_1, rs_1, z_13⟩, z_14, z_15, z_16, z_17, z_18, z_19, z_110, z_111, z_112⟩ := id hZ
  obtain ⟨sa_1, sb_1, sc_1, sd_1, se_1, sf_1, sg_1⟩ := z_111
  obtain ⟨wb_1, cb_1, gb_1, heb_1, rcb_1, hgb_1⟩ := zL_rd z_17 z_10 (by omega)
  obtain ⟨ws_1, cs_1, gs_1, hes_1, rcs_1, hgs_1⟩ := zL_rd z_18 z_10 (by omega)
  obtain ⟨gm_1, ze_1⟩ := z_10
  refine js_loop (σ := Nat × js_H) (fun s => (s.1 : Int) ≤ n ∧ (s.1 : Int) ≤ 70 ∧ zFr (fun a => a = t ∨ a = th) h s.2 ∧ s.2 t = some (js_ob true 8 [.ref th, .int (jI ((s.1 : Nat) : Int)), .ref x]) ∧ s.2 th = some (zBt (zhrs f s.1) b pd)) (fun s => n - s.1) (fun s => 0) (fun s => 0) 0 (fun s => [(0, .ref t), (1, .int (jI ((n : Int))))]) (fun s => []) (fun s => s.2) (fun s hk IHs => ?_) (0, h) (⟨by omega, by omega, zFr_refl, ht, hth⟩)
  obtain ⟨k, g⟩ := s
  have hk : (k : Int) ≤ n ∧ (k : Int) ≤ 70 ∧ zFr (fun a => a = t ∨ a = th) h g ∧ g t = some (js_ob true 8 [.ref th, .int (jI ((k : Nat) : Int)), .ref x]) ∧ g th = some (zBt (zhrs f k) b pd) := hk
  show js_ok ρ mX9_in _ 7 0 0 0 [(0, .ref t), (1, .int (jI ((n : Int))))] [] g
  obtain ⟨ykn, hk⟩ := hk
  obtain ⟨yk, yfr, yt, yth⟩ := hk
  have yZ := zSt_out hZ (Int.le_refl _) yfr (fun a p q => q.elim (fun z => nt.1 (z ▸ p)) (fun z => nth.1 (z ▸ p))) (fun q => q.elim (fun z => nt.2 z.symm) (fun z => nth.2 z.symm))
  have yx := yfr x _ (fun q => q.elim (fun z => absurd (z ▸ hx) (by rw [ht]; exact fun z => by cases z)) (fun z => absurd (z ▸ hx) (by rw [hth]; exact fun z => by cases z))) hx
  obtain ⟨iK, e0, e1⟩ := zhrs_I hI k (by omega)
  have hBK := zI_B iK hb.1 (by omega)
  unfold zIB at hBK
  refine js_aload_n 0 dX9_in_0 rfl ?_
  refine gX9_49 rfl dX9_in_1 yt rfl ?_
  refine js_iload_n 1 dX9_in_4 rfl ?_
  refine js_icmp_ge (tgt := 15) dX9_in_5 (by decide) (by omega) (fun c2 => ?_) (fun c2 => ?_)
  · refine js_aload_n 0 dX9_in_15 rfl ?_
    exact js_aret rfl (Or.inl ⟨_, rfl⟩) (Or.inr ⟨_, rfl⟩) dX9_in_16 ⟨rfl, yfr, by rw [show n = k by omega]; exact yt, by rw [show n = k by omega]; exact yth⟩
  · refine js_aload_n 0 dX9_in_8 rfl ?_
    refine eX9_53 rfl dX9_in_9 yt (xc_tgo yx yZ hI hT yt yth nt nth hb (by omega)) (Nat.le_of_ble_eq_true rfl) (Nat.le_of_ble_eq_true rfl) ?_
    show js_ok ρ mX9_in _ 7 0 0 12 [(0, .ref t), (1, .int (jI ((n : Int))))] [] (js_up (js_up g th (js_ob true 4 [.int (jI (zpt ((zhrs f (k + 1))) b)), .int (jI (((zhrs f (k + 1))) (13 + 9 * b + 2))), .int (jI (((zhrs f (k + 1))) (13 + 9 * b + 3))), .int (jI (((zhrs f (k + 1))) (13 + 9 * b + 4))), .int (jI (((zhrs f (k + 1))) (13 + 9 * b + 5))), .int (jI (((zhrs f (k + 1))) (13 + 9 * b + 6))), .int (jI pd), .int (jI (((zhrs f (k + 1))) (13 + 9 * b + 8)))])) t (js_ob true 8 [.ref th, .int (jI ((((k : Nat) : Int)) + 1)), .ref x]))
    refine js_goto (tgt := 0) dX9_in_12 (by decide) ?_
    exact IHs ((k + 1), (js_up (js_up g th (js_ob true 4 [.int (jI (zpt ((zhrs f (k + 1))) b)), .int (jI (((zhrs f (k + 1))) (13 + 9 * b + 2))), .int (jI (((zhrs f (k + 1))) (13 + 9 * b + 3))), .int (jI (((zhrs f (k + 1))) (13 + 9 * b + 4))), .int (jI (((zhrs f (k + 1))) (13 + 9 * b + 5))), .int (jI (((zhrs f (k + 1))) (13 + 9 * b + 6))), .int (jI pd), .int (jI (((zhrs f (k + 1))) (13 + 9 * b + 8)))])) t (js_ob true 8 [.ref th, .int (jI ((((k : Nat) : Int)) + 1)), .ref x]))) (show (((k + 1)) : Int) ≤ n ∧ (((k + 1)) : Int) ≤ 70 ∧ zFr (fun a => a = t ∨ a = th) h ((js_up (js_up g th (js_ob true 4 [.int (jI (zpt ((zhrs f (k + 1))) b)), .int (jI (((zhrs f (k + 1))) (13 + 9 * b + 2))), .int (jI (((zhrs f (k + 1))) (13 + 9 * b + 3))), .int (jI (((zhrs f (k + 1))) (13 + 9 * b + 4))), .int (jI (((zhrs f (k + 1))) (13 + 9 * b + 5))), .int (jI (((zhrs f (k + 1))) (13 + 9 * b + 6))), .int (jI pd), .int (jI (((zhrs f (k + 1))) (13 + 9 * b + 8)))])) t (js_ob true 8 [.ref th, .int (jI ((((k : Nat) : Int)) + 1)), .ref x]))) ∧ ((js_up (js_up g th (js_ob true 4 [.int (jI (zpt ((zhrs f (k + 1))) b)), .int (jI (((zhrs f (k + 1))) (13 + 9 * b + 2))), .int (jI (((zhrs f (k + 1))) (13 + 9 * b + 3))), .int (jI (((zhrs f (k + 1))) (13 + 9 * b + 4))), .int (jI (((zhrs f (k + 1))) (13 + 9 * b + 5))), .int (jI (((zhrs f (k + 1))) (13 + 9 * b + 6))), .int (jI pd), .int (jI (((zhrs f (k + 1))) (13 + 9 * b + 8)))])) t (js_ob true 8 [.ref th, .int (jI ((((k : Nat) : Int)) + 1)), .ref x]))) t = some (js_ob true 8 [.ref th, .int (jI ((((k + 1)) : Nat) : Int)), .ref x]) ∧ ((js_up (js_up g th (js_ob true 4 [.int (jI (zpt ((zhrs f (k + 1))) b)), .int (jI (((zhrs f (k + 1))) (13 + 9 * b + 2))), .int (jI (((zhrs f (k + 1))) (13 + 9 * b + 3))), .int (jI (((zhrs f (k + 1))) (13 + 9 * b + 4))), .int (jI (((zhrs f (k + 1))) (13 + 9 * b + 5))), .int (jI (((zhrs f (k + 1))) (13 + 9 * b + 6))), .int (jI pd), .int (jI (((zhrs f (k + 1))) (13 + 9 * b + 8)))])) t (js_ob true 8 [.ref th, .int (jI ((((k : Nat) : Int)) + 1)), .ref x]))) th = some (zBt (zhrs f ((k + 1))) b pd) from ⟨by omega, by omega, zFr_up (zFr_up yfr (Or.inr rfl)) (Or.inl rfl), js_up_s, ((js_up_n (Ne.symm ntt)).trans js_up_s)⟩) (show n - ((k + 1)) < n - k by omega)
theorem xc_ttg {ρ : js_R} {h : js_H} {em : Nat} {T : Int} {P : Nat → Prop} {B : Nat → Nat} {Bb Bs : Int → Nat} {f : zF} {x : Nat} {u1 u2 u3 u4 u5 u6 u7 : Value} {t th : Nat} {b pd : Int} (hx : h x = some (js_ob true 0 [.ref (B 0), u1, u2, u3, u4, u5, u6, u7])) (hZ : zSt em T P B Bb Bs f h) {T2 : Int} (hI : zI T2 f) (hT : T2 + 1000 ≤ 1000000) (ht : h t = some (js_ob true 8 [.ref th, .int (jI 0), .ref x])) (hth : h th = some (zBt (zhrs f 0) b pd)) (nt : ¬ P t ∧ zNe t em) (nth : ¬ P th ∧ zNe th em) (hb : 0 ≤ b ∧ b < f 0)  : js_Con ρ mX9_tillGround 7 0 0 [.ref t] h (fun r h' => r = .inl (some (.ref t)) ∧ zFr (fun a => a = t ∨ a = th) h h' ∧ h' t = some (js_ob true 8 [.ref th, .int (jI (((zli f b) : Nat) : Int)), .ref x]) ∧ h' th = some (zBt (zhrs f (zli f b)) b pd)) := by
  refine js_body [(0, .ref t)] rfl (by decide) (Nat.le_of_ble_eq_true rfl) rfl ?_
  have ntt : zNe t th := js_nek ht hth (js_kOO (by decide))
  have nxt : zNe x t := js_nek hx ht (js_kOO (by decide))
  have nxth : zNe x th := js_nek hx hth (js_kOO (by decide))
  have h01 := zI_01 hI
  obtain ⟨z_10, z_11, ⟨mb_1, rb_1, z_12⟩, ⟨ms_1, rs_1, z_13⟩, z_14, z_15, z_16, z_17, z_18, z_19, z_110, z_111, z_112⟩ := id hZ
  obtain ⟨sa_1, sb_1, sc_1, sd_1, se_1, sf_1, sg_1⟩ := z_111
  obtain ⟨wb_1, cb_1, gb_1, heb_1, rcb_1, hgb_1⟩ := zL_rd z_17 z_10 (by omega)
  obtain ⟨ws_1, cs_1, gs_1, hes_1, rcs_1, hgs_1⟩ := zL_rd z_18 z_10 (by omega)
  obtain ⟨gm_1, ze_1⟩ := z_10
  refine js_loop (σ := Nat × js_H) (fun s => (s.1 : Int) ≤ 70 ∧ zFr (fun a => a = t ∨ a = th) h s.2 ∧ s.2 t = some (js_ob true 8 [.ref th, .int (jI ((s.1 : Nat) : Int)), .ref x]) ∧ s.2 th = some (zBt (zhrs f s.1) b pd) ∧ (∀ j : Nat, j < s.1 → 0 < zhrs f j (13 + 9 * b + 2))) (fun s => 70 - s.1) (fun s => 0) (fun s => 0) 0 (fun s => [(0, .ref t)]) (fun s => []) (fun s => s.2) (fun s hk IHs => ?_) (0, h) (⟨by omega, zFr_refl, ht, hth, fun j z => absurd z (Nat.not_lt_zero j)⟩)
  obtain ⟨k, g⟩ := s
  have hk : (k : Int) ≤ 70 ∧ zFr (fun a => a = t ∨ a = th) h g ∧ g t = some (js_ob true 8 [.ref th, .int (jI ((k : Nat) : Int)), .ref x]) ∧ g th = some (zBt (zhrs f k) b pd) ∧ (∀ j : Nat, j < k → 0 < zhrs f j (13 + 9 * b + 2)) := hk
  show js_ok ρ mX9_tillGround _ 7 0 0 0 [(0, .ref t)] [] g
  obtain ⟨yk, yfr, yt, yth, yP⟩ := hk
  have yZ := zSt_out hZ (Int.le_refl _) yfr (fun a p q => q.elim (fun z => nt.1 (z ▸ p)) (fun z => nth.1 (z ▸ p))) (fun q => q.elim (fun z => nt.2 z.symm) (fun z => nth.2 z.symm))
  have yx := yfr x _ (fun q => q.elim (fun z => absurd (z ▸ hx) (by rw [ht]; exact fun z => by cases z)) (fun z => absurd (z ▸ hx) (by rw [hth]; exact fun z => by cases z))) hx
  obtain ⟨iK, e0, e1⟩ := zhrs_I hI k (by omega)
  have hBK := zI_B iK hb.1 (by omega)
  unfold zIB at hBK
  have pot := zpot hI hb k (by omega) yP
  refine js_aload_n 0 dX9_tillGround_0 rfl ?_
  refine gX9_37 rfl dX9_tillGround_1 yt rfl ?_
  refine eX9_41 rfl dX9_tillGround_4 yth (con_flies yth (by omega)) (Nat.le_of_ble_eq_true rfl) (Nat.le_of_ble_eq_true rfl) ?_
  refine js_if_eqB (tgt := 17) dX9_tillGround_7 (by decide) (fun c2 => ?_) (fun c2 => ?_)
  · have ek : zli f b = k := zfst_eq (P := fun j : Nat => 0 < zhrs f j (13 + 9 * b + 2)) yP (fun z => by omega) (by omega)
    refine js_aload_n 0 dX9_tillGround_17 rfl ?_
    exact js_aret rfl (Or.inl ⟨_, rfl⟩) (Or.inr ⟨_, rfl⟩) dX9_tillGround_18 ⟨rfl, yfr, by rw [ek]; exact yt, by rw [ek]; exact yth⟩
  · refine js_aload_n 0 dX9_tillGround_10 rfl ?_
    refine eX9_53 rfl dX9_tillGround_11 yt (xc_tgo yx yZ hI hT yt yth nt nth hb (by omega)) (Nat.le_of_ble_eq_true rfl) (Nat.le_of_ble_eq_true rfl) ?_
    show js_ok ρ mX9_tillGround _ 7 0 0 14 [(0, .ref t)] [] (js_up (js_up g th (js_ob true 4 [.int (jI (zpt ((zhrs f (k + 1))) b)), .int (jI (((zhrs f (k + 1))) (13 + 9 * b + 2))), .int (jI (((zhrs f (k + 1))) (13 + 9 * b + 3))), .int (jI (((zhrs f (k + 1))) (13 + 9 * b + 4))), .int (jI (((zhrs f (k + 1))) (13 + 9 * b + 5))), .int (jI (((zhrs f (k + 1))) (13 + 9 * b + 6))), .int (jI pd), .int (jI (((zhrs f (k + 1))) (13 + 9 * b + 8)))])) t (js_ob true 8 [.ref th, .int (jI ((((k : Nat) : Int)) + 1)), .ref x]))
    refine js_goto (tgt := 0) dX9_tillGround_14 (by decide) ?_
    exact IHs ((k + 1), (js_up (js_up g th (js_ob true 4 [.int (jI (zpt ((zhrs f (k + 1))) b)), .int (jI (((zhrs f (k + 1))) (13 + 9 * b + 2))), .int (jI (((zhrs f (k + 1))) (13 + 9 * b + 3))), .int (jI (((zhrs f (k + 1))) (13 + 9 * b + 4))), .int (jI (((zhrs f (k + 1))) (13 + 9 * b + 5))), .int (jI (((zhrs f (k + 1))) (13 + 9 * b + 6))), .int (jI pd), .int (jI (((zhrs f (k + 1))) (13 + 9 * b + 8)))])) t (js_ob true 8 [.ref th, .int (jI ((((k : Nat) : Int)) + 1)), .ref x]))) (show (((k + 1)) : Int) ≤ 70 ∧ zFr (fun a => a = t ∨ a = th) h ((js_up (js_up g th (js_ob true 4 [.int (jI (zpt ((zhrs f (k + 1))) b)), .int (jI (((zhrs f (k + 1))) (13 + 9 * b + 2))), .int (jI (((zhrs f (k + 1))) (13 + 9 * b + 3))), .int (jI (((zhrs f (k + 1))) (13 + 9 * b + 4))), .int (jI (((zhrs f (k + 1))) (13 + 9 * b + 5))), .int (jI (((zhrs f (k + 1))) (13 + 9 * b + 6))), .int (jI pd), .int (jI (((zhrs f (k + 1))) (13 + 9 * b + 8)))])) t (js_ob true 8 [.ref th, .int (jI ((((k : Nat) : Int)) + 1)), .ref x]))) ∧ ((js_up (js_up g th (js_ob true 4 [.int (jI (zpt ((zhrs f (k + 1))) b)), .int (jI (((zhrs f (k + 1))) (13 + 9 * b + 2))), .int (jI (((zhrs f (k + 1))) (13 + 9 * b + 3))), .int (jI (((zhrs f (k + 1))) (13 + 9 * b + 4))), .int (jI (((zhrs f (k + 1))) (13 + 9 * b + 5))), .int (jI (((zhrs f (k + 1))) (13 + 9 * b + 6))), .int (jI pd), .int (jI (((zhrs f (k + 1))) (13 + 9 * b + 8)))])) t (js_ob true 8 [.ref th, .int (jI ((((k : Nat) : Int)) + 1)), .ref x]))) t = some (js_ob true 8 [.ref th, .int (jI ((((k + 1)) : Nat) : Int)), .ref x]) ∧ ((js_up (js_up g th (js_ob true 4 [.int (jI (zpt ((zhrs f (k + 1))) b)), .int (jI (((zhrs f (k + 1))) (13 + 9 * b + 2))), .int (jI (((zhrs f (k + 1))) (13 + 9 * b + 3))), .int (jI (((zhrs f (k + 1))) (13 + 9 * b + 4))), .int (jI (((zhrs f (k + 1))) (13 + 9 * b + 5))), .int (jI (((zhrs f (k + 1))) (13 + 9 * b + 6))), .int (jI pd), .int (jI (((zhrs f (k + 1))) (13 + 9 * b + 8)))])) t (js_ob true 8 [.ref th, .int (jI ((((k : Nat) : Int)) + 1)), .ref x]))) th = some (zBt (zhrs f ((k + 1))) b pd) ∧ (∀ j : Nat, j < ((k + 1)) → 0 < zhrs f j (13 + 9 * b + 2)) from ⟨by omega, zFr_up (zFr_up yfr (Or.inr rfl)) (Or.inl rfl), js_up_s, ((js_up_n (Ne.symm ntt)).trans js_up_s), fun j z => by
          by_cases q : j = k
          · subst q; omega
          · exact yP j (by omega)⟩) (show 70 - ((k + 1)) < 70 - k by omega)
theorem xc_tinit {ρ : js_R} {h : js_H} {em : Nat} {T : Int} {P : Nat → Prop} {B : Nat → Nat} {Bb Bs : Int → Nat} {f : zF} {x : Nat} {u1 u2 u3 u4 u5 u6 u7 : Value} {t : Nat} {b : Int} (hx : h x = some (js_ob true 0 [.ref (B 0), u1, u2, u3, u4, u5, u6, u7])) (hZ : zSt em T P B Bb Bs f h) {T2 : Int} (hI : zI T2 f) (ht : h t = some (js_ob true 8 [.null, .int (jI 0), .null])) (hb : 0 ≤ b ∧ b < f 0) : js_Con ρ mX9_init 3 1 8 [.ref t, .ref x, .int (jI b)] h (fun r h' => ∃ th : Nat, r = .inl none ∧ h th = none ∧ h' = js_up (js_up h th (zBt (zhrs f 0) b (f (13 + 9 * b + 7)))) t (js_ob true 8 [.ref th, .int (jI 0), .ref x])) := by
  refine js_body [(0, .ref t), (1, .ref x), (2, .int (jI b))] rfl (by decide) (Nat.le_of_ble_eq_true rfl) rfl ?_
  have h01 := zI_01 hI
  obtain ⟨z_10, z_11, ⟨mb_1, rb_1, z_12⟩, ⟨ms_1, rs_1, z_13⟩, z_14, z_15, z_16, z_17, z_18, z_19, z_110, z_111, z_112⟩ := id hZ
  obtain ⟨sa_1, sb_1, sc_1, sd_1, se_1, sf_1, sg_1⟩ := z_111
  obtain ⟨wb_1, cb_1, gb_1, heb_1, rcb_1, hgb_1⟩ := zL_rd z_17 z_10 (by omega)
  obtain ⟨ws_1, cs_1, gs_1, hes_1, rcs_1, hgs_1⟩ := zL_rd z_18 z_10 (by omega)
  obtain ⟨gm_1, ze_1⟩ := z_10
  have nB0 : zNe (B 0) t := js_nek z_11 ht (js_kOO (by decide))
  have nB1 : zNe (B 1) t := js_nek z_12 ht (js_kOO (by decide))
  have nB6 : zNe (B 6) t := js_nek heb_1 ht js_kQO
  have nxt : zNe x t := js_nek hx ht (js_kOO (by decide))
  refine js_aload_n 0 dX9_init_0 rfl ?_
  refine js_aload_n 1 dX9_init_1 rfl ?_
  refine pX9_1 rfl rfl dX9_init_2 ht (Nat.le_of_ble_eq_true rfl) rfl rfl ?_
  show js_ok ρ mX9_init _ 3 1 8 5 [(0, .ref t), (1, .ref x), (2, .int (jI b))] [] (js_up h t (js_ob true 8 [.null, .int (jI 0), .ref x]))
  refine js_aload_n 0 dX9_init_5 rfl ?_
  refine js_oinit q1455 q156 q157 (Nat.le_of_ble_eq_true rfl) (Nat.le_of_ble_eq_true rfl) dX9_init_6 ?_
  refine js_aload_n 0 dX9_init_9 rfl ?_
  refine js_aload_n 1 dX9_init_10 rfl ?_
  refine gX9_13 rfl dX9_init_11 ((js_up_n nxt).trans hx) rfl ?_
  refine gX9_19 rfl dX9_init_14 ((js_up_n nB0).trans z_11) rfl ?_
  refine js_iload_n 2 dX9_init_17 rfl ?_
  refine eX9_25 rfl dX9_init_18 ((js_up_n nB1).trans z_12) (con_lget ((js_up_n nB1).trans z_12) (by omega) ((js_up_n nB6).trans heb_1) (by omega) (by omega)) (Nat.le_of_ble_eq_true rfl) (Nat.le_of_ble_eq_true rfl) ?_
  rw [show gb_1 b = some (Bb b) from hgb_1 _ (by omega) (by omega)]
  show js_ok ρ mX9_init _ 3 1 8 21 [(0, .ref t), (1, .ref x), (2, .int (jI b))] [.ref (Bb b), .ref t] (js_up h t (js_ob true 8 [.null, .int (jI 0), .ref x]))
  refine js_castS (r := (RX5, TX5, 8)) rfl q1457 dX9_init_21 ((js_up_n (js_nek (z_19 b (by omega) (by omega)) ht (js_kOO (by decide)))).trans (z_19 b (by omega) (by omega))) ?_
  refine vX9_33 (kc' := 0) (ks' := 0) rfl dX9_init_24 ((js_up_n (js_nek (z_19 b (by omega) (by omega)) ht (js_kOO (by decide)))).trans (z_19 b (by omega) (by omega))) (con_bcopy ((js_up_n (js_nek (z_19 b (by omega) (by omega)) ht (js_kOO (by decide)))).trans (z_19 b (by omega) (by omega)))) (Nat.le_of_ble_eq_true rfl) (by omega) (by omega) (Nat.le_of_ble_eq_true rfl) (fun v2 g2 q2 => ?_) (fun E2 g2 q2 => by obtain ⟨_, q2, _⟩ := q2; cases q2)
  obtain ⟨o2, e2, hf_o2, rfl⟩ := q2
  cases e2
  show js_ok ρ mX9_init _ 3 0 0 27 [(0, .ref t), (1, .ref x), (2, .int (jI b))] [.ref o2, .ref t] (js_up (js_up h t (js_ob true 8 [.null, .int (jI 0), .ref x])) o2 (js_ob true 4 [.int (jI (zpt f b)), .int (jI (f (13 + 9 * b + 2))), .int (jI (f (13 + 9 * b + 3))), .int (jI (f (13 + 9 * b + 4))), .int (jI (f (13 + 9 * b + 5))), .int (jI (f (13 + 9 * b + 6))), .int (jI (f (13 + 9 * b + 7))), .int (jI (f (13 + 9 * b + 8)))]))
  refine pX9_37 rfl rfl dX9_init_27 ((js_up_n (js_nef js_up_s hf_o2)).trans js_up_s) (Nat.le_of_ble_eq_true rfl) rfl rfl ?_
  show js_ok ρ mX9_init _ 3 0 0 30 [(0, .ref t), (1, .ref x), (2, .int (jI b))] [] (js_up (js_up (js_up h t (js_ob true 8 [.null, .int (jI 0), .ref x])) o2 (js_ob true 4 [.int (jI (zpt f b)), .int (jI (f (13 + 9 * b + 2))), .int (jI (f (13 + 9 * b + 3))), .int (jI (f (13 + 9 * b + 4))), .int (jI (f (13 + 9 * b + 5))), .int (jI (f (13 + 9 * b + 6))), .int (jI (f (13 + 9 * b + 7))), .int (jI (f (13 + 9 * b + 8)))])) t (js_ob true 8 [.ref o2, .int (jI 0), .ref x]))
  exact js_vret rfl dX9_init_30 ⟨o2, rfl, zup_none hf_o2, by rw [js_up_comm (js_nef js_up_s hf_o2), js_up_up]; rfl⟩
