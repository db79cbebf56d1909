set_option maxRecDepth 100000
/-! State.copy -/
def zcpb (f : zF) (k : Int) : zF := fun j => if j = 0 then k else if 13 ≤ j ∧ j < 13 + 9 * k then f j else 0
def zcps (f : zF) (k : Int) : zF := fun j => if j = 1 then k else if 67 ≤ j ∧ j < 67 + 4 * k then f j else zcpb f (f 0) j
def zcpa (f : zF) (k : Int) : zF := fun j => if (87 ≤ j ∧ j < 87 + k) ∨ (187 ≤ j ∧ j < 187 + k) then f j else zcps f (f 1) j
def zcpw (f : zF) (k : Int) : zF := fun j => if 8 ≤ j ∧ j < 7 + k then f j else zcpa f 100 j
def zcpt (f : zF) : zF := fun j => if 2 ≤ j ∧ j < 8 then f j else zcpw f 6 j
/-- a copy in new cells -/
def zCpy (em : Nat) (f : zF) (h : js_H) : js_Q := fun r h' => ∃ c : Nat, r = .inl (some (.ref c)) ∧ (∃ (C : Nat → Nat) (Cb Cs : Int → Nat) (P2 : Nat → Prop), C 0 = c ∧ zSt em 11 P2 C Cb Cs f h' ∧ ∀ a, P2 a → h a = none) ∧ zFr (fun _ => False) h h'
theorem zcpt_cg {em : Nat} {P : Nat → Prop} {B : Nat → Nat} {Bb Bs : Int → Nat} {f : zF} {h : js_H} (h6 : 0 ≤ f 0 ∧ f 0 ≤ 6 ∧ 0 ≤ f 1 ∧ f 1 ≤ 5) (hZ : zSt em 11 P B Bb Bs (zcpt f) h) : zSt em 11 P B Bb Bs f h := by
  have e : ∀ j : Int, 0 ≤ j → j < 13 → zcpt f j = f j := fun j a b => by
    unfold zcpt zcpw zcpa zcps zcpb
    by_cases q0 : j = 0
    · subst q0; rfl
    · by_cases q1 : j = 1
      · subst q1; rfl
      · (repeat' split) <;> first | rfl | omega
  have e0 := e 0 (by decide) (by decide)
  have e1 := e 1 (by decide) (by decide)
  have eb : ∀ b k : Int, 0 ≤ b → b < f 0 → 0 ≤ k → k < 9 → zcpt f (13 + 9 * b + k) = f (13 + 9 * b + k) := fun b k b1 b2 k1 k2 => by
    unfold zcpt zcpw zcpa zcps zcpb
    rw [if_neg (by omega), if_neg (by omega), if_neg (by omega), if_neg (by omega), if_neg (by omega), if_neg (by omega), if_pos (by omega)]
  refine zSt_cg hZ (by omega) (fun k a b => (e k a b).symm) (fun b k b1 b2 k1 k2 => (eb b k b1 (by omega) (by omega) k2).symm) (fun b b1 b2 => ?_) (fun i k i1 i2 k1 k2 => ?_) (fun p p1 p2 => ?_) (fun p p1 p2 => ?_)
  · unfold zpt
    rw [eb b 1 b1 (by omega) (by decide) (by decide), eb b 0 b1 (by omega) (by decide) (by decide)]
  · unfold zcpt zcpw zcpa zcps
    rw [if_neg (by omega), if_neg (by omega), if_neg (by omega), if_neg (by omega), if_pos (by omega)]
  · unfold zcpt zcpw zcpa
    rw [if_neg (by omega), if_neg (by omega), if_pos (by omega)]
  · unfold zcpt zcpw zcpa
    rw [if_neg (by omega), if_neg (by omega), if_pos (by omega)]
theorem zup_ne' {h : js_H} {a b : Nat} {e : js_E} (k : js_up h a e b = none) : b ≠ a := zup_ne k
/-- what is new later was new before -/
theorem zn_fr {h g : js_H} {a : Nat} (k : zFr (fun _ => False) h g) (n : g a = none) : h a = none := by
  cases hx : h a with
  | none => rfl
  | some x => rw [k a x (fun z => z) hx] at n; cases n
theorem zFr_trans3 {h g g' : js_H} {P2 : Nat → Prop} {it o : Nat} {e1 e2 e3 : js_E} (k : zFr (fun _ => False) h g) (p : ∀ a, P2 a → h a = none) (ho : js_up g it e1 o = none) (hi : g it = some e3) (l : zFr P2 (js_up (js_up g it e1) o e2) g') (ni : h it = none) : zFr (fun _ => False) h g' := fun a x n hx => by
  have hg := k a x n hx
  refine l a x (fun z => by rw [p a z] at hx; cases hx) ?_
  rw [js_up_n (fun z : a = o => by rw [z, zn_fr k (zup_none ho)] at hx; cases hx), js_up_n (fun z : a = it => by rw [z, ni] at hx; cases hx)]
  exact hg
theorem zc_copy {ρ : js_R} {h : js_H} {em : Nat} {T : Int} {P : Nat → Prop} {B : Nat → Nat} {Bb Bs : Int → Nat} {f : zF} (hZ : zSt em T P B Bb Bs f h) {T2 : Int} (hI : zI T2 f) (hE : js_sv ρ 1 = .ref em) (hT : T ≤ 1000000) : js_Con ρ mX2_copy 7 31 404 [.ref (B 0)] h (zCpy em f h) := by
  refine js_body [(0, .ref (B 0))] rfl (by decide) (Nat.le_of_ble_eq_true rfl) rfl ?_
  have h01 := zI_01 hI
  obtain ⟨z_10, z_11, ⟨mb_1, rb_1, z_12⟩, ⟨ms_1, rs_1, z_13⟩, z_14, z_15, z_16, z_17, z_18, z_19, z_110, z_111, z_112⟩ := id hZ
  obtain ⟨sa_1, sb_1, sc_1, sd_1, se_1, sf_1, sg_1⟩ := z_111
  obtain ⟨wb_1, cb_1, gb_1, heb_1, rcb_1, hgb_1⟩ := zL_rd z_17 z_10 (by omega)
  obtain ⟨ws_1, cs_1, gs_1, hes_1, rcs_1, hgs_1⟩ := zL_rd z_18 z_10 (by omega)
  obtain ⟨gm_1, ze_1⟩ := z_10
  refine nX2_13 (kc' := 30) (ks' := 393) rfl dX2_copy_0 (by omega) (by omega) (fun a2 hf_a2 hB_a2 => ?_)
  refine js_dup dX2_copy_3 rfl ?_
  refine vX2_31 (kc' := 25) (ks' := 181) rfl dX2_copy_4 (zc_init js_up_s ((js_up_n (js_nef ze_1 hf_a2)).trans ze_1) hE) (Nat.le_of_ble_eq_true rfl) (by omega) (by omega) (Nat.le_of_ble_eq_true rfl) (fun v3 g3 q3 => ?_) (fun E3 g3 q3 => by cases q3.1)
  obtain ⟨e3, ⟨C0, Cb0, Cs0, P0, hc0, zC0, hP0⟩, fr3⟩ := q3
  cases e3
  have fr0 : zFr (fun _ => False) h g3 := fun a x _ hx => fr3 a x (fun z => by rw [z, hf_a2] at hx; cases hx) ((js_up_n (fun z => by rw [z, hf_a2] at hx; cases hx)).trans hx)
  have hP0 : ∀ a, P0 a → h a = none := fun b p => by
    rcases hP0 b p with z | z
    · rw [z]; exact hf_a2
    · exact zup_none z
  have nB0c : zNe (B 0) a2 := js_nef z_11 hf_a2
  show js_ok ρ mX2_copy _ 7 25 181 7 [(0, .ref (B 0))] [.ref a2] g3
  refine js_astore_n (L' := [(1, .ref a2), (0, .ref (B 0))]) dX2_copy_7 (by decide) rfl ?_
  refine js_aload_n 1 dX2_copy_8 rfl ?_
  refine gX2_12 rfl dX2_copy_9 (fr0 _ _ (fun z => z) z_11) rfl ?_
  refine vX2_32 (kc' := 24) (ks' := 177) rfl dX2_copy_12 (fr0 _ _ (fun z => z) z_12) (con_liter (fr0 _ _ (fun z => z) z_12) (by omega)) (Nat.le_of_ble_eq_true rfl) (by omega) (by omega) (Nat.le_of_ble_eq_true rfl) (fun v4 g4 q4 => ?_) (fun E4 g4 q4 => by obtain ⟨_, q4, _⟩ := q4; cases q4)
  obtain ⟨it4, e4, hf_it4, rfl⟩ := q4
  cases e4
  show js_ok ρ mX2_copy _ 7 24 177 15 [(1, .ref a2), (0, .ref (B 0))] [.ref it4] (js_up g3 it4 (js_ob true 19 [.int (jI 0), .int (jI (-1)), .int (jI mb_1), .ref (B 1)]))
  refine js_astore_n (L' := [(2, .ref it4), (1, .ref a2), (0, .ref (B 0))]) dX2_copy_15 (by decide) rfl ?_
  have zn_it4_ : h it4 = none := zn_fr fr0 hf_it4
  refine js_sub (L' := [(0, .ref (B 0)), (1, .ref a2), (2, .ref it4)]) [2, 1, 0] rfl ?_
  have z0 : zSt em 0 P0 C0 Cb0 Cs0 (zcpb f 0) g3 := by
    rw [show zcpb f 0 = fun _ => 0 from by funext j; unfold zcpb; (repeat' split) <;> first | rfl | omega]; exact zC0
  have nit := zSt_new2 zC0 hf_it4
  refine js_ok.more (js_loop (σ := Int × (Nat → Nat) × (Int → Nat) × (Int → Nat) × (Nat → Prop) × js_H) (fun s => (0 ≤ s.1 ∧ s.1 ≤ f 0) ∧ s.2.1 0 = a2 ∧ zSt em s.1 s.2.2.2.2.1 s.2.1 s.2.2.1 s.2.2.2.1 (zcpb f s.1) s.2.2.2.2.2 ∧ (∀ a, s.2.2.2.2.1 a → h a = none) ∧ ¬ s.2.2.2.2.1 it4 ∧ (∃ lr : Int, s.2.2.2.2.2 it4 = some (js_ob true 19 [.int (jI s.1), .int (jI lr), .int (jI mb_1), .ref (B 1)])) ∧ zFr (fun _ => False) h s.2.2.2.2.2) (fun s => (f 0 - s.1).toNat) (fun s => (2 * (6 - s.1).toNat + 11)) (fun s => (18 * (6 - s.1).toNat + 69)) 16 (fun s => [(0, .ref (B 0)), (1, .ref a2), (2, .ref it4)]) (fun s => []) (fun s => s.2.2.2.2.2) (fun s hk IHs => ?_) (0, C0, Cb0, Cs0, P0, (js_up g3 it4 (js_ob true 19 [.int (jI 0), .int (jI (-1)), .int (jI mb_1), .ref (B 1)]))) (⟨by omega, hc0, zSt_upO z0 nit.1 nit.2, hP0, nit.1, ⟨-1, js_up_s⟩, zFr_new fr0 hf_it4⟩)) (Nat.le_refl _) (by omega) (by omega)
  obtain ⟨k, C, Cb, Cs, P2, g⟩ := s
  have hk : (0 ≤ k ∧ k ≤ f 0) ∧ C 0 = a2 ∧ zSt em k P2 C Cb Cs (zcpb f k) g ∧ (∀ a, P2 a → h a = none) ∧ ¬ P2 it4 ∧ (∃ lr : Int, g it4 = some (js_ob true 19 [.int (jI k), .int (jI lr), .int (jI mb_1), .ref (B 1)])) ∧ zFr (fun _ => False) h g := hk
  show js_ok ρ mX2_copy _ 7 ((2 * (6 - k).toNat + 11)) ((18 * (6 - k).toNat + 69)) 16 [(0, .ref (B 0)), (1, .ref a2), (2, .ref it4)] [] g
  obtain ⟨yk, yc, yC, yP, yit0, ⟨lr, yit⟩, yfr⟩ := hk
  have z9g := fun b b1 b2 => yfr _ _ (fun z => z) (z_19 b b1 b2)
  have z10g := fun b b1 b2 => yfr _ _ (fun z => z) (z_110 b b1 b2)
  have ez0 : zcpb f k 0 = k := if_pos rfl
  have ez1 : zcpb f k 1 = 0 := by unfold zcpb; rw [if_neg (by decide), if_neg (by omega)]
  obtain ⟨z_50, z_51, ⟨mb_5, rb_5, z_52⟩, ⟨ms_5, rs_5, z_53⟩, z_54, z_55, z_56, z_57, z_58, z_59, z_510, z_511, z_512⟩ := id yC
  obtain ⟨sa_5, sb_5, sc_5, sd_5, se_5, sf_5, sg_5⟩ := z_511
  obtain ⟨gm_5, ze_5⟩ := z_50
  have z_51 := z_51
  rw [yc] at z_51
  refine js_aload_n 2 dX2_copy_16 rfl ?_
  refine eX2_36_J12 rfl dX2_copy_17 yit (con_ithas yit (yfr _ _ (fun z => z) z_12) (by omega) (yfr _ _ (fun z => z) heb_1) (by omega) (by omega) (by omega)) (Nat.le_of_ble_eq_true rfl) (Nat.le_of_ble_eq_true rfl) ?_
  refine js_if_eqB (tgt := 50) dX2_copy_22 (by decide) (fun c6 => ?_) (fun c6 => ?_)
  · refine js_aload_n 0 dX2_copy_50 rfl ?_
    refine gX2_18 rfl dX2_copy_51 (yfr _ _ (fun z => z) z_11) rfl ?_
    refine vX2_32 (kc' := ((2 * (6 - k).toNat + 11) - 1)) (ks' := ((18 * (6 - k).toNat + 69) - 4)) rfl dX2_copy_54 (yfr _ _ (fun z => z) z_13) (con_liter (yfr _ _ (fun z => z) z_13) (by omega)) (Nat.le_of_ble_eq_true rfl) (by omega) (by omega) (Nat.le_of_ble_eq_true rfl) (fun v7 g7 q7 => ?_) (fun E7 g7 q7 => by obtain ⟨_, q7, _⟩ := q7; cases q7)
    obtain ⟨it7, e7, hf_it7, rfl⟩ := q7
    cases e7
    show js_ok ρ mX2_copy _ 7 (((2 * (6 - k).toNat + 11) - 1)) (((18 * (6 - k).toNat + 69) - 4)) 57 [(0, .ref (B 0)), (1, .ref a2), (2, .ref it4)] [.ref it7] (js_up g it7 (js_ob true 19 [.int (jI 0), .int (jI (-1)), .int (jI ms_1), .ref (B 2)]))
    refine js_astore_n (L' := [(2, .ref it7), (0, .ref (B 0)), (1, .ref a2)]) dX2_copy_57 (by decide) rfl ?_
    have zn_it7_ : h it7 = none := zn_fr yfr hf_it7
    refine js_sub (L' := [(0, .ref (B 0)), (1, .ref a2), (2, .ref it7)]) [1, 2, 0] rfl ?_
    have z0 : zSt em (6 + 0) P2 C Cb Cs (zcps f 0) g := by
      rw [show zcps f 0 = zcpb f k from by
        rw [show k = f 0 by omega]
        funext j
        unfold zcps
        by_cases q : j = 1
        · subst q; rfl
        · rw [if_neg q, if_neg (by omega)]]
      exact zSt_fr yC (by omega) (fun a e p q => q)
    have nit := zSt_new2 yC hf_it7
    refine js_ok.more (js_loop (σ := Int × (Nat → Nat) × (Int → Nat) × (Int → Nat) × (Nat → Prop) × js_H) (fun s => (0 ≤ s.1 ∧ s.1 ≤ f 1) ∧ s.2.1 0 = a2 ∧ zSt em (6 + s.1) s.2.2.2.2.1 s.2.1 s.2.2.1 s.2.2.2.1 (zcps f s.1) s.2.2.2.2.2 ∧ (∀ a, s.2.2.2.2.1 a → h a = none) ∧ ¬ s.2.2.2.2.1 it7 ∧ (∃ lr : Int, s.2.2.2.2.2 it7 = some (js_ob true 19 [.int (jI s.1), .int (jI lr), .int (jI ms_1), .ref (B 2)])) ∧ zFr (fun _ => False) h s.2.2.2.2.2) (fun s => (f 1 - s.1).toNat) (fun s => (2 * (5 - s.1).toNat + 0)) (fun s => (13 * (5 - s.1).toNat + 0)) 58 (fun s => [(0, .ref (B 0)), (1, .ref a2), (2, .ref it7)]) (fun s => []) (fun s => s.2.2.2.2.2) (fun s hk IHs => ?_) (0, C, Cb, Cs, P2, (js_up g it7 (js_ob true 19 [.int (jI 0), .int (jI (-1)), .int (jI ms_1), .ref (B 2)]))) (⟨by omega, yc, zSt_upO z0 nit.1 nit.2, yP, nit.1, ⟨-1, js_up_s⟩, zFr_new yfr hf_it7⟩)) (Nat.le_refl _) (by omega) (by omega)
    obtain ⟨k, C, Cb, Cs, P2, g⟩ := s
    have hk : (0 ≤ k ∧ k ≤ f 1) ∧ C 0 = a2 ∧ zSt em (6 + k) P2 C Cb Cs (zcps f k) g ∧ (∀ a, P2 a → h a = none) ∧ ¬ P2 it7 ∧ (∃ lr : Int, g it7 = some (js_ob true 19 [.int (jI k), .int (jI lr), .int (jI ms_1), .ref (B 2)])) ∧ zFr (fun _ => False) h g := hk
    show js_ok ρ mX2_copy _ 7 ((2 * (5 - k).toNat + 0)) ((13 * (5 - k).toNat + 0)) 58 [(0, .ref (B 0)), (1, .ref a2), (2, .ref it7)] [] g
    obtain ⟨yk, yc, yC, yP, yit0, ⟨lr, yit⟩, yfr⟩ := hk
    have z9g := fun b b1 b2 => yfr _ _ (fun z => z) (z_19 b b1 b2)
    have z10g := fun b b1 b2 => yfr _ _ (fun z => z) (z_110 b b1 b2)
    have ez0 : zcps f k 0 = f 0 := by unfold zcps zcpb; rw [if_neg (by decide), if_neg (by omega), if_pos rfl]
    have ez1 : zcps f k 1 = k := if_pos rfl
    obtain ⟨z_80, z_81, ⟨mb_8, rb_8, z_82⟩, ⟨ms_8, rs_8, z_83⟩, z_84, z_85, z_86, z_87, z_88, z_89, z_810, z_811, z_812⟩ := id yC
    obtain ⟨sa_8, sb_8, sc_8, sd_8, se_8, sf_8, sg_8⟩ := z_811
    obtain ⟨gm_8, ze_8⟩ := z_80
    have z_81 := z_81
    rw [yc] at z_81
    refine js_aload_n 2 dX2_copy_58 rfl ?_
    refine eX2_36_J12 rfl dX2_copy_59 yit (con_ithas yit (yfr _ _ (fun z => z) z_13) (by omega) (yfr _ _ (fun z => z) hes_1) (by omega) (by omega) (by omega)) (Nat.le_of_ble_eq_true rfl) (Nat.le_of_ble_eq_true rfl) ?_
    refine js_if_eqB (tgt := 92) dX2_copy_64 (by decide) (fun c9 => ?_) (fun c9 => ?_)
    · refine js_iconst dX2_copy_92 ?_
      refine js_istore_n (L' := [(2, .int (jI 0)), (0, .ref (B 0)), (1, .ref a2)]) dX2_copy_93 (by decide) rfl ?_
      refine js_sub (L' := [(0, .ref (B 0)), (1, .ref a2), (2, .int (jI 0))]) [1, 2, 0] rfl ?_
      have z0 : zSt em 11 P2 C Cb Cs (zcpa f 0) g := by
        rw [show zcpa f 0 = zcps f k from by
          rw [show k = f 1 by omega]
          funext j
          unfold zcpa
          rw [if_neg (by omega)]]
        exact zSt_fr yC (by omega) (fun a e p q => q)
      have yc3 := yc
      have yP3 := yP
      refine js_loop (σ := Int × js_H) (fun s => (0 ≤ s.1 ∧ s.1 ≤ 100) ∧ zSt em 11 P2 C Cb Cs (zcpa f s.1) s.2 ∧ zFr (fun _ => False) h s.2) (fun s => (100 - s.1).toNat) (fun s => (2 * (5 - k).toNat + 0)) (fun s => (13 * (5 - k).toNat + 0)) 94 (fun s => [(0, .ref (B 0)), (1, .ref a2), (2, .int (jI s.1))]) (fun s => []) (fun s => s.2) (fun s hk IHs => ?_) (0, g) (⟨by omega, z0, yfr⟩)
      obtain ⟨i, g3⟩ := s
      have hk : (0 ≤ i ∧ i ≤ 100) ∧ zSt em 11 P2 C Cb Cs (zcpa f i) g3 ∧ zFr (fun _ => False) h g3 := hk
      show js_ok ρ mX2_copy _ 7 ((2 * (5 - k).toNat + 0)) ((13 * (5 - k).toNat + 0)) 94 [(0, .ref (B 0)), (1, .ref a2), (2, .int (jI i))] [] g3
      obtain ⟨y3k, y3C, y3fr⟩ := hk
      have ez0 : zcpa f i 0 = f 0 := by unfold zcpa zcps zcpb; rw [if_neg (by omega), if_neg (by decide), if_neg (by omega), if_pos rfl]
      have ez1 : zcpa f i 1 = f 1 := by unfold zcpa zcps; rw [if_neg (by omega), if_pos rfl]
      obtain ⟨z_100, z_101, ⟨mb_10, rb_10, z_102⟩, ⟨ms_10, rs_10, z_103⟩, z_104, z_105, z_106, z_107, z_108, z_109, z_1010, z_1011, z_1012⟩ := id y3C
      obtain ⟨sa_10, sb_10, sc_10, sd_10, se_10, sf_10, sg_10⟩ := z_1011
      obtain ⟨gm_10, ze_10⟩ := z_100
      have z_101 := z_101
      rw [yc3] at z_101
      have nx33 : zNe (B 3) (C 3) := fun z => by
        have := yP3 (C 3) sa_10.2.2.2.1
        rw [← z, z_14] at this; cases this
      have nx34 : zNe (B 3) (C 4) := fun z => by
        have := yP3 (C 4) sa_10.2.2.2.2.1
        rw [← z, z_14] at this; cases this
      have nx43 : zNe (B 4) (C 3) := fun z => by
        have := yP3 (C 3) sa_10.2.2.2.1
        rw [← z, z_15] at this; cases this
      have nx44 : zNe (B 4) (C 4) := fun z => by
        have := yP3 (C 4) sa_10.2.2.2.2.1
        rw [← z, z_15] at this; cases this
      refine js_iload_n 2 dX2_copy_94 rfl ?_
      refine js_bipush dX2_copy_95 rfl ?_
      refine js_icmp_ge (tgt := 130) dX2_copy_97 (by decide) (by omega) (fun c11 => ?_) (fun c11 => ?_)
      · refine js_iconst dX2_copy_130 ?_
        refine js_istore_n (L' := [(2, .int (jI 0)), (0, .ref (B 0)), (1, .ref a2)]) dX2_copy_131 (by decide) rfl ?_
        refine js_sub (L' := [(0, .ref (B 0)), (1, .ref a2), (2, .int (jI 0))]) [1, 2, 0] rfl ?_
        have z0 : zSt em 11 P2 C Cb Cs (zcpw f 0) g3 := by
          rw [show zcpw f 0 = zcpa f i from by
            rw [show i = 100 by omega]
            funext j
            unfold zcpw
            rw [if_neg (by omega)]]
          exact y3C
        refine js_loop (σ := Int × js_H) (fun s => (0 ≤ s.1 ∧ s.1 ≤ 6) ∧ zSt em 11 P2 C Cb Cs (zcpw f s.1) s.2 ∧ zFr (fun _ => False) h s.2) (fun s => (6 - s.1).toNat) (fun s => (2 * (5 - k).toNat + 0)) (fun s => (13 * (5 - k).toNat + 0)) 132 (fun s => [(0, .ref (B 0)), (1, .ref a2), (2, .int (jI s.1))]) (fun s => []) (fun s => s.2) (fun s hk IHs => ?_) (0, g3) (⟨by omega, z0, y3fr⟩)
        obtain ⟨l, g4⟩ := s
        have hk : (0 ≤ l ∧ l ≤ 6) ∧ zSt em 11 P2 C Cb Cs (zcpw f l) g4 ∧ zFr (fun _ => False) h g4 := hk
        show js_ok ρ mX2_copy _ 7 ((2 * (5 - k).toNat + 0)) ((13 * (5 - k).toNat + 0)) 132 [(0, .ref (B 0)), (1, .ref a2), (2, .int (jI l))] [] g4
        obtain ⟨y4k, y4C, y4fr⟩ := hk
        have ez0 : zcpw f l 0 = f 0 := by unfold zcpw zcpa zcps zcpb; rw [if_neg (by omega), if_neg (by omega), if_neg (by decide), if_neg (by omega), if_pos rfl]
        have ez1 : zcpw f l 1 = f 1 := by unfold zcpw zcpa zcps; rw [if_neg (by omega), if_neg (by omega), if_pos rfl]
        obtain ⟨z_120, z_121, ⟨mb_12, rb_12, z_122⟩, ⟨ms_12, rs_12, z_123⟩, z_124, z_125, z_126, z_127, z_128, z_129, z_1210, z_1211, z_1212⟩ := id y4C
        obtain ⟨sa_12, sb_12, sc_12, sd_12, se_12, sf_12, sg_12⟩ := z_1211
        obtain ⟨gm_12, ze_12⟩ := z_120
        have z_121 := z_121
        rw [yc3] at z_121
        have nx55 : zNe (B 5) (C 5) := fun z => by
          have := yP3 (C 5) sa_12.2.2.2.2.2
          rw [← z, z_16] at this; cases this
        refine js_iload_n 2 dX2_copy_132 rfl ?_
        refine js_iconst dX2_copy_133 ?_
        refine js_icmp_gt (tgt := 155) dX2_copy_134 (by decide) (by omega) (fun c13 => ?_) (fun c13 => ?_)
        · refine js_aload_n 1 dX2_copy_155 rfl ?_
          refine js_aload_n 0 dX2_copy_156 rfl ?_
          refine gX2_61 rfl dX2_copy_157 (y4fr _ _ (fun z => z) z_11) rfl ?_
          refine pX2_61 rfl dX2_copy_160 z_121 (Nat.le_of_ble_eq_true rfl) rfl rfl ?_
          show js_ok ρ mX2_copy _ 7 ((2 * (5 - k).toNat + 0)) ((13 * (5 - k).toNat + 0)) 163 [(0, .ref (B 0)), (1, .ref a2), (2, .int (jI l))] [] (js_up g4 a2 (js_ob true 1 [.ref (C 1), .ref (C 2), .ref (C 3), .ref (C 4), .ref (C 5), .int (jI (f 2)), .int (jI ((zcpw f l) 3)), .int (jI ((zcpw f l) 4)), .int (jI ((zcpw f l) 5)), .int (jI ((zcpw f l) 6)), .int (jI ((zcpw f l) 7))]))
          refine js_aload_n 1 dX2_copy_163 rfl ?_
          refine js_aload_n 0 dX2_copy_164 rfl ?_
          refine gX2_65 rfl dX2_copy_165 ((js_up_n nB0c).trans (y4fr _ _ (fun z => z) z_11)) rfl ?_
          refine pX2_65 rfl dX2_copy_168 js_up_s (Nat.le_of_ble_eq_true rfl) rfl rfl ?_
          rw [js_up_up]
          show js_ok ρ mX2_copy _ 7 ((2 * (5 - k).toNat + 0)) ((13 * (5 - k).toNat + 0)) 171 [(0, .ref (B 0)), (1, .ref a2), (2, .int (jI l))] [] (js_up g4 a2 (js_ob true 1 [.ref (C 1), .ref (C 2), .ref (C 3), .ref (C 4), .ref (C 5), .int (jI (f 2)), .int (jI (f 3)), .int (jI ((zcpw f l) 4)), .int (jI ((zcpw f l) 5)), .int (jI ((zcpw f l) 6)), .int (jI ((zcpw f l) 7))]))
          refine js_aload_n 1 dX2_copy_171 rfl ?_
          refine js_aload_n 0 dX2_copy_172 rfl ?_
          refine gX2_68 rfl dX2_copy_173 ((js_up_n nB0c).trans (y4fr _ _ (fun z => z) z_11)) rfl ?_
          refine pX2_68 rfl dX2_copy_176 js_up_s (Nat.le_of_ble_eq_true rfl) rfl rfl ?_
          rw [js_up_up]
          show js_ok ρ mX2_copy _ 7 ((2 * (5 - k).toNat + 0)) ((13 * (5 - k).toNat + 0)) 179 [(0, .ref (B 0)), (1, .ref a2), (2, .int (jI l))] [] (js_up g4 a2 (js_ob true 1 [.ref (C 1), .ref (C 2), .ref (C 3), .ref (C 4), .ref (C 5), .int (jI (f 2)), .int (jI (f 3)), .int (jI (f 4)), .int (jI ((zcpw f l) 5)), .int (jI ((zcpw f l) 6)), .int (jI ((zcpw f l) 7))]))
          refine js_aload_n 1 dX2_copy_179 rfl ?_
          refine js_aload_n 0 dX2_copy_180 rfl ?_
          refine gX2_71 rfl dX2_copy_181 ((js_up_n nB0c).trans (y4fr _ _ (fun z => z) z_11)) rfl ?_
          refine pX2_71 rfl dX2_copy_184 js_up_s (Nat.le_of_ble_eq_true rfl) rfl rfl ?_
          rw [js_up_up]
          show js_ok ρ mX2_copy _ 7 ((2 * (5 - k).toNat + 0)) ((13 * (5 - k).toNat + 0)) 187 [(0, .ref (B 0)), (1, .ref a2), (2, .int (jI l))] [] (js_up g4 a2 (js_ob true 1 [.ref (C 1), .ref (C 2), .ref (C 3), .ref (C 4), .ref (C 5), .int (jI (f 2)), .int (jI (f 3)), .int (jI (f 4)), .int (jI (f 5)), .int (jI ((zcpw f l) 6)), .int (jI ((zcpw f l) 7))]))
          refine js_aload_n 1 dX2_copy_187 rfl ?_
          refine js_aload_n 0 dX2_copy_188 rfl ?_
          refine gX2_74 rfl dX2_copy_189 ((js_up_n nB0c).trans (y4fr _ _ (fun z => z) z_11)) rfl ?_
          refine pX2_74 rfl dX2_copy_192 js_up_s (Nat.le_of_ble_eq_true rfl) rfl rfl ?_
          rw [js_up_up]
          show js_ok ρ mX2_copy _ 7 ((2 * (5 - k).toNat + 0)) ((13 * (5 - k).toNat + 0)) 195 [(0, .ref (B 0)), (1, .ref a2), (2, .int (jI l))] [] (js_up g4 a2 (js_ob true 1 [.ref (C 1), .ref (C 2), .ref (C 3), .ref (C 4), .ref (C 5), .int (jI (f 2)), .int (jI (f 3)), .int (jI (f 4)), .int (jI (f 5)), .int (jI (f 6)), .int (jI ((zcpw f l) 7))]))
          refine js_aload_n 1 dX2_copy_195 rfl ?_
          refine js_aload_n 0 dX2_copy_196 rfl ?_
          refine gX2_77 rfl dX2_copy_197 ((js_up_n nB0c).trans (y4fr _ _ (fun z => z) z_11)) rfl ?_
          refine pX2_77 rfl dX2_copy_200 js_up_s (Nat.le_of_ble_eq_true rfl) rfl rfl ?_
          rw [js_up_up]
          show js_ok ρ mX2_copy _ 7 ((2 * (5 - k).toNat + 0)) ((13 * (5 - k).toNat + 0)) 203 [(0, .ref (B 0)), (1, .ref a2), (2, .int (jI l))] [] (js_up g4 a2 (js_ob true 1 [.ref (C 1), .ref (C 2), .ref (C 3), .ref (C 4), .ref (C 5), .int (jI (f 2)), .int (jI (f 3)), .int (jI (f 4)), .int (jI (f 5)), .int (jI (f 6)), .int (jI (f 7))]))
          refine js_aload_n 1 dX2_copy_203 rfl ?_
          exact js_aret rfl (Or.inl ⟨_, rfl⟩) (Or.inr ⟨_, rfl⟩) dX2_copy_204 ⟨a2, rfl, ⟨C, Cb, Cs, P2, yc3, zcpt_cg (by omega) (by
              have hl : l = 6 := by omega
              have z := zSt_upT (E := js_ob true 1 [.ref (C 1), .ref (C 2), .ref (C 3), .ref (C 4), .ref (C 5), .int (jI (f 2)), .int (jI (f 3)), .int (jI (f 4)), .int (jI (f 5)), .int (jI (f 6)), .int (jI (f 7))]) (f' := zcpt f) y4C ⟨by omega, by omega⟩ (fun j j1 j2 j3 => by unfold zcpt; rw [if_neg (by omega), hl]) rfl
              rw [yc3] at z; exact z), yP3⟩, zFr_upN y4fr (by rw [← yc3]; exact yP3 _ sa_12.1)⟩
        · refine js_aload_n 1 dX2_copy_137 rfl ?_
          refine gX2_28 rfl dX2_copy_138 z_121 rfl ?_
          refine js_iload_n 2 dX2_copy_141 rfl ?_
          refine js_aload_n 0 dX2_copy_142 rfl ?_
          refine gX2_28 rfl dX2_copy_143 (y4fr _ _ (fun z => z) z_11) rfl ?_
          refine js_iload_n 2 dX2_copy_146 rfl ?_
          refine js_iaload dX2_copy_147 (y4fr _ _ (fun z => z) z_16) (by omega) ?_
          refine js_iastore dX2_copy_148 z_126 (by omega) ?_
          show js_ok ρ mX2_copy _ 7 ((2 * (5 - k).toNat + 0)) ((13 * (5 - k).toNat + 0)) 149 [(0, .ref (B 0)), (1, .ref a2), (2, .int (jI l))] [] (js_up g4 (C 5) (js_aI true 0 6 (js_uz (zwa (zcpw f l)) l ((zwa f) l))))
          refine js_iinc (L' := [(2, .int (jI (l + 1))), (0, .ref (B 0)), (1, .ref a2)]) 2 dX2_copy_149 rfl (by decide) rfl ?_
          refine js_goto (tgt := 132) dX2_copy_152 (by decide) ?_
          refine js_sub (L' := [(0, .ref (B 0)), (1, .ref a2), (2, .int (jI (l + 1)))]) [1, 2, 0] rfl ?_
          have st1 : zSt em 11 P2 C Cb Cs (zcpw f (l + 1)) (js_up g4 (C 5) (js_aI true 0 6 (js_uz (zwa (zcpw f l)) l (zwa f l)))) := zSt_upW y4C ⟨by omega, by omega⟩ (fun j j1 j2 j3 => by
            unfold zcpw; rw [if_neg (by omega), if_neg (by omega)]) (by
            congr 1
            funext p
            by_cases q : p = l
            · rw [q, js_uz_s]; unfold zwa
              by_cases q2 : 1 ≤ l ∧ l < 6
              · rw [if_pos q2, if_pos q2]; unfold zcpw; rw [if_pos (by omega)]
              · rw [if_neg q2, if_neg q2]
            · rw [js_uz_n q]; unfold zwa
              by_cases q2 : 1 ≤ p ∧ p < 6
              · rw [if_pos q2, if_pos q2]; unfold zcpw; by_cases q3 : 8 ≤ 7 + p ∧ 7 + p < 7 + l
                · rw [if_pos q3, if_pos (by omega)]
                · rw [if_neg q3, if_neg (by omega)]
              · rw [if_neg q2, if_neg q2])
          exact IHs (l + 1, (js_up g4 (C 5) (js_aI true 0 6 (js_uz (zwa (zcpw f l)) l ((zwa f) l))))) (show (0 ≤ (l + 1) ∧ (l + 1) ≤ 6) ∧ zSt em 11 P2 C Cb Cs (zcpw f (l + 1)) ((js_up g4 (C 5) (js_aI true 0 6 (js_uz (zwa (zcpw f l)) l ((zwa f) l))))) ∧ zFr (fun _ => False) h ((js_up g4 (C 5) (js_aI true 0 6 (js_uz (zwa (zcpw f l)) l ((zwa f) l))))) from ⟨by omega, st1, zFr_upN y4fr (yP3 _ sa_12.2.2.2.2.2)⟩) (show (6 - (l + 1)).toNat < (6 - l).toNat by omega)
      · refine js_aload_n 1 dX2_copy_100 rfl ?_
        refine gX2_21 rfl dX2_copy_101 z_101 rfl ?_
        refine js_iload_n 2 dX2_copy_104 rfl ?_
        refine js_aload_n 0 dX2_copy_105 rfl ?_
        refine gX2_21 rfl dX2_copy_106 (y3fr _ _ (fun z => z) z_11) rfl ?_
        refine js_iload_n 2 dX2_copy_109 rfl ?_
        refine js_iaload dX2_copy_110 (y3fr _ _ (fun z => z) z_14) (by omega) ?_
        refine js_iastore dX2_copy_111 z_104 (by omega) ?_
        show js_ok ρ mX2_copy _ 7 ((2 * (5 - k).toNat + 0)) ((13 * (5 - k).toNat + 0)) 112 [(0, .ref (B 0)), (1, .ref a2), (2, .int (jI i))] [] (js_up g3 (C 3) (js_aI true 0 100 (js_uz (zfa (zcpa f i)) i ((zfa f) i))))
        refine js_aload_n 1 dX2_copy_112 rfl ?_
        refine gX2_25 rfl dX2_copy_113 ((js_up_n (js_nek z_101 z_104 js_kOA)).trans z_101) rfl ?_
        refine js_iload_n 2 dX2_copy_116 rfl ?_
        refine js_aload_n 0 dX2_copy_117 rfl ?_
        refine gX2_25 rfl dX2_copy_118 ((js_up_n (js_nek (y3fr _ _ (fun z => z) z_11) z_104 js_kOA)).trans (y3fr _ _ (fun z => z) z_11)) rfl ?_
        refine js_iload_n 2 dX2_copy_121 rfl ?_
        refine js_iaload dX2_copy_122 ((js_up_n nx43).trans (y3fr _ _ (fun z => z) z_15)) (by omega) ?_
        refine js_iastore dX2_copy_123 ((js_up_n (Ne.symm sg_10.1.2.1)).trans z_105) (by omega) ?_
        show js_ok ρ mX2_copy _ 7 ((2 * (5 - k).toNat + 0)) ((13 * (5 - k).toNat + 0)) 124 [(0, .ref (B 0)), (1, .ref a2), (2, .int (jI i))] [] (js_up (js_up g3 (C 3) (js_aI true 0 100 (js_uz (zfa (zcpa f i)) i ((zfa f) i)))) (C 4) (js_aI true 0 100 (js_uz (zca (zcpa f i)) i ((zca f) i))))
        refine js_iinc (L' := [(2, .int (jI (i + 1))), (0, .ref (B 0)), (1, .ref a2)]) 2 dX2_copy_124 rfl (by decide) rfl ?_
        refine js_goto (tgt := 94) dX2_copy_127 (by decide) ?_
        refine js_sub (L' := [(0, .ref (B 0)), (1, .ref a2), (2, .int (jI (i + 1)))]) [1, 2, 0] rfl ?_
        have gf : zfa f i = f (87 + i) := zfa_g (by omega)
        have gc : zca f i = f (187 + i) := zca_g (by omega)
        have st1 := zSt_upF (f' := js_uz (zcpa f i) (87 + i) (f (87 + i))) y3C ⟨by omega, by omega⟩ (fun j j1 j2 j3 => js_uz_n (by omega)) (show js_aI true 0 100 (js_uz (zfa (zcpa f i)) i (zfa f i)) = _ from by rw [gf, zfa_u (by omega)])
        have st2 := zSt_upC (f' := zcpa f (i + 1)) st1 ⟨by rw [js_uz_n (by omega)]; omega, by rw [js_uz_n (by omega)]; omega⟩ (fun j j1 j2 j3 => by
          by_cases q : j = 87 + i
          · rw [q, js_uz_s]; unfold zcpa; rw [if_pos (by omega)]
          · rw [js_uz_n q]; unfold zcpa; by_cases q2 : (87 ≤ j ∧ j < 87 + i) ∨ (187 ≤ j ∧ j < 187 + i)
            · rw [if_pos q2, if_pos (by omega)]
            · rw [if_neg q2, if_neg (by omega)]) (show js_aI true 0 100 (js_uz (zca (zcpa f i)) i (zca f i)) = _ from by
          rw [gc, zca_u (by omega)]
          congr 1
          refine zca_e (fun p p1 p2 => ?_)
          by_cases q : p = i
          · rw [q, js_uz_s]; unfold zcpa; rw [if_pos (by omega)]
          · rw [js_uz_n (by omega)]; unfold zcpa; by_cases q2 : (87 ≤ 187 + p ∧ 187 + p < 87 + i) ∨ (187 ≤ 187 + p ∧ 187 + p < 187 + i)
            · rw [if_pos q2, if_pos (by omega)]
            · rw [if_neg q2, if_neg (by omega)])
        exact IHs (i + 1, (js_up (js_up g3 (C 3) (js_aI true 0 100 (js_uz (zfa (zcpa f i)) i ((zfa f) i)))) (C 4) (js_aI true 0 100 (js_uz (zca (zcpa f i)) i ((zca f) i))))) (show (0 ≤ (i + 1) ∧ (i + 1) ≤ 100) ∧ zSt em 11 P2 C Cb Cs (zcpa f (i + 1)) ((js_up (js_up g3 (C 3) (js_aI true 0 100 (js_uz (zfa (zcpa f i)) i ((zfa f) i)))) (C 4) (js_aI true 0 100 (js_uz (zca (zcpa f i)) i ((zca f) i))))) ∧ zFr (fun _ => False) h ((js_up (js_up g3 (C 3) (js_aI true 0 100 (js_uz (zfa (zcpa f i)) i ((zfa f) i)))) (C 4) (js_aI true 0 100 (js_uz (zca (zcpa f i)) i ((zca f) i))))) from ⟨by omega, st2, zFr_upN (zFr_upN y3fr (yP3 _ sa_10.2.2.2.1)) (yP3 _ sa_10.2.2.2.2.1)⟩) (show (100 - (i + 1)).toNat < (100 - i).toNat by omega)
    · refine js_aload_n 2 dX2_copy_67 rfl ?_
      refine eX2_42_J12 rfl dX2_copy_68 yit (con_itnext yit (yfr _ _ (fun z => z) z_13) (by omega) (yfr _ _ (fun z => z) hes_1) (by omega) (by omega) (by omega) (by omega)) (Nat.le_of_ble_eq_true rfl) (Nat.le_of_ble_eq_true rfl) ?_
      show js_ok ρ mX2_copy _ 7 ((2 * (5 - k).toNat + 0)) ((13 * (5 - k).toNat + 0)) 73 [(0, .ref (B 0)), (1, .ref a2), (2, .ref it7)] [va_rf (gs_1 k)] (js_up g it7 (js_ob true 19 [.int (jI (k + 1)), .int (jI k), .int (jI ms_1), .ref (B 2)]))
      rw [show gs_1 k = some (Bs k) from hgs_1 _ (by omega) (by omega)]
      show js_ok ρ mX2_copy _ 7 ((2 * (5 - k).toNat + 0)) ((13 * (5 - k).toNat + 0)) 73 [(0, .ref (B 0)), (1, .ref a2), (2, .ref it7)] [.ref (Bs k)] (js_up g it7 (js_ob true 19 [.int (jI (k + 1)), .int (jI k), .int (jI ms_1), .ref (B 2)]))
      refine js_castS (r := (RX6, TX6, 3)) rfl q517 dX2_copy_73 ((js_up_n (js_nek (z10g k (by omega) (by omega)) yit (js_kOO (by decide)))).trans (z10g k (by omega) (by omega))) ?_
      refine js_astore_n (L' := [(3, .ref (Bs k)), (0, .ref (B 0)), (1, .ref a2), (2, .ref it7)]) dX2_copy_76 (by decide) rfl ?_
      refine js_aload_n 2 dX2_copy_77 rfl ?_
      refine gX2_18 rfl dX2_copy_78 ((js_up_n (js_nek z_81 yit (js_kOO (by decide)))).trans z_81) rfl ?_
      refine js_aload_n 0 dX2_copy_81 rfl ?_
      refine vX2_58 (kc' := ((2 * (5 - k).toNat + 0) - 1)) (ks' := ((13 * (5 - k).toNat + 0) - 3)) rfl dX2_copy_82 ((js_up_n (js_nek (z10g k (by omega) (by omega)) yit (js_kOO (by decide)))).trans (z10g k (by omega) (by omega))) (con_scopy ((js_up_n (js_nek (z10g k (by omega) (by omega)) yit (js_kOO (by decide)))).trans (z10g k (by omega) (by omega)))) (Nat.le_of_ble_eq_true rfl) (by omega) (by omega) (Nat.le_of_ble_eq_true rfl) (fun v14 g14 q14 => ?_) (fun E14 g14 q14 => by obtain ⟨_, q14, _⟩ := q14; cases q14)
      obtain ⟨o14, e14, hf_o14, rfl⟩ := q14
      cases e14
      show js_ok ρ mX2_copy _ 7 (((2 * (5 - k).toNat + 0) - 1)) (((13 * (5 - k).toNat + 0) - 3)) 85 [(3, .ref (Bs k)), (0, .ref (B 0)), (1, .ref a2), (2, .ref it7)] [.ref o14, .ref (C 2)] (js_up (js_up g it7 (js_ob true 19 [.int (jI (k + 1)), .int (jI k), .int (jI ms_1), .ref (B 2)])) o14 (js_ob true 5 [.int (jI (zsp f k)), .int (jI (f (67 + 4 * k + 2))), .int (jI (f (67 + 4 * k + 3)))]))
      have nP_o14 := zSt_new2 yC (zup_none hf_o14)
      have zn_o14 : h o14 = none := zn_fr yfr (zup_none hf_o14)
      have zn_it7 : h it7 = none := zn_it7_
      have ezb : zSo (zcps f (k + 1)) k = zSo f k := zSo_e (fun j j1 j2 => by unfold zcps; rw [if_neg (by omega), if_pos (by omega)])
      have er : zcps f (k + 1) 1 = zcps f k 1 + 1 := by rw [ez1]; exact if_pos rfl
      refine vX2_52 (kc' := (((2 * (5 - k).toNat + 0) - 1) - 1)) (ks' := (((13 * (5 - k).toNat + 0) - 3) - 10)) rfl dX2_copy_85 ((js_up_n (js_nef ((js_up_n (js_nek z_83 yit (js_kOO (by decide)))).trans z_83) hf_o14)).trans ((js_up_n (js_nek z_83 yit (js_kOO (by decide)))).trans z_83)) (zc_addS (f' := zcps f (k + 1)) (zSt_upO (zSt_upO yC yit0 (js_nek yit ze_8 js_kOQ)) nP_o14.1 nP_o14.2) hE (by rw [ez1, ezb]; exact js_up_s) nP_o14.1 (by omega) er (fun j j1 j2 j3 j4 => by unfold zcps; rw [if_neg j3, if_neg j3]; (repeat' split) <;> first | rfl | omega)) (Nat.le_of_ble_eq_true rfl) (by omega) (by omega) (Nat.le_of_ble_eq_true rfl) (fun v15 g15 q15 => ?_) (fun E15 g15 q15 => by cases q15.1)
      obtain ⟨e15, ⟨e6_15, q6_15, y15⟩, fr15⟩ := q15
      cases e15
      refine js_pop dX2_copy_88 rfl ?_
      refine js_goto (tgt := 58) dX2_copy_89 (by decide) ?_
      refine js_sub (L' := [(0, .ref (B 0)), (1, .ref a2), (2, .ref it7)]) [1, 2, 3] rfl ?_
      have hn6 : it7 ≠ e6_15 := fun z => by
        rcases q6_15 with q | q
        · exact yit0 (by rw [z]; exact q)
        · rw [← z] at q; exact absurd (zup_none q) (by rw [js_up_s]; exact fun z => by cases z)
      exact js_ok.more (IHs (k + 1, (fun j => if j = 7 then e6_15 else C j), Cb, (js_uz Cs (zcps f k 1) o14), (fun a => P2 a ∨ a = o14 ∨ a = e6_15), g15) (show (0 ≤ (k + 1) ∧ (k + 1) ≤ f 1) ∧ ((fun j => if j = 7 then e6_15 else C j)) 0 = a2 ∧ zSt em (6 + (k + 1)) ((fun a => P2 a ∨ a = o14 ∨ a = e6_15)) ((fun j => if j = 7 then e6_15 else C j)) Cb ((js_uz Cs (zcps f k 1) o14)) (zcps f (k + 1)) g15 ∧ (∀ a, ((fun a => P2 a ∨ a = o14 ∨ a = e6_15)) a → h a = none) ∧ ¬ ((fun a => P2 a ∨ a = o14 ∨ a = e6_15)) it7 ∧ (∃ lr : Int, g15 it7 = some (js_ob true 19 [.int (jI (k + 1)), .int (jI lr), .int (jI ms_1), .ref (B 2)])) ∧ zFr (fun _ => False) h g15 from ⟨by omega, yc, (by rw [show (6 + (k + 1) : Int) = 6 + k + 1 by omega]; exact y15), fun a p => by
            rcases p with p | p | p
            · exact yP a p
            · rw [p]; exact zn_o14
            · rw [p]; rcases q6_15 with q | q
              · exact yP _ q
              · cases hx : h e6_15 with
                | none => rfl
                | some x => exact absurd (js_up_d (js_up_d (fun z => by rw [yfr _ _ (fun z => z) hx] at z; cases z)) q) (fun z => z), fun p => by
            rcases p with p | p | p
            · exact yit0 p
            · exact absurd p (Ne.symm (zup_ne' hf_o14))
            · exact hn6 p, ⟨k, fr15 _ _ yit0 ((js_up_n (Ne.symm (zup_ne' hf_o14))).trans js_up_s)⟩, zFr_trans3 yfr yP hf_o14 yit fr15 zn_it7⟩) (show (f 1 - (k + 1)).toNat < (f 1 - k).toNat by omega)) (Nat.le_refl _) (by omega) (by omega)
  · refine js_aload_n 2 dX2_copy_25 rfl ?_
    refine eX2_42_J12 rfl dX2_copy_26 yit (con_itnext yit (yfr _ _ (fun z => z) z_12) (by omega) (yfr _ _ (fun z => z) heb_1) (by omega) (by omega) (by omega) (by omega)) (Nat.le_of_ble_eq_true rfl) (Nat.le_of_ble_eq_true rfl) ?_
    show js_ok ρ mX2_copy _ 7 ((2 * (6 - k).toNat + 11)) ((18 * (6 - k).toNat + 69)) 31 [(0, .ref (B 0)), (1, .ref a2), (2, .ref it4)] [va_rf (gb_1 k)] (js_up g it4 (js_ob true 19 [.int (jI (k + 1)), .int (jI k), .int (jI mb_1), .ref (B 1)]))
    rw [show gb_1 k = some (Bb k) from hgb_1 _ (by omega) (by omega)]
    show js_ok ρ mX2_copy _ 7 ((2 * (6 - k).toNat + 11)) ((18 * (6 - k).toNat + 69)) 31 [(0, .ref (B 0)), (1, .ref a2), (2, .ref it4)] [.ref (Bb k)] (js_up g it4 (js_ob true 19 [.int (jI (k + 1)), .int (jI k), .int (jI mb_1), .ref (B 1)]))
    refine js_castS (r := (RX5, TX5, 8)) rfl q1018 dX2_copy_31 ((js_up_n (js_nek (z9g k (by omega) (by omega)) yit (js_kOO (by decide)))).trans (z9g k (by omega) (by omega))) ?_
    refine js_astore_n (L' := [(3, .ref (Bb k)), (0, .ref (B 0)), (1, .ref a2), (2, .ref it4)]) dX2_copy_34 (by decide) rfl ?_
    refine js_aload_n 2 dX2_copy_35 rfl ?_
    refine gX2_12 rfl dX2_copy_36 ((js_up_n (js_nek z_51 yit (js_kOO (by decide)))).trans z_51) rfl ?_
    refine js_aload_n 0 dX2_copy_39 rfl ?_
    refine vX2_48 (kc' := ((2 * (6 - k).toNat + 11) - 1)) (ks' := ((18 * (6 - k).toNat + 69) - 8)) rfl dX2_copy_40 ((js_up_n (js_nek (z9g k (by omega) (by omega)) yit (js_kOO (by decide)))).trans (z9g k (by omega) (by omega))) (con_bcopy ((js_up_n (js_nek (z9g k (by omega) (by omega)) yit (js_kOO (by decide)))).trans (z9g k (by omega) (by omega)))) (Nat.le_of_ble_eq_true rfl) (by omega) (by omega) (Nat.le_of_ble_eq_true rfl) (fun v16 g16 q16 => ?_) (fun E16 g16 q16 => by obtain ⟨_, q16, _⟩ := q16; cases q16)
    obtain ⟨o16, e16, hf_o16, rfl⟩ := q16
    cases e16
    show js_ok ρ mX2_copy _ 7 (((2 * (6 - k).toNat + 11) - 1)) (((18 * (6 - k).toNat + 69) - 8)) 43 [(3, .ref (Bb k)), (0, .ref (B 0)), (1, .ref a2), (2, .ref it4)] [.ref o16, .ref (C 1)] (js_up (js_up g it4 (js_ob true 19 [.int (jI (k + 1)), .int (jI k), .int (jI mb_1), .ref (B 1)])) o16 (js_ob true 4 [.int (jI (zpt f k)), .int (jI (f (13 + 9 * k + 2))), .int (jI (f (13 + 9 * k + 3))), .int (jI (f (13 + 9 * k + 4))), .int (jI (f (13 + 9 * k + 5))), .int (jI (f (13 + 9 * k + 6))), .int (jI (f (13 + 9 * k + 7))), .int (jI (f (13 + 9 * k + 8)))]))
    have nP_o16 := zSt_new2 yC (zup_none hf_o16)
    have zn_o16 : h o16 = none := zn_fr yfr (zup_none hf_o16)
    have zn_it4 : h it4 = none := zn_it4_
    have ezb : zBo (zcpb f (k + 1)) k = zBo f k := zBo_e (fun j j1 j2 => by unfold zcpb; rw [if_neg (by omega), if_pos (by omega)])
    have er : zcpb f (k + 1) 0 = zcpb f k 0 + 1 := by rw [ez0]; exact if_pos rfl
    refine vX2_52 (kc' := (((2 * (6 - k).toNat + 11) - 1) - 1)) (ks' := (((18 * (6 - k).toNat + 69) - 8) - 10)) rfl dX2_copy_43 ((js_up_n (js_nef ((js_up_n (js_nek z_52 yit (js_kOO (by decide)))).trans z_52) hf_o16)).trans ((js_up_n (js_nek z_52 yit (js_kOO (by decide)))).trans z_52)) (zc_addB (f' := zcpb f (k + 1)) (zSt_upO (zSt_upO yC yit0 (js_nek yit ze_5 js_kOQ)) nP_o16.1 nP_o16.2) hE (by rw [ez0, ezb]; exact js_up_s) nP_o16.1 (by omega) er (fun j j1 j2 j3 j4 => by unfold zcpb; rw [if_neg j3, if_neg j3]; (repeat' split) <;> first | rfl | omega)) (Nat.le_of_ble_eq_true rfl) (by omega) (by omega) (Nat.le_of_ble_eq_true rfl) (fun v17 g17 q17 => ?_) (fun E17 g17 q17 => by cases q17.1)
    obtain ⟨e17, ⟨e6_17, q6_17, y17⟩, fr17⟩ := q17
    cases e17
    refine js_pop dX2_copy_46 rfl ?_
    refine js_goto (tgt := 16) dX2_copy_47 (by decide) ?_
    refine js_sub (L' := [(0, .ref (B 0)), (1, .ref a2), (2, .ref it4)]) [1, 2, 3] rfl ?_
    have hn6 : it4 ≠ e6_17 := fun z => by
      rcases q6_17 with q | q
      · exact yit0 (by rw [z]; exact q)
      · rw [← z] at q; exact absurd (zup_none q) (by rw [js_up_s]; exact fun z => by cases z)
    exact js_ok.more (IHs (k + 1, (fun j => if j = 6 then e6_17 else C j), (js_uz Cb (zcpb f k 0) o16), Cs, (fun a => P2 a ∨ a = o16 ∨ a = e6_17), g17) (show (0 ≤ (k + 1) ∧ (k + 1) ≤ f 0) ∧ ((fun j => if j = 6 then e6_17 else C j)) 0 = a2 ∧ zSt em ((k + 1)) ((fun a => P2 a ∨ a = o16 ∨ a = e6_17)) ((fun j => if j = 6 then e6_17 else C j)) ((js_uz Cb (zcpb f k 0) o16)) Cs (zcpb f (k + 1)) g17 ∧ (∀ a, ((fun a => P2 a ∨ a = o16 ∨ a = e6_17)) a → h a = none) ∧ ¬ ((fun a => P2 a ∨ a = o16 ∨ a = e6_17)) it4 ∧ (∃ lr : Int, g17 it4 = some (js_ob true 19 [.int (jI (k + 1)), .int (jI lr), .int (jI mb_1), .ref (B 1)])) ∧ zFr (fun _ => False) h g17 from ⟨by omega, yc, y17, fun a p => by
          rcases p with p | p | p
          · exact yP a p
          · rw [p]; exact zn_o16
          · rw [p]; rcases q6_17 with q | q
            · exact yP _ q
            · cases hx : h e6_17 with
              | none => rfl
              | some x => exact absurd (js_up_d (js_up_d (fun z => by rw [yfr _ _ (fun z => z) hx] at z; cases z)) q) (fun z => z), fun p => by
          rcases p with p | p | p
          · exact yit0 p
          · exact absurd p (Ne.symm (zup_ne' hf_o16))
          · exact hn6 p, ⟨k, fr17 _ _ yit0 ((js_up_n (Ne.symm (zup_ne' hf_o16))).trans js_up_s)⟩, zFr_trans3 yfr yP hf_o16 yit fr17 zn_it4⟩) (show (f 0 - (k + 1)).toNat < (f 0 - k).toNat by omega)) (Nat.le_refl _) (by omega) (by omega)
