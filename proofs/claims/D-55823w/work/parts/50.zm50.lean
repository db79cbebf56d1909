set_option maxRecDepth 100000
/-! a new state; elements added; a copy -/
/-- fresh cells hold a state -/
theorem zSt_mk {em st lb ls fa ca wa : Nat} {gm : Int → Option Nat} {h : js_H} (h0 : h em = some (js_aQ false 6 0 gm)) (h1 : h st = some (js_ob true 1 [.ref lb, .ref ls, .ref fa, .ref ca, .ref wa, .int (jI 0), .int (jI 0), .int (jI 0), .int (jI 0), .int (jI 0), .int (jI 0)])) (h2 : h lb = some (js_ob true 15 [.int (jI 0), .ref em, .int (jI 0)])) (h3 : h ls = some (js_ob true 15 [.int (jI 0), .ref em, .int (jI 0)])) (h4 : h fa = some (js_aI true 0 100 (fun _ => 0))) (h5 : h ca = some (js_aI true 0 100 (fun _ => 0))) (h6 : h wa = some (js_aI true 0 6 (fun _ => 0))) (n1 : lb ≠ ls) (n2 : fa ≠ ca) (n3 : wa ≠ fa) (n4 : wa ≠ ca) :
    zSt em 0 (fun a => a = st ∨ a = lb ∨ a = ls ∨ a = fa ∨ a = ca ∨ a = wa) (fun k => if k = 0 then st else if k = 1 then lb else if k = 2 then ls else if k = 3 then fa else if k = 4 then ca else if k = 5 then wa else em) (fun _ => em) (fun _ => em) (fun _ => 0) h := by
  have e1 : zfa (fun _ => 0) = fun _ => 0 := by funext p; unfold zfa; split <;> rfl
  have e2 : zca (fun _ => 0) = fun _ => 0 := by funext p; unfold zca; split <;> rfl
  have e3 : zwa (fun _ => 0) = fun _ => 0 := by funext p; unfold zwa; split <;> rfl
  refine ⟨⟨gm, h0⟩, h1, ⟨0, by decide, h2⟩, ⟨0, by decide, h3⟩, by rw [e1]; exact h4, by rw [e2]; exact h5, by rw [e3]; exact h6, Or.inl ⟨rfl, rfl⟩, Or.inl ⟨rfl, rfl⟩, fun b b1 b2 => absurd (show b < 0 from b2) (by omega), fun b b1 b2 => absurd (show b < 0 from b2) (by omega), ⟨⟨Or.inl rfl, Or.inr (Or.inl rfl), Or.inr (Or.inr (Or.inl rfl)), Or.inr (Or.inr (Or.inr (Or.inl rfl))), Or.inr (Or.inr (Or.inr (Or.inr (Or.inl rfl)))), Or.inr (Or.inr (Or.inr (Or.inr (Or.inr rfl))))⟩, fun z => absurd rfl z, fun z => absurd rfl z, fun b b1 b2 => absurd (show b < 0 from b2) (by omega), fun b b1 b2 => absurd (show b < 0 from b2) (by omega), fun z => ?_, ⟨n1, n2, n3, n4⟩, fun _ => rfl, fun b c b1 b2 => absurd (show b < 0 from b2) (by omega), fun b c b1 b2 => absurd (show b < 0 from b2) (by omega)⟩, fun a z => ?_⟩
  · rcases z with z | z | z | z | z | z <;> (rw [z] at h0; first | (rw [h1] at h0; cases h0; done) | (rw [h2] at h0; cases h0; done) | (rw [h3] at h0; cases h0; done) | (rw [h4] at h0; cases h0; done) | (rw [h5] at h0; cases h0; done) | (rw [h6] at h0; cases h0; done))
  · rcases z with z | z | z | z | z | z <;> (rw [z]; first | (rw [h1]; exact fun z => by cases z) | (rw [h2]; exact fun z => by cases z) | (rw [h3]; exact fun z => by cases z) | (rw [h4]; exact fun z => by cases z) | (rw [h5]; exact fun z => by cases z) | (rw [h6]; exact fun z => by cases z))
/-- a fresh state in new cells -/
def zIni (em st : Nat) (h : js_H) : js_Q := fun r h' => r = .inl none ∧ (∃ (B : Nat → Nat) (Bb Bs : Int → Nat) (P : Nat → Prop), B 0 = st ∧ zSt em 0 P B Bb Bs (fun _ => 0) h' ∧ ∀ a, P a → a = st ∨ h a = none) ∧ zFr (fun a => a = st) h h'
theorem zup_ne {h : js_H} {a b : Nat} {e : js_E} (k : js_up h a e b = none) : b ≠ a := fun z => by
  rw [z, js_up_s] at k; cases k
theorem zc_init {ρ : js_R} {h : js_H} {st em : Nat} {gm : Int → Option Nat} (hs : h st = some (js_ob true 1 [.null, .null, .null, .null, .null, .int (jI 0), .int (jI 0), .int (jI 0), .int (jI 0), .int (jI 0), .int (jI 0)])) (he : h em = some (js_aQ false 6 0 gm)) (hE : js_sv ρ 1 = .ref em) : js_Con ρ mX2_init 4 5 212 [.ref st] h (zIni em st h) := by
  refine js_body [(0, .ref st)] rfl (by decide) (Nat.le_of_ble_eq_true rfl) rfl ?_
  have nse : st ≠ em := js_nek hs he js_kOQ
  refine js_aload_n 0 dX2_init_0 rfl ?_
  refine js_oinit q163 q156 q157 (Nat.le_of_ble_eq_true rfl) (Nat.le_of_ble_eq_true rfl) dX2_init_1 ?_
  refine js_aload_n 0 dX2_init_4 rfl ?_
  refine nX2_9 (kc' := 4) (ks' := 209) rfl dX2_init_5 (by omega) (by omega) (fun a1 hf_a1 hB_a1 => ?_)
  have nn_a1 : h a1 = none := hf_a1
  have n_st_a1 : st ≠ a1 := js_nef hs nn_a1
  have n_em_a1 : em ≠ a1 := js_nef he nn_a1
  refine js_dup dX2_init_8 rfl ?_
  refine eX2_11 rfl dX2_init_9 (con_linit js_up_s hE) (Nat.le_of_ble_eq_true rfl) (Nat.le_of_ble_eq_true rfl) ?_
  rw [js_up_up]
  show js_ok ρ mX2_init _ 4 4 209 12 [(0, .ref st)] [.ref a1, .ref st] (js_up h a1 (js_ob true 15 [.int (jI 0), .ref em, .int (jI 0)]))
  refine pX2_12 rfl rfl dX2_init_12 ((js_up_n n_st_a1).trans hs) (Nat.le_of_ble_eq_true rfl) rfl rfl ?_
  show js_ok ρ mX2_init _ 4 4 209 15 [(0, .ref st)] [] (js_up (js_up h a1 (js_ob true 15 [.int (jI 0), .ref em, .int (jI 0)])) st (js_ob true 1 [.ref a1, .null, .null, .null, .null, .int (jI 0), .int (jI 0), .int (jI 0), .int (jI 0), .int (jI 0), .int (jI 0)]))
  refine js_aload_n 0 dX2_init_15 rfl ?_
  refine nX2_9 (kc' := 3) (ks' := 206) rfl dX2_init_16 (by omega) (by omega) (fun a2 hf_a2 hB_a2 => ?_)
  have nn_a2 : h a2 = none := zup_none (zup_none (hf_a2))
  have n_em_a2 : em ≠ a2 := js_nef he nn_a2
  have n_a1_a2 : a1 ≠ a2 := Ne.symm (zup_ne (zup_none (hf_a2)))
  have n_st_a2 : st ≠ a2 := Ne.symm (zup_ne (hf_a2))
  refine js_dup dX2_init_19 rfl ?_
  refine eX2_11 rfl dX2_init_20 (con_linit js_up_s hE) (Nat.le_of_ble_eq_true rfl) (Nat.le_of_ble_eq_true rfl) ?_
  rw [js_up_up]
  show js_ok ρ mX2_init _ 4 3 206 23 [(0, .ref st)] [.ref a2, .ref st] (js_up (js_up (js_up h a1 (js_ob true 15 [.int (jI 0), .ref em, .int (jI 0)])) st (js_ob true 1 [.ref a1, .null, .null, .null, .null, .int (jI 0), .int (jI 0), .int (jI 0), .int (jI 0), .int (jI 0), .int (jI 0)])) a2 (js_ob true 15 [.int (jI 0), .ref em, .int (jI 0)]))
  refine pX2_18 rfl rfl dX2_init_23 ((js_up_n n_st_a2).trans js_up_s) (Nat.le_of_ble_eq_true rfl) rfl rfl ?_
  show js_ok ρ mX2_init _ 4 3 206 26 [(0, .ref st)] [] (js_up (js_up (js_up (js_up h a1 (js_ob true 15 [.int (jI 0), .ref em, .int (jI 0)])) st (js_ob true 1 [.ref a1, .null, .null, .null, .null, .int (jI 0), .int (jI 0), .int (jI 0), .int (jI 0), .int (jI 0), .int (jI 0)])) a2 (js_ob true 15 [.int (jI 0), .ref em, .int (jI 0)])) st (js_ob true 1 [.ref a1, .ref a2, .null, .null, .null, .int (jI 0), .int (jI 0), .int (jI 0), .int (jI 0), .int (jI 0), .int (jI 0)]))
  refine js_aload_n 0 dX2_init_26 rfl ?_
  refine js_bipush dX2_init_27 rfl ?_
  refine js_newaI (t := 0) (N := 100) (kc' := 2) (ks' := 106) (by decide) rfl q241 dX2_init_29 (by omega) (by omega) (by omega) (by omega) (fun a3 hf_a3 hB_a3 => ?_)
  have nn_a3 : h a3 = none := zup_none (zup_none (zup_none (zup_none (hf_a3))))
  have n_em_a3 : em ≠ a3 := js_nef he nn_a3
  have n_a1_a3 : a1 ≠ a3 := Ne.symm (zup_ne (zup_none (zup_none (zup_none (hf_a3)))))
  have n_a2_a3 : a2 ≠ a3 := Ne.symm (zup_ne (zup_none (hf_a3)))
  have n_st_a3 : st ≠ a3 := Ne.symm (zup_ne (hf_a3))
  refine pX2_21 rfl rfl dX2_init_31 ((js_up_n n_st_a3).trans js_up_s) (Nat.le_of_ble_eq_true rfl) rfl rfl ?_
  show js_ok ρ mX2_init _ 4 2 106 34 [(0, .ref st)] [] (js_up (js_up (js_up (js_up (js_up (js_up h a1 (js_ob true 15 [.int (jI 0), .ref em, .int (jI 0)])) st (js_ob true 1 [.ref a1, .null, .null, .null, .null, .int (jI 0), .int (jI 0), .int (jI 0), .int (jI 0), .int (jI 0), .int (jI 0)])) a2 (js_ob true 15 [.int (jI 0), .ref em, .int (jI 0)])) st (js_ob true 1 [.ref a1, .ref a2, .null, .null, .null, .int (jI 0), .int (jI 0), .int (jI 0), .int (jI 0), .int (jI 0), .int (jI 0)])) a3 (js_aI true 0 100 (fun _ => 0))) st (js_ob true 1 [.ref a1, .ref a2, .ref a3, .null, .null, .int (jI 0), .int (jI 0), .int (jI 0), .int (jI 0), .int (jI 0), .int (jI 0)]))
  refine js_aload_n 0 dX2_init_34 rfl ?_
  refine js_bipush dX2_init_35 rfl ?_
  refine js_newaI (t := 0) (N := 100) (kc' := 1) (ks' := 6) (by decide) rfl q241 dX2_init_37 (by omega) (by omega) (by omega) (by omega) (fun a4 hf_a4 hB_a4 => ?_)
  have nn_a4 : h a4 = none := zup_none (zup_none (zup_none (zup_none (zup_none (zup_none (hf_a4))))))
  have n_em_a4 : em ≠ a4 := js_nef he nn_a4
  have n_a1_a4 : a1 ≠ a4 := Ne.symm (zup_ne (zup_none (zup_none (zup_none (zup_none (zup_none (hf_a4)))))))
  have n_a2_a4 : a2 ≠ a4 := Ne.symm (zup_ne (zup_none (zup_none (zup_none (hf_a4)))))
  have n_a3_a4 : a3 ≠ a4 := Ne.symm (zup_ne (zup_none (hf_a4)))
  have n_st_a4 : st ≠ a4 := Ne.symm (zup_ne (hf_a4))
  refine pX2_25 rfl rfl dX2_init_39 ((js_up_n n_st_a4).trans js_up_s) (Nat.le_of_ble_eq_true rfl) rfl rfl ?_
  show js_ok ρ mX2_init _ 4 1 6 42 [(0, .ref st)] [] (js_up (js_up (js_up (js_up (js_up (js_up (js_up (js_up h a1 (js_ob true 15 [.int (jI 0), .ref em, .int (jI 0)])) st (js_ob true 1 [.ref a1, .null, .null, .null, .null, .int (jI 0), .int (jI 0), .int (jI 0), .int (jI 0), .int (jI 0), .int (jI 0)])) a2 (js_ob true 15 [.int (jI 0), .ref em, .int (jI 0)])) st (js_ob true 1 [.ref a1, .ref a2, .null, .null, .null, .int (jI 0), .int (jI 0), .int (jI 0), .int (jI 0), .int (jI 0), .int (jI 0)])) a3 (js_aI true 0 100 (fun _ => 0))) st (js_ob true 1 [.ref a1, .ref a2, .ref a3, .null, .null, .int (jI 0), .int (jI 0), .int (jI 0), .int (jI 0), .int (jI 0), .int (jI 0)])) a4 (js_aI true 0 100 (fun _ => 0))) st (js_ob true 1 [.ref a1, .ref a2, .ref a3, .ref a4, .null, .int (jI 0), .int (jI 0), .int (jI 0), .int (jI 0), .int (jI 0), .int (jI 0)]))
  refine js_aload_n 0 dX2_init_42 rfl ?_
  refine js_bipush dX2_init_43 rfl ?_
  refine js_newaI (t := 0) (N := 6) (kc' := 0) (ks' := 0) (by decide) rfl q241 dX2_init_45 (by omega) (by omega) (by omega) (by omega) (fun a5 hf_a5 hB_a5 => ?_)
  have nn_a5 : h a5 = none := zup_none (zup_none (zup_none (zup_none (zup_none (zup_none (zup_none (zup_none (hf_a5))))))))
  have n_em_a5 : em ≠ a5 := js_nef he nn_a5
  have n_a1_a5 : a1 ≠ a5 := Ne.symm (zup_ne (zup_none (zup_none (zup_none (zup_none (zup_none (zup_none (zup_none (hf_a5)))))))))
  have n_a2_a5 : a2 ≠ a5 := Ne.symm (zup_ne (zup_none (zup_none (zup_none (zup_none (zup_none (hf_a5)))))))
  have n_a3_a5 : a3 ≠ a5 := Ne.symm (zup_ne (zup_none (zup_none (zup_none (hf_a5)))))
  have n_a4_a5 : a4 ≠ a5 := Ne.symm (zup_ne (zup_none (hf_a5)))
  have n_st_a5 : st ≠ a5 := Ne.symm (zup_ne (hf_a5))
  refine pX2_28 rfl rfl dX2_init_47 ((js_up_n n_st_a5).trans js_up_s) (Nat.le_of_ble_eq_true rfl) rfl rfl ?_
  show js_ok ρ mX2_init _ 4 0 0 50 [(0, .ref st)] [] (js_up (js_up (js_up (js_up (js_up (js_up (js_up (js_up (js_up (js_up h a1 (js_ob true 15 [.int (jI 0), .ref em, .int (jI 0)])) st (js_ob true 1 [.ref a1, .null, .null, .null, .null, .int (jI 0), .int (jI 0), .int (jI 0), .int (jI 0), .int (jI 0), .int (jI 0)])) a2 (js_ob true 15 [.int (jI 0), .ref em, .int (jI 0)])) st (js_ob true 1 [.ref a1, .ref a2, .null, .null, .null, .int (jI 0), .int (jI 0), .int (jI 0), .int (jI 0), .int (jI 0), .int (jI 0)])) a3 (js_aI true 0 100 (fun _ => 0))) st (js_ob true 1 [.ref a1, .ref a2, .ref a3, .null, .null, .int (jI 0), .int (jI 0), .int (jI 0), .int (jI 0), .int (jI 0), .int (jI 0)])) a4 (js_aI true 0 100 (fun _ => 0))) st (js_ob true 1 [.ref a1, .ref a2, .ref a3, .ref a4, .null, .int (jI 0), .int (jI 0), .int (jI 0), .int (jI 0), .int (jI 0), .int (jI 0)])) a5 (js_aI true 0 6 (fun _ => 0))) st (js_ob true 1 [.ref a1, .ref a2, .ref a3, .ref a4, .ref a5, .int (jI 0), .int (jI 0), .int (jI 0), .int (jI 0), .int (jI 0), .int (jI 0)]))
  exact js_vret rfl dX2_init_50 ⟨rfl, ⟨_, _, _, _, rfl, zSt_mk ((js_up_n (Ne.symm nse)).trans ((js_up_n n_em_a5).trans ((js_up_n (Ne.symm nse)).trans ((js_up_n n_em_a4).trans ((js_up_n (Ne.symm nse)).trans ((js_up_n n_em_a3).trans ((js_up_n (Ne.symm nse)).trans ((js_up_n n_em_a2).trans ((js_up_n (Ne.symm nse)).trans ((js_up_n n_em_a1).trans he)))))))))) js_up_s ((js_up_n (Ne.symm n_st_a1)).trans ((js_up_n n_a1_a5).trans ((js_up_n (Ne.symm n_st_a1)).trans ((js_up_n n_a1_a4).trans ((js_up_n (Ne.symm n_st_a1)).trans ((js_up_n n_a1_a3).trans ((js_up_n (Ne.symm n_st_a1)).trans ((js_up_n n_a1_a2).trans ((js_up_n (Ne.symm n_st_a1)).trans js_up_s))))))))) ((js_up_n (Ne.symm n_st_a2)).trans ((js_up_n n_a2_a5).trans ((js_up_n (Ne.symm n_st_a2)).trans ((js_up_n n_a2_a4).trans ((js_up_n (Ne.symm n_st_a2)).trans ((js_up_n n_a2_a3).trans ((js_up_n (Ne.symm n_st_a2)).trans js_up_s))))))) ((js_up_n (Ne.symm n_st_a3)).trans ((js_up_n n_a3_a5).trans ((js_up_n (Ne.symm n_st_a3)).trans ((js_up_n n_a3_a4).trans ((js_up_n (Ne.symm n_st_a3)).trans js_up_s))))) ((js_up_n (Ne.symm n_st_a4)).trans ((js_up_n n_a4_a5).trans ((js_up_n (Ne.symm n_st_a4)).trans js_up_s))) ((js_up_n (Ne.symm n_st_a5)).trans js_up_s) n_a1_a2 n_a3_a4 (Ne.symm n_a3_a5) (Ne.symm n_a4_a5), fun a p => by rcases p with p | p | p | p | p | p; exact Or.inl p; all_goals (rw [p]; exact Or.inr (by assumption))⟩, fun a x np hx => by rw [js_up_n (show a ≠ st from np), js_up_n (show a ≠ a5 from (fun z => by rw [z, nn_a5] at hx; cases hx)), js_up_n (show a ≠ st from np), js_up_n (show a ≠ a4 from (fun z => by rw [z, nn_a4] at hx; cases hx)), js_up_n (show a ≠ st from np), js_up_n (show a ≠ a3 from (fun z => by rw [z, nn_a3] at hx; cases hx)), js_up_n (show a ≠ st from np), js_up_n (show a ≠ a2 from (fun z => by rw [z, nn_a2] at hx; cases hx)), js_up_n (show a ≠ st from np), js_up_n (show a ≠ a1 from (fun z => by rw [z, nn_a1] at hx; cases hx))]; exact hx⟩
