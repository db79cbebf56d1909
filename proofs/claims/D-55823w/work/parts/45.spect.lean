set_option maxRecDepth 100000
/-! the class's picture of a state, over the same row; P tells its cells -/
def zfa (f : zF) : Int → Int := fun p => if 0 ≤ p ∧ p < 100 then f (87 + p) else 0
def zca (f : zF) : Int → Int := fun p => if 0 ≤ p ∧ p < 100 then f (187 + p) else 0
def zwa (f : zF) : Int → Int := fun k => if 1 ≤ k ∧ k < 6 then f (7 + k) else 0
def zgb (b : Int → Nat) (n : Int) : Int → Option Nat := fun j => if 0 ≤ j ∧ j < n then some (b j) else none
abbrev zBo (f : zF) (b : Int) : js_E := js_ob true 4 [.int (jI (zpt f b)), .int (jI (f (13 + 9 * b + 2))), .int (jI (f (13 + 9 * b + 3))), .int (jI (f (13 + 9 * b + 4))), .int (jI (f (13 + 9 * b + 5))), .int (jI (f (13 + 9 * b + 6))), .int (jI (f (13 + 9 * b + 7))), .int (jI (f (13 + 9 * b + 8)))]
abbrev zSo (f : zF) (i : Int) : js_E := js_ob true 5 [.int (jI (zsp f i)), .int (jI (f (67 + 4 * i + 2))), .int (jI (f (67 + 4 * i + 3)))]
abbrev zTo (f : zF) (B : Nat → Nat) : js_E := js_ob true 1 [.ref (B 1), .ref (B 2), .ref (B 3), .ref (B 4), .ref (B 5), .int (jI (f 2)), .int (jI (f 3)), .int (jI (f 4)), .int (jI (f 5)), .int (jI (f 6)), .int (jI (f 7))]
/-- the row of a list of n elements at places b; em is the empty row of all lists -/
def zL (em e : Nat) (b : Int → Nat) (n : Int) (h : js_H) : Prop := (n = 0 ∧ e = em) ∨ (e ≠ em ∧ h e = some (js_aQ true 6 10 (zgb b n)))
/-- apart; a name that arithmetic doesn't look into -/
def zNe (a b : Nat) : Prop := a ≠ b
def zApart (B : Nat → Nat) : Prop := B 1 ≠ B 2 ∧ B 3 ≠ B 4 ∧ B 5 ≠ B 3 ∧ B 5 ≠ B 4
/-- which cells are the state's own, and that they are apart -/
def zSep (em : Nat) (P : Nat → Prop) (B : Nat → Nat) (Bb Bs : Int → Nat) (n m : Int) : Prop :=
  (P (B 0) ∧ P (B 1) ∧ P (B 2) ∧ P (B 3) ∧ P (B 4) ∧ P (B 5)) ∧ (B 6 ≠ em → P (B 6)) ∧ (B 7 ≠ em → P (B 7)) ∧ (∀ b : Int, 0 ≤ b → b < n → P (Bb b)) ∧ (∀ i : Int, 0 ≤ i → i < m → P (Bs i)) ∧ ¬ P em ∧ zApart B ∧ (B 6 = B 7 → B 6 = em) ∧ (∀ b c : Int, 0 ≤ b → b < n → 0 ≤ c → c < n → Bb b = Bb c → b = c) ∧ (∀ b c : Int, 0 ≤ b → b < m → 0 ≤ c → c < m → Bs b = Bs c → b = c)
def zSt (em : Nat) (T : Int) (P : Nat → Prop) (B : Nat → Nat) (Bb Bs : Int → Nat) (f : zF) (h : js_H) : Prop :=
  (∃ gm : Int → Option Nat, h em = some (js_aQ false 6 0 gm)) ∧ h (B 0) = some (zTo f B) ∧
  (∃ mb : Int, (0 ≤ mb ∧ mb ≤ T) ∧ h (B 1) = some (js_ob true 15 [.int (jI mb), .ref (B 6), .int (jI (f 0))])) ∧
  (∃ ms : Int, (0 ≤ ms ∧ ms ≤ T) ∧ h (B 2) = some (js_ob true 15 [.int (jI ms), .ref (B 7), .int (jI (f 1))])) ∧
  h (B 3) = some (js_aI true 0 100 (zfa f)) ∧ h (B 4) = some (js_aI true 0 100 (zca f)) ∧ h (B 5) = some (js_aI true 0 6 (zwa f)) ∧
  zL em (B 6) Bb (f 0) h ∧ zL em (B 7) Bs (f 1) h ∧
  (∀ b : Int, 0 ≤ b → b < f 0 → h (Bb b) = some (zBo f b)) ∧ (∀ i : Int, 0 ≤ i → i < f 1 → h (Bs i) = some (zSo f i)) ∧ zSep em P B Bb Bs (f 0) (f 1) ∧ (∀ a : Nat, P a → h a ≠ none)
theorem js_up_d {h : js_H} {a b : Nat} {e : js_E} (k : h b ≠ none) : js_up h a e b ≠ none := by
  unfold js_up
  split
  · exact fun z => by cases z
  · exact k
/-- what lies outside P stays -/
def zFr (P : Nat → Prop) (h h' : js_H) : Prop := ∀ (a : Nat) (e : js_E), ¬ P a → h a = some e → h' a = some e
theorem zFr_refl {P : Nat → Prop} {h : js_H} : zFr P h h := fun _ _ _ k => k
theorem zFr_up {P : Nat → Prop} {h h' : js_H} {a : Nat} {e : js_E} (k : zFr P h h') (p : P a) : zFr P h (js_up h' a e) := fun b e' n q => (js_up_n (fun z : b = a => n (by rw [z]; exact p))).trans (k b e' n q)
theorem zFr_new {P : Nat → Prop} {h h' : js_H} {a : Nat} {e : js_E} (k : zFr P h h') (p : h' a = none) : zFr P h (js_up h' a e) := fun b e' n q => (js_up_n (fun z : b = a => by rw [← z, k b e' n q] at p; cases p)).trans (k b e' n q)
theorem zFr_trans {P : Nat → Prop} {h h1 h2 : js_H} (k : zFr P h h1) (l : zFr P h1 h2) : zFr P h h2 := fun b e n q => l b e n (k b e n q)
theorem zFr_mono {P P' : Nat → Prop} {h h' : js_H} (k : zFr P h h') (p : ∀ a, P a → P' a) : zFr P' h h' := fun b e n q => k b e (fun z => n (p b z)) q
/-- a list's row, to read -/
theorem zL_rd {em e : Nat} {b : Int → Nat} {n : Int} {h : js_H} (hL : zL em e b n h) (hm : ∃ gm : Int → Option Nat, h em = some (js_aQ false 6 0 gm)) (hn : 0 ≤ n ∧ n ≤ 6) : ∃ (w : Bool) (cap : Nat) (g : Int → Option Nat), h e = some (js_aQ w 6 cap g) ∧ (n ≤ cap ∧ cap ≤ 10) ∧ (∀ j : Int, 0 ≤ j → j < n → g j = some (b j)) := by
  rcases hL with ⟨q1, q2⟩ | ⟨_, q⟩
  · obtain ⟨gm, hm⟩ := hm
    subst q2
    exact ⟨false, 0, gm, hm, by omega, fun j j1 j2 => by omega⟩
  · exact ⟨true, 10, _, q, by omega, fun j j1 j2 => if_pos ⟨j1, j2⟩⟩
theorem zL_fr {em e : Nat} {b : Int → Nat} {n : Int} {h h' : js_H} (hL : zL em e b n h) (k : e ≠ em → ∀ x, h e = some x → h' e = some x) : zL em e b n h' := by
  rcases hL with q | ⟨q1, q2⟩
  · exact Or.inl q
  · exact Or.inr ⟨q1, k q1 _ q2⟩
theorem zdom_k {h h' : js_H} {a : Nat} (k : ∀ e, h a = some e → h' a = some e) (d : h a ≠ none) : h' a ≠ none := by
  cases q : h a with
  | none => exact absurd q d
  | some e => rw [k e q]; exact fun z => by cases z
/-- nothing of the state's own has changed -/
theorem zSt_fr {em : Nat} {T T' : Int} {P : Nat → Prop} {B : Nat → Nat} {Bb Bs : Int → Nat} {f : zF} {h h' : js_H} (hZ : zSt em T P B Bb Bs f h) (hT : T ≤ T') (k : ∀ (a : Nat) (e : js_E), (P a ∨ a = em) → h a = some e → h' a = some e) : zSt em T' P B Bb Bs f h' := by
  obtain ⟨⟨gm, z0⟩, z1, ⟨mb, r1, z2⟩, ⟨ms, r2, z3⟩, z4, z5, z6, z7, z8, z9, z10, z11, z12⟩ := hZ
  obtain ⟨s1, s2, s3, s4, s5, s6⟩ := id z11
  exact ⟨⟨gm, k _ _ (Or.inr rfl) z0⟩, k _ _ (Or.inl s1.1) z1, ⟨mb, by omega, k _ _ (Or.inl s1.2.1) z2⟩, ⟨ms, by omega, k _ _ (Or.inl s1.2.2.1) z3⟩, k _ _ (Or.inl s1.2.2.2.1) z4, k _ _ (Or.inl s1.2.2.2.2.1) z5, k _ _ (Or.inl s1.2.2.2.2.2) z6, zL_fr z7 (fun q x hx => k _ _ (Or.inl (s2 q)) hx), zL_fr z8 (fun q x hx => k _ _ (Or.inl (s3 q)) hx), fun b b1 b2 => k _ _ (Or.inl (s4 b b1 b2)) (z9 b b1 b2), fun b b1 b2 => k _ _ (Or.inl (s5 b b1 b2)) (z10 b b1 b2), z11, fun a p => zdom_k (fun e => k a e (Or.inl p)) (z12 a p)⟩
theorem zSt_out {em : Nat} {T T' : Int} {P Q : Nat → Prop} {B : Nat → Nat} {Bb Bs : Int → Nat} {f : zF} {h h' : js_H} (hZ : zSt em T P B Bb Bs f h) (hT : T ≤ T') (k : zFr Q h h') (hd : ∀ a, P a → ¬ Q a) (he : ¬ Q em) : zSt em T' P B Bb Bs f h' := zSt_fr hZ hT (fun a e p q => k a e (p.elim (hd a) (fun z => by rw [z]; exact he)) q)
theorem zSt_P {em : Nat} {T : Int} {P P' : Nat → Prop} {B : Nat → Nat} {Bb Bs : Int → Nat} {f : zF} {h : js_H} (hZ : zSt em T P B Bb Bs f h) (k : ∀ a, h a ≠ none → P a → P' a) (he : ¬ P' em) (hd : ∀ a, P' a → h a ≠ none) : zSt em T P' B Bb Bs f h := by
  obtain ⟨⟨gm, z0⟩, z1, ⟨mb, r1, z2⟩, ⟨ms, r2, z3⟩, z4, z5, z6, z7, z8, z9, z10, z11, z12⟩ := hZ
  obtain ⟨s1, s2, s3, s4, s5, s6, s7⟩ := z11
  have ne : ∀ {a : Nat} {e : js_E}, h a = some e → h a ≠ none := fun z w => by rw [z] at w; cases w
  refine ⟨⟨gm, z0⟩, z1, ⟨mb, r1, z2⟩, ⟨ms, r2, z3⟩, z4, z5, z6, z7, z8, z9, z10, ⟨⟨k _ (ne z1) s1.1, k _ (ne z2) s1.2.1, k _ (ne z3) s1.2.2.1, k _ (ne z4) s1.2.2.2.1, k _ (ne z5) s1.2.2.2.2.1, k _ (ne z6) s1.2.2.2.2.2⟩, fun q => ?_, fun q => ?_, fun b b1 b2 => k _ (ne (z9 b b1 b2)) (s4 b b1 b2), fun b b1 b2 => k _ (ne (z10 b b1 b2)) (s5 b b1 b2), he, s7⟩, hd⟩
  · rcases z7 with w | ⟨_, w⟩
    · exact absurd w.2 q
    · exact k _ (ne w) (s2 q)
  · rcases z8 with w | ⟨_, w⟩
    · exact absurd w.2 q
    · exact k _ (ne w) (s3 q)
/-! one cell changed, and the row with it -/
section
variable {em : Nat} {T : Int} {P : Nat → Prop} {B : Nat → Nat} {Bb Bs : Int → Nat} {f f' : zF} {h : js_H} {E : js_E}
theorem zpt_e {b : Int} (e : ∀ k : Int, 0 ≤ k → k < 9 → f' (13 + 9 * b + k) = f (13 + 9 * b + k)) : zpt f' b = zpt f b := by
  unfold zpt
  rw [e 0 (by decide) (by decide), e 1 (by decide) (by decide)]
theorem zBo_e {b : Int} (e : ∀ k : Int, 0 ≤ k → k < 9 → f' (13 + 9 * b + k) = f (13 + 9 * b + k)) : zBo f' b = zBo f b := by
  unfold zBo
  rw [zpt_e e, e 2 (by decide) (by decide), e 3 (by decide) (by decide), e 4 (by decide) (by decide), e 5 (by decide) (by decide), e 6 (by decide) (by decide), e 7 (by decide) (by decide), e 8 (by decide) (by decide)]
theorem zSo_e {i : Int} (e : ∀ k : Int, 0 ≤ k → k < 4 → f' (67 + 4 * i + k) = f (67 + 4 * i + k)) : zSo f' i = zSo f i := by
  have e0 := e 0 (by decide) (by decide)
  rw [Int.add_zero] at e0
  unfold zSo zsp
  rw [e0, e 1 (by decide) (by decide), e 2 (by decide) (by decide), e 3 (by decide) (by decide)]
theorem zTo_e (e : ∀ k : Int, 2 ≤ k → k < 8 → f' k = f k) : zTo f' B = zTo f B := by
  unfold zTo
  rw [e 2 (by decide) (by decide), e 3 (by decide) (by decide), e 4 (by decide) (by decide), e 5 (by decide) (by decide), e 6 (by decide) (by decide), e 7 (by decide) (by decide)]
theorem zfa_e (e : ∀ p : Int, 0 ≤ p → p < 100 → f' (87 + p) = f (87 + p)) : zfa f' = zfa f := by
  funext p
  unfold zfa
  split
  next q => exact e p q.1 q.2
  next q => rfl
theorem zca_e (e : ∀ p : Int, 0 ≤ p → p < 100 → f' (187 + p) = f (187 + p)) : zca f' = zca f := by
  funext p
  unfold zca
  split
  next q => exact e p q.1 q.2
  next q => rfl
theorem zwa_e (e : ∀ k : Int, 8 ≤ k → k < 13 → f' k = f k) : zwa f' = zwa f := by
  funext p
  unfold zwa
  split
  next q => exact e _ (by omega) (by omega)
  next q => rfl
theorem zfa_u {p v : Int} (hp : 0 ≤ p ∧ p < 100) : js_uz (zfa f) p v = zfa (js_uz f (87 + p) v) := by
  funext q
  by_cases e : q = p
  · subst e; rw [js_uz_s]; unfold zfa; rw [if_pos hp, js_uz_s]
  · rw [js_uz_n e]; unfold zfa; split
    next q => rw [js_uz_n (by omega)]
    next q => rfl
theorem zca_u {p v : Int} (hp : 0 ≤ p ∧ p < 100) : js_uz (zca f) p v = zca (js_uz f (187 + p) v) := by
  funext q
  by_cases e : q = p
  · subst e; rw [js_uz_s]; unfold zca; rw [if_pos hp, js_uz_s]
  · rw [js_uz_n e]; unfold zca; split
    next q => rw [js_uz_n (by omega)]
    next q => rfl
theorem zwa_u {k v : Int} (hk : 1 ≤ k ∧ k < 6) : js_uz (zwa f) k v = zwa (js_uz f (7 + k) v) := by
  funext q
  by_cases e : q = k
  · subst e; rw [js_uz_s]; unfold zwa; rw [if_pos hk, js_uz_s]
  · rw [js_uz_n e]; unfold zwa; split
    next q => rw [js_uz_n (by omega)]
    next q => rfl
theorem zfa_g {p : Int} (hp : 0 ≤ p ∧ p < 100) : zfa f p = f (87 + p) := if_pos hp
theorem zca_g {p : Int} (hp : 0 ≤ p ∧ p < 100) : zca f p = f (187 + p) := if_pos hp
theorem zwa_g {k : Int} (hk : 1 ≤ k ∧ k < 6) : zwa f k = f (7 + k) := if_pos hk
/-- places of unlike kinds are apart -/
theorem zne {a b : Nat} {x y : js_E} (p : h a = some x) (q : h b = some y) (n : x ≠ y) : a ≠ b := fun z => by
  subst z
  rw [p] at q
  exact n (Option.some.inj q)
/-- only numbers of balloons, spires, counts, fees, claims, winds change: what is to be shown -/
theorem zSt_row {h' : js_H} (hZ : zSt em T P B Bb Bs f h) (kd : ∀ a, h a ≠ none → h' a ≠ none) (e0 : f' 0 = f 0) (e1 : f' 1 = f 1) (ke : h' em = h em) (k1 : h' (B 1) = h (B 1)) (k2 : h' (B 2) = h (B 2)) (k6 : B 6 ≠ em → h' (B 6) = h (B 6)) (k7 : B 7 ≠ em → h' (B 7) = h (B 7))
    (t : h' (B 0) = some (zTo f' B)) (t3 : h' (B 3) = some (js_aI true 0 100 (zfa f'))) (t4 : h' (B 4) = some (js_aI true 0 100 (zca f'))) (t5 : h' (B 5) = some (js_aI true 0 6 (zwa f'))) (tb : ∀ b : Int, 0 ≤ b → b < f 0 → h' (Bb b) = some (zBo f' b)) (ts : ∀ i : Int, 0 ≤ i → i < f 1 → h' (Bs i) = some (zSo f' i)) : zSt em T P B Bb Bs f' h' := by
  obtain ⟨⟨gm, z0⟩, z1, ⟨mb, r1, z2⟩, ⟨ms, r2, z3⟩, z4, z5, z6, z7, z8, z9, z10, z11, z12⟩ := hZ
  refine ⟨⟨gm, by rw [ke]; exact z0⟩, t, ⟨mb, r1, by rw [k1, e0]; exact z2⟩, ⟨ms, r2, by rw [k2, e1]; exact z3⟩, t3, t4, t5, ?_, ?_, by rw [e0]; exact tb, by rw [e1]; exact ts, by rw [e0, e1]; exact z11, fun a p => kd a (z12 a p)⟩
  · rw [e0]; exact zL_fr z7 (fun q x hx => by rw [k6 q]; exact hx)
  · rw [e1]; exact zL_fr z8 (fun q x hx => by rw [k7 q]; exact hx)
end
section
variable {em : Nat} {T : Int} {P : Nat → Prop} {B : Nat → Nat} {Bb Bs : Int → Nat} {f f' : zF} {h : js_H} {E : js_E}
theorem zSt_upB {b : Int} (hZ : zSt em T P B Bb Bs f h) (hb : 0 ≤ b ∧ b < f 0) (h6 : f 0 ≤ 6 ∧ f 1 ≤ 5) (hf : ∀ k : Int, 0 ≤ k → k < 287 → (k < 13 + 9 * b ∨ 13 + 9 * b + 9 ≤ k) → f' k = f k) (hE : E = zBo f' b) : zSt em T P B Bb Bs f' (js_up h (Bb b) E) := by
  obtain ⟨⟨gm, z0⟩, z1, ⟨mb, r1, z2⟩, ⟨ms, r2, z3⟩, z4, z5, z6, z7, z8, z9, z10, z11, z12⟩ := id hZ
  obtain ⟨s1, s2, s3, s4, s5, s6, s7⟩ := z11
  obtain ⟨x1, x2⟩ := hb
  refine zSt_row hZ (fun a => js_up_d) (hf 0 (by omega) (by omega) (by omega)) (hf 1 (by omega) (by omega) (by omega)) (js_up_n (js_nek z0 (z9 _ x1 x2) js_kQO)) (js_up_n (js_nek z2 (z9 _ x1 x2) (js_kOO (by decide)))) (js_up_n (js_nek z3 (z9 _ x1 x2) (js_kOO (by decide)))) (fun q => by
    rcases z7 with w | ⟨_, w⟩
    · exact absurd w.2 q
    · exact js_up_n (js_nek w (z9 _ x1 x2) js_kQO)) (fun q => by
    rcases z8 with w | ⟨_, w⟩
    · exact absurd w.2 q
    · exact js_up_n (js_nek w (z9 _ x1 x2) js_kQO))
    ((js_up_n (js_nek z1 (z9 _ x1 x2) (js_kOO (by decide)))).trans (by rw [zTo_e (fun k k1 k2 => hf k (by omega) (by omega) (by omega))]; exact z1)) ((js_up_n (js_nek z4 (z9 _ x1 x2) js_kAO)).trans (by rw [zfa_e (fun k k1 k2 => hf _ (by omega) (by omega) (by omega))]; exact z4)) ((js_up_n (js_nek z5 (z9 _ x1 x2) js_kAO)).trans (by rw [zca_e (fun k k1 k2 => hf _ (by omega) (by omega) (by omega))]; exact z5)) ((js_up_n (js_nek z6 (z9 _ x1 x2) js_kAO)).trans (by rw [zwa_e (fun k k1 k2 => hf _ (by omega) (by omega) (by omega))]; exact z6))
    (fun c c1 c2 => ?_) (fun c c1 c2 => ?_)
  · by_cases q : c = b
    · subst q; rw [hE]; exact js_up_s
    · exact (js_up_n (fun w => q (s7.2.2.1 _ _ c1 c2 x1 x2 w))).trans (by rw [zBo_e (fun k k1 k2 => hf _ (by omega) (by omega) (by omega))]; exact z9 c c1 c2)
  · exact (js_up_n (js_nek (z10 _ c1 c2) (z9 _ x1 x2) (js_kOO (by decide)))).trans (by rw [zSo_e (fun k k1 k2 => hf _ (by omega) (by omega) (by omega))]; exact z10 c c1 c2)
theorem zSt_upS {i : Int} (hZ : zSt em T P B Bb Bs f h) (hi : 0 ≤ i ∧ i < f 1) (h6 : f 0 ≤ 6 ∧ f 1 ≤ 5) (hf : ∀ k : Int, 0 ≤ k → k < 287 → (k < 67 + 4 * i ∨ 67 + 4 * i + 4 ≤ k) → f' k = f k) (hE : E = zSo f' i) : zSt em T P B Bb Bs f' (js_up h (Bs i) E) := by
  obtain ⟨⟨gm, z0⟩, z1, ⟨mb, r1, z2⟩, ⟨ms, r2, z3⟩, z4, z5, z6, z7, z8, z9, z10, z11, z12⟩ := id hZ
  obtain ⟨s1, s2, s3, s4, s5, s6, s7⟩ := z11
  obtain ⟨x1, x2⟩ := hi
  refine zSt_row hZ (fun a => js_up_d) (hf 0 (by omega) (by omega) (by omega)) (hf 1 (by omega) (by omega) (by omega)) (js_up_n (js_nek z0 (z10 _ x1 x2) js_kQO)) (js_up_n (js_nek z2 (z10 _ x1 x2) (js_kOO (by decide)))) (js_up_n (js_nek z3 (z10 _ x1 x2) (js_kOO (by decide)))) (fun q => by
    rcases z7 with w | ⟨_, w⟩
    · exact absurd w.2 q
    · exact js_up_n (js_nek w (z10 _ x1 x2) js_kQO)) (fun q => by
    rcases z8 with w | ⟨_, w⟩
    · exact absurd w.2 q
    · exact js_up_n (js_nek w (z10 _ x1 x2) js_kQO))
    ((js_up_n (js_nek z1 (z10 _ x1 x2) (js_kOO (by decide)))).trans (by rw [zTo_e (fun k k1 k2 => hf k (by omega) (by omega) (by omega))]; exact z1)) ((js_up_n (js_nek z4 (z10 _ x1 x2) js_kAO)).trans (by rw [zfa_e (fun k k1 k2 => hf _ (by omega) (by omega) (by omega))]; exact z4)) ((js_up_n (js_nek z5 (z10 _ x1 x2) js_kAO)).trans (by rw [zca_e (fun k k1 k2 => hf _ (by omega) (by omega) (by omega))]; exact z5)) ((js_up_n (js_nek z6 (z10 _ x1 x2) js_kAO)).trans (by rw [zwa_e (fun k k1 k2 => hf _ (by omega) (by omega) (by omega))]; exact z6))
    (fun c c1 c2 => ?_) (fun c c1 c2 => ?_)
  · exact (js_up_n (js_nek (z9 _ c1 c2) (z10 _ x1 x2) (js_kOO (by decide)))).trans (by rw [zBo_e (fun k k1 k2 => hf _ (by omega) (by omega) (by omega))]; exact z9 c c1 c2)
  · by_cases q : c = i
    · subst q; rw [hE]; exact js_up_s
    · exact (js_up_n (fun w => q (s7.2.2.2 _ _ c1 c2 x1 x2 w))).trans (by rw [zSo_e (fun k k1 k2 => hf _ (by omega) (by omega) (by omega))]; exact z10 c c1 c2)
theorem zSt_upT (hZ : zSt em T P B Bb Bs f h) (h6 : f 0 ≤ 6 ∧ f 1 ≤ 5) (hf : ∀ k : Int, 0 ≤ k → k < 287 → (k < 2 ∨ 8 ≤ k) → f' k = f k) (hE : E = zTo f' B) : zSt em T P B Bb Bs f' (js_up h (B 0) E) := by
  obtain ⟨⟨gm, z0⟩, z1, ⟨mb, r1, z2⟩, ⟨ms, r2, z3⟩, z4, z5, z6, z7, z8, z9, z10, z11, z12⟩ := id hZ
  obtain ⟨s1, s2, s3, s4, s5, s6, s7⟩ := z11
  refine zSt_row hZ (fun a => js_up_d) (hf 0 (by omega) (by omega) (by omega)) (hf 1 (by omega) (by omega) (by omega)) (js_up_n (js_nek z0 z1 js_kQO)) (js_up_n (js_nek z2 z1 (js_kOO (by decide)))) (js_up_n (js_nek z3 z1 (js_kOO (by decide)))) (fun q => by
    rcases z7 with w | ⟨_, w⟩
    · exact absurd w.2 q
    · exact js_up_n (js_nek w z1 js_kQO)) (fun q => by
    rcases z8 with w | ⟨_, w⟩
    · exact absurd w.2 q
    · exact js_up_n (js_nek w z1 js_kQO))
    (by rw [hE]; exact js_up_s) ((js_up_n (js_nek z4 z1 js_kAO)).trans (by rw [zfa_e (fun k k1 k2 => hf _ (by omega) (by omega) (by omega))]; exact z4)) ((js_up_n (js_nek z5 z1 js_kAO)).trans (by rw [zca_e (fun k k1 k2 => hf _ (by omega) (by omega) (by omega))]; exact z5)) ((js_up_n (js_nek z6 z1 js_kAO)).trans (by rw [zwa_e (fun k k1 k2 => hf _ (by omega) (by omega) (by omega))]; exact z6))
    (fun c c1 c2 => ?_) (fun c c1 c2 => ?_)
  · exact (js_up_n (js_nek (z9 _ c1 c2) z1 (js_kOO (by decide)))).trans (by rw [zBo_e (fun k k1 k2 => hf _ (by omega) (by omega) (by omega))]; exact z9 c c1 c2)
  · exact (js_up_n (js_nek (z10 _ c1 c2) z1 (js_kOO (by decide)))).trans (by rw [zSo_e (fun k k1 k2 => hf _ (by omega) (by omega) (by omega))]; exact z10 c c1 c2)
theorem zSt_upF (hZ : zSt em T P B Bb Bs f h) (h6 : f 0 ≤ 6 ∧ f 1 ≤ 5) (hf : ∀ k : Int, 0 ≤ k → k < 287 → (k < 87 ∨ 187 ≤ k) → f' k = f k) (hE : E = js_aI true 0 100 (zfa f')) : zSt em T P B Bb Bs f' (js_up h (B 3) E) := by
  obtain ⟨⟨gm, z0⟩, z1, ⟨mb, r1, z2⟩, ⟨ms, r2, z3⟩, z4, z5, z6, z7, z8, z9, z10, z11, z12⟩ := id hZ
  obtain ⟨s1, s2, s3, s4, s5, s6, s7⟩ := z11
  refine zSt_row hZ (fun a => js_up_d) (hf 0 (by omega) (by omega) (by omega)) (hf 1 (by omega) (by omega) (by omega)) (js_up_n (js_nek z0 z4 js_kQA)) (js_up_n (js_nek z2 z4 js_kOA)) (js_up_n (js_nek z3 z4 js_kOA)) (fun q => by
    rcases z7 with w | ⟨_, w⟩
    · exact absurd w.2 q
    · exact js_up_n (js_nek w z4 js_kQA)) (fun q => by
    rcases z8 with w | ⟨_, w⟩
    · exact absurd w.2 q
    · exact js_up_n (js_nek w z4 js_kQA))
    ((js_up_n (js_nek z1 z4 js_kOA)).trans (by rw [zTo_e (fun k k1 k2 => hf k (by omega) (by omega) (by omega))]; exact z1)) (by rw [hE]; exact js_up_s) ((js_up_n (Ne.symm s7.1.2.1)).trans (by rw [zca_e (fun k k1 k2 => hf _ (by omega) (by omega) (by omega))]; exact z5)) ((js_up_n s7.1.2.2.1).trans (by rw [zwa_e (fun k k1 k2 => hf _ (by omega) (by omega) (by omega))]; exact z6))
    (fun c c1 c2 => ?_) (fun c c1 c2 => ?_)
  · exact (js_up_n (js_nek (z9 _ c1 c2) z4 js_kOA)).trans (by rw [zBo_e (fun k k1 k2 => hf _ (by omega) (by omega) (by omega))]; exact z9 c c1 c2)
  · exact (js_up_n (js_nek (z10 _ c1 c2) z4 js_kOA)).trans (by rw [zSo_e (fun k k1 k2 => hf _ (by omega) (by omega) (by omega))]; exact z10 c c1 c2)
theorem zSt_upC (hZ : zSt em T P B Bb Bs f h) (h6 : f 0 ≤ 6 ∧ f 1 ≤ 5) (hf : ∀ k : Int, 0 ≤ k → k < 287 → (k < 187 ∨ 287 ≤ k) → f' k = f k) (hE : E = js_aI true 0 100 (zca f')) : zSt em T P B Bb Bs f' (js_up h (B 4) E) := by
  obtain ⟨⟨gm, z0⟩, z1, ⟨mb, r1, z2⟩, ⟨ms, r2, z3⟩, z4, z5, z6, z7, z8, z9, z10, z11, z12⟩ := id hZ
  obtain ⟨s1, s2, s3, s4, s5, s6, s7⟩ := z11
  refine zSt_row hZ (fun a => js_up_d) (hf 0 (by omega) (by omega) (by omega)) (hf 1 (by omega) (by omega) (by omega)) (js_up_n (js_nek z0 z5 js_kQA)) (js_up_n (js_nek z2 z5 js_kOA)) (js_up_n (js_nek z3 z5 js_kOA)) (fun q => by
    rcases z7 with w | ⟨_, w⟩
    · exact absurd w.2 q
    · exact js_up_n (js_nek w z5 js_kQA)) (fun q => by
    rcases z8 with w | ⟨_, w⟩
    · exact absurd w.2 q
    · exact js_up_n (js_nek w z5 js_kQA))
    ((js_up_n (js_nek z1 z5 js_kOA)).trans (by rw [zTo_e (fun k k1 k2 => hf k (by omega) (by omega) (by omega))]; exact z1)) ((js_up_n s7.1.2.1).trans (by rw [zfa_e (fun k k1 k2 => hf _ (by omega) (by omega) (by omega))]; exact z4)) (by rw [hE]; exact js_up_s) ((js_up_n s7.1.2.2.2).trans (by rw [zwa_e (fun k k1 k2 => hf _ (by omega) (by omega) (by omega))]; exact z6))
    (fun c c1 c2 => ?_) (fun c c1 c2 => ?_)
  · exact (js_up_n (js_nek (z9 _ c1 c2) z5 js_kOA)).trans (by rw [zBo_e (fun k k1 k2 => hf _ (by omega) (by omega) (by omega))]; exact z9 c c1 c2)
  · exact (js_up_n (js_nek (z10 _ c1 c2) z5 js_kOA)).trans (by rw [zSo_e (fun k k1 k2 => hf _ (by omega) (by omega) (by omega))]; exact z10 c c1 c2)
theorem zSt_upW (hZ : zSt em T P B Bb Bs f h) (h6 : f 0 ≤ 6 ∧ f 1 ≤ 5) (hf : ∀ k : Int, 0 ≤ k → k < 287 → (k < 8 ∨ 13 ≤ k) → f' k = f k) (hE : E = js_aI true 0 6 (zwa f')) : zSt em T P B Bb Bs f' (js_up h (B 5) E) := by
  obtain ⟨⟨gm, z0⟩, z1, ⟨mb, r1, z2⟩, ⟨ms, r2, z3⟩, z4, z5, z6, z7, z8, z9, z10, z11, z12⟩ := id hZ
  obtain ⟨s1, s2, s3, s4, s5, s6, s7⟩ := z11
  refine zSt_row hZ (fun a => js_up_d) (hf 0 (by omega) (by omega) (by omega)) (hf 1 (by omega) (by omega) (by omega)) (js_up_n (js_nek z0 z6 js_kQA)) (js_up_n (js_nek z2 z6 js_kOA)) (js_up_n (js_nek z3 z6 js_kOA)) (fun q => by
    rcases z7 with w | ⟨_, w⟩
    · exact absurd w.2 q
    · exact js_up_n (js_nek w z6 js_kQA)) (fun q => by
    rcases z8 with w | ⟨_, w⟩
    · exact absurd w.2 q
    · exact js_up_n (js_nek w z6 js_kQA))
    ((js_up_n (js_nek z1 z6 js_kOA)).trans (by rw [zTo_e (fun k k1 k2 => hf k (by omega) (by omega) (by omega))]; exact z1)) ((js_up_n (Ne.symm s7.1.2.2.1)).trans (by rw [zfa_e (fun k k1 k2 => hf _ (by omega) (by omega) (by omega))]; exact z4)) ((js_up_n (Ne.symm s7.1.2.2.2)).trans (by rw [zca_e (fun k k1 k2 => hf _ (by omega) (by omega) (by omega))]; exact z5)) (by rw [hE]; exact js_up_s)
    (fun c c1 c2 => ?_) (fun c c1 c2 => ?_)
  · exact (js_up_n (js_nek (z9 _ c1 c2) z6 js_kOA)).trans (by rw [zBo_e (fun k k1 k2 => hf _ (by omega) (by omega) (by omega))]; exact z9 c c1 c2)
  · exact (js_up_n (js_nek (z10 _ c1 c2) z6 js_kOA)).trans (by rw [zSo_e (fun k k1 k2 => hf _ (by omega) (by omega) (by omega))]; exact z10 c c1 c2)
end
theorem zSt_dom {em : Nat} {T : Int} {P : Nat → Prop} {B : Nat → Nat} {Bb Bs : Int → Nat} {f : zF} {h : js_H} (hZ : zSt em T P B Bb Bs f h) {a : Nat} (k : h a = none) : ¬ P a := fun p => hZ.2.2.2.2.2.2.2.2.2.2.2.2 a p k
/-- returns r; the heap then is as Z says; outside P it is as before -/
def zOk (r : Option Value) (P : Nat → Prop) (Z : js_H → Prop) (h : js_H) : js_Q := fun r' h' => r' = .inl r ∧ Z h' ∧ zFr P h h'
theorem zSt_upO {em : Nat} {T : Int} {P : Nat → Prop} {B : Nat → Nat} {Bb Bs : Int → Nat} {f : zF} {h : js_H} {a : Nat} {e : js_E} (hZ : zSt em T P B Bb Bs f h) (hn : ¬ P a) (he : a ≠ em) : zSt em T P B Bb Bs f (js_up h a e) := zSt_fr hZ (Int.le_refl _) (fun c x p q => (js_up_n (fun z : c = a => p.elim (fun y => hn (by rw [← z]; exact y)) (fun y => he (z.symm.trans y)))).trans q)
theorem zFr_upN {P : Nat → Prop} {h h' : js_H} {a : Nat} {e : js_E} (k : zFr P h h') (n : h a = none) : zFr P h (js_up h' a e) := fun b e' nb q => (js_up_n (fun z : b = a => by rw [z, n] at q; cases q)).trans (k b e' nb q)
