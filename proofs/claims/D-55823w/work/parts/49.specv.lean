set_option maxRecDepth 100000
/-! a state gains or loses an element -/
section
variable {em : Nat} {T : Int} {P : Nat → Prop} {B : Nat → Nat} {Bb Bs : Int → Nat} {f f' : zF} {h : js_H}
/-- the row of numbers counts only as far as it tells of the state -/
theorem zSt_cg (hZ : zSt em T P B Bb Bs f h) (h6 : 0 ≤ f 0 ∧ f 0 ≤ 6 ∧ 0 ≤ f 1 ∧ f 1 ≤ 5) (e0 : ∀ k : Int, 0 ≤ k → k < 13 → f' k = f k) (eb : ∀ b k : Int, 0 ≤ b → b < f 0 → 2 ≤ k → k < 9 → f' (13 + 9 * b + k) = f (13 + 9 * b + k)) (ep : ∀ b : Int, 0 ≤ b → b < f 0 → zpt f' b = zpt f b) (es : ∀ i k : Int, 0 ≤ i → i < f 1 → 0 ≤ k → k < 4 → f' (67 + 4 * i + k) = f (67 + 4 * i + k)) (ef : ∀ p : Int, 0 ≤ p → p < 100 → f' (87 + p) = f (87 + p)) (ec : ∀ p : Int, 0 ≤ p → p < 100 → f' (187 + p) = f (187 + p)) : zSt em T P B Bb Bs f' h := by
  obtain ⟨z0, z1, z2, z3, z4, z5, z6, z7, z8, z9, z10, z11, z12⟩ := id hZ
  refine zSt_row hZ (fun a k => k) (e0 0 (by decide) (by decide)) (e0 1 (by decide) (by decide)) rfl rfl rfl (fun _ => rfl) (fun _ => rfl) (by rw [zTo_e (fun k a c => e0 k (by omega) (by omega))]; exact z1) (by rw [zfa_e ef]; exact z4) (by rw [zca_e ec]; exact z5) (by rw [zwa_e (fun k a c => e0 k (by omega) (by omega))]; exact z6) (fun b b1 b2 => ?_) (fun i i1 i2 => by rw [zSo_e (fun k a c => es i k i1 i2 a c)]; exact z10 i i1 i2)
  rw [show zBo f' b = zBo f b from by
    unfold zBo
    rw [ep b b1 b2, eb b 2 b1 b2 (by decide) (by decide), eb b 3 b1 b2 (by decide) (by decide), eb b 4 b1 b2 (by decide) (by decide), eb b 5 b1 b2 (by decide) (by decide), eb b 6 b1 b2 (by decide) (by decide), eb b 7 b1 b2 (by decide) (by decide), eb b 8 b1 b2 (by decide) (by decide)]]
  exact z9 b b1 b2
/-- an element at the end; its row is the old one, or new -/
theorem zSt_addB {v e6 : Nat} {mb : Int} (hZ : zSt em T P B Bb Bs f h) (hmb : 0 ≤ mb ∧ mb ≤ T) (he : (B 6 ≠ em ∧ e6 = B 6) ∨ h e6 = none) (hv : h v = some (zBo f' (f 0))) (nv : ¬ P v) (h6 : 0 ≤ f 0 ∧ f 0 ≤ 6 ∧ 0 ≤ f 1 ∧ f 1 ≤ 5 ∧ f 0 < 6) (e0 : f' 0 = f 0 + 1) (hf : ∀ k : Int, 0 ≤ k → k < 287 → k ≠ 0 → (k < 13 + 9 * f 0 ∨ 13 + 9 * f 0 + 9 ≤ k) → f' k = f k) : zSt em (T + 1) (fun a => P a ∨ a = v ∨ a = e6) (fun k => if k = 6 then e6 else B k) (js_uz Bb (f 0) v) Bs f' (js_up (js_up h e6 (js_aQ true 6 10 (js_uz (zgb Bb (f 0)) (f 0) (some v)))) (B 1) (js_ob true 15 [.int (jI (mb + 1)), .ref e6, .int (jI (f 0 + 1))])) := by
  obtain ⟨⟨gm, z0⟩, z1, ⟨mb1, r1, z2⟩, ⟨ms1, r2, z3⟩, z4, z5, z6, z7, z8, z9, z10, z11, z12⟩ := id hZ
  obtain ⟨s1, s2, s3, s4, s5, s6, s7⟩ := z11
  have ne6 : ∀ {y : Nat} {x : js_E}, h y = some x → (∀ g, x ≠ js_aQ true 6 10 g) → y ≠ e6 := fun {y x} hy hx z => by
    rcases he with ⟨a, c⟩ | c
    · rcases z7 with w | ⟨_, w⟩
      · exact a w.2
      · rw [z, c, w] at hy; exact hx _ (Option.some.inj hy).symm
    · rw [← z, hy] at c; cases c
  have n7 : B 7 ≠ em → B 7 ≠ e6 := fun q z => by
    rcases z8 with w | ⟨_, w⟩
    · exact q w.2
    · rcases he with ⟨a, c⟩ | c
      · exact a (s7.2.1 (c ▸ z.symm))
      · rw [← z, w] at c; cases c
  have kO : ∀ {ci : Nat} {fs : List Value} (g : Int → Option Nat), js_ob true ci fs ≠ js_aQ true 6 10 g := fun g => js_kOQ
  have kA : ∀ {n : Nat} {f : Int → Int} (g : Int → Option Nat), js_aI true 0 n f ≠ js_aQ true 6 10 g := fun g => js_kAQ
  have hk : f 0 + 1 = f' 0 := e0.symm
  have eg : js_uz (zgb Bb (f 0)) (f 0) (some v) = zgb (js_uz Bb (f 0) v) (f 0 + 1) := by
    funext j
    by_cases q : j = f 0
    · rw [q, js_uz_s]; unfold zgb; rw [if_pos (by omega), js_uz_s]
    · rw [js_uz_n q]; unfold zgb
      by_cases q2 : 0 ≤ j ∧ j < f 0
      · rw [if_pos q2, if_pos (by omega), js_uz_n q]
      · rw [if_neg q2, if_neg (by omega)]
  have sv : ∀ b : Int, js_uz Bb (f 0) v b = if b = f 0 then v else Bb b := fun b => rfl
  have hvl : v ≠ B 1 := js_nek hv z2 (js_kOO (by decide))
  refine ⟨⟨gm, (js_up_n (js_nek z0 z2 js_kQO)).trans ((js_up_n (ne6 z0 (fun g z => by cases z))).trans z0)⟩, ?_, ?_, ?_, ?_, ?_, ?_, ?_, ?_, ?_, ?_, ?_, ?_⟩
  · show js_up _ _ _ (B 0) = some (zTo f' B)
    rw [zTo_e (fun k a c => hf k (by omega) (by omega) (by omega) (by omega))]
    exact (js_up_n (js_nek z1 z2 (js_kOO (by decide)))).trans ((js_up_n (ne6 z1 kO)).trans z1)
  · exact ⟨mb + 1, by omega, by rw [← hk]; exact js_up_s⟩
  · exact ⟨ms1, by omega, by rw [hf 1 (by omega) (by omega) (by omega) (by omega)]; exact (js_up_n (Ne.symm s7.1.1)).trans ((js_up_n (ne6 z3 kO)).trans z3)⟩
  · show js_up _ _ _ (B 3) = some _
    rw [zfa_e (fun p a c => hf _ (by omega) (by omega) (by omega) (by omega))]
    exact (js_up_n (js_nek z4 z2 js_kAO)).trans ((js_up_n (ne6 z4 kA)).trans z4)
  · show js_up _ _ _ (B 4) = some _
    rw [zca_e (fun p a c => hf _ (by omega) (by omega) (by omega) (by omega))]
    exact (js_up_n (js_nek z5 z2 js_kAO)).trans ((js_up_n (ne6 z5 kA)).trans z5)
  · show js_up _ _ _ (B 5) = some _
    rw [zwa_e (fun k a c => hf k (by omega) (by omega) (by omega) (by omega))]
    exact (js_up_n (js_nek z6 z2 js_kAO)).trans ((js_up_n (ne6 z6 kA)).trans z6)
  · refine Or.inr ⟨fun z => ?_, ?_⟩
    · have z : e6 = em := z
      exact ne6 z0 (fun g z => by cases z) z.symm
    · rw [← hk, ← eg]
      exact (js_up_n (fun z => ne6 z2 kO z.symm)).trans js_up_s
  · rw [hf 1 (by omega) (by omega) (by omega) (by omega)]
    refine zL_fr z8 (fun q x hx => ?_)
    rcases z8 with w | ⟨_, w⟩
    · exact absurd w.2 q
    · exact (js_up_n (js_nek w z2 js_kQO)).trans ((js_up_n (n7 q)).trans hx)
  · intro b b1 b2
    rw [sv]
    rw [← hk] at b2
    by_cases q : b = f 0
    · rw [if_pos q, q]
      exact (js_up_n hvl).trans ((js_up_n (ne6 hv kO)).trans hv)
    · rw [if_neg q, zBo_e (fun k a c => hf _ (by omega) (by omega) (by omega) (by omega))]
      exact (js_up_n (js_nek (z9 b b1 (by omega)) z2 (js_kOO (by decide)))).trans ((js_up_n (ne6 (z9 b b1 (by omega)) kO)).trans (z9 b b1 (by omega)))
  · intro b b1 b2
    rw [hf 1 (by omega) (by omega) (by omega) (by omega)] at b2
    rw [zSo_e (fun k a c => hf _ (by omega) (by omega) (by omega) (by omega))]
    exact (js_up_n (js_nek (z10 b b1 b2) z2 (js_kOO (by decide)))).trans ((js_up_n (ne6 (z10 b b1 b2) kO)).trans (z10 b b1 b2))
  · refine ⟨⟨Or.inl s1.1, Or.inl s1.2.1, Or.inl s1.2.2.1, Or.inl s1.2.2.2.1, Or.inl s1.2.2.2.2.1, Or.inl s1.2.2.2.2.2⟩, fun _ => Or.inr (Or.inr rfl), fun q => Or.inl (s3 q), fun b b1 b2 => by
      rw [sv]
      by_cases q : b = f 0
      · rw [if_pos q]; exact Or.inr (Or.inl rfl)
      · rw [if_neg q]; exact Or.inl (s4 b b1 (by rw [← hk] at b2; omega)), fun b b1 b2 => Or.inl (s5 b b1 (by rw [hf 1 (by omega) (by omega) (by omega) (by omega)] at b2; exact b2)), fun z => ?_, s7.1, fun z => absurd z.symm (fun y => by
      have y : B 7 = e6 := y
      by_cases q : B 7 = em
      · rw [q] at y; exact ne6 z0 (fun g z => by cases z) y
      · exact n7 q y), fun b c b1 b2 c1 c2 q => by
      rw [sv, sv] at q
      rw [← hk] at b2 c2
      by_cases q1 : b = f 0
      · by_cases q2 : c = f 0
        · exact q1.trans q2.symm
        · rw [if_pos q1, if_neg q2] at q
          exact absurd (q ▸ s4 c c1 (by omega)) nv
      · by_cases q2 : c = f 0
        · rw [if_neg q1, if_pos q2] at q
          exact absurd (q ▸ s4 b b1 (by omega)) nv
        · rw [if_neg q1, if_neg q2] at q
          exact s7.2.2.1 b c b1 (by omega) c1 (by omega) q, by rw [hf 1 (by omega) (by omega) (by omega) (by omega)]; exact s7.2.2.2⟩
    rcases z with z | z | z
    · exact s6 z
    · rw [← z, z0] at hv; cases hv
    · exact ne6 z0 (fun g z => by cases z) z
  · intro a p
    rcases p with p | p | p
    · exact js_up_d (js_up_d (z12 a p))
    · rw [p]; exact js_up_d (js_up_d (fun z => by rw [hv] at z; cases z))
    · rw [p]; exact js_up_d (fun z => by rw [js_up_s] at z; cases z)
/-- an element at the end; its row is the old one, or new -/
theorem zSt_addS {v e6 : Nat} {mb : Int} (hZ : zSt em T P B Bb Bs f h) (hmb : 0 ≤ mb ∧ mb ≤ T) (he : (B 7 ≠ em ∧ e6 = B 7) ∨ h e6 = none) (hv : h v = some (zSo f' (f 1))) (nv : ¬ P v) (h6 : 0 ≤ f 0 ∧ f 0 ≤ 6 ∧ 0 ≤ f 1 ∧ f 1 ≤ 5 ∧ f 1 < 5) (e0 : f' 1 = f 1 + 1) (hf : ∀ k : Int, 0 ≤ k → k < 287 → k ≠ 1 → (k < 67 + 4 * f 1 ∨ 67 + 4 * f 1 + 4 ≤ k) → f' k = f k) : zSt em (T + 1) (fun a => P a ∨ a = v ∨ a = e6) (fun k => if k = 7 then e6 else B k) Bb (js_uz Bs (f 1) v) f' (js_up (js_up h e6 (js_aQ true 6 10 (js_uz (zgb Bs (f 1)) (f 1) (some v)))) (B 2) (js_ob true 15 [.int (jI (mb + 1)), .ref e6, .int (jI (f 1 + 1))])) := by
  obtain ⟨⟨gm, z0⟩, z1, ⟨mb1, r1, z2⟩, ⟨ms1, r2, z3⟩, z4, z5, z6, z7, z8, z9, z10, z11, z12⟩ := id hZ
  obtain ⟨s1, s2, s3, s4, s5, s6, s7⟩ := z11
  have ne6 : ∀ {y : Nat} {x : js_E}, h y = some x → (∀ g, x ≠ js_aQ true 6 10 g) → y ≠ e6 := fun {y x} hy hx z => by
    rcases he with ⟨a, c⟩ | c
    · rcases z8 with w | ⟨_, w⟩
      · exact a w.2
      · rw [z, c, w] at hy; exact hx _ (Option.some.inj hy).symm
    · rw [← z, hy] at c; cases c
  have n7 : B 6 ≠ em → B 6 ≠ e6 := fun q z => by
    rcases z7 with w | ⟨_, w⟩
    · exact q w.2
    · rcases he with ⟨a, c⟩ | c
      · exact q (s7.2.1 (z.trans c))
      · rw [← z, w] at c; cases c
  have kO : ∀ {ci : Nat} {fs : List Value} (g : Int → Option Nat), js_ob true ci fs ≠ js_aQ true 6 10 g := fun g => js_kOQ
  have kA : ∀ {n : Nat} {f : Int → Int} (g : Int → Option Nat), js_aI true 0 n f ≠ js_aQ true 6 10 g := fun g => js_kAQ
  have hk : f 1 + 1 = f' 1 := e0.symm
  have eg : js_uz (zgb Bs (f 1)) (f 1) (some v) = zgb (js_uz Bs (f 1) v) (f 1 + 1) := by
    funext j
    by_cases q : j = f 1
    · rw [q, js_uz_s]; unfold zgb; rw [if_pos (by omega), js_uz_s]
    · rw [js_uz_n q]; unfold zgb
      by_cases q2 : 0 ≤ j ∧ j < f 1
      · rw [if_pos q2, if_pos (by omega), js_uz_n q]
      · rw [if_neg q2, if_neg (by omega)]
  have sv : ∀ b : Int, js_uz Bs (f 1) v b = if b = f 1 then v else Bs b := fun b => rfl
  have hvl : v ≠ B 2 := js_nek hv z3 (js_kOO (by decide))
  refine ⟨⟨gm, (js_up_n (js_nek z0 z3 js_kQO)).trans ((js_up_n (ne6 z0 (fun g z => by cases z))).trans z0)⟩, ?_, ?_, ?_, ?_, ?_, ?_, ?_, ?_, ?_, ?_, ?_, ?_⟩
  · show js_up _ _ _ (B 0) = some (zTo f' B)
    rw [zTo_e (fun k a c => hf k (by omega) (by omega) (by omega) (by omega))]
    exact (js_up_n (js_nek z1 z3 (js_kOO (by decide)))).trans ((js_up_n (ne6 z1 kO)).trans z1)
  · exact ⟨mb1, by omega, by rw [hf 0 (by omega) (by omega) (by omega) (by omega)]; exact (js_up_n s7.1.1).trans ((js_up_n (ne6 z2 kO)).trans z2)⟩
  · exact ⟨mb + 1, by omega, by rw [← hk]; exact js_up_s⟩
  · show js_up _ _ _ (B 3) = some _
    rw [zfa_e (fun p a c => hf _ (by omega) (by omega) (by omega) (by omega))]
    exact (js_up_n (js_nek z4 z3 js_kAO)).trans ((js_up_n (ne6 z4 kA)).trans z4)
  · show js_up _ _ _ (B 4) = some _
    rw [zca_e (fun p a c => hf _ (by omega) (by omega) (by omega) (by omega))]
    exact (js_up_n (js_nek z5 z3 js_kAO)).trans ((js_up_n (ne6 z5 kA)).trans z5)
  · show js_up _ _ _ (B 5) = some _
    rw [zwa_e (fun k a c => hf k (by omega) (by omega) (by omega) (by omega))]
    exact (js_up_n (js_nek z6 z3 js_kAO)).trans ((js_up_n (ne6 z6 kA)).trans z6)
  · rw [hf 0 (by omega) (by omega) (by omega) (by omega)]
    refine zL_fr z7 (fun q x hx => ?_)
    rcases z7 with w | ⟨_, w⟩
    · exact absurd w.2 q
    · exact (js_up_n (js_nek w z3 js_kQO)).trans ((js_up_n (n7 q)).trans hx)
  · refine Or.inr ⟨fun z => ?_, ?_⟩
    · have z : e6 = em := z
      exact ne6 z0 (fun g z => by cases z) z.symm
    · rw [← hk, ← eg]
      exact (js_up_n (fun z => ne6 z3 kO z.symm)).trans js_up_s
  · intro b b1 b2
    rw [hf 0 (by omega) (by omega) (by omega) (by omega)] at b2
    rw [zBo_e (fun k a c => hf _ (by omega) (by omega) (by omega) (by omega))]
    exact (js_up_n (js_nek (z9 b b1 b2) z3 (js_kOO (by decide)))).trans ((js_up_n (ne6 (z9 b b1 b2) kO)).trans (z9 b b1 b2))
  · intro b b1 b2
    rw [sv]
    rw [← hk] at b2
    by_cases q : b = f 1
    · rw [if_pos q, q]
      exact (js_up_n hvl).trans ((js_up_n (ne6 hv kO)).trans hv)
    · rw [if_neg q, zSo_e (fun k a c => hf _ (by omega) (by omega) (by omega) (by omega))]
      exact (js_up_n (js_nek (z10 b b1 (by omega)) z3 (js_kOO (by decide)))).trans ((js_up_n (ne6 (z10 b b1 (by omega)) kO)).trans (z10 b b1 (by omega)))
  · refine ⟨⟨Or.inl s1.1, Or.inl s1.2.1, Or.inl s1.2.2.1, Or.inl s1.2.2.2.1, Or.inl s1.2.2.2.2.1, Or.inl s1.2.2.2.2.2⟩, fun q => Or.inl (s2 q), fun _ => Or.inr (Or.inr rfl), fun b b1 b2 => Or.inl (s4 b b1 (by rw [hf 0 (by omega) (by omega) (by omega) (by omega)] at b2; exact b2)), fun b b1 b2 => by
      rw [sv]
      by_cases q : b = f 1
      · rw [if_pos q]; exact Or.inr (Or.inl rfl)
      · rw [if_neg q]; exact Or.inl (s5 b b1 (by rw [← hk] at b2; omega)), fun z => ?_, s7.1, fun z => by
      have z : B 6 = e6 := z
      by_cases q : B 6 = em
      · exact q
      · exact absurd z (n7 q), by rw [hf 0 (by omega) (by omega) (by omega) (by omega)]; exact s7.2.2.1, fun b c b1 b2 c1 c2 q => by
      rw [sv, sv] at q
      rw [← hk] at b2 c2
      by_cases q1 : b = f 1
      · by_cases q2 : c = f 1
        · exact q1.trans q2.symm
        · rw [if_pos q1, if_neg q2] at q
          exact absurd (q ▸ s5 c c1 (by omega)) nv
      · by_cases q2 : c = f 1
        · rw [if_neg q1, if_pos q2] at q
          exact absurd (q ▸ s5 b b1 (by omega)) nv
        · rw [if_neg q1, if_neg q2] at q
          exact s7.2.2.2 b c b1 (by omega) c1 (by omega) q⟩
    rcases z with z | z | z
    · exact s6 z
    · rw [← z, z0] at hv; cases hv
    · exact ne6 z0 (fun g z => by cases z) z
  · intro a p
    rcases p with p | p | p
    · exact js_up_d (js_up_d (z12 a p))
    · rw [p]; exact js_up_d (js_up_d (fun z => by rw [hv] at z; cases z))
    · rw [p]; exact js_up_d (fun z => by rw [js_up_s] at z; cases z)
end
