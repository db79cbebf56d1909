set_option maxRecDepth 100000
theorem arrV_c {cI : ClassId} {N : Nat} {f g : Nat → Value} (h : ∀ j : Nat, j < N → f j = g j) : arrV cI N f = arrV cI N g := by
  unfold arrV
  congr 2
  funext j
  exact h j.val j.isLt
section
variable {ρ : js_R} {M : js_M} {Q : js_Q} {d kc ks pc : Nat} {L : List (Nat × Value)} {st : List Value} {h : js_H}
/-- an array's picture past its end is free -/
theorem js_norm {a t n : Nat} {g g' : Int → Int} (hh : h a = some (js_aI true t n g)) (q : ∀ j : Int, 0 ≤ j → j < n → g' j = g j) (nx : js_ok ρ M Q d kc ks pc L st (js_up h a (js_aI true t n g'))) : js_ok ρ M Q d kc ks pc L st h := by
  intro p l e R s m args below meth c H locs cells slots ls mc ms hC h1 h2 h3 h4 h5 h6 h7 h8 h9 h10
  obtain ⟨g1, g2, g3⟩ := h4 a _ hh rfl
  have g4 : H[a]? = some (vp_cell (js_dA ρ t) (n, .inl (fun (j : Nat) => jI (g (j : Int))))) := g1
  have hat : js_at ρ a (js_aI true t n g') H := by
    show H[a]? = some (vp_cell (js_dA ρ t) (n, .inl (fun (j : Nat) => jI (g' (j : Int)))))
    rw [vp_cell_i] at g4 ⊢
    rw [g4]
    exact congrArg some (arrV_c (fun j hj => by rw [q (j : Int) (by omega) (by omega)]))
  exact nx hC h1 h2 (h3.up rfl (Or.inr ⟨_, hh, rfl⟩)) (h4.up (Nat.le_refl _) (fun _ _ _ => rfl) hat g2 g3) h5 h6 h7 h8 h9 h10
end
/-! the model object with its arrays: A 0 itself, A 1 .. A 11 its arrays -/
def zH (A : Nat → Nat) (f bef asd svd pas rf it wt tx od ln : Int → Int) (isS pm th len at_ wr fa om lm : Int) (h : js_H) : js_H := js_up (js_up (js_up (js_up (js_up (js_up (js_up (js_up (js_up (js_up (js_up (js_up (h) (A 11) (js_aI true 3 40 ln)) (A 10) (js_aI true 0 300 od)) (A 9) (js_aI true 3 60 tx)) (A 8) (js_aI true 1 100 wt)) (A 7) (js_aI true 1 100 it)) (A 6) (js_aI true 0 4 rf)) (A 5) (js_aI true 0 2296 pas)) (A 4) (js_aI true 0 287 svd)) (A 3) (js_aI true 0 287 asd)) (A 2) (js_aI true 0 287 bef)) (A 1) (js_aI true 0 287 f)) (A 0) (js_ob true 2 [.ref (A 1), .ref (A 2), .ref (A 3), .ref (A 4), .int (jI isS), .ref (A 5), .int (jI pm), .int (jI th), .ref (A 6), .ref (A 7), .ref (A 8), .ref (A 9), .int (jI len), .int (jI at_), .int (jI wr), .int (jI fa), .ref (A 10), .int (jI om), .ref (A 11), .int (jI lm)])
/-- twelve places -/
def zA (A : Nat → Nat) : Prop := ∀ i j : Nat, i < 12 → j < 12 → i ≠ j → A i ≠ A j
def zMc (A : Nat → Nat) (f bef asd svd pas rf it wt tx od ln : Int → Int) (isS pm th len at_ wr fa om lm : Int) (h : js_H) : Prop := h (A 0) = some (js_ob true 2 [.ref (A 1), .ref (A 2), .ref (A 3), .ref (A 4), .int (jI isS), .ref (A 5), .int (jI pm), .int (jI th), .ref (A 6), .ref (A 7), .ref (A 8), .ref (A 9), .int (jI len), .int (jI at_), .int (jI wr), .int (jI fa), .ref (A 10), .int (jI om), .ref (A 11), .int (jI lm)]) ∧ h (A 1) = some (js_aI true 0 287 f) ∧ h (A 2) = some (js_aI true 0 287 bef) ∧ h (A 3) = some (js_aI true 0 287 asd) ∧ h (A 4) = some (js_aI true 0 287 svd) ∧ h (A 5) = some (js_aI true 0 2296 pas) ∧ h (A 6) = some (js_aI true 0 4 rf) ∧ h (A 7) = some (js_aI true 1 100 it) ∧ h (A 8) = some (js_aI true 1 100 wt) ∧ h (A 9) = some (js_aI true 3 60 tx) ∧ h (A 10) = some (js_aI true 0 300 od) ∧ h (A 11) = some (js_aI true 3 40 ln)
theorem zH_n {A : Nat → Nat} {f bef asd svd pas rf it wt tx od ln : Int → Int} {isS pm th len at_ wr fa om lm : Int} {h : js_H} {q : Nat} (hq : ∀ i : Nat, i < 12 → q ≠ A i) : zH A f bef asd svd pas rf it wt tx od ln isS pm th len at_ wr fa om lm h q = h q := by
  unfold zH
  rw [js_up_n (hq 0 (by decide)), js_up_n (hq 1 (by decide)), js_up_n (hq 2 (by decide)), js_up_n (hq 3 (by decide)), js_up_n (hq 4 (by decide)), js_up_n (hq 5 (by decide)), js_up_n (hq 6 (by decide)), js_up_n (hq 7 (by decide)), js_up_n (hq 8 (by decide)), js_up_n (hq 9 (by decide)), js_up_n (hq 10 (by decide)), js_up_n (hq 11 (by decide))]
theorem zH_Mc {A : Nat → Nat} {f bef asd svd pas rf it wt tx od ln : Int → Int} {isS pm th len at_ wr fa om lm : Int} {h : js_H} (hA : zA A) : zMc A f bef asd svd pas rf it wt tx od ln isS pm th len at_ wr fa om lm (zH A f bef asd svd pas rf it wt tx od ln isS pm th len at_ wr fa om lm h) := by
  unfold zMc zH
  refine ⟨js_up_s, ?_, ?_, ?_, ?_, ?_, ?_, ?_, ?_, ?_, ?_, ?_⟩
  · rw [js_up_n (hA 1 0 (by decide) (by decide) (by decide)), js_up_s]
  · rw [js_up_n (hA 2 0 (by decide) (by decide) (by decide)), js_up_n (hA 2 1 (by decide) (by decide) (by decide)), js_up_s]
  · rw [js_up_n (hA 3 0 (by decide) (by decide) (by decide)), js_up_n (hA 3 1 (by decide) (by decide) (by decide)), js_up_n (hA 3 2 (by decide) (by decide) (by decide)), js_up_s]
  · rw [js_up_n (hA 4 0 (by decide) (by decide) (by decide)), js_up_n (hA 4 1 (by decide) (by decide) (by decide)), js_up_n (hA 4 2 (by decide) (by decide) (by decide)), js_up_n (hA 4 3 (by decide) (by decide) (by decide)), js_up_s]
  · rw [js_up_n (hA 5 0 (by decide) (by decide) (by decide)), js_up_n (hA 5 1 (by decide) (by decide) (by decide)), js_up_n (hA 5 2 (by decide) (by decide) (by decide)), js_up_n (hA 5 3 (by decide) (by decide) (by decide)), js_up_n (hA 5 4 (by decide) (by decide) (by decide)), js_up_s]
  · rw [js_up_n (hA 6 0 (by decide) (by decide) (by decide)), js_up_n (hA 6 1 (by decide) (by decide) (by decide)), js_up_n (hA 6 2 (by decide) (by decide) (by decide)), js_up_n (hA 6 3 (by decide) (by decide) (by decide)), js_up_n (hA 6 4 (by decide) (by decide) (by decide)), js_up_n (hA 6 5 (by decide) (by decide) (by decide)), js_up_s]
  · rw [js_up_n (hA 7 0 (by decide) (by decide) (by decide)), js_up_n (hA 7 1 (by decide) (by decide) (by decide)), js_up_n (hA 7 2 (by decide) (by decide) (by decide)), js_up_n (hA 7 3 (by decide) (by decide) (by decide)), js_up_n (hA 7 4 (by decide) (by decide) (by decide)), js_up_n (hA 7 5 (by decide) (by decide) (by decide)), js_up_n (hA 7 6 (by decide) (by decide) (by decide)), js_up_s]
  · rw [js_up_n (hA 8 0 (by decide) (by decide) (by decide)), js_up_n (hA 8 1 (by decide) (by decide) (by decide)), js_up_n (hA 8 2 (by decide) (by decide) (by decide)), js_up_n (hA 8 3 (by decide) (by decide) (by decide)), js_up_n (hA 8 4 (by decide) (by decide) (by decide)), js_up_n (hA 8 5 (by decide) (by decide) (by decide)), js_up_n (hA 8 6 (by decide) (by decide) (by decide)), js_up_n (hA 8 7 (by decide) (by decide) (by decide)), js_up_s]
  · rw [js_up_n (hA 9 0 (by decide) (by decide) (by decide)), js_up_n (hA 9 1 (by decide) (by decide) (by decide)), js_up_n (hA 9 2 (by decide) (by decide) (by decide)), js_up_n (hA 9 3 (by decide) (by decide) (by decide)), js_up_n (hA 9 4 (by decide) (by decide) (by decide)), js_up_n (hA 9 5 (by decide) (by decide) (by decide)), js_up_n (hA 9 6 (by decide) (by decide) (by decide)), js_up_n (hA 9 7 (by decide) (by decide) (by decide)), js_up_n (hA 9 8 (by decide) (by decide) (by decide)), js_up_s]
  · rw [js_up_n (hA 10 0 (by decide) (by decide) (by decide)), js_up_n (hA 10 1 (by decide) (by decide) (by decide)), js_up_n (hA 10 2 (by decide) (by decide) (by decide)), js_up_n (hA 10 3 (by decide) (by decide) (by decide)), js_up_n (hA 10 4 (by decide) (by decide) (by decide)), js_up_n (hA 10 5 (by decide) (by decide) (by decide)), js_up_n (hA 10 6 (by decide) (by decide) (by decide)), js_up_n (hA 10 7 (by decide) (by decide) (by decide)), js_up_n (hA 10 8 (by decide) (by decide) (by decide)), js_up_n (hA 10 9 (by decide) (by decide) (by decide)), js_up_s]
  · rw [js_up_n (hA 11 0 (by decide) (by decide) (by decide)), js_up_n (hA 11 1 (by decide) (by decide) (by decide)), js_up_n (hA 11 2 (by decide) (by decide) (by decide)), js_up_n (hA 11 3 (by decide) (by decide) (by decide)), js_up_n (hA 11 4 (by decide) (by decide) (by decide)), js_up_n (hA 11 5 (by decide) (by decide) (by decide)), js_up_n (hA 11 6 (by decide) (by decide) (by decide)), js_up_n (hA 11 7 (by decide) (by decide) (by decide)), js_up_n (hA 11 8 (by decide) (by decide) (by decide)), js_up_n (hA 11 9 (by decide) (by decide) (by decide)), js_up_n (hA 11 10 (by decide) (by decide) (by decide)), js_up_s]
theorem zH_eq {A : Nat → Nat} {f bef asd svd pas rf it wt tx od ln : Int → Int} {isS pm th len at_ wr fa om lm : Int} {h g : js_H} (hA : zA A) (p0 : g (A 0) = some (js_ob true 2 [.ref (A 1), .ref (A 2), .ref (A 3), .ref (A 4), .int (jI isS), .ref (A 5), .int (jI pm), .int (jI th), .ref (A 6), .ref (A 7), .ref (A 8), .ref (A 9), .int (jI len), .int (jI at_), .int (jI wr), .int (jI fa), .ref (A 10), .int (jI om), .ref (A 11), .int (jI lm)])) (p1 : g (A 1) = some (js_aI true 0 287 f)) (p2 : g (A 2) = some (js_aI true 0 287 bef)) (p3 : g (A 3) = some (js_aI true 0 287 asd)) (p4 : g (A 4) = some (js_aI true 0 287 svd)) (p5 : g (A 5) = some (js_aI true 0 2296 pas)) (p6 : g (A 6) = some (js_aI true 0 4 rf)) (p7 : g (A 7) = some (js_aI true 1 100 it)) (p8 : g (A 8) = some (js_aI true 1 100 wt)) (p9 : g (A 9) = some (js_aI true 3 60 tx)) (p10 : g (A 10) = some (js_aI true 0 300 od)) (p11 : g (A 11) = some (js_aI true 3 40 ln)) (hf : ∀ q : Nat, (∀ i : Nat, i < 12 → q ≠ A i) → g q = h q) : g = zH A f bef asd svd pas rf it wt tx od ln isS pm th len at_ wr fa om lm h := by
  funext q
  by_cases z : ∀ i : Nat, i < 12 → q ≠ A i
  · rw [zH_n z, hf q z]
  · have z2 : ∃ i : Nat, i < 12 ∧ q = A i := Classical.byContradiction (fun y => z (fun i hi e => y ⟨i, hi, e⟩))
    obtain ⟨i, hi, e⟩ := z2
    subst e
    obtain ⟨m0, m1, m2, m3, m4, m5, m6, m7, m8, m9, m10, m11⟩ := zH_Mc (h := h) (f := f) (bef := bef) (asd := asd) (svd := svd) (pas := pas) (rf := rf) (it := it) (wt := wt) (tx := tx) (od := od) (ln := ln) (isS := isS) (pm := pm) (th := th) (len := len) (at_ := at_) (wr := wr) (fa := fa) (om := om) (lm := lm) hA
    have c : i = 0 ∨ i = 1 ∨ i = 2 ∨ i = 3 ∨ i = 4 ∨ i = 5 ∨ i = 6 ∨ i = 7 ∨ i = 8 ∨ i = 9 ∨ i = 10 ∨ i = 11 := by omega
    rcases c with rfl | rfl | rfl | rfl | rfl | rfl | rfl | rfl | rfl | rfl | rfl | rfl
    · rw [p0, m0]
    · rw [p1, m1]
    · rw [p2, m2]
    · rw [p3, m3]
    · rw [p4, m4]
    · rw [p5, m5]
    · rw [p6, m6]
    · rw [p7, m7]
    · rw [p8, m8]
    · rw [p9, m9]
    · rw [p10, m10]
    · rw [p11, m11]
theorem zH_fr {A : Nat → Nat} {f bef asd svd pas rf it wt tx od ln : Int → Int} {isS pm th len at_ wr fa om lm : Int} {h g : js_H} (hf : ∀ q : Nat, (∀ i : Nat, i < 12 → q ≠ A i) → g q = h q) : zH A f bef asd svd pas rf it wt tx od ln isS pm th len at_ wr fa om lm g = zH A f bef asd svd pas rf it wt tx od ln isS pm th len at_ wr fa om lm h := by
  unfold zH js_up
  funext q
  by_cases c0 : q = A 0
  · rw [if_pos c0, if_pos c0]
  rw [if_neg c0, if_neg c0]
  by_cases c1 : q = A 1
  · rw [if_pos c1, if_pos c1]
  rw [if_neg c1, if_neg c1]
  by_cases c2 : q = A 2
  · rw [if_pos c2, if_pos c2]
  rw [if_neg c2, if_neg c2]
  by_cases c3 : q = A 3
  · rw [if_pos c3, if_pos c3]
  rw [if_neg c3, if_neg c3]
  by_cases c4 : q = A 4
  · rw [if_pos c4, if_pos c4]
  rw [if_neg c4, if_neg c4]
  by_cases c5 : q = A 5
  · rw [if_pos c5, if_pos c5]
  rw [if_neg c5, if_neg c5]
  by_cases c6 : q = A 6
  · rw [if_pos c6, if_pos c6]
  rw [if_neg c6, if_neg c6]
  by_cases c7 : q = A 7
  · rw [if_pos c7, if_pos c7]
  rw [if_neg c7, if_neg c7]
  by_cases c8 : q = A 8
  · rw [if_pos c8, if_pos c8]
  rw [if_neg c8, if_neg c8]
  by_cases c9 : q = A 9
  · rw [if_pos c9, if_pos c9]
  rw [if_neg c9, if_neg c9]
  by_cases c10 : q = A 10
  · rw [if_pos c10, if_pos c10]
  rw [if_neg c10, if_neg c10]
  by_cases c11 : q = A 11
  · rw [if_pos c11, if_pos c11]
  rw [if_neg c11, if_neg c11]
  refine hf q (fun i hi e => ?_)
  have c : i = 0 ∨ i = 1 ∨ i = 2 ∨ i = 3 ∨ i = 4 ∨ i = 5 ∨ i = 6 ∨ i = 7 ∨ i = 8 ∨ i = 9 ∨ i = 10 ∨ i = 11 := by omega
  rcases c with rfl | rfl | rfl | rfl | rfl | rfl | rfl | rfl | rfl | rfl | rfl | rfl
  · exact c0 e
  · exact c1 e
  · exact c2 e
  · exact c3 e
  · exact c4 e
  · exact c5 e
  · exact c6 e
  · exact c7 e
  · exact c8 e
  · exact c9 e
  · exact c10 e
  · exact c11 e
