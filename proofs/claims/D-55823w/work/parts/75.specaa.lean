set_option maxRecDepth 100000
/-! a text of the object changes -/
theorem zC_sbI {em : Nat} {T : Int} {col col' : Nat → Nat} {c : Nat} {B : Nat → Nat} {Bb Bs : Int → Nat} {x : Nat} {f : zF} {Y : zY} {h h' : js_H} {sv rv : Value} {hi ib lb vi vl cs v' : Nat} {tx' : Int → Int} {len' : Int}
    (c1 : ∀ a : Nat, h a = none → col a = 0) (c2 : col em = 0) (c3 : 2 ≤ c) (c4 : 11 ≤ T ∧ zI T f) (c5 : zSt em T (fun q => col q = c) B Bb Bs f h) (c6 : h x = some (js_ob true 0 [.ref (B 0), sv, .ref hi, .ref ib, .ref lb, .int (jI Y.2.2.2.2.1), .int (jI Y.2.2.2.2.2.1), rv])) (c7 : col x = 1) (c8 : zSv em T col c cs Y.1 sv h) (c9 : zHs em T col c cs hi Y.2.1.1 Y.2.1.2 h ∧ 0 ≤ Y.2.1.1 ∧ Y.2.1.1 ≤ 8) (c10 : zSb col ib vi Y.2.2.1.1 Y.2.2.1.2 h ∧ zSb col lb vl Y.2.2.2.1.1 Y.2.2.2.1.2 h ∧ zNe ib lb ∧ zNe vi vl) (c11 : zRo col Y.2.2.2.2.2.2 rv h)
    (K : zKN em col col' (fun a => a = ib ∨ a = vi) h h') (hd0 : ∀ a : Nat, h' a = none → col' a = 0) (new : zSb col' ib v' tx' len' h') (hv : zNe v' vl) (ke : zKe col col' h h') : zC em T col' c B Bb Bs x f (Y.1, Y.2.1, (tx', len'), Y.2.2.2) h' ∧ zKe col col' h h' := by
  obtain ⟨hT1, hT2⟩ := zI_T c4.2
  obtain ⟨⟨m1, m2⟩, m3, cap, ml, g, s4, s5, s6⟩ := id c10.1
  obtain ⟨⟨o1, o2⟩, o3, cap2, ml2, g2, t4, t5, t6⟩ := id c10.2.1
  have nN : ∀ {m : Nat}, 2 ≤ m → ∀ a : Nat, col a = m → ¬ (a = ib ∨ a = vi) := fun {m} w a z y => by
    rcases y with y | y
    · rw [y, m1] at z; omega
    · rw [y, m2] at z; omega
  have nem : ¬ (em = ib ∨ em = vi) := fun y => by
    rcases y with y | y
    · rw [y, m1] at c2; omega
    · rw [y, m2] at c2; omega
  have ko : ∀ {a : Nat} {e : js_E}, h a = some e → e ≠ js_ob true 17 [.ref vi, .int (jI 0), .int (jI ml), .int (jI Y.2.2.1.2)] → e ≠ js_aI true 2 cap g → ¬ (a = ib ∨ a = vi) := fun {a e} z p p2 y => by
    rcases y with y | y
    · rw [y, s4] at z; exact p (Option.some.inj z).symm
    · rw [y, s5] at z; exact p2 (Option.some.inj z).symm
  have x1 := K x _ (Or.inl (by omega)) (ko c6 (js_kOO (by decide)) js_kOA) c6
  have ot := zSb_K c10.2.1 K (fun y => by
    rcases y with y | y
    · exact (fun z => c10.2.2.1 z.symm) y
    · exact js_nek t4 s5 js_kOA y) (fun y => by
    rcases y with y | y
    · exact js_nek t5 s4 js_kAO y
    · exact c10.2.2.2 y.symm)
  refine ⟨⟨hd0, ?_, c3, c4, zSt_K c5 (Int.le_refl _) K hd0 c3 (nN c3) ⟨c2, nem⟩, sv, rv, hi, ib, lb, v', vl, cs, x1.1, x1.2.trans c7, zSv_K c8 ⟨Int.le_refl _, hT2⟩ K hd0 (nN c8.1.1) ⟨c2, nem⟩, ⟨zHs_K c9.1 ⟨Int.le_refl _, hT2⟩ K hd0 (fun a p1 p2 p3 p4 y => ?_) ⟨c2, nem⟩ ⟨c3, c8.1.1⟩, c9.2⟩, ⟨new, ot, c10.2.2.1, hv⟩, zRo_K c11 K (fun b fs w => ko w (js_kOO (by decide)) js_kOA)⟩, ke⟩
  · obtain ⟨gm, w⟩ := c5.1
    exact (K em _ (Or.inr rfl) nem w).2.trans c2
  · have p5 := p4 (by rcases y with y | y
                      · rw [y]; exact m1
                      · rw [y]; exact m2)
    rcases p5 with ⟨fs, w⟩ | ⟨g', w⟩
    · exact ko w (js_kOO (by decide)) js_kOA y
    · exact ko w js_kQO js_kQA y
theorem zC_sbL {em : Nat} {T : Int} {col col' : Nat → Nat} {c : Nat} {B : Nat → Nat} {Bb Bs : Int → Nat} {x : Nat} {f : zF} {Y : zY} {h h' : js_H} {sv rv : Value} {hi ib lb vi vl cs v' : Nat} {tx' : Int → Int} {len' : Int}
    (c1 : ∀ a : Nat, h a = none → col a = 0) (c2 : col em = 0) (c3 : 2 ≤ c) (c4 : 11 ≤ T ∧ zI T f) (c5 : zSt em T (fun q => col q = c) B Bb Bs f h) (c6 : h x = some (js_ob true 0 [.ref (B 0), sv, .ref hi, .ref ib, .ref lb, .int (jI Y.2.2.2.2.1), .int (jI Y.2.2.2.2.2.1), rv])) (c7 : col x = 1) (c8 : zSv em T col c cs Y.1 sv h) (c9 : zHs em T col c cs hi Y.2.1.1 Y.2.1.2 h ∧ 0 ≤ Y.2.1.1 ∧ Y.2.1.1 ≤ 8) (c10 : zSb col ib vi Y.2.2.1.1 Y.2.2.1.2 h ∧ zSb col lb vl Y.2.2.2.1.1 Y.2.2.2.1.2 h ∧ zNe ib lb ∧ zNe vi vl) (c11 : zRo col Y.2.2.2.2.2.2 rv h)
    (K : zKN em col col' (fun a => a = lb ∨ a = vl) h h') (hd0 : ∀ a : Nat, h' a = none → col' a = 0) (new : zSb col' lb v' tx' len' h') (hv : zNe v' vi) (ke : zKe col col' h h') : zC em T col' c B Bb Bs x f (Y.1, Y.2.1, Y.2.2.1, (tx', len'), Y.2.2.2.2) h' ∧ zKe col col' h h' := by
  obtain ⟨hT1, hT2⟩ := zI_T c4.2
  obtain ⟨⟨m1, m2⟩, m3, cap, ml, g, s4, s5, s6⟩ := id c10.2.1
  obtain ⟨⟨o1, o2⟩, o3, cap2, ml2, g2, t4, t5, t6⟩ := id c10.1
  have nN : ∀ {m : Nat}, 2 ≤ m → ∀ a : Nat, col a = m → ¬ (a = lb ∨ a = vl) := fun {m} w a z y => by
    rcases y with y | y
    · rw [y, m1] at z; omega
    · rw [y, m2] at z; omega
  have nem : ¬ (em = lb ∨ em = vl) := fun y => by
    rcases y with y | y
    · rw [y, m1] at c2; omega
    · rw [y, m2] at c2; omega
  have ko : ∀ {a : Nat} {e : js_E}, h a = some e → e ≠ js_ob true 17 [.ref vl, .int (jI 0), .int (jI ml), .int (jI Y.2.2.2.1.2)] → e ≠ js_aI true 2 cap g → ¬ (a = lb ∨ a = vl) := fun {a e} z p p2 y => by
    rcases y with y | y
    · rw [y, s4] at z; exact p (Option.some.inj z).symm
    · rw [y, s5] at z; exact p2 (Option.some.inj z).symm
  have x1 := K x _ (Or.inl (by omega)) (ko c6 (js_kOO (by decide)) js_kOA) c6
  have ot := zSb_K c10.1 K (fun y => by
    rcases y with y | y
    · exact c10.2.2.1 y
    · exact js_nek t4 s5 js_kOA y) (fun y => by
    rcases y with y | y
    · exact js_nek t5 s4 js_kAO y
    · exact (fun z => c10.2.2.2 z.symm) y.symm)
  refine ⟨⟨hd0, ?_, c3, c4, zSt_K c5 (Int.le_refl _) K hd0 c3 (nN c3) ⟨c2, nem⟩, sv, rv, hi, ib, lb, vi, v', cs, x1.1, x1.2.trans c7, zSv_K c8 ⟨Int.le_refl _, hT2⟩ K hd0 (nN c8.1.1) ⟨c2, nem⟩, ⟨zHs_K c9.1 ⟨Int.le_refl _, hT2⟩ K hd0 (fun a p1 p2 p3 p4 y => ?_) ⟨c2, nem⟩ ⟨c3, c8.1.1⟩, c9.2⟩, ⟨ot, new, c10.2.2.1, fun z => hv z.symm⟩, zRo_K c11 K (fun b fs w => ko w (js_kOO (by decide)) js_kOA)⟩, ke⟩
  · obtain ⟨gm, w⟩ := c5.1
    exact (K em _ (Or.inr rfl) nem w).2.trans c2
  · have p5 := p4 (by rcases y with y | y
                      · rw [y]; exact m1
                      · rw [y]; exact m2)
    rcases p5 with ⟨fs, w⟩ | ⟨g', w⟩
    · exact ko w (js_kOO (by decide)) js_kOA y
    · exact ko w js_kQO js_kQA y
