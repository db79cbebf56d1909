set_option maxRecDepth 100000
/-! states change hands: save, undo, restore -/
theorem zC_save {em : Nat} {T : Int} {col : Nat → Nat} {c : Nat} {B : Nat → Nat} {Bb Bs : Int → Nat} {x : Nat} {f : zF} {Y : zY} {h h1 h' : js_H} {sv rv : Value} {hi ib lb vi vl cs ed : Nat} {hd tl : Int} {q : Int → Nat} {ge : Int → Option Nat} {ch : Int → Nat}
    (c1 : ∀ a : Nat, h a = none → col a = 0) (c2 : col em = 0) (c3 : 2 ≤ c) (c4 : 11 ≤ T ∧ zI T f) (c5 : zSt em T (fun q => col q = c) B Bb Bs f h) (c6 : h x = some (js_ob true 0 [.ref (B 0), sv, .ref hi, .ref ib, .ref lb, .int (jI Y.2.2.2.2.1), .int (jI Y.2.2.2.2.2.1), rv])) (c7 : col x = 1) (c8 : zSv em T col c cs Y.1 sv h)
    (y1 : h hi = some (js_ob true 16 [.ref ed, .int (jI hd), .int (jI tl)])) (y2 : h ed = some (js_aQ true 6 17 ge)) (y3 : zDr 17 hd tl Y.2.1.1 ge q) (y4 : col hi = 1 ∧ col ed = 1) (y5 : ∀ j : Int, 0 ≤ j → j < Y.2.1.1 → (2 ≤ ch j ∧ zNe (ch j) c ∧ zNe (ch j) cs) ∧ zSx em T col (ch j) (q j) (Y.2.1.2 j) h) (y6 : ∀ i j : Int, 0 ≤ i → i < Y.2.1.1 → 0 ≤ j → j < Y.2.1.1 → ch i = ch j → i = j) (hn : 0 ≤ Y.2.1.1 ∧ Y.2.1.1 ≤ 8)
    (c10 : zSb col ib vi Y.2.2.1.1 Y.2.2.1.2 h ∧ zSb col lb vl Y.2.2.2.1.1 Y.2.2.2.1.2 h ∧ zNe ib lb ∧ zNe vi vl) (c11 : zRo col Y.2.2.2.2.2.2 rv h)
    {C : Nat → Nat} {Cb Cs : Int → Nat} {P2 : Nat → Prop} {G : zF} (iG : zI T G) (k1 : zSt em 11 P2 C Cb Cs G h1) (k2 : ∀ a, P2 a → h a = none) (k3 : zFr (fun _ => False) h h1) (k4 : h' = js_up h1 x (js_ob true 0 [.ref (B 0), .ref (C 0), .ref hi, .ref ib, .ref lb, .int (jI Y.2.2.2.2.1), .int (jI Y.2.2.2.2.2.1), rv])) : ∃ col' : Nat → Nat, zC em T col' c B Bb Bs x f (some G, Y.2) h' ∧ zKe col col' h h' := by
  have nn : ∀ {a : Nat} {e : js_E}, h a = some e → h a ≠ none := fun z w => by rw [w] at z; cases z
  obtain ⟨hT1, hT2⟩ := zI_T c4.2
  obtain ⟨k, n1, n2, n3, n4⟩ := zcol_new c cs ch Y.2.1.1.toNat
  have hcl : ∃ col' : Nat → Nat, (∀ a, P2 a → col' a = k) ∧ ∀ a, ¬ P2 a → col' a = col a := ⟨fun a => @ite Nat (P2 a) (Classical.propDecidable _) k (col a), fun a p => if_pos p, fun a p => if_neg p⟩
  obtain ⟨col', e1, e2⟩ := hcl
  have eo : ∀ {a : Nat} {e : js_E}, h a = some e → col' a = col a := fun {a e} w => e2 a (fun p => nn w (k2 a p))
  have hh : ∀ (a : Nat) (e : js_E), a ≠ x → h1 a = some e → h' a = some e := fun a e z0 w => by rw [k4]; exact (js_up_n z0).trans (w)
  have K : zKN em col col' (fun a => a = x) h h' := fun a e p z w => ⟨hh a e (fun y => z y) (k3 a e (fun z => z) w), eo w⟩
  have hd0 : ∀ a : Nat, h' a = none → col' a = 0 := fun a z => by
    rw [k4] at z
    have z1 := zup_none (z)
    rw [e2 a (fun p => k1.2.2.2.2.2.2.2.2.2.2.2.2 a p z1)]
    exact c1 a (by cases w : h a with
      | none => rfl
      | some e => rw [k3 a e (fun z => z) w] at z1; cases z1)
  have nN : ∀ {m : Nat}, 2 ≤ m → ∀ a : Nat, col a = m → ¬ (a = x) := fun {m} m2 a z y => by
    rw [y, c7] at z; omega
  have nem : ¬ (em = x) := fun y => by
    rw [y, c7] at c2; omega
  have ko : ∀ {a : Nat} {e : js_E}, h a = some e → e ≠ js_ob true 0 [.ref (B 0), sv, .ref hi, .ref ib, .ref lb, .int (jI Y.2.2.2.2.1), .int (jI Y.2.2.2.2.2.1), rv] → ¬ (a = x) := fun {a e} z p0 y => by
    rw [y, c6] at z; exact p0 (Option.some.inj z).symm
  have sc : zSx em T col' k (C 0) G h' := by
    refine ⟨iG, C, Cb, Cs, rfl, zSt_P (P := P2) (zSt_fr k1 c4.1 (fun a e p w => ?_)) (fun a _ p => e1 a p) (fun y => ?_) (fun a p y => ?_)⟩
    · rcases p with p | p
      · exact hh a e (fun y => by rw [y] at p; exact nn c6 (k2 _ p)) w
      · exact hh a e (fun y => nem (p.symm.trans y)) w
    · have y : col' em = k := y
      obtain ⟨gm, w⟩ := c5.1
      rw [eo w, c2] at y; omega
    · have p : col' a = k := p
      rw [hd0 a y] at p; omega
  have y1' := K hi _ (Or.inl (by omega)) (ko y1 (js_kOO (by decide))) y1
  have y2' := K ed _ (Or.inl (by omega)) (ko y2 js_kQO) y2
  have c5' := c5
  obtain ⟨gm, w⟩ := c5'.1
  refine ⟨col', ⟨hd0, (eo w).trans c2, c3, c4, zSt_K c5 (Int.le_refl _) K hd0 c3 (nN c3) ⟨c2, nem⟩, .ref (C 0), rv, hi, ib, lb, vi, vl, k, by rw [k4]; exact js_up_s, (eo c6).trans c7, ⟨⟨n1, n2⟩, C 0, rfl, sc⟩, ⟨⟨ed, hd, tl, q, ge, ch, y1'.1, y2'.1, y3, ⟨y1'.2.trans y4.1, y2'.2.trans y4.2⟩, fun j j1 j2 => ⟨⟨(y5 j j1 j2).1.1, (y5 j j1 j2).1.2.1, n4 j j1 (by have j2 : j < Y.2.1.1 := j2; omega)⟩, zSx_K (y5 j j1 j2).2 ⟨Int.le_refl _, hT2⟩ K hd0 (y5 j j1 j2).1.1 (nN (y5 j j1 j2).1.1) ⟨c2, nem⟩⟩, y6⟩, hn⟩, ⟨?_, ?_, c10.2.2⟩, zRo_K c11 K (fun b fs w => ko w (js_kOO (by decide)))⟩, fun a z => e2 a (fun p => z (k2 a p)), fun a e z w => hh a e (fun y => by rw [y, c7] at z; omega) (k3 a e (fun z => z) w), fun a z => by rw [k4]; exact js_up_d (zdom_k (fun e w => k3 a e (fun z => z) w) z)⟩
  · obtain ⟨p1, p2, cap, ml, g, p4, p5, p6⟩ := id c10.1
    exact zSb_K c10.1 K (ko p4 (js_kOO (by decide))) (ko p5 js_kAO)
  · obtain ⟨p1, p2, cap, ml, g, p4, p5, p6⟩ := id c10.2.1
    exact zSb_K c10.2.1 K (ko p4 (js_kOO (by decide))) (ko p5 js_kAO)
theorem zC_undo {em : Nat} {T : Int} {col : Nat → Nat} {c : Nat} {B : Nat → Nat} {Bb Bs : Int → Nat} {x : Nat} {f : zF} {Y : zY} {h h1 h' : js_H} {sv rv : Value} {hi ib lb vi vl cs ed : Nat} {hd tl : Int} {q : Int → Nat} {ge : Int → Option Nat} {ch : Int → Nat}
    (c1 : ∀ a : Nat, h a = none → col a = 0) (c2 : col em = 0) (c3 : 2 ≤ c) (c4 : 11 ≤ T ∧ zI T f) (c5 : zSt em T (fun q => col q = c) B Bb Bs f h) (c6 : h x = some (js_ob true 0 [.ref (B 0), sv, .ref hi, .ref ib, .ref lb, .int (jI Y.2.2.2.2.1), .int (jI Y.2.2.2.2.2.1), rv])) (c7 : col x = 1) (c8 : zSv em T col c cs Y.1 sv h)
    (y1 : h hi = some (js_ob true 16 [.ref ed, .int (jI hd), .int (jI tl)])) (y2 : h ed = some (js_aQ true 6 17 ge)) (y3 : zDr 17 hd tl Y.2.1.1 ge q) (y4 : col hi = 1 ∧ col ed = 1) (y5 : ∀ j : Int, 0 ≤ j → j < Y.2.1.1 → (2 ≤ ch j ∧ zNe (ch j) c ∧ zNe (ch j) cs) ∧ zSx em T col (ch j) (q j) (Y.2.1.2 j) h) (y6 : ∀ i j : Int, 0 ≤ i → i < Y.2.1.1 → 0 ≤ j → j < Y.2.1.1 → ch i = ch j → i = j) (hn : 0 ≤ Y.2.1.1 ∧ Y.2.1.1 ≤ 8)
    (c10 : zSb col ib vi Y.2.2.1.1 Y.2.2.1.2 h ∧ zSb col lb vl Y.2.2.2.1.1 Y.2.2.2.1.2 h ∧ zNe ib lb ∧ zNe vi vl) (c11 : zRo col Y.2.2.2.2.2.2 rv h) {tl' : Int} {ge' : Int → Option Nat} (hp : 0 < Y.2.1.1) (k5 : zDr 17 hd tl' (Y.2.1.1 - 1) ge' q) (k4 : h' = js_up (js_up (js_up h ed (js_aQ true 6 17 ge')) hi (js_ob true 16 [.ref ed, .int (jI hd), .int (jI tl')])) x (js_ob true 0 [.ref (q (Y.2.1.1 - 1)), sv, .ref hi, .ref ib, .ref lb, .int (jI Y.2.2.2.2.1), .int (jI Y.2.2.2.2.2.1), rv])) : (∃ (c' : Nat) (B' : Nat → Nat) (Bb' Bs' : Int → Nat), zC em T col c' B' Bb' Bs' x (Y.2.1.2 (Y.2.1.1 - 1)) (Y.1, (Y.2.1.1 - 1, Y.2.1.2), Y.2.2) h') ∧ zKe col col h h' := by
  have nn : ∀ {a : Nat} {e : js_E}, h a = some e → h a ≠ none := fun z w => by rw [w] at z; cases z
  obtain ⟨hT1, hT2⟩ := zI_T c4.2
  have hh : ∀ (a : Nat) (e : js_E), a ≠ x → a ≠ hi → a ≠ ed → h a = some e → h' a = some e := fun a e z0 z1 z2 w => by rw [k4]; exact (js_up_n z0).trans ((js_up_n z1).trans ((js_up_n z2).trans (w)))
  have K : zKN em col col (fun a => a = x ∨ a = hi ∨ a = ed) h h' := fun a e p z w => ⟨hh a e (fun y => z (Or.inl y)) (fun y => z (Or.inr (Or.inl y))) (fun y => z (Or.inr (Or.inr (y)))) w, rfl⟩
  have hd0 : ∀ a : Nat, h' a = none → col a = 0 := fun a z => by
    rw [k4] at z
    exact c1 a (zup_none (zup_none (zup_none (z))))
  have nN : ∀ {m : Nat}, 2 ≤ m → ∀ a : Nat, col a = m → ¬ (a = x ∨ a = hi ∨ a = ed) := fun {m} m2 a z y => by
    rcases y with y | y | y
    · rw [y, c7] at z; omega
    · rw [y, y4.1] at z; omega
    · rw [y, y4.2] at z; omega
  have nem : ¬ (em = x ∨ em = hi ∨ em = ed) := fun y => by
    rcases y with y | y | y
    · rw [y, c7] at c2; omega
    · rw [y, y4.1] at c2; omega
    · rw [y, y4.2] at c2; omega
  have ko : ∀ {a : Nat} {e : js_E}, h a = some e → e ≠ js_ob true 0 [.ref (B 0), sv, .ref hi, .ref ib, .ref lb, .int (jI Y.2.2.2.2.1), .int (jI Y.2.2.2.2.2.1), rv] → e ≠ js_ob true 16 [.ref ed, .int (jI hd), .int (jI tl)] → e ≠ js_aQ true 6 17 ge → ¬ (a = x ∨ a = hi ∨ a = ed) := fun {a e} z p0 p1 p2 y => by
    rcases y with y | y | y
    · rw [y, c6] at z; exact p0 (Option.some.inj z).symm
    · rw [y, y1] at z; exact p1 (Option.some.inj z).symm
    · rw [y, y2] at z; exact p2 (Option.some.inj z).symm
  obtain ⟨⟨m1, m2, m3⟩, mI, B', Bb', Bs', mb, mz⟩ := y5 (Y.2.1.1 - 1) (by omega) (by omega)
  have a1 : h' hi = some (js_ob true 16 [.ref ed, .int (jI hd), .int (jI tl')]) := by rw [k4]; exact (js_up_n (js_nek y1 c6 (js_kOO (by decide)))).trans js_up_s
  have a2 : h' ed = some (js_aQ true 6 17 ge') := by rw [k4]; exact (js_up_n (js_nek y2 c6 js_kQO)).trans ((js_up_n (js_nek y2 y1 js_kQO)).trans js_up_s)
  refine ⟨⟨ch (Y.2.1.1 - 1), B', Bb', Bs', hd0, c2, m1, ⟨c4.1, mI⟩, zSt_K mz (Int.le_refl _) K hd0 m1 (nN m1) ⟨c2, nem⟩, sv, rv, hi, ib, lb, vi, vl, cs, by rw [k4, mb]; exact js_up_s, c7, ?_, ⟨⟨ed, hd, tl', q, ge', ch, a1, a2, k5, y4, fun j j1 j2 => ?_, fun i j i1 i2 j1 j2 z => y6 i j i1 (by have i2 : i < Y.2.1.1 - 1 := i2; omega) j1 (by have j2 : j < Y.2.1.1 - 1 := j2; omega) z⟩, ?_, ?_⟩, ⟨?_, ?_, c10.2.2⟩, zRo_K c11 K (fun b fs w => ko w (js_kOO (by decide)) (js_kOO (by decide)) js_kOQ)⟩, fun _ _ => rfl, fun a e z w => hh a e (fun y => by rw [y, c7] at z; omega) (fun y => by rw [y, y4.1] at z; omega) (fun y => by rw [y, y4.2] at z; omega) w, fun a z => by rw [k4]; exact js_up_d (js_up_d (js_up_d z))⟩
  · have s := zSv_K c8 ⟨Int.le_refl _, hT2⟩ K hd0 (nN c8.1.1) ⟨c2, nem⟩
    exact ⟨⟨c8.1.1, fun z => m3 z.symm⟩, s.2⟩
  · have j2 : j < Y.2.1.1 - 1 := j2
    have yy := y5 j j1 (by omega)
    exact ⟨⟨yy.1.1, fun z => by have := y6 j (Y.2.1.1 - 1) j1 (by omega) (by omega) (by omega) z; omega, yy.1.2.2⟩, zSx_K yy.2 ⟨Int.le_refl _, hT2⟩ K hd0 yy.1.1 (nN yy.1.1) ⟨c2, nem⟩⟩
  · show 0 ≤ Y.2.1.1 - 1; omega
  · show Y.2.1.1 - 1 ≤ 8; omega
  · obtain ⟨p1, p2, cap, ml, g, p4, p5, p6⟩ := id c10.1
    exact zSb_K c10.1 K (ko p4 (js_kOO (by decide)) (js_kOO (by decide)) js_kOQ) (ko p5 js_kAO js_kAO js_kAQ)
  · obtain ⟨p1, p2, cap, ml, g, p4, p5, p6⟩ := id c10.2.1
    exact zSb_K c10.2.1 K (ko p4 (js_kOO (by decide)) (js_kOO (by decide)) js_kOQ) (ko p5 js_kAO js_kAO js_kAQ)
theorem zC_restore {em : Nat} {T : Int} {col : Nat → Nat} {c : Nat} {B : Nat → Nat} {Bb Bs : Int → Nat} {x : Nat} {f : zF} {Y : zY} {h h1 h' : js_H} {sv rv : Value} {hi ib lb vi vl cs ed : Nat} {hd tl : Int} {q : Int → Nat} {ge : Int → Option Nat} {ch : Int → Nat}
    (c1 : ∀ a : Nat, h a = none → col a = 0) (c2 : col em = 0) (c3 : 2 ≤ c) (c4 : 11 ≤ T ∧ zI T f) (c5 : zSt em T (fun q => col q = c) B Bb Bs f h) (c6 : h x = some (js_ob true 0 [.ref (B 0), sv, .ref hi, .ref ib, .ref lb, .int (jI Y.2.2.2.2.1), .int (jI Y.2.2.2.2.2.1), rv])) (c7 : col x = 1) (c8 : zSv em T col c cs Y.1 sv h)
    (y1 : h hi = some (js_ob true 16 [.ref ed, .int (jI hd), .int (jI tl)])) (y2 : h ed = some (js_aQ true 6 17 ge)) (y3 : zDr 17 hd tl Y.2.1.1 ge q) (y4 : col hi = 1 ∧ col ed = 1) (y5 : ∀ j : Int, 0 ≤ j → j < Y.2.1.1 → (2 ≤ ch j ∧ zNe (ch j) c ∧ zNe (ch j) cs) ∧ zSx em T col (ch j) (q j) (Y.2.1.2 j) h) (y6 : ∀ i j : Int, 0 ≤ i → i < Y.2.1.1 → 0 ≤ j → j < Y.2.1.1 → ch i = ch j → i = j) (hn : 0 ≤ Y.2.1.1 ∧ Y.2.1.1 ≤ 8)
    (c10 : zSb col ib vi Y.2.2.1.1 Y.2.2.1.2 h ∧ zSb col lb vl Y.2.2.2.1.1 Y.2.2.2.1.2 h ∧ zNe ib lb ∧ zNe vi vl) (c11 : zRo col Y.2.2.2.2.2.2 rv h)
    {C : Nat → Nat} {Cb Cs : Int → Nat} {P2 : Nat → Prop} {G : zF} (iG : zI T G) (k1 : zSt em 11 P2 C Cb Cs G h1) (k2 : ∀ a, P2 a → h a = none) (k3 : zFr (fun _ => False) h h1) {ge' : Int → Option Nat} (k4 : h' = js_up (js_up (js_up h1 x (js_ob true 0 [.ref (C 0), sv, .ref hi, .ref ib, .ref lb, .int (jI Y.2.2.2.2.1), .int (jI Y.2.2.2.2.2.1), rv])) ed (js_aQ true 6 17 ge')) hi (js_ob true 16 [.ref ed, .int (jI 0), .int (jI 0)])) : ∃ (col' : Nat → Nat) (c' : Nat), zC em T col' c' C Cb Cs x G (Y.1, (0, Y.2.1.2), Y.2.2) h' ∧ zKe col col' h h' := by
  have nn : ∀ {a : Nat} {e : js_E}, h a = some e → h a ≠ none := fun z w => by rw [w] at z; cases z
  obtain ⟨hT1, hT2⟩ := zI_T c4.2
  obtain ⟨k, n1, n2, n3, n4⟩ := zcol_new c cs ch Y.2.1.1.toNat
  have hcl : ∃ col' : Nat → Nat, (∀ a, P2 a → col' a = k) ∧ ∀ a, ¬ P2 a → col' a = col a := ⟨fun a => @ite Nat (P2 a) (Classical.propDecidable _) k (col a), fun a p => if_pos p, fun a p => if_neg p⟩
  obtain ⟨col', e1, e2⟩ := hcl
  have eo : ∀ {a : Nat} {e : js_E}, h a = some e → col' a = col a := fun {a e} w => e2 a (fun p => nn w (k2 a p))
  have hh : ∀ (a : Nat) (e : js_E), a ≠ x → a ≠ hi → a ≠ ed → h1 a = some e → h' a = some e := fun a e z0 z1 z2 w => by rw [k4]; exact (js_up_n z1).trans ((js_up_n z2).trans ((js_up_n z0).trans (w)))
  have K : zKN em col col' (fun a => a = x ∨ a = hi ∨ a = ed) h h' := fun a e p z w => ⟨hh a e (fun y => z (Or.inl y)) (fun y => z (Or.inr (Or.inl y))) (fun y => z (Or.inr (Or.inr (y)))) (k3 a e (fun z => z) w), eo w⟩
  have hd0 : ∀ a : Nat, h' a = none → col' a = 0 := fun a z => by
    rw [k4] at z
    have z1 := zup_none (zup_none (zup_none (z)))
    rw [e2 a (fun p => k1.2.2.2.2.2.2.2.2.2.2.2.2 a p z1)]
    exact c1 a (by cases w : h a with
      | none => rfl
      | some e => rw [k3 a e (fun z => z) w] at z1; cases z1)
  have nN : ∀ {m : Nat}, 2 ≤ m → ∀ a : Nat, col a = m → ¬ (a = x ∨ a = hi ∨ a = ed) := fun {m} m2 a z y => by
    rcases y with y | y | y
    · rw [y, c7] at z; omega
    · rw [y, y4.1] at z; omega
    · rw [y, y4.2] at z; omega
  have nem : ¬ (em = x ∨ em = hi ∨ em = ed) := fun y => by
    rcases y with y | y | y
    · rw [y, c7] at c2; omega
    · rw [y, y4.1] at c2; omega
    · rw [y, y4.2] at c2; omega
  have ko : ∀ {a : Nat} {e : js_E}, h a = some e → e ≠ js_ob true 0 [.ref (B 0), sv, .ref hi, .ref ib, .ref lb, .int (jI Y.2.2.2.2.1), .int (jI Y.2.2.2.2.2.1), rv] → e ≠ js_ob true 16 [.ref ed, .int (jI hd), .int (jI tl)] → e ≠ js_aQ true 6 17 ge → ¬ (a = x ∨ a = hi ∨ a = ed) := fun {a e} z p0 p1 p2 y => by
    rcases y with y | y | y
    · rw [y, c6] at z; exact p0 (Option.some.inj z).symm
    · rw [y, y1] at z; exact p1 (Option.some.inj z).symm
    · rw [y, y2] at z; exact p2 (Option.some.inj z).symm
  have sc : zSt em T (fun a => col' a = k) C Cb Cs G h' := by
    refine zSt_P (P := P2) (zSt_fr k1 c4.1 (fun a e p w => ?_)) (fun a _ p => e1 a p) (fun y => ?_) (fun a p y => ?_)
    · rcases p with p | p
      · exact hh a e (fun y => by rw [y] at p; exact nn c6 (k2 _ p)) (fun y => by rw [y] at p; exact nn y1 (k2 _ p)) (fun y => by rw [y] at p; exact nn y2 (k2 _ p)) w
      · exact hh a e (fun y => nem (Or.inl (p.symm.trans y))) (fun y => nem (Or.inr (Or.inl (p.symm.trans y)))) (fun y => nem (Or.inr (Or.inr (p.symm.trans y)))) w
    · have y : col' em = k := y
      obtain ⟨gm, w⟩ := c5.1
      rw [eo w, c2] at y; omega
    · have p : col' a = k := p
      rw [hd0 a y] at p; omega
  have g1 : h1 hi = some (js_ob true 16 [.ref ed, .int (jI hd), .int (jI tl)]) := k3 _ _ (fun z => z) y1
  have g2 : h1 ed = some (js_aQ true 6 17 ge) := k3 _ _ (fun z => z) y2
  have g3 := k3 _ _ (fun z => z) c6
  have a1 : h' hi = some (js_ob true 16 [.ref ed, .int (jI 0), .int (jI 0)]) := by rw [k4]; exact js_up_s
  have a2 : h' ed = some (js_aQ true 6 17 ge') := by rw [k4]; exact (js_up_n (js_nek g2 g1 js_kQO)).trans js_up_s
  have a3 : h' x = some (js_ob true 0 [.ref (C 0), sv, .ref hi, .ref ib, .ref lb, .int (jI Y.2.2.2.2.1), .int (jI Y.2.2.2.2.2.1), rv]) := by rw [k4]; exact (js_up_n (js_nek g3 g1 (js_kOO (by decide)))).trans ((js_up_n (js_nek g3 g2 js_kOQ)).trans js_up_s)
  have c5' := c5
  obtain ⟨gm, w⟩ := c5'.1
  refine ⟨col', k, ⟨hd0, (eo w).trans c2, n1, ⟨c4.1, iG⟩, sc, sv, rv, hi, ib, lb, vi, vl, cs, a3, (eo c6).trans c7, ?_, ⟨⟨ed, 0, 0, q, ge', ch, a1, a2, zDr_0 (by decide), ⟨(eo y1).trans y4.1, (eo y2).trans y4.2⟩, fun j j1 j2 => absurd (show j < 0 from j2) (by omega), fun i j i1 i2 => absurd (show i < 0 from i2) (by omega)⟩, Int.le_refl 0, (show (0 : Int) ≤ 8 by decide)⟩, ⟨?_, ?_, c10.2.2⟩, zRo_K c11 K (fun b fs w => ko w (js_kOO (by decide)) (js_kOO (by decide)) js_kOQ)⟩, fun a z => e2 a (fun p => z (k2 a p)), fun a e z w => hh a e (fun y => by rw [y, c7] at z; omega) (fun y => by rw [y, y4.1] at z; omega) (fun y => by rw [y, y4.2] at z; omega) (k3 a e (fun z => z) w), fun a z => by rw [k4]; exact js_up_d (js_up_d (js_up_d (zdom_k (fun e w => k3 a e (fun z => z) w) z)))⟩
  · have s := zSv_K c8 ⟨Int.le_refl _, hT2⟩ K hd0 (nN c8.1.1) ⟨c2, nem⟩
    exact ⟨⟨c8.1.1, fun z => n3 z.symm⟩, s.2⟩
  · obtain ⟨p1, p2, cap, ml, g, p4, p5, p6⟩ := id c10.1
    exact zSb_K c10.1 K (ko p4 (js_kOO (by decide)) (js_kOO (by decide)) js_kOQ) (ko p5 js_kAO js_kAO js_kAQ)
  · obtain ⟨p1, p2, cap, ml, g, p4, p5, p6⟩ := id c10.2.1
    exact zSb_K c10.2.1 K (ko p4 (js_kOO (by decide)) (js_kOO (by decide)) js_kOQ) (ko p5 js_kAO js_kAO js_kAQ)
