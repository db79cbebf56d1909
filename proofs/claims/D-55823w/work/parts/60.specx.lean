set_option maxRecDepth 100000
/-! the past grows -/
def zpush (Y : zY) (f : zF) : zY := if Y.2.2.2.2.1 = 0 then (Y.1, (if Y.2.1.1 + 1 ≤ 8 then (Y.2.1.1 + 1, js_uz Y.2.1.2 Y.2.1.1 f) else (Y.2.1.1, fun j => js_uz Y.2.1.2 Y.2.1.1 f (j + 1))), Y.2.2) else Y
/-- a colour that none of a few is -/
theorem zcol_new (a b : Nat) (ch : Int → Nat) (n : Nat) : ∃ k : Nat, 2 ≤ k ∧ zNe k a ∧ zNe k b ∧ ∀ j : Int, 0 ≤ j → j < n → zNe (ch j) k := by
  have H : ∃ m : Nat, a < m ∧ b < m ∧ 2 ≤ m ∧ ∀ j : Int, 0 ≤ j → j < n → ch j < m := by
    induction n with
    | zero => exact ⟨a + b + 2, by omega, by omega, by omega, fun j j1 j2 => absurd j2 (by omega)⟩
    | succ n ih =>
      obtain ⟨m, m1, m2, m3, m4⟩ := ih
      refine ⟨m + ch n + 1, by omega, by omega, by omega, fun j j1 j2 => ?_⟩
      by_cases q : j = n
      · subst q; omega
      · have := m4 j j1 (by omega); omega
  obtain ⟨m, m1, m2, m3, m4⟩ := H
  refine ⟨m, m3, ?_, ?_, fun j j1 j2 => ?_⟩
  · intro z; omega
  · intro z; omega
  · intro z; have := m4 j j1 j2; omega
theorem zC_push {em : Nat} {T : Int} {col : Nat → Nat} {c : Nat} {B : Nat → Nat} {Bb Bs : Int → Nat} {x : Nat} {f : zF} {Y : zY} {h h1 h' : js_H} {sv rv : Value} {hi ib lb vi vl cs ed : Nat} {hd tl hd' tl' n' : Int} {q q' : Int → Nat} {ge ge' : Int → Option Nat} {ch : Int → Nat} {C : Nat → Nat} {Cb Cs : Int → Nat} {P2 : Nat → Prop} {hs' : Int → zF}
    (c1 : ∀ a : Nat, h a = none → col a = 0) (c2 : col em = 0) (c3 : 2 ≤ c) (c4 : 11 ≤ T ∧ zI T f) (c5 : zSt em T (fun q => col q = c) B Bb Bs f h) (c6 : h x = some (js_ob true 0 [.ref (B 0), sv, .ref hi, .ref ib, .ref lb, .int (jI Y.2.2.2.2.1), .int (jI Y.2.2.2.2.2.1), rv])) (c7 : col x = 1) (c8 : zSv em T col c cs Y.1 sv h)
    (y1 : h hi = some (js_ob true 16 [.ref ed, .int (jI hd), .int (jI tl)])) (y2 : h ed = some (js_aQ true 6 17 ge)) (y4 : col hi = 1 ∧ col ed = 1) (y5 : ∀ j : Int, 0 ≤ j → j < Y.2.1.1 → (2 ≤ ch j ∧ zNe (ch j) c ∧ zNe (ch j) cs) ∧ zSx em T col (ch j) (q j) (Y.2.1.2 j) h) (y6 : ∀ i j : Int, 0 ≤ i → i < Y.2.1.1 → 0 ≤ j → j < Y.2.1.1 → ch i = ch j → i = j) (hn : 0 ≤ Y.2.1.1 ∧ Y.2.1.1 ≤ 8)
    (c10 : zSb col ib vi Y.2.2.1.1 Y.2.2.1.2 h ∧ zSb col lb vl Y.2.2.2.1.1 Y.2.2.2.1.2 h ∧ zNe ib lb ∧ zNe vi vl) (c11 : zRo col Y.2.2.2.2.2.2 rv h)
    (k1 : zSt em 11 P2 C Cb Cs f h1) (k2 : ∀ a, P2 a → h a = none) (k3 : zFr (fun _ => False) h h1) (k4 : h' = js_up (js_up h1 ed (js_aQ true 6 17 ge')) hi (js_ob true 16 [.ref ed, .int (jI hd'), .int (jI tl')])) (k5 : zDr 17 hd' tl' n' ge' q') (hw : Y.2.2.2.2.1 = 0)
    (k6 : (Y.2.1.1 + 1 ≤ 8 ∧ n' = Y.2.1.1 + 1 ∧ q' = js_uz q Y.2.1.1 (C 0)) ∨ (¬ Y.2.1.1 + 1 ≤ 8 ∧ n' = Y.2.1.1 ∧ q' = fun j => js_uz q Y.2.1.1 (C 0) (j + 1))) : ∃ col' : Nat → Nat, zC em T col' c B Bb Bs x f (zpush Y f) h' ∧ zKe col col' h h' := by
  obtain ⟨k, n1, n2, n3, n4⟩ := zcol_new c cs ch Y.2.1.1.toNat
  have nn : ∀ {a : Nat} {e : js_E}, h a = some e → h a ≠ none := fun z w => by rw [w] at z; cases z
  obtain ⟨hT1, hT2⟩ := zI_T c4.2
  have hcl : ∃ col' : Nat → Nat, (∀ a, P2 a → col' a = k) ∧ ∀ a, ¬ P2 a → col' a = col a := ⟨fun a => @ite Nat (P2 a) (Classical.propDecidable _) k (col a), fun a p => if_pos p, fun a p => if_neg p⟩
  obtain ⟨col', e1, e2⟩ := hcl
  have eo : ∀ {a : Nat} {e : js_E}, h a = some e → col' a = col a := fun {a e} w => e2 a (fun p => nn w (k2 a p))
  have hh : ∀ (a : Nat) (e : js_E), a ≠ hi → a ≠ ed → h1 a = some e → h' a = some e := fun a e z w y => by rw [k4]; exact (js_up_n z).trans ((js_up_n w).trans y)
  have g1 : h1 hi = some (js_ob true 16 [.ref ed, .int (jI hd), .int (jI tl)]) := k3 _ _ (fun z => z) y1
  have g2 : h1 ed = some (js_aQ true 6 17 ge) := k3 _ _ (fun z => z) y2
  have K : zKN em col col' (fun a => a = hi ∨ a = ed) h h' := fun a e p z w => ⟨hh a e (fun y => z (Or.inl y)) (fun y => z (Or.inr y)) (k3 a e (fun z => z) w), eo w⟩
  have hd0 : ∀ a : Nat, h' a = none → col' a = 0 := fun a z => by
    rw [k4] at z
    have z1 := zup_none (zup_none z)
    rw [e2 a (fun p => k1.2.2.2.2.2.2.2.2.2.2.2.2 a p z1)]
    exact c1 a (by cases w : h a with
      | none => rfl
      | some e => rw [k3 a e (fun z => z) w] at z1; cases z1)
  have nN : ∀ {m : Nat}, 2 ≤ m → ∀ a : Nat, col a = m → ¬ (a = hi ∨ a = ed) := fun {m} m2 a z y => by
    rcases y with y | y
    · rw [y, y4.1] at z; omega
    · rw [y, y4.2] at z; omega
  have nem : ¬ (em = hi ∨ em = ed) := fun y => by
    rcases y with y | y
    · rw [y, y4.1] at c2; omega
    · rw [y, y4.2] at c2; omega
  have ko : ∀ {a : Nat} {e : js_E}, h a = some e → e ≠ js_ob true 16 [.ref ed, .int (jI hd), .int (jI tl)] → e ≠ js_aQ true 6 17 ge → ¬ (a = hi ∨ a = ed) := fun {a e} z p p2 y => by
    rcases y with y | y
    · rw [y, y1] at z; exact p (Option.some.inj z).symm
    · rw [y, y2] at z; exact p2 (Option.some.inj z).symm
  have x1 := K x _ (Or.inl (by omega)) (ko c6 (js_kOO (by decide)) js_kOQ) c6
  have key : zHs em T col' c cs hi (zpush Y f).2.1.1 (zpush Y f).2.1.2 h' ∧ 0 ≤ (zpush Y f).2.1.1 ∧ (zpush Y f).2.1.1 ≤ 8 := by
    have sc : zSx em T col' k (C 0) f h' := by
      refine ⟨c4.2, C, Cb, Cs, rfl, zSt_P (P := P2) (zSt_fr k1 c4.1 (fun a e p w => ?_)) (fun a _ p => e1 a p) (fun y => ?_) (fun a p y => ?_)⟩
      · rcases p with p | p
        · exact hh a e (fun y => by rw [y] at p; exact nn y1 (k2 _ p)) (fun y => by rw [y] at p; exact nn y2 (k2 _ p)) w
        · exact hh a e (fun y => nem (Or.inl (p.symm.trans y))) (fun y => nem (Or.inr (p.symm.trans y))) w
      · have y : col' em = k := y
        obtain ⟨gm, w⟩ := c5.1
        rw [eo w, c2] at y; omega
      · have p : col' a = k := p
        rw [hd0 a y] at p; omega
    have so : ∀ j : Int, 0 ≤ j → j < Y.2.1.1 → (2 ≤ ch j ∧ zNe (ch j) c ∧ zNe (ch j) cs) ∧ zSx em T col' (ch j) (q j) (Y.2.1.2 j) h' := fun j j1 j2 => ⟨(y5 j j1 j2).1, zSx_K (y5 j j1 j2).2 ⟨Int.le_refl _, hT2⟩ K hd0 (y5 j j1 j2).1.1 (nN (y5 j j1 j2).1.1) ⟨c2, nem⟩⟩
    -- all of the longer past
    have al : ∀ j : Int, 0 ≤ j → j < Y.2.1.1 + 1 → (2 ≤ js_uz ch Y.2.1.1 k j ∧ zNe (js_uz ch Y.2.1.1 k j) c ∧ zNe (js_uz ch Y.2.1.1 k j) cs) ∧ zSx em T col' (js_uz ch Y.2.1.1 k j) (js_uz q Y.2.1.1 (C 0) j) (js_uz Y.2.1.2 Y.2.1.1 f j) h' := fun j j1 j2 => by
      by_cases w : j = Y.2.1.1
      · rw [w, js_uz_s, js_uz_s, js_uz_s]; exact ⟨⟨n1, n2, n3⟩, sc⟩
      · rw [js_uz_n w, js_uz_n w, js_uz_n w]; exact so j j1 (by omega)
    have inj : ∀ i j : Int, 0 ≤ i → i < Y.2.1.1 + 1 → 0 ≤ j → j < Y.2.1.1 + 1 → js_uz ch Y.2.1.1 k i = js_uz ch Y.2.1.1 k j → i = j := fun i j i1 i2 j1 j2 z => by
      by_cases w : i = Y.2.1.1
      · by_cases v : j = Y.2.1.1
        · omega
        · rw [w, js_uz_s, js_uz_n v] at z
          exact absurd z.symm (n4 j j1 (by omega))
      · by_cases v : j = Y.2.1.1
        · rw [v, js_uz_s, js_uz_n w] at z
          exact absurd z (n4 i i1 (by omega))
        · rw [js_uz_n w, js_uz_n v] at z
          exact y6 i j i1 (by omega) j1 (by omega) z
    have a1 : h' hi = some (js_ob true 16 [.ref ed, .int (jI hd'), .int (jI tl')]) := by rw [k4]; exact js_up_s
    have a2 : h' ed = some (js_aQ true 6 17 ge') := by rw [k4]; exact (js_up_n (js_nek g2 g1 js_kQO)).trans js_up_s
    have a4 : col' hi = 1 ∧ col' ed = 1 := ⟨(eo y1).trans y4.1, (eo y2).trans y4.2⟩
    unfold zpush
    rw [if_pos hw]
    rcases k6 with ⟨w1, w2, w3⟩ | ⟨w1, w2, w3⟩
    · show zHs em T col' c cs hi (if Y.2.1.1 + 1 ≤ 8 then _ else _ : Int × (Int → zF)).1 (if Y.2.1.1 + 1 ≤ 8 then _ else _ : Int × (Int → zF)).2 h' ∧ 0 ≤ (if Y.2.1.1 + 1 ≤ 8 then _ else _ : Int × (Int → zF)).1 ∧ (if Y.2.1.1 + 1 ≤ 8 then _ else _ : Int × (Int → zF)).1 ≤ 8
      rw [if_pos w1]
      refine ⟨⟨ed, hd', tl', q', ge', js_uz ch Y.2.1.1 k, a1, a2, by rw [← w2]; exact k5, a4, fun j j1 j2 => by rw [w3]; exact al j j1 j2, inj⟩, ?_, ?_⟩
      · show 0 ≤ Y.2.1.1 + 1; omega
      · exact w1
    · show zHs em T col' c cs hi (if Y.2.1.1 + 1 ≤ 8 then _ else _ : Int × (Int → zF)).1 (if Y.2.1.1 + 1 ≤ 8 then _ else _ : Int × (Int → zF)).2 h' ∧ 0 ≤ (if Y.2.1.1 + 1 ≤ 8 then _ else _ : Int × (Int → zF)).1 ∧ (if Y.2.1.1 + 1 ≤ 8 then _ else _ : Int × (Int → zF)).1 ≤ 8
      rw [if_neg w1]
      refine ⟨⟨ed, hd', tl', q', ge', fun j => js_uz ch Y.2.1.1 k (j + 1), a1, a2, by rw [← w2]; exact k5, a4, fun j j1 j2 => ?_, fun i j i1 i2 j1 j2 z => ?_⟩, hn.1, hn.2⟩
      · rw [w3]; have j2 : j < Y.2.1.1 := j2; exact al (j + 1) (by omega) (by omega)
      · have i2 : i < Y.2.1.1 := i2
        have j2 : j < Y.2.1.1 := j2
        have := inj (i + 1) (j + 1) (by omega) (by omega) (by omega) (by omega) z
        omega
  have ey : (zpush Y f).1 = Y.1 ∧ (zpush Y f).2.2 = Y.2.2 := by unfold zpush; rw [if_pos hw]; exact ⟨rfl, rfl⟩
  refine ⟨col', ⟨hd0, ?_, c3, c4, zSt_K c5 (Int.le_refl _) K hd0 c3 (nN c3) ⟨c2, nem⟩, sv, rv, hi, ib, lb, vi, vl, cs, by rw [ey.2]; exact x1.1, x1.2.trans c7, by rw [ey.1]; exact zSv_K c8 ⟨Int.le_refl _, hT2⟩ K hd0 (nN c8.1.1) ⟨c2, nem⟩, key, ?_, ?_⟩, fun a z => e2 a (fun p => z (k2 a p)), fun a e z w => hh a e (fun y => by rw [y, y4.1] at z; omega) (fun y => by rw [y, y4.2] at z; omega) (k3 a e (fun z => z) w), fun a z => by rw [k4]; exact js_up_d (js_up_d (zdom_k (fun e w => k3 a e (fun z => z) w) z))⟩
  · obtain ⟨gm, w⟩ := c5.1
    exact (eo w).trans c2
  · rw [ey.2]
    refine ⟨?_, ?_, c10.2.2⟩
    · obtain ⟨p1, p2, cap, ml, g, p4, p5, p6⟩ := id c10.1
      exact zSb_K c10.1 K (ko p4 (js_kOO (by decide)) js_kOQ) (ko p5 js_kAO js_kAQ)
    · obtain ⟨p1, p2, cap, ml, g, p4, p5, p6⟩ := id c10.2.1
      exact zSb_K c10.2.1 K (ko p4 (js_kOO (by decide)) js_kOQ) (ko p5 js_kAO js_kAQ)
  · rw [ey.2]
    exact zRo_K c11 K (fun b fs w => ko w (js_kOO (by decide)) js_kOQ)
/-- what a change does to the object -/
def zOp (em : Nat) (T : Int) (col : Nat → Nat) (c : Nat) (B : Nat → Nat) (Bb Bs : Int → Nat) (x : Nat) (f : zF) (Y : zY) (o : zO) (h : js_H) : js_Q := fun r h' => match o with
  | .inl z => r = .inr "java/lang/UnsupportedOperationException" ∧ ∃ col' : Nat → Nat, zC em T col' c B Bb Bs x f (Y.1, Y.2.1, Y.2.2.1, Y.2.2.2.1, Y.2.2.2.2.1, Y.2.2.2.2.2.1, some ((z.1, z.2), none)) h' ∧ zKe col col' h h'
  | .inr z => r = .inl (some (.int (jI z.1))) ∧ ∃ (col' : Nat → Nat) (B' : Nat → Nat) (Bb' Bs' : Int → Nat), B' 0 = B 0 ∧ zC em (T + 400) col' c B' Bb' Bs' x z.2 (zpush Y f) h' ∧ zKe col col' h h'
theorem zOp_rf {em : Nat} {T : Int} {col : Nat → Nat} {c : Nat} {B : Nat → Nat} {Bb Bs : Int → Nat} {x : Nat} {f : zF} {Y : zY} {o : zO} {h h' : js_H} {n d : Int} {st u1 u2 u3 u4 u5 u6 u7 : Value} (ho : o = .inl (n, d)) (hC : zC em T col c B Bb Bs x f Y h) (hx : h x = some (js_ob true 0 [st, u1, u2, u3, u4, u5, u6, u7])) (k : zRd x st u1 u2 u3 u4 u5 u6 n d h h') : zOp em T col c B Bb Bs x f Y o h (.inr "java/lang/UnsupportedOperationException") h' := by
  rw [ho]
  exact ⟨rfl, zC_rf hC hx k⟩
/-- refused if p, with number and detail -/
def zRf (x : Nat) (st u1 u2 u3 u4 u5 u6 : Value) (p : Prop) (n d : Int) (h : js_H) : js_Q := fun r h' => (¬ p ∧ r = .inl none ∧ h' = h) ∨ (p ∧ r = .inr "java/lang/UnsupportedOperationException" ∧ zRd x st u1 u2 u3 u4 u5 u6 n d h h')
