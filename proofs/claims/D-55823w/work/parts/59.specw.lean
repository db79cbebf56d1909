set_option maxRecDepth 100000
/-! the class's object, with all that belongs to it; cells are told apart by colours: 0 others', 1 the object's own, from 2 on one for each state -/
abbrev zRs : Type := Option ((Int × Int) × Option (Int × Int))
/-- saved; the past: how many, which; the input; the line; within a text?; place of the fault; reason -/
abbrev zY : Type := Option zF × (Int × (Int → zF)) × ((Int → Int) × Int) × ((Int → Int) × Int) × Int × Int × zRs
/-- a text being built -/
def zSb (col : Nat → Nat) (a vb : Nat) (tx : Int → Int) (len : Int) (h : js_H) : Prop := (col a = 1 ∧ col vb = 1) ∧ (0 ≤ len ∧ len ≤ 60) ∧ ∃ (cap : Nat) (ml : Int) (g : Int → Int), h a = some (js_ob true 17 [.ref vb, .int (jI 0), .int (jI ml), .int (jI len)]) ∧ h vb = some (js_aI true 2 cap g) ∧ (len ≤ cap ∧ cap ≤ 1000) ∧ (ml = 0 ∨ ml = 1) ∧ (∀ k : Int, 0 ≤ k → k < len → g k = tx k) ∧ ∀ k : Int, 0 ≤ k → k < len → 0 ≤ tx k ∧ tx k < 128
def zSx (em : Nat) (T : Int) (col : Nat → Nat) (c a : Nat) (f : zF) (h : js_H) : Prop := zI T f ∧ ∃ (B : Nat → Nat) (Bb Bs : Int → Nat), B 0 = a ∧ zSt em T (fun q => col q = c) B Bb Bs f h
def zRo (col : Nat → Nat) (rs : zRs) (v : Value) (h : js_H) : Prop := match rs with
  | none => v = .null
  | some (p, none) => ∃ r : Nat, v = .ref r ∧ col r = 1 ∧ h r = some (js_ob true 3 [.int (jI p.1), .int (jI p.2), .null])
  | some (p, some q) => ∃ r s : Nat, v = .ref r ∧ col r = 1 ∧ col s = 1 ∧ h r = some (js_ob true 3 [.int (jI p.1), .int (jI p.2), .ref s]) ∧ h s = some (js_ob true 3 [.int (jI q.1), .int (jI q.2), .null])
def zSv (em : Nat) (T : Int) (col : Nat → Nat) (c cs : Nat) (sd : Option zF) (v : Value) (h : js_H) : Prop := (2 ≤ cs ∧ zNe cs c) ∧ match sd with
  | none => v = .null
  | some g => ∃ a : Nat, v = .ref a ∧ zSx em T col cs a g h
def zHs (em : Nat) (T : Int) (col : Nat → Nat) (c cs hi : Nat) (n : Int) (hs : Int → zF) (h : js_H) : Prop := ∃ (ed : Nat) (hd tl : Int) (q : Int → Nat) (ge : Int → Option Nat) (ch : Int → Nat), h hi = some (js_ob true 16 [.ref ed, .int (jI hd), .int (jI tl)]) ∧ h ed = some (js_aQ true 6 17 ge) ∧ zDr 17 hd tl n ge q ∧ (col hi = 1 ∧ col ed = 1) ∧ (∀ j : Int, 0 ≤ j → j < n → (2 ≤ ch j ∧ zNe (ch j) c ∧ zNe (ch j) cs) ∧ zSx em T col (ch j) (q j) (hs j) h) ∧ ∀ i j : Int, 0 ≤ i → i < n → 0 ≤ j → j < n → ch i = ch j → i = j
def zC (em : Nat) (T : Int) (col : Nat → Nat) (c : Nat) (B : Nat → Nat) (Bb Bs : Int → Nat) (x : Nat) (f : zF) (Y : zY) (h : js_H) : Prop :=
  (∀ a : Nat, h a = none → col a = 0) ∧ col em = 0 ∧ 2 ≤ c ∧ (11 ≤ T ∧ zI T f) ∧ zSt em T (fun q => col q = c) B Bb Bs f h ∧
  ∃ (sv rv : Value) (hi ib lb vi vl cs : Nat), h x = some (js_ob true 0 [.ref (B 0), sv, .ref hi, .ref ib, .ref lb, .int (jI Y.2.2.2.2.1), .int (jI Y.2.2.2.2.2.1), rv]) ∧ col x = 1 ∧ zSv em T col c cs Y.1 sv h ∧ (zHs em T col c cs hi Y.2.1.1 Y.2.1.2 h ∧ 0 ≤ Y.2.1.1 ∧ Y.2.1.1 ≤ 8) ∧ (zSb col ib vi Y.2.2.1.1 Y.2.2.1.2 h ∧ zSb col lb vl Y.2.2.2.1.1 Y.2.2.2.1.2 h ∧ zNe ib lb ∧ zNe vi vl) ∧ zRo col Y.2.2.2.2.2.2 rv h
/-- colours and cells of others stay -/
def zKe (col col' : Nat → Nat) (h h' : js_H) : Prop := (∀ a : Nat, h a ≠ none → col' a = col a) ∧ (∀ (a : Nat) (e : js_E), col a = 0 → h a = some e → h' a = some e) ∧ ∀ a : Nat, h a ≠ none → h' a ≠ none
theorem zKe_refl {col : Nat → Nat} {h : js_H} : zKe col col h h := ⟨fun _ _ => rfl, fun _ _ _ k => k, fun _ k => k⟩
theorem zKe_trans {c0 c1 c2 : Nat → Nat} {h h1 h2 : js_H} (k : zKe c0 c1 h h1) (l : zKe c1 c2 h1 h2) : zKe c0 c2 h h2 := ⟨fun a n => (l.1 a (k.2.2 a n)).trans (k.1 a n), fun a e z w => l.2.1 a e ((k.1 a (fun y => by rw [y] at w; cases w)).trans z) (k.2.1 a e z w), fun a n => l.2.2 a (k.2.2 a n)⟩
/-- the reason is new -/
def zRd (x : Nat) (st u1 u2 u3 u4 u5 u6 : Value) (n d : Int) (h h' : js_H) : Prop := ∃ b : Nat, h b = none ∧ h' = js_up (js_up h b (js_ob true 3 [.int (jI n), .int (jI d), .null])) x (js_ob true 0 [st, u1, u2, u3, u4, u5, u6, .ref b])
section
variable {em : Nat} {T T' : Int} {col col' : Nat → Nat} {c cs : Nat} {B : Nat → Nat} {Bb Bs : Int → Nat} {x : Nat} {f : zF} {Y : zY} {h h' : js_H}
/-- what holds of cells of a colour holds as long as these stay, and keep their colour -/
theorem zSx_k {a : Nat} (k : zSx em T col c a f h) (hT : T ≤ T' ∧ T' ≤ 1000000) (hc : ∀ b : Nat, h b ≠ none → col b = c → col' b = c) (hd : ∀ b : Nat, col' b = c → h' b ≠ none) (he : col' em ≠ c) (hk : ∀ (b : Nat) (e : js_E), (col b = c ∨ b = em) → h b = some e → h' b = some e) : zSx em T' col' c a f h' := by
  obtain ⟨i, B, Bb, Bs, b0, z⟩ := k
  exact ⟨zI_mono i hT, B, Bb, Bs, b0, zSt_P (zSt_fr z hT.1 hk) (fun b n p => hc b (fun y => hz_dom z p y) p) he hd⟩
where hz_dom {em : Nat} {T : Int} {P : Nat → Prop} {B : Nat → Nat} {Bb Bs : Int → Nat} {f : zF} {h : js_H} (hZ : zSt em T P B Bb Bs f h) {a : Nat} (p : P a) : h a ≠ none := hZ.2.2.2.2.2.2.2.2.2.2.2.2 a p
/-- others of colours above 1 but c: they stay -/
theorem zC_keep {c2 : Nat} {B' : Nat → Nat} {Bb' Bs' : Int → Nat} {f' : zF} (hC : zC em T col c B Bb Bs x f Y h) (hT : T ≤ T') (hi' : zI T' f') (hz : zSt em T' (fun q => col' q = c) B' Bb' Bs' f' h') (hb : B' 0 = B 0) (hd : ∀ a : Nat, h' a = none → col' a = 0) (hk : ∀ (a : Nat) (e : js_E), col a ≠ c → h a = some e → h' a = some e) (hc : ∀ a : Nat, h a ≠ none → col' a = col a) (hn : ∀ a : Nat, h a = none → col' a = 0 ∨ col' a = c) : zC em T' col' c B' Bb' Bs' x f' Y h' := by
  obtain ⟨c1, c2, c3, c4, c5, sv, rv, hi, ib, lb, vi, vl, cs, c6, c7, c8, c9, c10, c11⟩ := hC
  have nn : ∀ {a : Nat} {e : js_E}, h a = some e → h a ≠ none := fun z w => by rw [w] at z; cases z
  have one : ∀ {a : Nat} {e : js_E}, col a = 1 → h a = some e → h' a = some e ∧ col' a = 1 := fun {a e} k w => ⟨hk a e (by omega) w, (hc a (nn w)).trans k⟩
  have hem : ∀ c' : Nat, 2 ≤ c' → col' em ≠ c' := fun c' k z => by
    obtain ⟨gm, w⟩ := c5.1
    rw [hc em (nn w), c2] at z
    omega
  have sx : ∀ {c' a : Nat} {g : zF}, 2 ≤ c' → zNe c' c → zSx em T col c' a g h → zSx em T' col' c' a g h' := fun {c' a g} k1 k2 z => by
    refine zSx_k z ⟨hT, (zI_T hi').2⟩ (fun b n p => (hc b n).trans p) (fun b p y => by rw [hd b y] at p; omega) (hem c' k1) (fun b e p w => hk b e (fun y => ?_) w)
    rcases p with p | p
    · exact k2 (p.symm.trans y)
    · rw [p, c2] at y; omega
  have sb : ∀ {a vb : Nat} {tx : Int → Int} {len : Int}, zSb col a vb tx len h → zSb col' a vb tx len h' := fun {a vb tx len} z => by
    obtain ⟨⟨k1, k2⟩, k3, cap, ml, g, k4, k5, k6⟩ := z
    exact ⟨⟨(one k1 k4).2, (one k2 k5).2⟩, k3, cap, ml, g, (one k1 k4).1, (one k2 k5).1, k6⟩
  refine ⟨hd, ?_, c3, ⟨by omega, hi'⟩, hz, sv, rv, hi, ib, lb, vi, vl, cs, by rw [hb]; exact (one c7 c6).1, (one c7 c6).2, ⟨c8.1, ?_⟩, ⟨?_, c9.2⟩, ⟨sb c10.1, sb c10.2.1, c10.2.2⟩, ?_⟩
  · obtain ⟨gm, w⟩ := c5.1
    exact (hc em (nn w)).trans c2
  · have c8 := c8
    obtain ⟨k, m⟩ := c8
    cases q : Y.1 with
    | none => rw [q] at m; exact m
    | some g =>
      rw [q] at m
      obtain ⟨a, m1, m2⟩ := m
      exact ⟨a, m1, sx k.1 k.2 m2⟩
  · obtain ⟨ed, hd', tl, q, ge, ch, y1, y2, y3, y4, y5, y6⟩ := c9.1
    exact ⟨ed, hd', tl, q, ge, ch, (one y4.1 y1).1, (one y4.2 y2).1, y3, ⟨(one y4.1 y1).2, (one y4.2 y2).2⟩, fun j j1 j2 => ⟨(y5 j j1 j2).1, sx (y5 j j1 j2).1.1 (y5 j j1 j2).1.2.1 (y5 j j1 j2).2⟩, y6⟩
  · have c11 := c11
    unfold zRo at c11 ⊢
    split at c11
    · exact c11
    · obtain ⟨r, y1, y2, y3⟩ := c11
      exact ⟨r, y1, (one y2 y3).2, (one y2 y3).1⟩
    · obtain ⟨r, s, y1, y2, y3, y4, y5⟩ := c11
      exact ⟨r, s, y1, (one y2 y4).2, (one y3 y5).2, (one y2 y4).1, (one y3 y5).1⟩
/-- only cells of the current state have changed -/
theorem zC_cur {f' : zF} (hC : zC em T col c B Bb Bs x f Y h) (hT : T ≤ T') (hi' : zI T' f') (hz : zSt em T' (fun q => col q = c) B Bb Bs f' h') (fr : zFr (fun q => col q = c) h h') : zC em T' col c B Bb Bs x f' Y h' :=
  zC_keep (c2 := 0) hC hT hi' hz rfl (fun a z => hC.1 a (by
    by_cases q : col a = c
    · exact absurd z (hz.2.2.2.2.2.2.2.2.2.2.2.2 a q)
    · cases y : h a with
      | none => rfl
      | some e => rw [fr a e q y] at z; cases z)) (fun a e n w => fr a e n w) (fun _ _ => rfl) (fun a z => Or.inl (hC.1 a z))
/-- only new cells -/
theorem zC_fr (hC : zC em T col c B Bb Bs x f Y h) (fr : zFr (fun _ => False) h h') : zC em T col c B Bb Bs x f Y h' :=
  zC_cur hC (Int.le_refl _) hC.2.2.2.1.2 (zSt_fr hC.2.2.2.2.1 (Int.le_refl _) (fun a e _ w => fr a e (fun z => z) w)) (fun a e _ w => fr a e (fun z => z) w)
/-- cells of a colour stay, but for N -/
def zKN (em : Nat) (col col' : Nat → Nat) (N : Nat → Prop) (h h' : js_H) : Prop := ∀ (a : Nat) (e : js_E), (col a ≠ 0 ∨ a = em) → ¬ N a → h a = some e → h' a = some e ∧ col' a = col a
theorem zSx_K {N : Nat → Prop} {a : Nat} (k : zSx em T col c a f h) (hT : T ≤ T' ∧ T' ≤ 1000000) (K : zKN em col col' N h h') (hd : ∀ b : Nat, h' b = none → col' b = 0) (h2 : 2 ≤ c) (hN : ∀ b : Nat, col b = c → ¬ N b) (hem : col em = 0 ∧ ¬ N em) : zSx em T' col' c a f h' := by
  have he : col' em ≠ c := fun z => by
    obtain ⟨i, B, Bb, Bs, b0, w⟩ := k
    obtain ⟨gm, w⟩ := w.1
    rw [(K em _ (Or.inr rfl) hem.2 w).2, hem.1] at z
    omega
  refine zSx_k k hT (fun b n p => ?_) (fun b p y => by rw [hd b y] at p; omega) he (fun b e p w => ?_)
  · cases w : h b with
    | none => exact absurd w n
    | some e => exact (K b e (Or.inl (by omega)) (hN b p) w).2.trans p
  · rcases p with p | p
    · exact (K b e (Or.inl (by omega)) (hN b p) w).1
    · exact (K b e (Or.inr p) (by rw [p]; exact hem.2) w).1
theorem zSv_K {N : Nat → Prop} {sd : Option zF} {v : Value} (k : zSv em T col c cs sd v h) (hT : T ≤ T' ∧ T' ≤ 1000000) (K : zKN em col col' N h h') (hd : ∀ b : Nat, h' b = none → col' b = 0) (hN : ∀ b : Nat, col b = cs → ¬ N b) (hem : col em = 0 ∧ ¬ N em) : zSv em T' col' c cs sd v h' := by
  obtain ⟨k, m⟩ := k
  refine ⟨k, ?_⟩
  cases sd with
  | none => exact m
  | some g =>
    obtain ⟨a, m1, m2⟩ := m
    exact ⟨a, m1, zSx_K m2 hT K hd k.1 hN hem⟩
theorem zHs_K {N : Nat → Prop} {hi : Nat} {n : Int} {hs : Int → zF} (k : zHs em T col c cs hi n hs h) (hT : T ≤ T' ∧ T' ≤ 1000000) (K : zKN em col col' N h h') (hd : ∀ b : Nat, h' b = none → col' b = 0) (hN : ∀ b : Nat, 1 ≤ col b → col b ≠ c → col b ≠ cs → (col b = 1 → (∃ fs, h b = some (js_ob true 16 fs)) ∨ ∃ g, h b = some (js_aQ true 6 17 g)) → ¬ N b) (hem : col em = 0 ∧ ¬ N em) (h1 : 2 ≤ c ∧ 2 ≤ cs) : zHs em T' col' c cs hi n hs h' := by
  obtain ⟨ed, hd', tl, q, ge, ch, y1, y2, y3, y4, y5, y6⟩ := k
  have k1 := K hi _ (Or.inl (by omega)) (hN hi (by omega) (by omega) (by omega) (fun _ => Or.inl ⟨_, y1⟩)) y1
  have k2 := K ed _ (Or.inl (by omega)) (hN ed (by omega) (by omega) (by omega) (fun _ => Or.inr ⟨_, y2⟩)) y2
  refine ⟨ed, hd', tl, q, ge, ch, k1.1, k2.1, y3, ⟨k1.2.trans y4.1, k2.2.trans y4.2⟩, fun j j1 j2 => ⟨(y5 j j1 j2).1, zSx_K (y5 j j1 j2).2 hT K hd (y5 j j1 j2).1.1 (fun b p => hN b ?_ ?_ ?_ ?_) hem⟩, y6⟩
  · have := (y5 j j1 j2).1.1; omega
  · rw [p]; exact (y5 j j1 j2).1.2.1
  · rw [p]; exact (y5 j j1 j2).1.2.2
  · intro z; have := (y5 j j1 j2).1.1; omega
theorem zSb_K {N : Nat → Prop} {a vb : Nat} {tx : Int → Int} {len : Int} (k : zSb col a vb tx len h) (K : zKN em col col' N h h') (n1 : ¬ N a) (n2 : ¬ N vb) : zSb col' a vb tx len h' := by
  obtain ⟨⟨k1, k2⟩, k3, cap, ml, g, k4, k5, k6⟩ := k
  have y1 := K a _ (Or.inl (by omega)) n1 k4
  have y2 := K vb _ (Or.inl (by omega)) n2 k5
  exact ⟨⟨y1.2.trans k1, y2.2.trans k2⟩, k3, cap, ml, g, y1.1, y2.1, k6⟩
theorem zRo_K {N : Nat → Prop} {rs : zRs} {v : Value} (k : zRo col rs v h) (K : zKN em col col' N h h') (hN : ∀ (b : Nat) (fs : List Value), h b = some (js_ob true 3 fs) → ¬ N b) : zRo col' rs v h' := by
  unfold zRo at k ⊢
  split at k
  · exact k
  · obtain ⟨r, y1, y2, y3⟩ := k
    have z := K r _ (Or.inl (by omega)) (hN r _ y3) y3
    exact ⟨r, y1, z.2.trans y2, z.1⟩
  · obtain ⟨r, s, y1, y2, y3, y4, y5⟩ := k
    have z := K r _ (Or.inl (by omega)) (hN r _ y4) y4
    have w := K s _ (Or.inl (by omega)) (hN s _ y5) y5
    exact ⟨r, s, y1, z.2.trans y2, w.2.trans y3, z.1, w.1⟩
theorem zSt_K {N : Nat → Prop} (k : zSt em T (fun q => col q = c) B Bb Bs f h) (hT : T ≤ T') (K : zKN em col col' N h h') (hd : ∀ b : Nat, h' b = none → col' b = 0) (h2 : 2 ≤ c) (hN : ∀ b : Nat, col b = c → ¬ N b) (hem : col em = 0 ∧ ¬ N em) : zSt em T' (fun q => col' q = c) B Bb Bs f h' := by
  have he : col' em ≠ c := fun z => by
    obtain ⟨gm, w⟩ := k.1
    rw [(K em _ (Or.inr rfl) hem.2 w).2, hem.1] at z
    omega
  refine zSt_P (zSt_fr k hT (fun b e p w => ?_)) (fun b n p => ?_) he (fun b p y => ?_)
  · rcases p with p | p
    · exact (K b e (Or.inl (by omega)) (hN b p) w).1
    · exact (K b e (Or.inr p) (by rw [p]; exact hem.2) w).1
  · cases w : h b with
    | none => exact absurd w (k.2.2.2.2.2.2.2.2.2.2.2.2 b p)
    | some e => exact (K b e (Or.inl (by omega)) (hN b p) w).2.trans p
  · have p : col' b = c := p
    rw [hd b y] at p; omega
theorem zC_rf {n d : Int} {st u1 u2 u3 u4 u5 u6 u7 : Value} (hC : zC em T col c B Bb Bs x f Y h) (hx : h x = some (js_ob true 0 [st, u1, u2, u3, u4, u5, u6, u7])) (k : zRd x st u1 u2 u3 u4 u5 u6 n d h h') : ∃ col' : Nat → Nat, zC em T col' c B Bb Bs x f (Y.1, Y.2.1, Y.2.2.1, Y.2.2.2.1, Y.2.2.2.2.1, Y.2.2.2.2.2.1, some ((n, d), none)) h' ∧ zKe col col' h h' := by
  obtain ⟨b, hb, rfl⟩ := k
  have nn : ∀ {a : Nat} {e : js_E}, h a = some e → h a ≠ none := fun z w => by rw [w] at z; cases z
  obtain ⟨c1, c2, c3, c4, c5, sv, rv, hi, ib, lb, vi, vl, cs, c6, c7, c8, c9, c10, c11⟩ := id hC
  rw [c6] at hx
  have ex := Option.some.inj hx
  have ex2 := (Prod.mk.inj (Sum.inl.inj (Sum.inr.inj (Prod.mk.inj ex).2))).2
  injection ex2 with e0 ex2
  injection ex2 with e1 ex2
  injection ex2 with e2 ex2
  injection ex2 with e3 ex2
  injection ex2 with e4 ex2
  injection ex2 with e5 ex2
  injection ex2 with e6 ex2
  subst e0 e1 e2 e3 e4 e5 e6
  have hcb : col b = 0 := c1 b hb
  have K : zKN em col (fun q => if q = b then 1 else col q) (fun q => q = x) h (js_up (js_up h b (js_ob true 3 [.int (jI n), .int (jI d), .null])) x (js_ob true 0 [.ref (B 0), sv, .ref hi, .ref ib, .ref lb, .int (jI Y.2.2.2.2.1), .int (jI Y.2.2.2.2.2.1), .ref b])) := fun a e p z w =>
    have y : a ≠ b := fun y => by rw [y, hb] at w; cases w
    ⟨(js_up_n z).trans ((js_up_n y).trans w), if_neg y⟩
  have hd : ∀ a : Nat, js_up (js_up h b (js_ob true 3 [.int (jI n), .int (jI d), .null])) x (js_ob true 0 [.ref (B 0), sv, .ref hi, .ref ib, .ref lb, .int (jI Y.2.2.2.2.1), .int (jI Y.2.2.2.2.2.1), .ref b]) a = none → (if a = b then 1 else col a) = 0 := fun a z => by
    by_cases q : a = b
    · subst q
      exact absurd z (js_up_d (by rw [js_up_s]; exact fun y => by cases y))
    · rw [if_neg q]; exact c1 a (zup_none (zup_none z))
  have n1 : ∀ {k : Nat}, 2 ≤ k → ∀ a : Nat, col a = k → ¬ a = x := fun {k} k2 a z y => by rw [y, c7] at z; omega
  have ne : ¬ em = x := fun y => by rw [y] at c2; omega
  have xo : ∀ {a : Nat} {e : js_E}, h a = some e → e ≠ js_ob true 0 [.ref (B 0), sv, .ref hi, .ref ib, .ref lb, .int (jI Y.2.2.2.2.1), .int (jI Y.2.2.2.2.2.1), rv] → ¬ a = x := fun {a e} z y w => by rw [w, c6] at z; exact y (Option.some.inj z).symm
  obtain ⟨hT1, hT2⟩ := zI_T c4.2
  refine ⟨fun q => if q = b then 1 else col q, ⟨hd, (if_neg (fun y => by rw [← y] at hb; obtain ⟨gm, w⟩ := c5.1; rw [hb] at w; cases w)).trans c2, c3, c4, zSt_K c5 (Int.le_refl _) K hd c3 (n1 c3) ⟨c2, ne⟩, sv, .ref b, hi, ib, lb, vi, vl, cs, js_up_s, (if_neg (fun y => by rw [← y, c6] at hb; cases hb)).trans c7, zSv_K c8 ⟨Int.le_refl _, hT2⟩ K hd (n1 c8.1.1) ⟨c2, ne⟩, ⟨zHs_K c9.1 ⟨Int.le_refl _, hT2⟩ K hd (fun a p1 p2 p3 p4 y => ?_) ⟨c2, ne⟩ ⟨c3, c8.1.1⟩, c9.2⟩, ⟨?_, ?_, c10.2.2⟩, ⟨b, rfl, if_pos rfl, (js_up_n (fun y => by rw [y, c6] at hb; cases hb)).trans js_up_s⟩⟩, ⟨fun a z => if_neg (fun y => z (by rw [y]; exact hb)), fun a e z w => (js_up_n (fun y => by rw [y, c7] at z; omega)).trans ((js_up_n (fun y => by rw [y, hb] at w; cases w)).trans w), fun a z => js_up_d (js_up_d z)⟩⟩
  · rcases p4 (by rw [y]; exact c7) with ⟨fs, w⟩ | ⟨g, w⟩
    · exact xo w (js_kOO (by decide)) y
    · exact xo w js_kQO y
  · obtain ⟨k1, k2, cap, ml, g, k4, k5, k6⟩ := id c10.1
    exact zSb_K c10.1 K (xo k4 (js_kOO (by decide))) (xo k5 js_kAO)
  · obtain ⟨k1, k2, cap, ml, g, k4, k5, k6⟩ := id c10.2.1
    exact zSb_K c10.2.1 K (xo k4 (js_kOO (by decide))) (xo k5 js_kAO)
end
