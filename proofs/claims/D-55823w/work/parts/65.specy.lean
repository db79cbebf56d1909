set_option maxRecDepth 100000
/-! changes that add or take away -/
theorem zOp_new {em : Nat} {T : Int} {col col1 : Nat → Nat} {c v e6 : Nat} {B B' : Nat → Nat} {Bb Bs Bb' Bs' : Int → Nat} {x : Nat} {f f' : zF} {Y : zY} {o : zO} {h g h' : js_H} {r w : Int} (ho : o = .inr (r, f')) (hC : zC em T col1 c B Bb Bs x f (zpush Y f) g) (k : zKe col col1 h g) (hI : zI (T + 400) f') (hz : zSt em (T + 1) (fun a => col1 a = c ∨ a = v ∨ a = e6) B' Bb' Bs' f' h') (hb : B' 0 = B 0) (hv : g v = none) (h6 : col1 e6 = c ∨ g e6 = none) (fr : ∀ (a : Nat) (e : js_E), col1 a ≠ c → g a = some e → h' a = some e) (hw : w = r) (hd : ∀ a : Nat, g a ≠ none → h' a ≠ none) : zOp em T col c B Bb Bs x f Y o h (.inl (some (.int (jI w)))) h' := by
  rw [ho]
  have c3 := hC.2.2.1
  have zv := hC.1 v hv
  obtain ⟨col2, e1, e2⟩ : ∃ col2 : Nat → Nat, (∀ a, a = v ∨ a = e6 → col2 a = c) ∧ ∀ a, ¬ (a = v ∨ a = e6) → col2 a = col1 a := ⟨fun a => @ite Nat (a = v ∨ a = e6) (Classical.propDecidable _) c (col1 a), fun a p => if_pos p, fun a p => if_neg p⟩
  have hc : ∀ a : Nat, g a ≠ none → col2 a = col1 a := fun a n => by
    by_cases q : a = v ∨ a = e6
    · rw [e1 a q]
      rcases q with q | q
      · rw [q] at n; exact absurd hv n
      · rcases h6 with p | p
        · rw [q, p]
        · rw [q] at n; exact absurd p n
    · exact e2 a q
  have hn : ∀ a : Nat, g a = none → col2 a = 0 ∨ col2 a = c := fun a n => by
    by_cases q : a = v ∨ a = e6
    · exact Or.inr (e1 a q)
    · exact Or.inl ((e2 a q).trans (hC.1 a n))
  have hd2 : ∀ a : Nat, h' a = none → col2 a = 0 := fun a n => by
    have gn : g a = none := by
      cases q : g a with
      | none => rfl
      | some e => exact absurd n (hd a (by rw [q]; exact fun z => by cases z))
    by_cases q : a = v ∨ a = e6
    · exact absurd n (hz.2.2.2.2.2.2.2.2.2.2.2.2 a (Or.inr q))
    · exact (e2 a q).trans (hC.1 a gn)
  have hem : col2 em ≠ c := fun z => by
    obtain ⟨gm, w⟩ := hC.2.2.2.2.1.1
    rw [hc em (by rw [w]; exact fun z => by cases z), hC.2.1] at z
    omega
  have hz2 : zSt em (T + 400) (fun q => col2 q = c) B' Bb' Bs' f' h' := zSt_P (zSt_fr hz (by omega) (fun a e _ w => w)) (fun a _ p => by
    rcases p with p | p
    · by_cases q : a = v ∨ a = e6
      · exact e1 a q
      · exact (e2 a q).trans p
    · exact e1 a p) hem (fun a p y => by
      have p : col2 a = c := p
      rw [hd2 a y] at p; omega)
  refine ⟨by rw [hw], col2, B', Bb', Bs', hb, zC_keep (c2 := 0) hC (by omega) hI hz2 hb hd2 fr hc hn, zKe_trans k ⟨hc, fun a e z w => fr a e (fun y => by omega) w, hd⟩⟩
/-- a balloon is gone -/
theorem zSt_rmB {em : Nat} {T mb b : Int} {P : Nat → Prop} {B : Nat → Nat} {Bb Bs : Int → Nat} {f : zF} {h : js_H} (hZ : zSt em T P B Bb Bs f h) (hmb : 0 ≤ mb ∧ mb ≤ T) (hb : 0 ≤ b ∧ b < f 0) (h6 : f 0 ≤ 6 ∧ f 1 ≤ 5) : zSt em (T + 1) P B (fun j => if j < b then Bb j else Bb (j + 1)) Bs (js_uz (js_cp f f (13 + 9 * b + 9) (13 + 9 * b) (9 * (f 0 - 1 - b))) 0 (f 0 - 1)) (js_up (js_up h (B 1) (js_ob true 15 [.int (jI (mb + 1)), .ref (B 6), .int (jI (f 0 - 1))])) (B 6) (js_aQ true 6 10 (zrm (zgb Bb (f 0)) (f 0) b))) := by
  obtain ⟨f', ef⟩ : ∃ f' : zF, f' = js_uz (js_cp f f (13 + 9 * b + 9) (13 + 9 * b) (9 * (f 0 - 1 - b))) 0 (f 0 - 1) := ⟨_, rfl⟩
  rw [← ef]
  obtain ⟨⟨gm, z0⟩, z1, ⟨mb1, r1, z2⟩, ⟨ms1, r2, z3⟩, z4, z5, z6, z7, z8, z9, z10, z11, z12⟩ := id hZ
  obtain ⟨s1, s2, s3, s4, s5, s6, s7⟩ := z11
  have q6 : B 6 ≠ em ∧ h (B 6) = some (js_aQ true 6 10 (zgb Bb (f 0))) := by
    rcases z7 with w | w
    · omega
    · exact w
  obtain ⟨n6, w6⟩ := q6
  have e0 : f' 0 = f 0 - 1 := by rw [ef]; exact js_uz_s
  have ek : ∀ k : Int, k ≠ 0 → (k < 13 + 9 * b ∨ 13 + 9 * (f 0 - 1) ≤ k) → f' k = f k := fun k k0 k1 => by
    rw [ef, js_uz_n k0]
    unfold js_cp
    rw [if_neg (by omega)]
  have es : ∀ j k : Int, b ≤ j → j < f 0 - 1 → 0 ≤ k → k < 9 → f' (13 + 9 * j + k) = f (13 + 9 * (j + 1) + k) := fun j k j1 j2 k1 k2 => by
    rw [ef, js_uz_n (by omega)]
    unfold js_cp
    rw [if_pos (by omega)]
    congr 1
    omega
  have eg : zrm (zgb Bb (f 0)) (f 0) b = zgb (fun j => if j < b then Bb j else Bb (j + 1)) (f 0 - 1) := by
    funext j
    unfold zrm
    by_cases qn : j = f 0 - 1
    · rw [qn, js_uz_s]; unfold zgb; rw [if_neg (by omega)]
    · rw [js_uz_n qn]
      by_cases q1 : b < f 0 - 1
      · rw [if_pos q1]
        unfold js_cp
        by_cases q2 : b ≤ j ∧ j < b + (f 0 - 1 - b)
        · rw [if_pos q2]; unfold zgb; rw [if_pos (by omega), if_pos (by omega)]; show some (Bb (b + 1 + (j - b))) = some (if j < b then Bb j else Bb (j + 1)); rw [if_neg (by omega)]; congr 2; omega
        · rw [if_neg q2]; unfold zgb
          by_cases q3 : 0 ≤ j ∧ j < f 0
          · rw [if_pos q3, if_pos (by omega)]; show some (Bb j) = some (if j < b then Bb j else Bb (j + 1)); rw [if_pos (by omega)]
          · rw [if_neg q3, if_neg (by omega)]
      · rw [if_neg q1]; unfold zgb
        by_cases q3 : 0 ≤ j ∧ j < f 0
        · rw [if_pos q3, if_pos (by omega)]; show some (Bb j) = some (if j < b then Bb j else Bb (j + 1)); rw [if_pos (by omega)]
        · rw [if_neg q3, if_neg (by omega)]
  have Z : ∀ {y : Nat} {e : js_E}, h y = some e → e ≠ js_aQ true 6 10 (zgb Bb (f 0)) → e ≠ js_ob true 15 [.int (jI mb1), .ref (B 6), .int (jI (f 0))] → js_up (js_up h (B 1) (js_ob true 15 [.int (jI (mb + 1)), .ref (B 6), .int (jI (f 0 - 1))])) (B 6) (js_aQ true 6 10 (zrm (zgb Bb (f 0)) (f 0) b)) y = some e := fun {y e} p n1 n2 => (js_up_n (js_nek p w6 n1)).trans ((js_up_n (js_nek p z2 n2)).trans p)
  have hB1 : B 1 ≠ B 6 := js_nek z2 w6 js_kOQ
  refine ⟨⟨gm, Z z0 (fun z => by cases z) js_kQO⟩, ?_, ⟨mb + 1, by omega, by rw [e0]; exact (js_up_n hB1).trans js_up_s⟩, ⟨ms1, by omega, by rw [ek 1 (by omega) (by omega)]; exact (js_up_n (js_nek z3 w6 js_kOQ)).trans ((js_up_n (Ne.symm s7.1.1)).trans z3)⟩, ?_, ?_, ?_, ?_, ?_, ?_, ?_, ?_, ?_⟩
  · rw [zTo_e (fun k a c => ek k (by omega) (by omega))]; exact Z z1 js_kOQ (js_kOO (by decide))
  · rw [zfa_e (fun p a c => ek _ (by omega) (by omega))]; exact Z z4 js_kAQ js_kAO
  · rw [zca_e (fun p a c => ek _ (by omega) (by omega))]; exact Z z5 js_kAQ js_kAO
  · rw [zwa_e (fun k a c => ek k (by omega) (by omega))]; exact Z z6 js_kAQ js_kAO
  · exact Or.inr ⟨n6, by rw [e0, ← eg]; exact js_up_s⟩
  · rw [ek 1 (by omega) (by omega)]
    refine zL_fr z8 (fun q y hy => ?_)
    rcases z8 with w | ⟨_, w⟩
    · exact absurd w.2 q
    · exact (js_up_n (fun z => n6 (s7.2.1 z.symm))).trans ((js_up_n (js_nek w z2 js_kQO)).trans hy)
  · intro j j1 j2
    rw [e0] at j2
    show js_up _ _ _ (if j < b then Bb j else Bb (j + 1)) = _
    by_cases q : j < b
    · rw [if_pos q, zBo_e (fun k a c => ek _ (by omega) (by omega))]
      exact Z (z9 j j1 (by omega)) js_kOQ (js_kOO (by decide))
    · rw [if_neg q, show zBo f' j = zBo f (j + 1) from by
        unfold zBo zpt
        rw [es j 1 (by omega) j2 (by decide) (by decide), es j 0 (by omega) j2 (by decide) (by decide), es j 2 (by omega) j2 (by decide) (by decide), es j 3 (by omega) j2 (by decide) (by decide), es j 4 (by omega) j2 (by decide) (by decide), es j 5 (by omega) j2 (by decide) (by decide), es j 6 (by omega) j2 (by decide) (by decide), es j 7 (by omega) j2 (by decide) (by decide), es j 8 (by omega) j2 (by decide) (by decide)]]
      exact Z (z9 (j + 1) (by omega) (by omega)) js_kOQ (js_kOO (by decide))
  · intro i i1 i2
    rw [ek 1 (by omega) (by omega)] at i2
    rw [zSo_e (fun k a c => ek _ (by omega) (by omega))]
    exact Z (z10 i i1 i2) js_kOQ (js_kOO (by decide))
  · rw [e0, ek 1 (by omega) (by omega)]
    refine ⟨s1, s2, s3, fun j j1 j2 => ?_, s5, s6, s7.1, s7.2.1, fun i j i1 i2 j1 j2 e => ?_, s7.2.2.2⟩
    · show P (if j < b then Bb j else Bb (j + 1))
      split
      · exact s4 j j1 (by omega)
      · exact s4 (j + 1) (by omega) (by omega)
    · have e : (if i < b then Bb i else Bb (i + 1)) = (if j < b then Bb j else Bb (j + 1)) := e
      split at e
      · split at e
        · exact s7.2.2.1 i j i1 (by omega) j1 (by omega) e
        · have := s7.2.2.1 i (j + 1) i1 (by omega) (by omega) (by omega) e; omega
      · split at e
        · have := s7.2.2.1 (i + 1) j (by omega) (by omega) j1 (by omega) e; omega
        · have := s7.2.2.1 (i + 1) (j + 1) (by omega) (by omega) (by omega) (by omega) e; omega
  · intro a p; exact js_up_d (js_up_d (z12 a p))
