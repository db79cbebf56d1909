set_option maxRecDepth 100000
/-! an hour of one balloon, number by number -/
theorem zdrf_v {f : zF} {b : Int} (hp : 0 ≤ zpt f b ∧ zpt f b < 100) : (∀ k : Int, k ≠ 13 + 9 * b + 0 → k ≠ 13 + 9 * b + 1 → zdrf f b k = f k) ∧ zpt (zdrf f b) b = znext (zpt f b) (f (7 + f (13 + 9 * b + 2))) := by
  have hz := znext_r (w := f (8 + f (13 + 9 * b + 2) - 1)) hp
  have e : (8 + f (13 + 9 * b + 2) - 1 : Int) = 7 + f (13 + 9 * b + 2) := by omega
  refine ⟨fun k k1 k2 => ?_, ?_⟩
  · unfold zdrf
    rw [js_uz_n k2, js_uz_n k1]
  · show 10 * zdrf f b (13 + 9 * b + 1) + zdrf f b (13 + 9 * b + 0) = _
    have e1 : zdrf f b (13 + 9 * b + 1) = znext (zpt f b) (f (8 + f (13 + 9 * b + 2) - 1)) / 10 := js_uz_s
    have e0 : zdrf f b (13 + 9 * b + 0) = znext (zpt f b) (f (8 + f (13 + 9 * b + 2) - 1)) % 10 := (js_uz_n (by omega)).trans js_uz_s
    rw [e1, e0, ← e]
    omega
theorem zrnds_v {g : zF} {b n : Int} (hn : g (13 + 9 * b + 5) = n) (h1 : 0 ≤ n ∧ n < 5) (h2 : 0 ≤ b ∧ b < 6) :
    zrnds g b (13 + 9 * b + 5) = n + 1 ∧ zrnds g b (67 + 4 * n + 3) = g (67 + 4 * n + 3) + 1 ∧ zrnds g b 3 = g 3 + 1 ∧ (g (13 + 9 * b + 8) = g (13 + 9 * b + 2) → zrnds g b (13 + 9 * b + 6) = g (13 + 9 * b + 6) + 10 + 5 ∧ zrnds g b (13 + 9 * b + 8) = 0 ∧ zrnds g b 4 = g 4 + 1) ∧ (¬ g (13 + 9 * b + 8) = g (13 + 9 * b + 2) → zrnds g b (13 + 9 * b + 6) = g (13 + 9 * b + 6) + 10 ∧ zrnds g b (13 + 9 * b + 8) = g (13 + 9 * b + 8) ∧ zrnds g b 4 = g 4) ∧
    ∀ k : Int, k ≠ 67 + 4 * n + 3 → k ≠ 13 + 9 * b + 5 → k ≠ 13 + 9 * b + 6 → k ≠ 3 → k ≠ 13 + 9 * b + 8 → k ≠ 4 → zrnds g b k = g k := by
  unfold zrnds zrnd0
  rw [hn]
  by_cases q : g (13 + 9 * b + 8) = g (13 + 9 * b + 2)
  · rw [if_pos q]
    refine ⟨?_, ?_, ?_, fun _ => ⟨?_, ?_, ?_⟩, fun z => absurd q z, fun k k1 k2 k3 k4 k5 k6 => ?_⟩ <;> simp (disch := omega) only [js_uz_n, js_uz_s]
  · rw [if_neg q]
    refine ⟨?_, ?_, ?_, fun z => absurd z q, fun _ => ⟨?_, ?_, ?_⟩, fun k k1 k2 k3 k4 k5 k6 => ?_⟩ <;> simp (disch := omega) only [js_uz_n, js_uz_s]
/-- has the balloon come to the gate of its next spire, at p -/
def zgG (f : zF) (b p : Int) : Prop := f (13 + 9 * b + 5) < f 1 ∧ znext (zsp f (f (13 + 9 * b + 5))) (f (67 + 4 * f (13 + 9 * b + 5) + 2)) = p
theorem zdrr_G {T : Int} {f : zF} {b : Int} (h : zI T f) (h1 : 0 ≤ b) (h2 : b < f 0) : zatg (zdrf f b) b ↔ zgG f b (znext (zpt f b) (f (7 + f (13 + 9 * b + 2)))) := by
  have hB := zI_B h h1 h2
  have h01 := zI_01 h
  obtain ⟨v1, v2⟩ := zdrf_v (zIB_p hB)
  have h5 := hB.2.2.2.2.2.1
  unfold zatg zgG
  rw [v2, v1 _ (by omega) (by omega), v1 1 (by omega) (by omega)]
  refine ⟨fun ⟨a, c⟩ => ⟨a, ?_⟩, fun ⟨a, c⟩ => ⟨a, ?_⟩⟩
  · have hP := zI_P h h5.1 a
    have e : zgt (zdrf f b) (f (13 + 9 * b + 5)) = zgt f (f (13 + 9 * b + 5)) := zgt_c (fun k k1 k2 => v1 _ (by omega) (by omega))
    rw [e] at c
    rw [← c]
    exact (znexm_t hP.2.2.2.2).symm
  · have hP := zI_P h h5.1 a
    have e : zgt (zdrf f b) (f (13 + 9 * b + 5)) = zgt f (f (13 + 9 * b + 5)) := zgt_c (fun k k1 k2 => v1 _ (by omega) (by omega))
    rw [e, ← c]
    exact znexm_t hP.2.2.2.2
theorem zbrn_v {g : zF} {b : Int} : zbrn g b (13 + 9 * b + 4) = max 0 (g (13 + 9 * b + 4) - 1) ∧ ∀ k : Int, k ≠ 13 + 9 * b + 4 → zbrn g b k = g k := ⟨js_uz_s, fun k q => js_uz_n q⟩
theorem zsinks_v {g : zF} {b p e : Int} (hp : zpt g b = p) (he : zfee g b 1 = e) (h1 : 0 ≤ p ∧ p < 100) (h2 : 0 ≤ b ∧ b < 6) :
    zsinks g b 1 (13 + 9 * b + 2) = g (13 + 9 * b + 2) - 1 ∧ zsinks g b 1 (13 + 9 * b + 7) = g (13 + 9 * b + 7) + e ∧ zsinks g b 1 5 = g 5 + e ∧ zsinks g b 1 (187 + p) = g (187 + p) + e ∧ ∀ k : Int, k ≠ 13 + 9 * b + 2 → k ≠ 13 + 9 * b + 7 → k ≠ 5 → k ≠ 187 + p → zsinks g b 1 k = g k := by
  unfold zsinks
  rw [hp, he]
  refine ⟨?_, ?_, ?_, ?_, fun k k1 k2 k3 k4 => ?_⟩ <;> simp (disch := omega) only [js_uz_n, js_uz_s]
/-- the numbers after an hour: G at a gate, e the fee -/
def zfv (f f' : zF) (b p ht gs e : Int) (G : Prop) : Prop :=
  zpt f' b = p ∧ f' (13 + 9 * b + 2) = ht ∧ f' (13 + 9 * b + 3) = f (13 + 9 * b + 3) ∧ f' (13 + 9 * b + 4) = gs ∧ f' (13 + 9 * b + 7) = f (13 + 9 * b + 7) + e ∧ f' 5 = f 5 + e ∧ f' (187 + p) = f (187 + p) + e ∧ (∀ q : Int, 0 ≤ q → q < 100 → q ≠ p → f' (187 + q) = f (187 + q)) ∧ (f' 2 = f 2 ∧ f' 6 = f 6 ∧ f' 7 = f 7) ∧
  (G → f' (13 + 9 * b + 5) = f (13 + 9 * b + 5) + 1 ∧ f' (67 + 4 * f (13 + 9 * b + 5) + 3) = f (67 + 4 * f (13 + 9 * b + 5) + 3) + 1 ∧ f' 3 = f 3 + 1 ∧ (f (13 + 9 * b + 8) = f (13 + 9 * b + 2) → f' (13 + 9 * b + 6) = f (13 + 9 * b + 6) + 10 + 5 ∧ f' (13 + 9 * b + 8) = 0 ∧ f' 4 = f 4 + 1) ∧ (¬ f (13 + 9 * b + 8) = f (13 + 9 * b + 2) → f' (13 + 9 * b + 6) = f (13 + 9 * b + 6) + 10 ∧ f' (13 + 9 * b + 8) = f (13 + 9 * b + 8) ∧ f' 4 = f 4) ∧ ∀ i : Int, 0 ≤ i → i < 5 → i ≠ f (13 + 9 * b + 5) → f' (67 + 4 * i + 3) = f (67 + 4 * i + 3)) ∧
  (¬ G → f' (13 + 9 * b + 5) = f (13 + 9 * b + 5) ∧ f' 3 = f 3 ∧ f' (13 + 9 * b + 6) = f (13 + 9 * b + 6) ∧ f' (13 + 9 * b + 8) = f (13 + 9 * b + 8) ∧ f' 4 = f 4 ∧ ∀ i : Int, 0 ≤ i → i < 5 → f' (67 + 4 * i + 3) = f (67 + 4 * i + 3))
theorem zfly_v {T : Int} {f : zF} {b p : Int} (h : zI T f) (h1 : 0 ≤ b) (h2 : b < f 0) (h3 : 1 ≤ f (13 + 9 * b + 2)) (ep : p = znext (zpt f b) (f (7 + f (13 + 9 * b + 2)))) :
    zfv f (zfly f b) b p (if max 0 (f (13 + 9 * b + 4) - 1) = 0 then f (13 + 9 * b + 2) - 1 else f (13 + 9 * b + 2)) (max 0 (f (13 + 9 * b + 4) - 1)) (if (if max 0 (f (13 + 9 * b + 4) - 1) = 0 then f (13 + 9 * b + 2) - 1 else f (13 + 9 * b + 2)) ≤ 0 then f (87 + p) else 0) (zgG f b p) := by
  have hB := zI_B h h1 h2
  have h01 := zI_01 h
  have h5 := hB.2.2.2.2.2.1
  have hpr := zIB_p hB
  have hp1 : 0 ≤ p ∧ p < 100 := by rw [ep]; exact znext_r hpr
  obtain ⟨v1, v2⟩ := zdrf_v (f := f) (b := b) hpr
  have hG := zdrr_G h h1 h2
  rw [← ep] at v2 hG
  have hb6 : 0 ≤ b ∧ b < 6 := by omega
  -- behind the gate
  have R : zfv f (zdrr f b) b p (f (13 + 9 * b + 2)) (f (13 + 9 * b + 4)) 0 (zgG f b p) ∧ ∀ q : Int, 0 ≤ q → q < 100 → zdrr f b (87 + q) = f (87 + q) := by
    by_cases q : zgG f b p
    · have er : zdrr f b = zrnds (zdrf f b) b := if_pos (hG.mpr q)
      rw [er]
      obtain ⟨w1, w2, w3, w4, w5, w6⟩ := zrnds_v (g := zdrf f b) (b := b) (v1 (13 + 9 * b + 5) (by omega) (by omega)) ⟨h5.1, by have := q.1; omega⟩ hb6
      have q5 := q.1
      rw [v1 (67 + 4 * f (13 + 9 * b + 5) + 3) (by omega) (by omega)] at w2
      rw [v1 3 (by omega) (by omega)] at w3
      rw [v1 (13 + 9 * b + 8) (by omega) (by omega), v1 (13 + 9 * b + 2) (by omega) (by omega), v1 (13 + 9 * b + 6) (by omega) (by omega), v1 4 (by omega) (by omega)] at w4 w5
      have w7 : ∀ k : Int, k ≠ 67 + 4 * f (13 + 9 * b + 5) + 3 → k ≠ 13 + 9 * b + 5 → k ≠ 13 + 9 * b + 6 → k ≠ 3 → k ≠ 13 + 9 * b + 8 → k ≠ 4 → k ≠ 13 + 9 * b + 0 → k ≠ 13 + 9 * b + 1 → zrnds (zdrf f b) b k = f k := fun k a1 a2 a3 a4 a5 a6 a7 a8 => (w6 k a1 a2 a3 a4 a5 a6).trans (v1 k a7 a8)
      refine ⟨⟨?_, w7 _ (by omega) (by omega) (by omega) (by omega) (by omega) (by omega) (by omega) (by omega), w7 _ (by omega) (by omega) (by omega) (by omega) (by omega) (by omega) (by omega) (by omega), w7 _ (by omega) (by omega) (by omega) (by omega) (by omega) (by omega) (by omega) (by omega), ?_, ?_, ?_, fun q1 a1 a2 a3 => w7 _ (by omega) (by omega) (by omega) (by omega) (by omega) (by omega) (by omega) (by omega), ⟨w7 _ (by omega) (by omega) (by omega) (by omega) (by omega) (by omega) (by omega) (by omega), w7 _ (by omega) (by omega) (by omega) (by omega) (by omega) (by omega) (by omega) (by omega), w7 _ (by omega) (by omega) (by omega) (by omega) (by omega) (by omega) (by omega) (by omega)⟩, fun _ => ⟨w1, w2, w3, w4, w5, fun i a1 a2 a3 => w7 _ (by omega) (by omega) (by omega) (by omega) (by omega) (by omega) (by omega) (by omega)⟩, fun z => absurd q z⟩, fun q1 a1 a2 => w7 _ (by omega) (by omega) (by omega) (by omega) (by omega) (by omega) (by omega) (by omega)⟩
      · rw [← v2]
        unfold zpt
        rw [w6 (13 + 9 * b + 1) (by omega) (by omega) (by omega) (by omega) (by omega) (by omega), w6 (13 + 9 * b + 0) (by omega) (by omega) (by omega) (by omega) (by omega) (by omega)]
      · rw [Int.add_zero]; exact w7 _ (by omega) (by omega) (by omega) (by omega) (by omega) (by omega) (by omega) (by omega)
      · rw [Int.add_zero]; exact w7 _ (by omega) (by omega) (by omega) (by omega) (by omega) (by omega) (by omega) (by omega)
      · rw [Int.add_zero]; exact w7 _ (by omega) (by omega) (by omega) (by omega) (by omega) (by omega) (by omega) (by omega)
    · have er : zdrr f b = zdrf f b := if_neg (fun z => q (hG.mp z))
      rw [er]
      refine ⟨⟨v2, v1 _ (by omega) (by omega), v1 _ (by omega) (by omega), v1 _ (by omega) (by omega), ?_, ?_, ?_, fun q1 a1 a2 a3 => v1 _ (by omega) (by omega), ⟨v1 _ (by omega) (by omega), v1 _ (by omega) (by omega), v1 _ (by omega) (by omega)⟩, fun z => absurd z q, fun _ => ⟨v1 _ (by omega) (by omega), v1 _ (by omega) (by omega), v1 _ (by omega) (by omega), v1 _ (by omega) (by omega), v1 _ (by omega) (by omega), fun i a1 a2 => v1 _ (by omega) (by omega)⟩⟩, fun q1 a1 a2 => v1 _ (by omega) (by omega)⟩ <;> (rw [Int.add_zero]; exact v1 _ (by omega) (by omega))
  obtain ⟨R, R87⟩ := R
  unfold zfly
  generalize zdrr f b = u at R R87 ⊢
  clear hG v1 v2
  obtain ⟨r0, r2, r3, r4, r7, r5, rc, rq, rn, rG, rN⟩ := R
  obtain ⟨b1, b2⟩ := zbrn_v (g := u) (b := b)
  rw [r4] at b1
  have wpt : zpt (zbrn u b) b = p := by
    rw [← r0]
    unfold zpt
    rw [b2 (13 + 9 * b + 1) (by omega), b2 (13 + 9 * b + 0) (by omega)]
  have w2 : zbrn u b (13 + 9 * b + 2) = f (13 + 9 * b + 2) := (b2 _ (by omega)).trans r2
  rw [b1]
  by_cases c : max 0 (f (13 + 9 * b + 4) - 1) = 0
  · rw [if_pos c, if_pos c]
    have ee : zfee (zbrn u b) b 1 = if f (13 + 9 * b + 2) - 1 ≤ 0 then f (87 + p) else 0 := by
      unfold zfee
      rw [wpt, w2, b2 (87 + p) (by omega), R87 p hp1.1 hp1.2]
    obtain ⟨s1, s2, s3, s4, s5⟩ := zsinks_v wpt ee hp1 hb6
    have k0 : zpt (zsinks (zbrn u b) b 1) b = p := by
      rw [← wpt]
      unfold zpt
      rw [s5 (13 + 9 * b + 1) (by omega) (by omega) (by omega) (by omega), s5 (13 + 9 * b + 0) (by omega) (by omega) (by omega) (by omega)]
    have kk : ∀ k : Int, k ≠ 13 + 9 * b + 2 → k ≠ 13 + 9 * b + 7 → k ≠ 5 → k ≠ 187 + p → k ≠ 13 + 9 * b + 4 → zsinks (zbrn u b) b 1 k = u k := fun k a1 a2 a3 a4 a5 => (s5 k a1 a2 a3 a4).trans (b2 k a5)
    refine ⟨k0, ?_, (kk _ (by omega) (by omega) (by omega) (by omega) (by omega)).trans r3, ?_, ?_, ?_, ?_, fun q a1 a2 a3 => (kk _ (by omega) (by omega) (by omega) (by omega) (by omega)).trans (rq q a1 a2 a3), ⟨(kk _ (by omega) (by omega) (by omega) (by omega) (by omega)).trans rn.1, (kk _ (by omega) (by omega) (by omega) (by omega) (by omega)).trans rn.2.1, (kk _ (by omega) (by omega) (by omega) (by omega) (by omega)).trans rn.2.2⟩, fun g => ?_, fun g => ?_⟩
    · rw [s1, w2]
    · exact (s5 _ (by omega) (by omega) (by omega) (by omega)).trans b1
    · rw [s2, b2 _ (by omega), r7]; omega
    · rw [s3, b2 _ (by omega), r5]; omega
    · rw [s4, b2 _ (by omega), rc]; omega
    · have g5 := g.1
      obtain ⟨g1, g2, g3, g4, g5', g6⟩ := rG g
      refine ⟨(kk _ (by omega) (by omega) (by omega) (by omega) (by omega)).trans g1, (kk _ (by omega) (by omega) (by omega) (by omega) (by omega)).trans g2, (kk _ (by omega) (by omega) (by omega) (by omega) (by omega)).trans g3, fun z => ?_, fun z => ?_, fun i a1 a2 a3 => (kk _ (by omega) (by omega) (by omega) (by omega) (by omega)).trans (g6 i a1 a2 a3)⟩
      · obtain ⟨x1, x2, x3⟩ := g4 z
        exact ⟨(kk _ (by omega) (by omega) (by omega) (by omega) (by omega)).trans x1, (kk _ (by omega) (by omega) (by omega) (by omega) (by omega)).trans x2, (kk _ (by omega) (by omega) (by omega) (by omega) (by omega)).trans x3⟩
      · obtain ⟨x1, x2, x3⟩ := g5' z
        exact ⟨(kk _ (by omega) (by omega) (by omega) (by omega) (by omega)).trans x1, (kk _ (by omega) (by omega) (by omega) (by omega) (by omega)).trans x2, (kk _ (by omega) (by omega) (by omega) (by omega) (by omega)).trans x3⟩
    · obtain ⟨g1, g2, g3, g4, g5, g6⟩ := rN g
      exact ⟨(kk _ (by omega) (by omega) (by omega) (by omega) (by omega)).trans g1, (kk _ (by omega) (by omega) (by omega) (by omega) (by omega)).trans g2, (kk _ (by omega) (by omega) (by omega) (by omega) (by omega)).trans g3, (kk _ (by omega) (by omega) (by omega) (by omega) (by omega)).trans g4, (kk _ (by omega) (by omega) (by omega) (by omega) (by omega)).trans g5, fun i a1 a2 => (kk _ (by omega) (by omega) (by omega) (by omega) (by omega)).trans (g6 i a1 a2)⟩
  · rw [if_neg c, if_neg c, if_neg (show ¬ f (13 + 9 * b + 2) ≤ 0 by omega)]
    refine ⟨wpt, w2, (b2 _ (by omega)).trans r3, b1, (b2 _ (by omega)).trans r7, (b2 _ (by omega)).trans r5, (b2 _ (by omega)).trans rc, fun q a1 a2 a3 => (b2 _ (by omega)).trans (rq q a1 a2 a3), ⟨(b2 _ (by omega)).trans rn.1, (b2 _ (by omega)).trans rn.2.1, (b2 _ (by omega)).trans rn.2.2⟩, fun g => ?_, fun g => ?_⟩
    · have g5 := g.1
      obtain ⟨g1, g2, g3, g4, g5', g6⟩ := rG g
      refine ⟨(b2 _ (by omega)).trans g1, (b2 _ (by omega)).trans g2, (b2 _ (by omega)).trans g3, fun z => ?_, fun z => ?_, fun i a1 a2 a3 => (b2 _ (by omega)).trans (g6 i a1 a2 a3)⟩
      · obtain ⟨x1, x2, x3⟩ := g4 z
        exact ⟨(b2 _ (by omega)).trans x1, (b2 _ (by omega)).trans x2, (b2 _ (by omega)).trans x3⟩
      · obtain ⟨x1, x2, x3⟩ := g5' z
        exact ⟨(b2 _ (by omega)).trans x1, (b2 _ (by omega)).trans x2, (b2 _ (by omega)).trans x3⟩
    · obtain ⟨g1, g2, g3, g4, g5, g6⟩ := rN g
      exact ⟨(b2 _ (by omega)).trans g1, (b2 _ (by omega)).trans g2, (b2 _ (by omega)).trans g3, (b2 _ (by omega)).trans g4, (b2 _ (by omega)).trans g5, fun i a1 a2 => (b2 _ (by omega)).trans (g6 i a1 a2)⟩
