set_option maxRecDepth 100000
/-! a change keeps what holds of all -/
/-- only balloon b's own numbers have changed (and counts 2..7 perhaps) -/
theorem zI_bal {T : Int} {f f' : zF} {b : Int} (h : zI T f) (hT : T + 1 ≤ 1000000) (hs : zStep 1 f f' b) (hB : 0 ≤ b → b < f 0 → zIB (T + 1) f' b) : zI (T + 400) f' ∨ ¬ T + 400 ≤ 1000000 := by
  by_cases q : T + 400 ≤ 1000000
  · exact Or.inl (zI_mono (zI_step h hs (by decide) hT hB) (by omega))
  · exact Or.inr q
theorem zdoSeal_I {T b ht : Int} {f : zF} {z : Int × zF} (h : zI T f) (hT : T + 400 ≤ 1000000) (e : zdoSeal f b ht = .inr z) : zI (T + 400) z.2 := by
  unfold zdoSeal at e
  split at e
  · cases e
  split at e
  · cases e
  split at e
  · cases e
  cases e
  rename_i c1 c2 c3
  have h6 := h.1
  have hb : 0 ≤ b ∧ b < f 0 := by omega
  show zI (T + 400) (js_uz f (13 + 9 * b + 8) ht)
  refine zI_mono (zI_step (g := 1) (b := b) h ⟨⟨?_, ?_⟩, fun k a c => ?_, fun c k a1 a2 a3 a4 a5 => ?_, fun i k a1 a2 a3 a4 => ?_, fun i a1 a2 => ?_, fun p a c => ?_, fun p a c => ?_, fun k a c => ?_⟩ (by decide) (by omega) (fun _ _ => ?_)) (by omega)
  rotate_right
  · have hB := zI_B h hb.1 hb.2
    show zIB (T + 1) (js_uz f (13 + 9 * b + 8) ht) b
    unfold zIB at hB ⊢
    simp (disch := omega) only [js_uz_n, js_uz_s]
    omega
  all_goals (unfold js_uz; (repeat' split) <;> omega)
theorem zdoDrop_I {T b sk : Int} {f : zF} {z : Int × zF} (h : zI T f) (hT : T + 400 ≤ 1000000) (e : zdoDrop f b sk = .inr z) : zI (T + 400) z.2 := by
  unfold zdoDrop at e
  split at e
  · cases e
  split at e
  · cases e
  split at e
  · cases e
  split at e
  · cases e
  split at e
  · cases e
  cases e
  rename_i c1 c2 c3 c4 c5
  have h6 := h.1
  have hb : 0 ≤ b ∧ b < f 0 := by omega
  have hB := zI_B h hb.1 hb.2
  show zI (T + 400) (js_uz (js_uz (js_uz f (13 + 9 * b + 2) (f (13 + 9 * b + 2) + sk)) (13 + 9 * b + 3) (f (13 + 9 * b + 3) - sk)) 6 (f 6 + sk))
  refine zI_mono (zI_step (g := 1) (b := b) h ⟨⟨?_, ?_⟩, fun k a c => ?_, fun c k a1 a2 a3 a4 a5 => ?_, fun i k a1 a2 a3 a4 => ?_, fun i a1 a2 => ?_, fun p a c => ?_, fun p a c => ?_, fun k a c => ?_⟩ (by decide) (by omega) (fun _ _ => ?_)) (by omega)
  rotate_right
  · show zIB (T + 1) (js_uz (js_uz (js_uz f (13 + 9 * b + 2) (f (13 + 9 * b + 2) + sk)) (13 + 9 * b + 3) (f (13 + 9 * b + 3) - sk)) 6 (f 6 + sk)) b
    unfold zIB at hB ⊢
    simp (disch := omega) only [js_uz_n, js_uz_s]
    omega
  all_goals (unfold js_uz; (repeat' split) <;> first | omega | (subst_vars; omega))
theorem zdoVent_I {T b lv : Int} {f : zF} {z : Int × zF} (h : zI T f) (hT : T + 400 ≤ 1000000) (e : zdoVent f b lv = .inr z) : zI (T + 400) z.2 := by
  unfold zdoVent at e
  split at e
  · cases e
  split at e
  · cases e
  split at e
  · cases e
  cases e
  rename_i c1 c2 c3
  have h6 := h.1
  have hb : 0 ≤ b ∧ b < f 0 := by omega
  have hB := zI_B h hb.1 hb.2
  have hg : zI (T + 1) (zgas f b lv) := by
    refine zI_step (g := 1) (b := b) h ⟨⟨?_, ?_⟩, fun k a c => ?_, fun c k a1 a2 a3 a4 a5 => ?_, fun i k a1 a2 a3 a4 => ?_, fun i a1 a2 => ?_, fun p a c => ?_, fun p a c => ?_, fun k a c => ?_⟩ (by decide) (by omega) (fun _ _ => ?_)
    rotate_right
    · unfold zgas
      unfold zIB at hB ⊢
      simp (disch := omega) only [js_uz_n, js_uz_s]
      omega
    all_goals (unfold zgas js_uz; (repeat' split) <;> omega)
  have e0 : zgas f b lv 0 = f 0 := js_uz_n (by omega)
  have e2 : zgas f b lv (13 + 9 * b + 2) = f (13 + 9 * b + 2) := js_uz_n (by omega)
  exact zI_mono (zsinks_I (lv := lv) hg hb.1 (by omega) (by omega) (by omega)) (by omega)
theorem zdoHour_I {T n : Int} {f : zF} {z : Int × zF} (h : zI T f) (hT : T + 400 ≤ 1000000) (e : zdoHour f n = .inr z) : zI (T + 400) z.2 := by
  unfold zdoHour at e
  split at e
  · cases e
  cases e
  rename_i c1
  exact zI_mono (zhrs_I h n.toNat (by omega)).1 (by omega)
theorem zdoFarm_I {T x y fee : Int} {f : zF} {z : Int × zF} (h : zI T f) (hT : T + 400 ≤ 1000000) (e : zdoFarm f x y fee = .inr z) : zI (T + 400) z.2 := by
  unfold zdoFarm at e
  split at e
  · cases e
  split at e
  · cases e
  split at e
  · cases e
  split at e
  · cases e
  cases e
  rename_i c1 c2 c3 c4
  obtain ⟨i0, i1, i2, i3, i4, i5, i6, i7, i8, i9⟩ := h
  have hn : ∀ j : Int, j < 87 ∨ 187 ≤ j → js_uz f (87 + (10 * y + x)) fee j = f j := fun j q => js_uz_n (by omega)
  show zI (T + 400) (js_uz f (87 + (10 * y + x)) fee)
  refine ⟨by rw [hn 0 (by omega)]; exact i0, by rw [hn 1 (by omega)]; exact i1, fun k a c => by rw [hn k (by omega)]; have := i2 k a c; omega, fun k a c => by rw [hn k (by omega)]; exact i3 k a c, fun b a1 a2 => ?_, fun i a1 a2 => ?_, fun p a c => ?_, fun p a c => by rw [hn (187 + p) (by omega)]; have := i7 p a c; omega, fun i j a1 a2 a3 a4 a5 => ?_, by omega⟩
  · rw [hn 0 (by omega)] at a2
    exact zIB_c (i4 b a1 a2) (fun k k1 k2 => hn _ (by omega)) (by rw [hn 1 (by omega)]; exact Int.le_refl _) (by omega)
  · rw [hn 1 (by omega)] at a2
    have := (i5 i a1 a2).2.2.2.1
    exact zIP_c (i5 i a1 a2) (fun k k1 k2 => hn _ (by omega)) (by rw [hn _ (by omega)]; omega)
  · unfold js_uz
    have := i6 p a c
    split <;> omega
  · rw [hn 1 (by omega)] at a2 a4
    rw [zsp_c (fun k k1 k2 => hn _ (by omega)), zsp_c (fun k k1 k2 => hn _ (by omega))] at a5
    exact i8 i j a1 a2 a3 a4 a5
theorem zdoWind_I {T ht d : Int} {f : zF} {z : Int × zF} (h : zI T f) (hT : T + 400 ≤ 1000000) (e : zdoWind f ht d = .inr z) : zI (T + 400) z.2 := by
  unfold zdoWind at e
  split at e
  · cases e
  split at e
  · cases e
  split at e
  · cases e
  cases e
  rename_i c1 c2 c3
  obtain ⟨i0, i1, i2, i3, i4, i5, i6, i7, i8, i9⟩ := h
  have hn : ∀ j : Int, j < 8 ∨ 13 ≤ j → js_uz f (8 + ht - 1) d j = f j := fun j q => js_uz_n (by omega)
  show zI (T + 400) (js_uz f (8 + ht - 1) d)
  refine ⟨by rw [hn 0 (by omega)]; exact i0, by rw [hn 1 (by omega)]; exact i1, fun k a c => by rw [hn k (by omega)]; have := i2 k a c; omega, fun k a c => ?_, fun b a1 a2 => ?_, fun i a1 a2 => ?_, fun p a c => by rw [hn (87 + p) (by omega)]; exact i6 p a c, fun p a c => by rw [hn (187 + p) (by omega)]; have := i7 p a c; omega, fun i j a1 a2 a3 a4 a5 => ?_, by omega⟩
  · unfold js_uz
    have := i3 k a c
    split <;> omega
  · rw [hn 0 (by omega)] at a2
    exact zIB_c (i4 b a1 a2) (fun k k1 k2 => hn _ (by omega)) (by rw [hn 1 (by omega)]; exact Int.le_refl _) (by omega)
  · rw [hn 1 (by omega)] at a2
    have := (i5 i a1 a2).2.2.2.1
    exact zIP_c (i5 i a1 a2) (fun k k1 k2 => hn _ (by omega)) (by rw [hn _ (by omega)]; omega)
  · rw [hn 1 (by omega)] at a2 a4
    rw [zsp_c (fun k k1 k2 => hn _ (by omega)), zsp_c (fun k k1 k2 => hn _ (by omega))] at a5
    exact i8 i j a1 a2 a3 a4 a5
theorem zI_cell3 {T b v : Int} {f : zF} (h : zI T f) (hT : T + 1 ≤ 1000000) (hb : 0 ≤ b ∧ b < f 0) (hv : 0 ≤ v ∧ v ≤ 20) : zI (T + 1) (js_uz f (13 + 9 * b + 3) v) := by
  have h6 := h.1
  have hB := zI_B h hb.1 hb.2
  refine zI_step (g := 1) (b := b) h ⟨⟨?_, ?_⟩, fun k a c => ?_, fun c k a1 a2 a3 a4 a5 => ?_, fun i k a1 a2 a3 a4 => ?_, fun i a1 a2 => ?_, fun p a c => ?_, fun p a c => ?_, fun k a c => ?_⟩ (by decide) (by omega) (fun _ _ => ?_)
  rotate_right
  · unfold zIB at hB ⊢
    simp (disch := omega) only [js_uz_n, js_uz_s]
    omega
  all_goals (unfold js_uz; (repeat' split) <;> omega)
theorem zdoTrade_I {T b c sk : Int} {f : zF} {z : Int × zF} (h : zI T f) (hT : T + 400 ≤ 1000000) (e : zdoTrade f b c sk = .inr z) : zI (T + 400) z.2 := by
  unfold zdoTrade at e
  split at e
  · cases e
  split at e
  · cases e
  split at e
  · cases e
  split at e
  · cases e
  split at e
  · cases e
  split at e
  · cases e
  split at e
  · cases e
  cases e
  rename_i c1 c2 c3 c4 c5 c6 c7
  have h6 := h.1
  have hB := zI_B h (b := b) (by omega) (by omega)
  have hC := zI_B h (b := c) (by omega) (by omega)
  unfold zIB at hB hC
  have h1 := zI_cell3 h (by omega) (b := b) (v := f (13 + 9 * b + 3) - sk) (by omega) (by omega)
  have e0 : js_uz f (13 + 9 * b + 3) (f (13 + 9 * b + 3) - sk) 0 = f 0 := js_uz_n (by omega)
  exact zI_mono (zI_cell3 h1 (by omega) (b := c) (v := f (13 + 9 * c + 3) + sk) (by omega) (by omega)) (by omega)
theorem zdoEnter_I {T x y sk gs : Int} {f : zF} {z : Int × zF} (h : zI T f) (hT : T + 400 ≤ 1000000) (e : zdoEnter f x y sk gs = .inr z) : zI (T + 400) z.2 := by
  unfold zdoEnter at e
  split at e
  · cases e
  split at e
  · cases e
  split at e
  · cases e
  split at e
  · cases e
  split at e
  · cases e
  cases e
  rename_i c1 c2 c3 c4 c5
  obtain ⟨i0, i1, i2, i3, i4, i5, i6, i7, i8, i9⟩ := h
  show zI (T + 400) (zent f x y sk gs)
  have n0 : ∀ j : Int, (j < 13 + 9 * f 0 ∨ 13 + 9 * f 0 + 9 ≤ j) → zent0 f x y sk gs 9 j = f j := fun j q => zent0_n 9 (by omega)
  have hn : ∀ j : Int, j ≠ 0 → j ≠ 7 → (j < 13 + 9 * f 0 ∨ 13 + 9 * f 0 + 9 ≤ j) → zent f x y sk gs j = f j := fun j q1 q2 q3 => (js_uz_n q2).trans ((js_uz_n q1).trans (n0 j q3))
  have v0 : zent f x y sk gs 0 = f 0 + 1 := (js_uz_n (by decide)).trans (js_uz_s.trans (by rw [n0 0 (by omega)]))
  have v7 : zent f x y sk gs 7 = f 7 + 1 := js_uz_s.trans (by rw [n0 7 (by omega)])
  have hs : ∀ k : Int, 0 ≤ k → k < 9 → zent f x y sk gs (13 + 9 * f 0 + k) = zev x y sk gs k := fun k q1 q2 => (js_uz_n (by omega)).trans ((js_uz_n (by omega)).trans (zent0_s 9 q1 (by omega)))
  have v1 := hn 1 (by omega) (by omega) (by omega)
  refine ⟨by omega, by omega, fun k a c => ?_, fun k a c => by rw [hn k (by omega) (by omega) (by omega)]; exact i3 k a c, fun b a1 a2 => ?_, fun i a1 a2 => ?_, fun p a c => by rw [hn (87 + p) (by omega) (by omega) (by omega)]; exact i6 p a c, fun p a c => by rw [hn (187 + p) (by omega) (by omega) (by omega)]; have := i7 p a c; omega, fun i j a1 a2 a3 a4 a5 => ?_, by omega⟩
  · have := i2 k a c
    by_cases q : k = 7
    · subst q; omega
    · rw [hn k (by omega) q (by omega)]; omega
  · by_cases q : b = f 0
    · subst q
      unfold zIB
      rw [hs 0 (by decide) (by decide), hs 1 (by decide) (by decide), hs 2 (by decide) (by decide), hs 3 (by decide) (by decide), hs 4 (by decide) (by decide), hs 5 (by decide) (by decide), hs 6 (by decide) (by decide), hs 7 (by decide) (by decide), hs 8 (by decide) (by decide)]
      rw [show zev x y sk gs 0 = x from rfl, show zev x y sk gs 1 = y from rfl, show zev x y sk gs 2 = 0 from rfl, show zev x y sk gs 3 = sk from rfl, show zev x y sk gs 4 = gs from rfl, show zev x y sk gs 5 = 0 from rfl, show zev x y sk gs 6 = 0 from rfl, show zev x y sk gs 7 = 0 from rfl, show zev x y sk gs 8 = 0 from rfl]
      omega
    · exact zIB_c (i4 b a1 (by omega)) (fun k k1 k2 => hn _ (by omega) (by omega) (by omega)) (by omega) (by omega)
  · have := (i5 i a1 (by omega)).2.2.2.1
    exact zIP_c (i5 i a1 (by omega)) (fun k k1 k2 => hn _ (by omega) (by omega) (by omega)) (by rw [hn _ (by omega) (by omega) (by omega)]; omega)
  · rw [zsp_c (fun k k1 k2 => hn _ (by omega) (by omega) (by omega)), zsp_c (fun k k1 k2 => hn _ (by omega) (by omega) (by omega))] at a5
    exact i8 i j a1 (by omega) a3 (by omega) a5
theorem zson_no {f : zF} {p : Int} (k : Nat) (h : zson f p k < 0) (i : Nat) (hi : i < k) : zsp f (i : Int) ≠ p := by
  induction k with
  | zero => omega
  | succ k ih =>
    have h2 : (if zsp f k = p then (k : Int) else zson f p k) < 0 := h
    split at h2
    · omega
    next q =>
      by_cases z : i = k
      · subst z; exact q
      · exact ih h2 (by omega)
theorem zdoSpire_I {T x y sd : Int} {f : zF} {z : Int × zF} (h : zI T f) (hT : T + 400 ≤ 1000000) (e : zdoSpire f x y sd = .inr z) : zI (T + 400) z.2 := by
  unfold zdoSpire at e
  split at e
  · cases e
  split at e
  · cases e
  split at e
  · cases e
  split at e
  · cases e
  split at e
  · cases e
  split at e
  · cases e
  cases e
  rename_i c1 c2 c3 c4 c5 c6
  obtain ⟨i0, i1, i2, i3, i4, i5, i6, i7, i8, i9⟩ := h
  show zI (T + 400) (zspr f x y sd)
  have hn : ∀ j : Int, j ≠ 1 → (j < 67 + 4 * f 1 ∨ 67 + 4 * f 1 + 4 ≤ j) → zspr f x y sd j = f j := fun j q1 q2 => by
    unfold zspr
    simp (disch := omega) only [js_uz_n]
  have v1 : zspr f x y sd 1 = f 1 + 1 := js_uz_s
  have s0 : zspr f x y sd (67 + 4 * f 1) = x := by unfold zspr; simp (disch := omega) only [js_uz_n, js_uz_s]
  have s1 : zspr f x y sd (67 + 4 * f 1 + 1) = y := by unfold zspr; simp (disch := omega) only [js_uz_n, js_uz_s]
  have s2 : zspr f x y sd (67 + 4 * f 1 + 2) = sd := by unfold zspr; simp (disch := omega) only [js_uz_n, js_uz_s]
  have s3 : zspr f x y sd (67 + 4 * f 1 + 3) = 0 := by unfold zspr; simp (disch := omega) only [js_uz_n, js_uz_s]
  have sp : zsp (zspr f x y sd) (f 1) = 10 * y + x := by unfold zsp; rw [s0, s1]
  have v0 := hn 0 (by omega) (by omega)
  have old : ∀ i : Int, 0 ≤ i → i < f 1 → zsp (zspr f x y sd) i = zsp f i := fun i a1 a2 => zsp_c (fun k k1 k2 => hn _ (by omega) (by omega))
  have new : ∀ i : Int, 0 ≤ i → i < f 1 → zsp f i ≠ 10 * y + x := fun i a1 a2 => by
    have := zson_no (f := f) (p := 10 * y + x) (f 1).toNat (by unfold zspon at c5; omega) i.toNat (by omega)
    rwa [show ((i.toNat : Nat) : Int) = i by omega] at this
  refine ⟨by omega, by omega, fun k a c => by rw [hn k (by omega) (by omega)]; have := i2 k a c; omega, fun k a c => by rw [hn k (by omega) (by omega)]; exact i3 k a c, fun b a1 a2 => ?_, fun i a1 a2 => ?_, fun p a c => by rw [hn (87 + p) (by omega) (by omega)]; exact i6 p a c, fun p a c => by rw [hn (187 + p) (by omega) (by omega)]; have := i7 p a c; omega, fun i j a1 a2 a3 a4 a5 => ?_, by omega⟩
  · exact zIB_c (i4 b a1 (by omega)) (fun k k1 k2 => hn _ (by omega) (by omega)) (by omega) (by omega)
  · by_cases q : i = f 1
    · subst q
      unfold zIP zgt
      rw [sp, s0, s1, s2, s3]
      omega
    · have := (i5 i a1 (by omega)).2.2.2.1
      exact zIP_c (i5 i a1 (by omega)) (fun k k1 k2 => hn _ (by omega) (by omega)) (by rw [hn _ (by omega) (by omega)]; omega)
  · by_cases q : i = f 1
    · by_cases r : j = f 1
      · omega
      · rw [q, sp, old j a3 (by omega)] at a5
        exact absurd a5.symm (new j a3 (by omega))
    · by_cases r : j = f 1
      · rw [r, sp, old i a1 (by omega)] at a5
        exact absurd a5 (new i a1 (by omega))
      · rw [old i a1 (by omega), old j a3 (by omega)] at a5
        exact i8 i j a1 (by omega) a3 (by omega) a5
theorem zdoRetire_I {T b : Int} {f : zF} {z : Int × zF} (h : zI T f) (hT : T + 400 ≤ 1000000) (e : zdoRetire f b = .inr z) : zI (T + 400) z.2 := by
  unfold zdoRetire at e
  split at e
  · cases e
  cases e
  rename_i c1
  obtain ⟨i0, i1, i2, i3, i4, i5, i6, i7, i8, i9⟩ := h
  show zI (T + 400) (js_uz (js_cp f f (13 + 9 * b + 9) (13 + 9 * b) (9 * (f 0 - 1 - b))) 0 (f 0 - 1))
  generalize hg : js_uz (js_cp f f (13 + 9 * b + 9) (13 + 9 * b) (9 * (f 0 - 1 - b))) 0 (f 0 - 1) = g
  have hn : ∀ j : Int, j ≠ 0 → (j < 13 + 9 * b ∨ 67 ≤ j) → g j = f j := fun j q1 q2 => by
    rw [← hg, js_uz_n q1]
    exact if_neg (by omega)
  have hs : ∀ c k : Int, b ≤ c → c < f 0 - 1 → 0 ≤ k → k < 9 → g (13 + 9 * c + k) = f (13 + 9 * (c + 1) + k) := fun c k a1 a2 a3 a4 => by
    rw [← hg, js_uz_n (by omega), show js_cp f f (13 + 9 * b + 9) (13 + 9 * b) (9 * (f 0 - 1 - b)) (13 + 9 * c + k) = f (13 + 9 * b + 9 + (13 + 9 * c + k - (13 + 9 * b))) from if_pos (by omega)]
    congr 1
    omega
  have v0 : g 0 = f 0 - 1 := by rw [← hg]; exact js_uz_s
  have v1 := hn 1 (by omega) (by omega)
  refine ⟨by omega, by omega, fun k a c => by rw [hn k (by omega) (by omega)]; have := i2 k a c; omega, fun k a c => by rw [hn k (by omega) (by omega)]; exact i3 k a c, fun c a1 a2 => ?_, fun i a1 a2 => ?_, fun p a c => by rw [hn (87 + p) (by omega) (by omega)]; exact i6 p a c, fun p a c => by rw [hn (187 + p) (by omega) (by omega)]; have := i7 p a c; omega, fun i j a1 a2 a3 a4 a5 => ?_, by omega⟩
  · by_cases q : c < b
    · exact zIB_c (i4 c a1 (by omega)) (fun k k1 k2 => hn _ (by omega) (by omega)) (by omega) (by omega)
    · have hB := i4 (c + 1) (by omega) (by omega)
      unfold zIB at hB ⊢
      rw [hs c 0 (by omega) (by omega) (by decide) (by decide), hs c 1 (by omega) (by omega) (by decide) (by decide), hs c 2 (by omega) (by omega) (by decide) (by decide), hs c 3 (by omega) (by omega) (by decide) (by decide), hs c 4 (by omega) (by omega) (by decide) (by decide), hs c 5 (by omega) (by omega) (by decide) (by decide), hs c 6 (by omega) (by omega) (by decide) (by decide), hs c 7 (by omega) (by omega) (by decide) (by decide), hs c 8 (by omega) (by omega) (by decide) (by decide)]
      omega
  · have := (i5 i a1 (by omega)).2.2.2.1
    exact zIP_c (i5 i a1 (by omega)) (fun k k1 k2 => hn _ (by omega) (by omega)) (by rw [hn _ (by omega) (by omega)]; omega)
  · rw [zsp_c (fun k k1 k2 => hn _ (by omega) (by omega)), zsp_c (fun k k1 k2 => hn _ (by omega) (by omega))] at a5
    exact i8 i j a1 (by omega) a3 (by omega) a5
/-- .. so does any order -/
theorem zdo_I {T k : Int} {f : zF} {od : Int → Int} {z : Int × zF} (h : zI T f) (hT : T + 400 ≤ 1000000) (e : zdo f od k = .inr z) : zI (T + 400) z.2 := by
  unfold zdo at e
  (repeat' split at e)
  · exact zdoDrop_I h hT e
  · exact zdoEnter_I h hT e
  · exact zdoFarm_I h hT e
  · exact zdoHour_I h hT e
  · exact zdoSeal_I h hT e
  · exact zdoSpire_I h hT e
  · exact zdoTrade_I h hT e
  · exact zdoVent_I h hT e
  · exact zdoWind_I h hT e
  · exact zdoRetire_I h hT e
