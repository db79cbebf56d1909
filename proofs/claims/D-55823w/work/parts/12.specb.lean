set_option maxRecDepth 100000
/-! what an hour leaves as it was, and that the ranges hold -/
theorem zIB_c {T T' : Int} {f f' : zF} {b : Int} (h : zIB T f b) (e : ∀ k : Int, 0 ≤ k → k < 9 → f' (13 + 9 * b + k) = f (13 + 9 * b + k)) (h1 : f 1 ≤ f' 1) (hT : T ≤ T') : zIB T' f' b := by
  unfold zIB at h ⊢
  rw [e 0 (by decide) (by decide), e 1 (by decide) (by decide), e 2 (by decide) (by decide), e 3 (by decide) (by decide), e 4 (by decide) (by decide), e 5 (by decide) (by decide), e 6 (by decide) (by decide), e 7 (by decide) (by decide), e 8 (by decide) (by decide)]
  omega
theorem zsp_c {f f' : zF} {i : Int} (e : ∀ k : Int, 0 ≤ k → k < 3 → f' (67 + 4 * i + k) = f (67 + 4 * i + k)) : zsp f' i = zsp f i := by
  have e0 := e 0 (by decide) (by decide)
  rw [Int.add_zero] at e0
  unfold zsp
  rw [e0, e 1 (by decide) (by decide)]
theorem zgt_c {f f' : zF} {i : Int} (e : ∀ k : Int, 0 ≤ k → k < 3 → f' (67 + 4 * i + k) = f (67 + 4 * i + k)) : zgt f' i = zgt f i := by
  unfold zgt
  rw [zsp_c e, e 2 (by decide) (by decide)]
theorem zIP_c {T T' : Int} {f f' : zF} {i : Int} (h : zIP T f i) (e : ∀ k : Int, 0 ≤ k → k < 3 → f' (67 + 4 * i + k) = f (67 + 4 * i + k)) (h3 : 0 ≤ f' (67 + 4 * i + 3) ∧ f' (67 + 4 * i + 3) ≤ 6 * T') : zIP T' f' i := by
  have e0 := e 0 (by decide) (by decide)
  rw [Int.add_zero] at e0
  unfold zIP at h ⊢
  rw [zgt_c e, e0, e 1 (by decide) (by decide), e 2 (by decide) (by decide)]
  exact ⟨h.1, h.2.1, h.2.2.1, h3, h.2.2.2.2⟩
/-- only balloon b's numbers, counts and claims have changed; these have grown a little -/
def zStep (g : Int) (f f' : zF) (b : Int) : Prop :=
  (f' 0 = f 0 ∧ f' 1 = f 1) ∧ (∀ k : Int, 8 ≤ k → k < 13 → f' k = f k) ∧ (∀ c k : Int, c ≠ b → 0 ≤ c → c < 6 → 0 ≤ k → k < 9 → f' (13 + 9 * c + k) = f (13 + 9 * c + k)) ∧ (∀ i k : Int, 0 ≤ i → i < 5 → 0 ≤ k → k < 3 → f' (67 + 4 * i + k) = f (67 + 4 * i + k)) ∧
  (∀ i : Int, 0 ≤ i → i < 5 → f (67 + 4 * i + 3) ≤ f' (67 + 4 * i + 3) ∧ f' (67 + 4 * i + 3) ≤ f (67 + 4 * i + 3) + 6 * g) ∧ (∀ p : Int, 0 ≤ p → p < 100 → f' (87 + p) = f (87 + p)) ∧
  (∀ p : Int, 0 ≤ p → p < 100 → f (187 + p) ≤ f' (187 + p) ∧ f' (187 + p) ≤ f (187 + p) + 54 * g) ∧ (∀ k : Int, 2 ≤ k → k < 8 → f k ≤ f' k ∧ f' k ≤ f k + 54 * g)
theorem zI_step {T g : Int} {f f' : zF} {b : Int} (h : zI T f) (hs : zStep g f f' b) (hg : 0 ≤ g) (hT : T + g ≤ 1000000) (hB : 0 ≤ b → b < f 0 → zIB (T + g) f' b) : zI (T + g) f' := by
  obtain ⟨s0, s1, s2, s3, s4, s5, s6, s7⟩ := hs
  obtain ⟨i0, i1, i2, i3, i4, i5, i6, i7, i8, i9⟩ := h
  refine ⟨by omega, by omega, fun k a c => ?_, fun k a c => ?_, fun c a1 a2 => ?_, fun i a1 a2 => ?_, fun p a c => ?_, fun p a c => ?_, fun i j a1 a2 a3 a4 a5 => ?_, by omega, by omega⟩
  · have := s7 k a c; have := i2 k a c; omega
  · rw [s1 k a c]; exact i3 k a c
  · by_cases q : c = b
    · subst q; exact hB a1 (by omega)
    · exact zIB_c (i4 c a1 (by omega)) (fun k k1 k2 => s2 c k q a1 (by omega) k1 k2) (by omega) (by omega)
  · have := s4 i a1 (by omega)
    have hh := i5 i a1 (by omega)
    have h3 := hh.2.2.2.1
    exact zIP_c hh (fun k k1 k2 => s3 i k a1 (by omega) k1 k2) (by omega)
  · rw [s5 p a c]; exact i6 p a c
  · have := s6 p a c; have := i7 p a c; omega
  · rw [zsp_c (fun k k1 k2 => s3 i k a1 (by omega) k1 k2), zsp_c (fun k k1 k2 => s3 j k a3 (by omega) k1 k2)] at a5
    exact i8 i j a1 (by omega) a3 (by omega) a5
theorem zfee_r {T : Int} {f : zF} {b : Int} (h : zI T f) (h1 : 0 ≤ b) (h2 : b < f 0) (lv : Int) : 0 ≤ zfee f b lv ∧ zfee f b lv ≤ 9 := by
  have := zI_f h _ (zIB_p (zI_B h h1 h2)).1 (zIB_p (zI_B h h1 h2)).2
  unfold zfee
  split <;> omega
theorem zdrf_step {T : Int} {f : zF} {b : Int} (h : zI T f) (h1 : 0 ≤ b) (h2 : b < f 0) : zStep 0 f (zdrf f b) b := by
  have h6 := h.1
  unfold zdrf
  generalize znext (zpt f b) (f (8 + f (13 + 9 * b + 2) - 1)) % 10 = x
  generalize znext (zpt f b) (f (8 + f (13 + 9 * b + 2) - 1)) / 10 = y
  refine ⟨⟨?_, ?_⟩, fun k a c => ?_, fun c k a1 a2 a3 a4 a5 => ?_, fun i k a1 a2 a3 a4 => ?_, fun i a1 a2 => ?_, fun p a c => ?_, fun p a c => ?_, fun k a c => ?_⟩ <;> (unfold js_uz; (repeat' split) <;> omega)
theorem zbrn_step {T : Int} {f : zF} {b : Int} (h : zI T f) (h1 : 0 ≤ b) (h2 : b < f 0) : zStep 0 f (zbrn f b) b := by
  have h6 := h.1
  unfold zbrn
  generalize max 0 (f (13 + 9 * b + 4) - 1) = x
  refine ⟨⟨?_, ?_⟩, fun k a c => ?_, fun c k a1 a2 a3 a4 a5 => ?_, fun i k a1 a2 a3 a4 => ?_, fun i a1 a2 => ?_, fun p a c => ?_, fun p a c => ?_, fun k a c => ?_⟩ <;> (unfold js_uz; (repeat' split) <;> omega)
theorem zsinks_step {T : Int} {f : zF} {b lv : Int} (h : zI T f) (h1 : 0 ≤ b) (h2 : b < f 0) : zStep 1 f (zsinks f b lv) b := by
  have h6 := h.1
  have hp := zIB_p (zI_B h h1 h2)
  have he := zfee_r h h1 h2 lv
  unfold zsinks
  generalize zfee f b lv = x at he ⊢
  generalize zpt f b = z at hp ⊢
  refine ⟨⟨?_, ?_⟩, fun k a c => ?_, fun c k a1 a2 a3 a4 a5 => ?_, fun i k a1 a2 a3 a4 => ?_, fun i a1 a2 => ?_, fun p a c => ?_, fun p a c => ?_, fun k a c => ?_⟩ <;> (unfold js_uz; (repeat' split) <;> first | omega | (subst_vars; omega) | (rename_i e; first | (rw [e]; omega) | (rw [← e]; omega)))
theorem zsinks_I {T : Int} {f : zF} {b lv : Int} (h : zI T f) (h1 : 0 ≤ b) (h2 : b < f 0) (h3 : 0 ≤ lv ∧ lv ≤ f (13 + 9 * b + 2)) (hT : T + 1 ≤ 1000000) : zI (T + 1) (zsinks f b lv) := by
  refine zI_step h (zsinks_step h h1 h2) (by decide) hT (fun _ _ => ?_)
  have h6 := h.1
  have hB := zI_B h h1 h2
  have hp := zIB_p hB
  have he := zfee_r h h1 h2 lv
  unfold zIB zsinks at *
  generalize zfee f b lv = x at he ⊢
  generalize zpt f b = z at hp ⊢
  simp (disch := omega) only [js_uz_n, js_uz_s]
  omega
theorem zdrf_I {T : Int} {f : zF} {b : Int} (h : zI T f) (h1 : 0 ≤ b) (h2 : b < f 0) : zI T (zdrf f b) := by
  have q := zI_step h (zdrf_step h h1 h2) (by decide) (by have := zI_T h; omega) (fun _ _ => ?_)
  · rwa [Int.add_zero] at q
  have h6 := h.1
  have hB := zI_B h h1 h2
  have hz := znext_r (w := f (8 + f (13 + 9 * b + 2) - 1)) (zIB_p hB)
  unfold zIB zdrf at *
  generalize znext (zpt f b) (f (8 + f (13 + 9 * b + 2) - 1)) = z at hz ⊢
  simp (disch := omega) only [js_uz_n, js_uz_s]
  omega
theorem zbrn_I {T : Int} {f : zF} {b : Int} (h : zI T f) (h1 : 0 ≤ b) (h2 : b < f 0) : zI T (zbrn f b) := by
  have q := zI_step h (zbrn_step h h1 h2) (by decide) (by have := zI_T h; omega) (fun _ _ => ?_)
  · rwa [Int.add_zero] at q
  have h6 := h.1
  have hB := zI_B h h1 h2
  unfold zIB zbrn at *
  simp (disch := omega) only [js_uz_n, js_uz_s]
  omega
theorem zrnds_step {T : Int} {f : zF} {b : Int} (h : zI T f) (h1 : 0 ≤ b) (h2 : b < f 0) (h3 : f (13 + 9 * b + 5) < f 1) : zStep 1 f (zrnds f b) b := by
  have h6 := h.1
  have h7 := h.2.1
  have hB := (zI_B h h1 h2).2.2.2.2.2.1
  unfold zrnds zrnd0
  by_cases q : f (13 + 9 * b + 8) = f (13 + 9 * b + 2)
  · rw [if_pos q]
    clear q h
    generalize f (13 + 9 * b + 5) = x at *
    generalize f (13 + 9 * b + 6) = x6 at *
    refine ⟨⟨?_, ?_⟩, fun k a c => ?_, fun c k a1 a2 a3 a4 a5 => ?_, fun i k a1 a2 a3 a4 => ?_, fun i a1 a2 => ?_, fun p a c => ?_, fun p a c => ?_, fun k a c => ?_⟩ <;> (unfold js_uz; (repeat' split) <;> first | omega | (subst_vars; omega) | (rename_i e; first | (rw [e]; omega) | (rw [← e]; omega)))
  · rw [if_neg q]
    clear q h
    generalize f (13 + 9 * b + 5) = x at *
    generalize f (13 + 9 * b + 6) = x6 at *
    refine ⟨⟨?_, ?_⟩, fun k a c => ?_, fun c k a1 a2 a3 a4 a5 => ?_, fun i k a1 a2 a3 a4 => ?_, fun i a1 a2 => ?_, fun p a c => ?_, fun p a c => ?_, fun k a c => ?_⟩ <;> (unfold js_uz; (repeat' split) <;> first | omega | (subst_vars; omega) | (rename_i e; first | (rw [e]; omega) | (rw [← e]; omega)))
theorem zrnds_I {T : Int} {f : zF} {b : Int} (h : zI T f) (h1 : 0 ≤ b) (h2 : b < f 0) (h3 : f (13 + 9 * b + 5) < f 1) (hT : T + 1 ≤ 1000000) : zI (T + 1) (zrnds f b) := by
  refine zI_step h (zrnds_step h h1 h2 h3) (by decide) hT (fun _ _ => ?_)
  have h6 := h.1
  have h7 := h.2.1
  have hB := zI_B h h1 h2
  have hT' := zI_T h
  clear h
  unfold zIB zrnds zrnd0 at *
  by_cases q : f (13 + 9 * b + 8) = f (13 + 9 * b + 2)
  · rw [if_pos q]
    simp (disch := omega) only [js_uz_n, js_uz_s]
    omega
  · rw [if_neg q]
    simp (disch := omega) only [js_uz_n, js_uz_s]
    omega
theorem zStep.trans {g g' : Int} {f f1 f2 : zF} {b : Int} (h : zStep g f f1 b) (k : zStep g' f1 f2 b) : zStep (g + g') f f2 b := by
  obtain ⟨s0, s1, s2, s3, s4, s5, s6, s7⟩ := h
  obtain ⟨t0, t1, t2, t3, t4, t5, t6, t7⟩ := k
  refine ⟨by omega, fun k a c => (t1 k a c).trans (s1 k a c), fun c k a1 a2 a3 a4 a5 => (t2 c k a1 a2 a3 a4 a5).trans (s2 c k a1 a2 a3 a4 a5), fun i k a1 a2 a3 a4 => (t3 i k a1 a2 a3 a4).trans (s3 i k a1 a2 a3 a4), fun i a1 a2 => ?_, fun p a c => (t5 p a c).trans (s5 p a c), fun p a c => ?_, fun k a c => ?_⟩
  · have := s4 i a1 a2; have := t4 i a1 a2; omega
  · have := s6 p a c; have := t6 p a c; omega
  · have := s7 k a c; have := t7 k a c; omega
theorem zStep.le {g g' : Int} {f f1 : zF} {b : Int} (h : zStep g f f1 b) (k : g ≤ g') : zStep g' f f1 b := by
  obtain ⟨s0, s1, s2, s3, s4, s5, s6, s7⟩ := h
  refine ⟨s0, s1, s2, s3, fun i a1 a2 => ?_, s5, fun p a c => ?_, fun k a c => ?_⟩
  · have := s4 i a1 a2; omega
  · have := s6 p a c; omega
  · have := s7 k a c; omega
theorem zI_mono {T T' : Int} {f : zF} (h : zI T f) (hT : T ≤ T' ∧ T' ≤ 1000000) : zI T' f := by
  obtain ⟨i0, i1, i2, i3, i4, i5, i6, i7, i8, i9⟩ := h
  exact ⟨i0, i1, fun k a c => by have := i2 k a c; omega, i3, fun b a1 a2 => zIB_c (i4 b a1 a2) (fun _ _ _ => rfl) (Int.le_refl _) hT.1, fun i a1 a2 => zIP_c (i5 i a1 a2) (fun _ _ _ => rfl) (by have := (i5 i a1 a2).2.2.2.1; omega), i6, fun p a c => by have := i7 p a c; omega, i8, by omega⟩
theorem zdrr_step {T : Int} {f : zF} {b : Int} (h : zI T f) (h1 : 0 ≤ b) (h2 : b < f 0) (hT : T + 1 ≤ 1000000) : zStep 1 f (zdrr f b) b ∧ zI (T + 1) (zdrr f b) := by
  have hd := zdrf_I h h1 h2
  have e0 := (zdrf_step h h1 h2).1.1
  unfold zdrr
  split
  next q =>
    have q2 := zrnds_step hd h1 (by omega) q.1
    exact ⟨by have := (zdrf_step h h1 h2).trans q2; rwa [Int.zero_add] at this, zrnds_I hd h1 (by omega) q.1 hT⟩
  next q => exact ⟨(zdrf_step h h1 h2).le (by decide), zI_mono hd (by omega)⟩
theorem zdrr_h {T : Int} {f : zF} {b : Int} (h : zI T f) (h1 : 0 ≤ b) (h2 : b < f 0) : zdrr f b (13 + 9 * b + 2) = f (13 + 9 * b + 2) := by
  have hd := zdrf_I h h1 h2
  have hs := (zdrf_step h h1 h2).1.1
  have h6 := h.1
  have e2 : zdrf f b (13 + 9 * b + 2) = f (13 + 9 * b + 2) := by unfold zdrf; simp (disch := omega) only [js_uz_n]
  have hB := (zI_B hd h1 (by omega)).2.2.2.2.2.1
  have h01 := (zI_01 hd).2
  unfold zdrr
  split
  next q =>
    have q1 := q.1
    unfold zrnds zrnd0
    split <;> (simp (disch := omega) only [js_uz_n]; exact e2)
  next q => exact e2
theorem zfly_step {T : Int} {f : zF} {b : Int} (h : zI T f) (h1 : 0 ≤ b) (h2 : b < f 0) (h3 : 1 ≤ f (13 + 9 * b + 2)) (hT : T + 2 ≤ 1000000) : zStep 2 f (zfly f b) b ∧ zI (T + 2) (zfly f b) := by
  obtain ⟨s1, i1⟩ := zdrr_step h h1 h2 (by omega)
  have e0 := s1.1.1
  have i2 := zbrn_I i1 h1 (by omega)
  have s2 := zbrn_step i1 h1 (by omega)
  have e1 := s2.1.1
  have eh : zbrn (zdrr f b) b (13 + 9 * b + 2) = f (13 + 9 * b + 2) := by
    rw [show zbrn (zdrr f b) b (13 + 9 * b + 2) = zdrr f b (13 + 9 * b + 2) from js_uz_n (by omega), zdrr_h h h1 h2]
  unfold zfly
  split
  · have i3 := zsinks_I (lv := 1) i2 h1 (by omega) (by omega) (by omega)
    have s3 := zsinks_step (lv := 1) i2 h1 (by omega)
    exact ⟨((s1.trans s2).trans s3).le (by decide), by rwa [show T + 1 + 1 = T + 2 by omega] at i3⟩
  · exact ⟨(s1.trans s2).le (by decide), zI_mono i2 (by omega)⟩
theorem zflk_I {T : Int} {f : zF} (h : zI T f) (hT : T + 12 ≤ 1000000) (k : Nat) (hk : (k : Int) ≤ f 0) : zI (T + 2 * k) (zflk f k) ∧ zflk f k 0 = f 0 ∧ zflk f k 1 = f 1 := by
  have h6 := h.1
  induction k with
  | zero => exact ⟨by rwa [show T + 2 * ((0 : Nat) : Int) = T by omega], rfl, rfl⟩
  | succ k ih =>
    obtain ⟨j1, j2, j3⟩ := ih (by omega)
    show zI _ (if zflk f k (13 + 9 * (k : Int) + 2) ≤ 0 then zflk f k else zfly (zflk f k) k) ∧ (if zflk f k (13 + 9 * (k : Int) + 2) ≤ 0 then zflk f k else zfly (zflk f k) k) 0 = f 0 ∧ (if zflk f k (13 + 9 * (k : Int) + 2) ≤ 0 then zflk f k else zfly (zflk f k) k) 1 = f 1
    by_cases q : zflk f k (13 + 9 * (k : Int) + 2) ≤ 0
    · rw [if_pos q]
      exact ⟨zI_mono j1 (by omega), j2, j3⟩
    · rw [if_neg q]
      obtain ⟨a1, a2⟩ := zfly_step j1 (b := (k : Int)) (by omega) (by omega) (by omega) (by omega)
      have a0 := a1.1
      exact ⟨by rwa [show T + 2 * (k : Int) + 2 = T + 2 * ((k + 1 : Nat) : Int) by omega] at a2, by omega, by omega⟩
theorem zI_hrs {T : Int} {f : zF} (h : zI T f) (e : zF) (he : e = js_uz f 2 (f 2 + 1)) (hT : T + 1 ≤ 1000000) : zI (T + 1) e := by
  subst he
  refine zI_step (b := 6) h ⟨⟨?_, ?_⟩, fun k a c => ?_, fun c k a1 a2 a3 a4 a5 => ?_, fun i k a1 a2 a3 a4 => ?_, fun i a1 a2 => ?_, fun p a c => ?_, fun p a c => ?_, fun k a c => ?_⟩ (by decide) hT (fun _ z => by have := h.1; omega) <;> (unfold js_uz; (repeat' split) <;> first | omega | (subst_vars; omega))
theorem zhr_I {T : Int} {f : zF} (h : zI T f) (hT : T + 13 ≤ 1000000) : zI (T + 13) (zhr f) ∧ zhr f 0 = f 0 ∧ zhr f 1 = f 1 := by
  have h6 := h.1
  obtain ⟨a, b, c⟩ := zflk_I h (by omega) (f 0).toNat (by omega)
  have q := zI_hrs a _ rfl (by omega)
  exact ⟨zI_mono q (by omega), (js_uz_n (by decide)).trans b, (js_uz_n (by decide)).trans c⟩
theorem zhrs_I {T : Int} {f : zF} (h : zI T f) (k : Nat) (hT : T + 13 * k ≤ 1000000) : zI (T + 13 * k) (zhrs f k) ∧ zhrs f k 0 = f 0 ∧ zhrs f k 1 = f 1 := by
  induction k with
  | zero => exact ⟨by rwa [show T + 13 * ((0 : Nat) : Int) = T by omega], rfl, rfl⟩
  | succ k ih =>
    obtain ⟨j1, j2, j3⟩ := ih (by omega)
    obtain ⟨a, b, c⟩ := zhr_I j1 (by omega)
    exact ⟨by rwa [show T + 13 * (k : Int) + 13 = T + 13 * ((k + 1 : Nat) : Int) by omega] at a, b.trans j2, c.trans j3⟩
