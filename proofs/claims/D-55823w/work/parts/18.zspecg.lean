set_option maxRecDepth 100000
/-! one balloon's way through the hours doesn't depend on the others -/
def zAg (b : Int) (f g : zF) : Prop := f 1 = g 1 ∧ (∀ k : Int, 8 ≤ k → k < 13 → f k = g k) ∧ (∀ k : Int, 0 ≤ k → k < 9 → f (13 + 9 * b + k) = g (13 + 9 * b + k)) ∧ (∀ i k : Int, 0 ≤ i → i < 5 → 0 ≤ k → k < 3 → f (67 + 4 * i + k) = g (67 + 4 * i + k)) ∧ (∀ p : Int, 0 ≤ p → p < 100 → f (87 + p) = g (87 + p))
theorem zAg_refl {b : Int} {f : zF} : zAg b f f := ⟨rfl, fun _ _ _ => rfl, fun _ _ _ => rfl, fun _ _ _ _ _ _ => rfl, fun _ _ _ => rfl⟩
theorem zAg.symm {b : Int} {f g : zF} (h : zAg b f g) : zAg b g f := ⟨h.1.symm, fun k a c => (h.2.1 k a c).symm, fun k a c => (h.2.2.1 k a c).symm, fun i k a c d e => (h.2.2.2.1 i k a c d e).symm, fun p a c => (h.2.2.2.2 p a c).symm⟩
theorem zAg.trans {b : Int} {f g e : zF} (h : zAg b f g) (q : zAg b g e) : zAg b f e := ⟨h.1.trans q.1, fun k a c => (h.2.1 k a c).trans (q.2.1 k a c), fun k a c => (h.2.2.1 k a c).trans (q.2.2.1 k a c), fun i k a c d e => (h.2.2.2.1 i k a c d e).trans (q.2.2.2.1 i k a c d e), fun p a c => (h.2.2.2.2 p a c).trans (q.2.2.2.2 p a c)⟩
theorem js_uz_e {f g : Int → Int} {k j v v' : Int} (e : f j = g j) (ev : v = v') : js_uz f k v j = js_uz g k v' j := by
  unfold js_uz
  split
  · exact ev
  · exact e
theorem zAg_uz {b : Int} {f g : zF} {k k' v v' : Int} (h : zAg b f g) (ek : k = k') (ev : v = v') : zAg b (js_uz f k v) (js_uz g k' v') := by
  subst ek
  exact ⟨js_uz_e h.1 ev, fun k a c => js_uz_e (h.2.1 k a c) ev, fun k a c => js_uz_e (h.2.2.1 k a c) ev, fun i k a c d e => js_uz_e (h.2.2.2.1 i k a c d e) ev, fun p a c => js_uz_e (h.2.2.2.2 p a c) ev⟩
theorem zAg_un {b : Int} {f g : zF} {k k' v v' : Int} (h : zAg b f g) (hb : 0 ≤ b ∧ b < 6) (ek : k = k') (hk : (k < 8 ∧ k ≠ 1) ∨ 187 ≤ k ∨ ∃ i : Int, 0 ≤ i ∧ i < 5 ∧ k = 67 + 4 * i + 3) : zAg b (js_uz f k v) (js_uz g k' v') := by
  subst ek
  have hj : ∀ j : Int, f j = g j → j ≠ k → js_uz f k v j = js_uz g k v' j := fun j e n => by rw [js_uz_n n, js_uz_n n, e]
  refine ⟨hj _ h.1 ?_, fun k a c => hj _ (h.2.1 k a c) ?_, fun k a c => hj _ (h.2.2.1 k a c) ?_, fun i k a c d e => hj _ (h.2.2.2.1 i k a c d e) ?_, fun p a c => hj _ (h.2.2.2.2 p a c) ?_⟩ <;> (rcases hk with q | q | ⟨i0, q1, q2, q3⟩ <;> omega)
theorem zAg_step {b c gr : Int} {f f' : zF} (h : zStep gr f f' c) (n : b ≠ c) (hb : 0 ≤ b ∧ b < 6) : zAg b f f' := ⟨h.1.2.symm, fun k a d => (h.2.1 k a d).symm, fun k a d => (h.2.2.1 b k n hb.1 hb.2 a d).symm, fun i k a c d e => (h.2.2.2.1 i k a c d e).symm, fun p a c => (h.2.2.2.2.2.1 p a c).symm⟩
theorem zAg_pt {b : Int} {f g : zF} (h : zAg b f g) : zpt f b = zpt g b := by
  unfold zpt
  rw [h.2.2.1 0 (by decide) (by decide), h.2.2.1 1 (by decide) (by decide)]
theorem zAg_drf {T : Int} {b : Int} {f g : zF} (h : zAg b f g) (hI : zI T f) (hb : 0 ≤ b ∧ b < f 0) (h1 : 1 ≤ f (13 + 9 * b + 2)) : zAg b (zdrf f b) (zdrf g b) := by
  have hB := (zI_B hI hb.1 hb.2).2.2.1
  have e2 := h.2.2.1 2 (by decide) (by decide)
  have ew := h.2.1 (8 + f (13 + 9 * b + 2) - 1) (by omega) (by omega)
  unfold zdrf
  rw [← zAg_pt h, ← e2, ← ew]
  exact zAg_uz (zAg_uz h rfl rfl) rfl rfl
theorem zAg_gt {b i : Int} {f g : zF} (h : zAg b f g) (hi : 0 ≤ i ∧ i < 5) : zgt f i = zgt g i :=
  (zgt_c (fun k k1 k2 => (h.2.2.2.1 i k hi.1 hi.2 k1 k2).symm)).symm
theorem zAg_atg {T : Int} {b : Int} {f g : zF} (h : zAg b f g) (hI : zI T f) (hb : 0 ≤ b ∧ b < f 0) : zatg f b ↔ zatg g b := by
  have hB := (zI_B hI hb.1 hb.2).2.2.2.2.2.1
  have h01 := (zI_01 hI).2
  unfold zatg
  rw [← zAg_pt h, ← h.2.2.1 5 (by decide) (by decide), ← h.1]
  constructor
  · intro z; exact ⟨z.1, by rw [← zAg_gt h (by omega)]; exact z.2⟩
  · intro z; exact ⟨z.1, by rw [zAg_gt h (by omega)]; exact z.2⟩
theorem zAg_rnds {T : Int} {b : Int} {f g : zF} (h : zAg b f g) (hI : zI T f) (hb : 0 ≤ b ∧ b < f 0) (h5 : f (13 + 9 * b + 5) < f 1) : zAg b (zrnds f b) (zrnds g b) := by
  have hB := (zI_B hI hb.1 hb.2).2.2.2.2.2.1
  have h01 := zI_01 hI
  have h0 : zAg b (zrnd0 f b) (zrnd0 g b) := by
    unfold zrnd0
    rw [← h.2.2.1 5 (by decide) (by decide), ← h.2.2.1 6 (by decide) (by decide)]
    exact zAg_un (zAg_uz (zAg_uz (zAg_un h (by omega) rfl (Or.inr (Or.inr ⟨_, hB.1, by omega, rfl⟩))) rfl rfl) rfl rfl) (by omega) rfl (Or.inl (by decide))
  unfold zrnds
  rw [← h.2.2.1 8 (by decide) (by decide), ← h.2.2.1 2 (by decide) (by decide), ← h.2.2.1 6 (by decide) (by decide)]
  split
  · exact zAg_un (zAg_uz (zAg_uz h0 rfl rfl) rfl rfl) (by omega) rfl (Or.inl (by decide))
  · exact h0
theorem zAg_drr {T : Int} {b : Int} {f g : zF} (h : zAg b f g) (hI : zI T f) (hb : 0 ≤ b ∧ b < f 0) (h1 : 1 ≤ f (13 + 9 * b + 2)) : zAg b (zdrr f b) (zdrr g b) := by
  have hd := zAg_drf h hI hb h1
  have hi := zdrf_I hI hb.1 hb.2
  have e0 := (zdrf_step hI hb.1 hb.2).1.1
  have ha := zAg_atg hd hi (by omega)
  unfold zdrr
  by_cases q : zatg (zdrf f b) b
  · rw [if_pos q, if_pos (ha.mp q)]
    exact zAg_rnds hd hi (by omega) q.1
  · rw [if_neg q, if_neg (fun z => q (ha.mpr z))]
    exact hd
theorem zAg_sinks {T : Int} {b lv : Int} {f g : zF} (h : zAg b f g) (hI : zI T f) (hb : 0 ≤ b ∧ b < f 0) : zAg b (zsinks f b lv) (zsinks g b lv) := by
  have h01 := zI_01 hI
  have hp := zIB_p (zI_B hI hb.1 hb.2)
  have e2 := h.2.2.1 2 (by decide) (by decide)
  have ef : zfee f b lv = zfee g b lv := by
    unfold zfee
    rw [← zAg_pt h, ← e2, ← h.2.2.2.2 _ hp.1 hp.2]
  unfold zsinks
  rw [← zAg_pt h, ← e2, ← ef, ← h.2.2.1 7 (by decide) (by decide)]
  exact zAg_un (zAg_un (zAg_uz (zAg_uz h rfl rfl) rfl rfl) (by omega) rfl (Or.inr (Or.inl (by omega)))) (by omega) rfl (Or.inl (by decide))
theorem zAg_fly {T : Int} {b : Int} {f g : zF} (h : zAg b f g) (hI : zI T f) (hb : 0 ≤ b ∧ b < f 0) (h1 : 1 ≤ f (13 + 9 * b + 2)) (hT : T + 2 ≤ 1000000) : zAg b (zfly f b) (zfly g b) := by
  have hr := zAg_drr h hI hb h1
  obtain ⟨s1, i1⟩ := zdrr_step hI hb.1 hb.2 (by omega)
  have e0 := s1.1.1
  have i2 := zbrn_I i1 hb.1 (by omega)
  have e1 := (zbrn_step i1 hb.1 (by omega)).1.1
  have h2 : zAg b (zbrn (zdrr f b) b) (zbrn (zdrr g b) b) := by
    unfold zbrn
    rw [← hr.2.2.1 4 (by decide) (by decide)]
    exact zAg_uz hr rfl rfl
  unfold zfly
  rw [← h2.2.2.1 4 (by decide) (by decide)]
  split
  · exact zAg_sinks h2 i2 (by omega)
  · exact h2
/-- an hour for balloon b alone -/
noncomputable def z1 (f : zF) (b : Int) : zF := if f (13 + 9 * b + 2) ≤ 0 then f else zfly f b
noncomputable def z1k (f : zF) (b : Int) : Nat → zF
  | 0 => f
  | k + 1 => z1 (z1k f b k) b
theorem z1_I {T : Int} {b : Int} {f : zF} (hI : zI T f) (hb : 0 ≤ b ∧ b < f 0) (hT : T + 2 ≤ 1000000) : zI (T + 2) (z1 f b) ∧ z1 f b 0 = f 0 ∧ z1 f b 1 = f 1 := by
  unfold z1
  split
  · exact ⟨zI_mono hI (by omega), rfl, rfl⟩
  · obtain ⟨a, c⟩ := zfly_step hI hb.1 hb.2 (by omega) hT
    exact ⟨c, a.1.1, a.1.2⟩
theorem zAg_1 {T : Int} {b : Int} {f g : zF} (h : zAg b f g) (hI : zI T f) (hb : 0 ≤ b ∧ b < f 0) (hT : T + 2 ≤ 1000000) : zAg b (z1 f b) (z1 g b) := by
  unfold z1
  rw [← h.2.2.1 2 (by decide) (by decide)]
  split
  · exact h
  · exact zAg_fly h hI hb (by omega) hT
theorem zAg_flk {T : Int} {f : zF} {b : Int} (h : zI T f) (hb : 0 ≤ b ∧ b < f 0) (hT : T + 13 ≤ 1000000) (k : Nat) (hk : (k : Int) ≤ f 0) : zAg b (if (k : Int) ≤ b then f else z1 f b) (zflk f k) := by
  have h6 := h.1
  induction k with
  | zero => rw [if_pos (by omega)]; exact zAg_refl
  | succ k ih =>
    have j := ih (by omega)
    obtain ⟨j1, j2, j3⟩ := zflk_I h (by omega) k (by omega)
    show zAg b _ (if zflk f k (13 + 9 * (k : Int) + 2) ≤ 0 then zflk f k else zfly (zflk f k) k)
    by_cases q : (k : Int) = b
    · rw [if_pos (by omega)] at j
      rw [if_neg (by omega)]
      have := zAg_1 j h hb (by omega)
      rw [show (if zflk f k (13 + 9 * (k : Int) + 2) ≤ 0 then zflk f k else zfly (zflk f k) k) = z1 (zflk f k) b from by rw [← q]; rfl]
      exact this
    · have e : (if ((k + 1 : Nat) : Int) ≤ b then f else z1 f b) = (if (k : Int) ≤ b then f else z1 f b) := by
        by_cases z : (k : Int) ≤ b
        · rw [if_pos z, if_pos (by omega)]
        · rw [if_neg z, if_neg (by omega)]
      rw [e]
      by_cases z : zflk f k (13 + 9 * (k : Int) + 2) ≤ 0
      · rw [if_pos z]; exact j
      · rw [if_neg z]
        obtain ⟨a1, a2⟩ := zfly_step j1 (b := (k : Int)) (by omega) (by omega) (by omega) (by omega)
        exact j.trans (zAg_step a1 (fun y => q y.symm) (by omega))
theorem zAg_hr {T : Int} {f : zF} {b : Int} (h : zI T f) (hb : 0 ≤ b ∧ b < f 0) (hT : T + 13 ≤ 1000000) : zAg b (z1 f b) (zhr f) := by
  have h6 := h.1
  have j := zAg_flk h hb hT (f 0).toNat (by omega)
  rw [if_neg (by omega)] at j
  refine j.trans ?_
  unfold zhr
  have hj : ∀ j : Int, j ≠ 2 → zflk f (f 0).toNat j = js_uz (zflk f (f 0).toNat) 2 (zflk f (f 0).toNat 2 + 1) j := fun j n => (js_uz_n n).symm
  exact ⟨hj _ (by decide), fun k a c => hj _ (by omega), fun k a c => hj _ (by omega), fun i k a c d e => hj _ (by omega), fun p a c => hj _ (by omega)⟩
theorem z1k_I {T : Int} {b : Int} {f : zF} (hI : zI T f) (hb : 0 ≤ b ∧ b < f 0) (k : Nat) (hT : T + 2 * k ≤ 1000000) : zI (T + 2 * k) (z1k f b k) ∧ z1k f b k 0 = f 0 ∧ z1k f b k 1 = f 1 := by
  induction k with
  | zero => exact ⟨by rwa [show T + 2 * ((0 : Nat) : Int) = T by omega], rfl, rfl⟩
  | succ k ih =>
    obtain ⟨j1, j2, j3⟩ := ih (by omega)
    obtain ⟨a, c, d⟩ := z1_I j1 (b := b) (by omega) (by omega)
    exact ⟨by rwa [show T + 2 * (k : Int) + 2 = T + 2 * ((k + 1 : Nat) : Int) by omega] at a, c.trans j2, d.trans j3⟩
theorem zAg_hrs {T : Int} {f : zF} {b : Int} (h : zI T f) (hb : 0 ≤ b ∧ b < f 0) (k : Nat) (hT : T + 13 * k ≤ 1000000) : zAg b (z1k f b k) (zhrs f k) := by
  induction k with
  | zero => exact zAg_refl
  | succ k ih =>
    obtain ⟨i1, i2, i3⟩ := zhrs_I h k (by omega)
    obtain ⟨j1, j2, j3⟩ := z1k_I h hb k (by omega)
    exact (zAg_1 (ih (by omega)) j1 (by omega) (by omega)).trans (zAg_hr i1 (by omega) (by omega))
/-! gas and height fall -/
theorem zdrr_g {T : Int} {f : zF} {b : Int} (h : zI T f) (h1 : 0 ≤ b) (h2 : b < f 0) : zdrr f b (13 + 9 * b + 4) = f (13 + 9 * b + 4) := by
  have hd := zdrf_I h h1 h2
  have hs := (zdrf_step h h1 h2).1.1
  have h6 := h.1
  have e2 : zdrf f b (13 + 9 * b + 4) = f (13 + 9 * b + 4) := by unfold zdrf; simp (disch := omega) only [js_uz_n]
  have hB := (zI_B hd h1 (by omega)).2.2.2.2.2.1
  have h01 := (zI_01 hd).2
  unfold zdrr
  split
  next q =>
    have q1 := q.1
    unfold zrnds zrnd0
    split <;> (simp (disch := omega) only [js_uz_n]; exact e2)
  next q => exact e2
theorem zfly_g {T : Int} {f : zF} {b : Int} (h : zI T f) (h1 : 0 ≤ b) (h2 : b < f 0) (hT : T + 2 ≤ 1000000) : zfly f b (13 + 9 * b + 4) = max 0 (f (13 + 9 * b + 4) - 1) ∧ zfly f b (13 + 9 * b + 2) = if max 0 (f (13 + 9 * b + 4) - 1) = 0 then f (13 + 9 * b + 2) - 1 else f (13 + 9 * b + 2) := by
  have h6 := h.1
  obtain ⟨s1, i1⟩ := zdrr_step h h1 h2 (by omega)
  have e0 := s1.1.1
  have i2 := zbrn_I i1 h1 (by omega)
  have e1 := (zbrn_step i1 h1 (by omega)).1.1
  have hp := zIB_p (zI_B i2 h1 (by omega))
  have eg : zbrn (zdrr f b) b (13 + 9 * b + 4) = max 0 (f (13 + 9 * b + 4) - 1) := by
    unfold zbrn
    rw [js_uz_s, zdrr_g h h1 h2]
  have eh : zbrn (zdrr f b) b (13 + 9 * b + 2) = f (13 + 9 * b + 2) := by
    unfold zbrn
    rw [js_uz_n (by omega), zdrr_h h h1 h2]
  unfold zfly
  rw [eg]
  split
  · unfold zsinks
    generalize zpt (zbrn (zdrr f b) b) b = z at hp
    simp (disch := omega) only [js_uz_n, js_uz_s]
    exact ⟨eg, by rw [eh]⟩
  · exact ⟨eg, eh⟩
/-- the first place where P fails -/
noncomputable def zfst (P : Nat → Prop) : Nat → Nat → Nat
  | 0, k => k
  | n + 1, k => @ite Nat (P k) (Classical.propDecidable _) (zfst P n (k + 1)) k
theorem zfst_go {P : Nat → Prop} {k : Nat} (hn : ¬ P k) (n j : Nat) (hj : j ≤ k) (hk : k ≤ j + n) (h : ∀ i : Nat, j ≤ i → i < k → P i) : zfst P n j = k := by
  induction n generalizing j with
  | zero => show j = k; omega
  | succ n ih =>
    show @ite Nat (P j) (Classical.propDecidable _) (zfst P n (j + 1)) j = k
    by_cases q : j = k
    · subst q; rw [if_neg hn]
    · rw [if_pos (h j (by omega) (by omega))]
      exact ih (j + 1) (by omega) (by omega) (fun i a c => h i (by omega) c)
theorem zfst_eq {P : Nat → Prop} {k n : Nat} (h : ∀ i : Nat, i < k → P i) (hn : ¬ P k) (hk : k ≤ n) : zfst P n 0 = k := zfst_go hn n 0 (by omega) (by omega) (fun i _ c => h i c)
theorem zpot {T : Int} {f : zF} {b : Int} (h : zI T f) (hb : 0 ≤ b ∧ b < f 0) (k : Nat) (hT : T + 13 * k ≤ 1000000) (hk : ∀ j : Nat, j < k → 0 < zhrs f j (13 + 9 * b + 2)) : zhrs f k (13 + 9 * b + 2) + zhrs f k (13 + 9 * b + 4) + k ≤ 45 := by
  induction k with
  | zero =>
    have hB := zI_B h hb.1 hb.2
    unfold zIB at hB
    show f (13 + 9 * b + 2) + f (13 + 9 * b + 4) + ((0 : Nat) : Int) ≤ 45
    omega
  | succ k ih =>
    have j := ih (by omega) (fun i a => hk i (by omega))
    have p := hk k (by omega)
    obtain ⟨i1, i2, i3⟩ := zhrs_I h k (by omega)
    have hB := zI_B i1 hb.1 (by omega)
    unfold zIB at hB
    have a := zAg_hr i1 (b := b) (by omega) (by omega)
    have a2 := a.2.2.1 2 (by decide) (by decide)
    have a4 := a.2.2.1 4 (by decide) (by decide)
    obtain ⟨g1, g2⟩ := zfly_g i1 hb.1 (by omega) (by omega)
    rw [show z1 (zhrs f k) b = zfly (zhrs f k) b from if_neg (by omega)] at a2 a4
    rw [g1] at a4
    rw [g2] at a2
    show zhr (zhrs f k) (13 + 9 * b + 2) + zhr (zhrs f k) (13 + 9 * b + 4) + ((k + 1 : Nat) : Int) ≤ 45
    rw [← a2, ← a4]
    split <;> omega
theorem zfst_le (P : Nat → Prop) (n k : Nat) : zfst P n k ≤ k + n := by
  induction n generalizing k with
  | zero => exact Nat.le_refl _
  | succ n ih =>
    show @ite Nat (P k) (Classical.propDecidable _) (zfst P n (k + 1)) k ≤ _
    have := ih (k + 1)
    split <;> omega
