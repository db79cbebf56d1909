set_option maxRecDepth 100000
/-! what a question throws: 0, or the place of the exception -/
noncomputable def zt1 (p : Prop) : Int := @ite Int p (Classical.propDecidable p) 0 1
noncomputable def zt2 (p q : Prop) : Int := @ite Int p (Classical.propDecidable p) (@ite Int q (Classical.propDecidable q) 0 2) 1
theorem zt1_c (p : Prop) : (zt1 p = 0 ∧ p) ∨ (zt1 p = 1 ∧ ¬ p) := by
  unfold zt1
  by_cases h : p
  · rw [if_pos h]; exact Or.inl ⟨rfl, h⟩
  · rw [if_neg h]; exact Or.inr ⟨rfl, h⟩
theorem zt2_c (p q : Prop) : (zt2 p q = 1 ∧ ¬ p) ∨ (zt2 p q = 2 ∧ p ∧ ¬ q) ∨ (zt2 p q = 0 ∧ p ∧ q) := by
  unfold zt2
  by_cases h : p
  · rw [if_pos h]
    by_cases k : q
    · rw [if_pos k]; exact Or.inr (Or.inr ⟨rfl, h, k⟩)
    · rw [if_neg k]; exact Or.inr (Or.inl ⟨rfl, h, k⟩)
  · rw [if_neg h]; exact Or.inl ⟨rfl, h⟩
/-- the answer of a question that threw t -/
def zv (t v : Int) : Int := if 0 < t then 0 else v
theorem zv_p {t v : Int} (h : 0 < t) : zv t v = 0 := if_pos h
theorem zv_n {t v : Int} (h : ¬ 0 < t) : zv t v = v := if_neg h
/-! the past: up to 8 rows -/
def zpas (f pas : Int → Int) (pm : Int) : Int → Int := if pm = 8 then js_cp f (js_cp pas pas 287 0 2009) 0 (287 * 7) 287 else js_cp f pas 0 (287 * pm) 287
def zpm (pm : Int) : Int := if pm = 8 then 8 else pm + 1
/-- the balloons on a point, as a set -/
def zbon (f : zF) (p : Int) : Nat → Int32
  | 0 => jI 0
  | k + 1 => zbon f p k ||| (if zpt f k = p then jI 1 <<< (jI k &&& 31) else jI 0)
def zpar (f : zF) (b : Int) : Nat → Int32
  | 0 => jI 0
  | k + 1 => zpar f b k ||| (if ((k : Int) ≠ b ∧ zpt f k = zpt f b) ∧ zabs (f (13 + 9 * k + 2) - f (13 + 9 * b + 2)) < 2 then jI 1 <<< (jI k &&& 31) else jI 0)
def zvSpireOf (f : zF) (sp w : Int) : Int := if w = 3 then zgt f sp else f (67 + 4 * sp + (if w = 4 then 3 else w))
/-- what a change leaves of the whole object -/
def zch (A : Nat → Nat) (f bef asd svd pas rf it wt tx od ln : Int → Int) (isS pm th len at_ wr fa om lm : Int) (h : js_H) (o : zO) : js_H := match o with
  | .inl z => zH A f f asd svd pas (zrf rf z.1 z.2) it wt tx od ln isS pm 1 len at_ wr fa om lm h
  | .inr z => zH A z.2 f asd svd (zpas f pas pm) rf it wt tx od ln isS (zpm pm) 0 len at_ wr fa om lm h
