set_option maxRecDepth 100000
/-! what a change gives: a refusal with its reason and detail, or an answer and the new row -/
abbrev zO : Type := (Int × Int) ⊕ (Int × zF)
def zoR (o : zO) : Int := match o with
  | .inl _ => 0
  | .inr z => z.1
def zrf (g : Int → Int) (w v : Int) : Int → Int := js_uz (js_uz (js_uz (js_uz g 0 w) 1 v) 2 0) 3 0
def zoH (h : js_H) (m s rf : Nat) (E1 : js_E) (g : Int → Int) (o : zO) : js_H := match o with
  | .inl z => js_up (js_up h m E1) rf (js_aI true 0 4 (zrf g z.1 z.2))
  | .inr z => js_up h s (js_aI true 0 287 z.2)
def zwr (a b c e : Int) : Int := if ¬ (0 ≤ a ∧ a ≤ b) then 0 else if ¬ (0 ≤ c ∧ c ≤ e) then 1 else 2
theorem zwr_c (a b c e : Int) : (zwr a b c e = 0 ∧ ¬ (0 ≤ a ∧ a ≤ b)) ∨ (zwr a b c e = 1 ∧ (0 ≤ a ∧ a ≤ b) ∧ ¬ (0 ≤ c ∧ c ≤ e)) ∨ (zwr a b c e = 2 ∧ (0 ≤ a ∧ a ≤ b) ∧ 0 ≤ c ∧ c ≤ e) := by
  unfold zwr
  by_cases h1 : 0 ≤ a ∧ a ≤ b
  · rw [if_neg (fun z => z h1)]
    by_cases h2 : 0 ≤ c ∧ c ≤ e
    · rw [if_neg (fun z => z h2)]; omega
    · rw [if_pos h2]; omega
  · rw [if_pos h1]; omega
/-- a balloon's numbers when it comes -/
def zev (x y sk gs k : Int) : Int := if k = 0 then x else if k = 1 then y else if k = 3 then sk else if k = 4 then gs else 0
def zent0 (f : zF) (x y sk gs : Int) : Nat → zF
  | 0 => f
  | k + 1 => js_uz (zent0 f x y sk gs k) (13 + 9 * f 0 + k) (zev x y sk gs k)
theorem zent0_n {f : zF} {x y sk gs j : Int} (k : Nat) (hj : j < 13 + 9 * f 0 ∨ 13 + 9 * f 0 + k ≤ j) : zent0 f x y sk gs k j = f j := by
  induction k with
  | zero => rfl
  | succ k ih => exact (js_uz_n (by omega)).trans (ih (by omega))
theorem zent0_s {f : zF} {x y sk gs j : Int} (k : Nat) (h0 : 0 ≤ j) (hj : j < k) : zent0 f x y sk gs k (13 + 9 * f 0 + j) = zev x y sk gs j := by
  induction k with
  | zero => omega
  | succ k ih =>
    by_cases q : j = k
    · subst q; exact js_uz_s
    · exact (js_uz_n (by omega)).trans (ih (by omega))
def zent (f : zF) (x y sk gs : Int) : zF := js_uz (js_uz (zent0 f x y sk gs 9) 0 (zent0 f x y sk gs 9 0 + 1)) 7 (zent0 f x y sk gs 9 7 + 1)
def zdoEnter (f : zF) (x y sk gs : Int) : zO :=
  if ¬ (0 ≤ x ∧ x ≤ 9) then .inl (4, x) else if ¬ (0 ≤ y ∧ y ≤ 9) then .inl (4, y) else if ¬ (0 ≤ sk ∧ sk ≤ 20) then .inl (4, sk) else if ¬ (0 ≤ gs ∧ gs ≤ 40) then .inl (4, gs) else
  if f 0 = 6 then .inl (1, 6) else .inr (f 0, zent f x y sk gs)
/-- the spire on a point -/
def zson (f : zF) (p : Int) : Nat → Int
  | 0 => -1
  | k + 1 => if zsp f k = p then k else zson f p k
def zspon (f : zF) (p : Int) : Int := zson f p (f 1).toNat
theorem zson_r {f : zF} {p : Int} (k : Nat) : -1 ≤ zson f p k ∧ zson f p k < k := by
  induction k with
  | zero => exact ⟨Int.le_refl (-1), (show (-1 : Int) < ((0 : Nat) : Int) by decide)⟩
  | succ k ih =>
    show -1 ≤ (if zsp f k = p then (k : Int) else zson f p k) ∧ (if zsp f k = p then (k : Int) else zson f p k) < _
    split <;> omega
def zspr (f : zF) (x y sd : Int) : zF := js_uz (js_uz (js_uz (js_uz (js_uz f (67 + 4 * f 1) x) (67 + 4 * f 1 + 1) y) (67 + 4 * f 1 + 2) sd) (67 + 4 * f 1 + 3) 0) 1 (f 1 + 1)
def zdoSpire (f : zF) (x y sd : Int) : zO :=
  if ¬ (0 ≤ x ∧ x ≤ 9) then .inl (4, x) else if ¬ (0 ≤ y ∧ y ≤ 9) then .inl (4, y) else if ¬ (1 ≤ sd ∧ sd ≤ 4) then .inl (4, sd) else if znexm (10 * y + x) sd < 0 then .inl (4, sd) else
  if 0 ≤ zspon f (10 * y + x) then .inl (2, zspon f (10 * y + x)) else if f 1 = 5 then .inl (1, 5) else .inr (f 1, zspr f x y sd)
def zdoFarm (f : zF) (x y fee : Int) : zO :=
  if ¬ (0 ≤ x ∧ x ≤ 9) then .inl (4, x) else if ¬ (0 ≤ y ∧ y ≤ 9) then .inl (4, y) else if ¬ (0 ≤ fee ∧ fee ≤ 9) then .inl (4, fee) else
  if f (87 + (10 * y + x)) = fee then .inl (3, fee) else .inr (f (87 + (10 * y + x)), js_uz f (87 + (10 * y + x)) fee)
def zdoWind (f : zF) (ht d : Int) : zO :=
  if ¬ (1 ≤ ht ∧ ht ≤ 5) then .inl (4, ht) else if ¬ (0 ≤ d ∧ d ≤ 4) then .inl (4, d) else
  if f (8 + ht - 1) = d then .inl (3, d) else .inr (f (8 + ht - 1), js_uz f (8 + ht - 1) d)
def zdoDrop (f : zF) (b sk : Int) : zO :=
  if ¬ (0 ≤ b ∧ b ≤ f 0 - 1) then .inl (5, b) else if ¬ (1 ≤ sk ∧ sk ≤ 9) then .inl (4, sk) else if f (13 + 9 * b + 4) = 0 then .inl (8, f (13 + 9 * b + 2)) else if f (13 + 9 * b + 3) < sk then .inl (6, f (13 + 9 * b + 3)) else
  if 5 < f (13 + 9 * b + 2) + sk then .inl (7, 5 - f (13 + 9 * b + 2)) else
  .inr (f (13 + 9 * b + 2) + sk, js_uz (js_uz (js_uz f (13 + 9 * b + 2) (f (13 + 9 * b + 2) + sk)) (13 + 9 * b + 3) (f (13 + 9 * b + 3) - sk)) 6 (f 6 + sk))
/-- gas is let out -/
def zgas (f : zF) (b lv : Int) : zF := js_uz f (13 + 9 * b + 4) (max 0 (f (13 + 9 * b + 4) - lv))
def zdoVent (f : zF) (b lv : Int) : zO :=
  if ¬ (0 ≤ b ∧ b ≤ f 0 - 1) then .inl (5, b) else if ¬ (1 ≤ lv ∧ lv ≤ 5) then .inl (4, lv) else if f (13 + 9 * b + 2) < lv then .inl (7, f (13 + 9 * b + 2)) else
  .inr (zfee (zgas f b lv) b lv, zsinks (zgas f b lv) b lv)
/-- by how much heights differ; 9 at unlike points -/
def zapt (f : zF) (b c : Int) : Int := if zpt f b = zpt f c then zabs (f (13 + 9 * b + 2) - f (13 + 9 * c + 2)) else 9
def zdoTrade (f : zF) (b c sk : Int) : zO :=
  if ¬ (0 ≤ b ∧ b ≤ f 0 - 1) then .inl (5, b) else if ¬ (0 ≤ c ∧ c ≤ f 0 - 1) then .inl (5, c) else if b = c then .inl (11, b) else if ¬ (1 ≤ sk ∧ sk ≤ 9) then .inl (4, sk) else
  if 1 < zapt f b c then .inl (9, zapt f b c) else if f (13 + 9 * b + 3) < sk then .inl (6, f (13 + 9 * b + 3)) else if 20 - f (13 + 9 * c + 3) < sk then .inl (10, 20 - f (13 + 9 * c + 3)) else
  .inr (f (13 + 9 * c + 3) + sk, js_uz (js_uz f (13 + 9 * b + 3) (f (13 + 9 * b + 3) - sk)) (13 + 9 * c + 3) (f (13 + 9 * c + 3) + sk))
def zdoSeal (f : zF) (b ht : Int) : zO :=
  if ¬ (0 ≤ b ∧ b ≤ f 0 - 1) then .inl (5, b) else if ¬ (0 ≤ ht ∧ ht ≤ 5) then .inl (4, ht) else if f (13 + 9 * b + 8) = ht then .inl (3, ht) else .inr (f (13 + 9 * b + 8), js_uz f (13 + 9 * b + 8) ht)
noncomputable def zdoHour (f : zF) (n : Int) : zO := if ¬ (1 ≤ n ∧ n ≤ 24) then .inl (4, n) else .inr (zhrs f n.toNat 3 - f 3, zhrs f n.toNat)
def zdoRetire (f : zF) (b : Int) : zO :=
  if ¬ (0 ≤ b ∧ b ≤ f 0 - 1) then .inl (5, b) else .inr (f 0 - 1, js_uz (js_cp f f (13 + 9 * b + 9) (13 + 9 * b) (9 * (f 0 - 1 - b))) 0 (f 0 - 1))
theorem zabs_c (a : Int) : (zabs a = a ∧ 0 ≤ a) ∨ (zabs a = -a ∧ a < 0) := by
  unfold zabs
  split <;> omega
theorem zspon_r (f : zF) (p : Int) (h : 0 ≤ f 1) : -1 ≤ zspon f p ∧ zspon f p < f 1 := by
  have := zson_r (f := f) (p := p) (f 1).toNat
  unfold zspon
  omega
theorem zapt_r {f : zF} {b c : Int} (h : 0 ≤ f (13 + 9 * b + 2) ∧ f (13 + 9 * b + 2) ≤ 5) (k : 0 ≤ f (13 + 9 * c + 2) ∧ f (13 + 9 * c + 2) ≤ 5) : 0 ≤ zapt f b c ∧ zapt f b c ≤ 9 := by
  have := zabs_c (f (13 + 9 * b + 2) - f (13 + 9 * c + 2))
  unfold zapt
  split <;> omega
