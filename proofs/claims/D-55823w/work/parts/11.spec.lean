/-! THE STATE is the model's row of 287 numbers f: what each call does to it, and what holds of it -/
set_option maxRecDepth 100000
def zdx (w : Int) : Int := if w = 2 then 1 else if w = 4 then -1 else 0
def zdy (w : Int) : Int := if w = 3 then 1 else if w = 1 then -1 else 0
theorem zdx_r (w : Int) : -1 ≤ zdx w ∧ zdx w ≤ 1 := by unfold zdx; (repeat' split) <;> omega
theorem zdy_r (w : Int) : -1 ≤ zdy w ∧ zdy w ≤ 1 := by unfold zdy; (repeat' split) <;> omega
/-- the next point in a direction; the same point if there is none -/
def znext (p w : Int) : Int := if (0 ≤ p % 10 + zdx w ∧ p % 10 + zdx w ≤ 9) ∧ (0 ≤ p / 10 + zdy w ∧ p / 10 + zdy w ≤ 9) then 10 * (p / 10 + zdy w) + (p % 10 + zdx w) else p
theorem znext_r {p w : Int} (h : 0 ≤ p ∧ p < 100) : 0 ≤ znext p w ∧ znext p w < 100 := by
  unfold znext
  split <;> omega
/-- .. or -1 -/
def znexm (p w : Int) : Int := if (0 ≤ p % 10 + zdx w ∧ p % 10 + zdx w ≤ 9) ∧ (0 ≤ p / 10 + zdy w ∧ p / 10 + zdy w ≤ 9) then 10 * (p / 10 + zdy w) + (p % 10 + zdx w) else -1
theorem znexm_r {p w : Int} (h : 0 ≤ p ∧ p < 100) : -1 ≤ znexm p w ∧ znexm p w < 100 := by
  unfold znexm
  split <;> omega
theorem znexm_t {p w : Int} (h : 0 ≤ znexm p w) : znexm p w = znext p w := by
  unfold znexm znext at *
  split at h
  next q => rw [if_pos q, if_pos q]
  next q => omega
theorem znexm_f {p w : Int} (h : znexm p w < 0) (hp : 0 ≤ p ∧ p < 100) : znext p w = p := by
  unfold znexm znext at *
  split at h
  next q => omega
  next q => rw [if_neg q]
/-- a move that isn't none changes the point -/
theorem znext_ne {p w : Int} (hp : 0 ≤ p ∧ p < 100) (hw : 1 ≤ w ∧ w ≤ 4) : znext p w = p ↔ znexm p w < 0 := by
  have h4 : w = 1 ∨ w = 2 ∨ w = 3 ∨ w = 4 := by omega
  have hx : (zdx w = 0 ∧ zdy w = -1) ∨ (zdx w = 1 ∧ zdy w = 0) ∨ (zdx w = 0 ∧ zdy w = 1) ∨ (zdx w = -1 ∧ zdy w = 0) := by rcases h4 with rfl | rfl | rfl | rfl <;> decide
  unfold znext znexm
  generalize zdx w = x at hx ⊢
  generalize zdy w = y at hx ⊢
  split
  next q => constructor <;> intro z <;> omega
  next q => constructor <;> intro z <;> omega
/-! a row of numbers: 0 balloons, 1 spires, 2 hours, 3 rounded, 4 bonuses, 5 paid, 6 dropped, 7 came; 8.. winds; 13+9b.. a balloon (x, y, height, sacks, gas, next, score, fees, seal); 67+4i.. a spire (x, y, side, rounded); 87.. fees; 187.. claims -/
abbrev zF : Type := Int → Int
/-- a balloon's point -/
def zpt (f : zF) (b : Int) : Int := 10 * f (13 + 9 * b + 1) + f (13 + 9 * b + 0)
/-- a spire's point -/
def zsp (f : zF) (i : Int) : Int := 10 * f (67 + 4 * i + 1) + f (67 + 4 * i)
/-- its gate, or -1 -/
def zgt (f : zF) (i : Int) : Int := znexm (zsp f i) (f (67 + 4 * i + 2))
/-- what holds of a balloon .. -/
def zIB (T : Int) (f : zF) (b : Int) : Prop := (0 ≤ f (13 + 9 * b + 0) ∧ f (13 + 9 * b + 0) ≤ 9) ∧ (0 ≤ f (13 + 9 * b + 1) ∧ f (13 + 9 * b + 1) ≤ 9) ∧ (0 ≤ f (13 + 9 * b + 2) ∧ f (13 + 9 * b + 2) ≤ 5) ∧ (0 ≤ f (13 + 9 * b + 3) ∧ f (13 + 9 * b + 3) ≤ 20) ∧ (0 ≤ f (13 + 9 * b + 4) ∧ f (13 + 9 * b + 4) ≤ 40) ∧ (0 ≤ f (13 + 9 * b + 5) ∧ f (13 + 9 * b + 5) ≤ f 1) ∧ (10 * f (13 + 9 * b + 5) ≤ f (13 + 9 * b + 6) ∧ f (13 + 9 * b + 6) ≤ 15 * f (13 + 9 * b + 5) ∧ f (13 + 9 * b + 6) % 5 = 0) ∧ (0 ≤ f (13 + 9 * b + 7) ∧ f (13 + 9 * b + 7) ≤ 9 * T) ∧ (0 ≤ f (13 + 9 * b + 8) ∧ f (13 + 9 * b + 8) ≤ 5)
/-- .. of a spire .. -/
def zIP (T : Int) (f : zF) (i : Int) : Prop := (0 ≤ f (67 + 4 * i) ∧ f (67 + 4 * i) ≤ 9) ∧ (0 ≤ f (67 + 4 * i + 1) ∧ f (67 + 4 * i + 1) ≤ 9) ∧ (1 ≤ f (67 + 4 * i + 2) ∧ f (67 + 4 * i + 2) ≤ 4) ∧ (0 ≤ f (67 + 4 * i + 3) ∧ f (67 + 4 * i + 3) ≤ 6 * T) ∧ 0 ≤ zgt f i
/-- .. of all -/
def zI (T : Int) (f : zF) : Prop :=
  (0 ≤ f 0 ∧ f 0 ≤ 6) ∧ (0 ≤ f 1 ∧ f 1 ≤ 5) ∧ (∀ k : Int, 2 ≤ k → k < 8 → 0 ≤ f k ∧ f k ≤ 54 * T) ∧ (∀ k : Int, 8 ≤ k → k < 13 → 0 ≤ f k ∧ f k ≤ 4) ∧
  (∀ b : Int, 0 ≤ b → b < f 0 → zIB T f b) ∧ (∀ i : Int, 0 ≤ i → i < f 1 → zIP T f i) ∧ (∀ p : Int, 0 ≤ p → p < 100 → 0 ≤ f (87 + p) ∧ f (87 + p) ≤ 9) ∧ (∀ p : Int, 0 ≤ p → p < 100 → 0 ≤ f (187 + p) ∧ f (187 + p) ≤ 54 * T) ∧
  (∀ i j : Int, 0 ≤ i → i < f 1 → 0 ≤ j → j < f 1 → zsp f i = zsp f j → i = j) ∧ 0 ≤ T ∧ T ≤ 1000000
theorem zI_B {T : Int} {f : zF} {b : Int} (h : zI T f) (h1 : 0 ≤ b) (h2 : b < f 0) : zIB T f b := h.2.2.2.2.1 b h1 h2
theorem zI_P {T : Int} {f : zF} {i : Int} (h : zI T f) (h1 : 0 ≤ i) (h2 : i < f 1) : zIP T f i := h.2.2.2.2.2.1 i h1 h2
theorem zI_w {T : Int} {f : zF} (h : zI T f) (k : Int) (h1 : 8 ≤ k) (h2 : k < 13) : 0 ≤ f k ∧ f k ≤ 4 := h.2.2.2.1 k h1 h2
theorem zI_n {T : Int} {f : zF} (h : zI T f) (k : Int) (h1 : 2 ≤ k) (h2 : k < 8) : 0 ≤ f k ∧ f k ≤ 54 * T := h.2.2.1 k h1 h2
theorem zI_f {T : Int} {f : zF} (h : zI T f) (p : Int) (h1 : 0 ≤ p) (h2 : p < 100) : 0 ≤ f (87 + p) ∧ f (87 + p) ≤ 9 := h.2.2.2.2.2.2.1 p h1 h2
theorem zI_c {T : Int} {f : zF} (h : zI T f) (p : Int) (h1 : 0 ≤ p) (h2 : p < 100) : 0 ≤ f (187 + p) ∧ f (187 + p) ≤ 54 * T := h.2.2.2.2.2.2.2.1 p h1 h2
theorem zI_T {T : Int} {f : zF} (h : zI T f) : 0 ≤ T ∧ T ≤ 1000000 := h.2.2.2.2.2.2.2.2.2
theorem zI_01 {T : Int} {f : zF} (h : zI T f) : (0 ≤ f 0 ∧ f 0 ≤ 6) ∧ (0 ≤ f 1 ∧ f 1 ≤ 5) := ⟨h.1, h.2.1⟩
theorem zIB_p {T : Int} {f : zF} {b : Int} (h : zIB T f b) : 0 ≤ zpt f b ∧ zpt f b < 100 := by
  unfold zIB at h
  unfold zpt
  omega
theorem zIP_p {T : Int} {f : zF} {i : Int} (h : zIP T f i) : 0 ≤ zsp f i ∧ zsp f i < 100 := by
  unfold zIP at h
  unfold zsp
  omega
theorem zgt_r {T : Int} {f : zF} {i : Int} (h : zIP T f i) : 0 ≤ zgt f i ∧ zgt f i < 100 := ⟨h.2.2.2.2, (znexm_r (zIP_p h)).2⟩
/-! an hour, as the model goes through it -/
/-- what a balloon pays that sinks -/
def zfee (f : zF) (b lv : Int) : Int := if f (13 + 9 * b + 2) - lv ≤ 0 then f (87 + zpt f b) else 0
def zsinks (f : zF) (b lv : Int) : zF := js_uz (js_uz (js_uz (js_uz f (13 + 9 * b + 2) (f (13 + 9 * b + 2) - lv)) (13 + 9 * b + 7) (f (13 + 9 * b + 7) + zfee f b lv)) (187 + zpt f b) (f (187 + zpt f b) + zfee f b lv)) 5 (f 5 + zfee f b lv)
def zrnd0 (f : zF) (b : Int) : zF := js_uz (js_uz (js_uz (js_uz f (67 + 4 * f (13 + 9 * b + 5) + 3) (f (67 + 4 * f (13 + 9 * b + 5) + 3) + 1)) (13 + 9 * b + 5) (f (13 + 9 * b + 5) + 1)) (13 + 9 * b + 6) (f (13 + 9 * b + 6) + 10)) 3 (f 3 + 1)
def zrnds (f : zF) (b : Int) : zF := if f (13 + 9 * b + 8) = f (13 + 9 * b + 2) then js_uz (js_uz (js_uz (zrnd0 f b) (13 + 9 * b + 6) (f (13 + 9 * b + 6) + 10 + 5)) (13 + 9 * b + 8) 0) 4 (f 4 + 1) else zrnd0 f b
def zatg (f : zF) (b : Int) : Prop := f (13 + 9 * b + 5) < f 1 ∧ zgt f (f (13 + 9 * b + 5)) = zpt f b
/-- the balloon has drifted -/
def zdrf (f : zF) (b : Int) : zF := js_uz (js_uz f (13 + 9 * b + 0) (znext (zpt f b) (f (8 + f (13 + 9 * b + 2) - 1)) % 10)) (13 + 9 * b + 1) (znext (zpt f b) (f (8 + f (13 + 9 * b + 2) - 1)) / 10)
noncomputable def zdrr (f : zF) (b : Int) : zF := @ite zF (zatg (zdrf f b) b) (Classical.propDecidable _) (zrnds (zdrf f b) b) (zdrf f b)
/-- gas is burnt -/
def zbrn (f : zF) (b : Int) : zF := js_uz f (13 + 9 * b + 4) (max 0 (f (13 + 9 * b + 4) - 1))
noncomputable def zfly (f : zF) (b : Int) : zF := if zbrn (zdrr f b) b (13 + 9 * b + 4) = 0 then zsinks (zbrn (zdrr f b) b) b 1 else zbrn (zdrr f b) b
/-- the first k balloons have flown for an hour -/
noncomputable def zflk (f : zF) : Nat → zF
  | 0 => f
  | k + 1 => if zflk f k (13 + 9 * (k : Int) + 2) ≤ 0 then zflk f k else zfly (zflk f k) k
noncomputable def zhr (f : zF) : zF := js_uz (zflk f (f 0).toNat) 2 (zflk f (f 0).toNat 2 + 1)
/-- k hours -/
noncomputable def zhrs (f : zF) : Nat → zF
  | 0 => f
  | k + 1 => zhr (zhrs f k)
