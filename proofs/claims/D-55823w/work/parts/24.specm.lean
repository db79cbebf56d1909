set_option maxRecDepth 100000
theorem js_kW {e e' : js_E} {w w' : Bool} (h : e.1 = w) (h' : e'.1 = w') (n : w ≠ w') : e ≠ e' := by
  intro z
  exact n (h.symm.trans ((congrArg Prod.fst z).trans h'))
theorem js_kT {w w' : Bool} {t t' n n' : Nat} {g g' : Int → Int} (h : t ≠ t') : js_aI w t n g ≠ js_aI w' t' n' g' := by
  intro z
  have z2 : (t, n, _) = (t', n', _) := Sum.inl.inj (congrArg Prod.snd z)
  exact h (congrArg Prod.fst z2)
theorem zi2b0 : ∀ a : Fin 128, (jI (a.val : Int)).toInt8.toInt32 = jI (a.val : Int) := by decide +kernel
theorem zi2b {v : Int} (h : 0 ≤ v ∧ v < 128) : (jI v).toInt8.toInt32 = jI v := by
  have := zi2b0 ⟨v.toNat, by omega⟩
  rwa [show (((⟨v.toNat, by omega⟩ : Fin 128).val : Nat) : Int) = v by show ((v.toNat : Nat) : Int) = v; omega] at this
theorem zand0 : ∀ a : Fin 128, jI (a.val : Int) &&& jI 255 = jI (a.val : Int) := by decide +kernel
theorem zand255 {v : Int} (h : 0 ≤ v ∧ v < 128) : jI v &&& jI 255 = jI v := by
  have := zand0 ⟨v.toNat, by omega⟩
  rwa [show (((⟨v.toNat, by omega⟩ : Fin 128).val : Nat) : Int) = v by show ((v.toNat : Nat) : Int) = v; omega] at this
theorem zshr0 (v : Int) : jI v >>> (jI 0 &&& 31) = jI v := by
  rw [show jI 0 &&& 31 = 0 from rfl]
  exact Int32.shiftRight_zero
/-- a static that isn't null -/
theorem js_getsR {ρ : js_R} {a : Nat} {k : Nat} (h : js_sv ρ k = .ref a) : js_sv ρ k = .ref a := h
/-- bytes of a text: signs below 128 -/
def zasc (n : Nat) (g : Int → Int) : Prop := ∀ j : Int, 0 ≤ j → j < n → 0 ≤ g j ∧ g j < 128
/-- the first place of c from i on, -1 for none -/
def zidx (g : Int → Int) (c : Int) : Nat → Nat → Int
  | 0, _ => -1
  | m + 1, i => if g i = c then (i : Int) else zidx g c m (i + 1)
theorem zidx_step {g : Int → Int} {c : Int} {n k : Nat} (h : k < n) : zidx g c (n - k) k = if g k = c then (k : Int) else zidx g c (n - (k + 1)) (k + 1) := by
  have e : n - k = (n - (k + 1)) + 1 := by omega
  rw [e]
  rfl
theorem zidx_r (g : Int → Int) (c : Int) (m i : Nat) : -1 ≤ zidx g c m i ∧ zidx g c m i < ((i + m : Nat) : Int) := by
  induction m generalizing i with
  | zero =>
    show (-1 : Int) ≤ -1 ∧ (-1 : Int) < _
    omega
  | succ m ih =>
    have := ih (i + 1)
    show -1 ≤ (if g i = c then (i : Int) else zidx g c m (i + 1)) ∧ (if g i = c then (i : Int) else zidx g c m (i + 1)) < _
    split <;> omega
/-- a text that stays: its place a, its bytes' place b -/
def zcs (ρ : js_R) (a b : Nat) (x y : Value) (n : Nat) (g : Int → Int) : Prop := js_hc ρ a = some (js_ob false 18 [.ref b, .int (jI 0), x, y]) ∧ js_hc ρ b = some (js_aI false 2 n g)
/-- the texts of js_sr -/
def zsr : List String := js_sr.map (fun q => q.2.2)
def zcl (l : List Char) : Int → Int := fun j => ((l.map (fun c => (c.toNat : Int))).getD j.toNat 0)
/-- what stays all through: statics and texts -/
def zK (ρ : js_R) (fm : Nat) : Prop := js_sv ρ 0 = .int (jI 1) ∧ js_sv ρ 6 = .ref fm ∧ ∀ (k : Nat) (tx : String), zsr[k]? = some tx → ∃ (a b : Nat) (x y : Value), js_sv ρ (100 + k) = .ref a ∧ zcs ρ a b x y tx.length (zcl tx.toList)
