set_option maxRecDepth 100000
/-! where one could be after hours, with heights of choice: rows of 100 truths -/
def zpnt (p : Int) : Int → Int := fun j => if j = p then 1 else 0
theorem zpnt_01 (p j : Int) : zpnt p j = 0 ∨ zpnt p j = 1 := by unfold zpnt; split <;> simp
def zbg (it : Int → Int) (p : Int) (k : Nat) : Int → Int := fun j => if j < k then zpnt p j else it j
/-- the points next to p, by the first m heights -/
def zgi (f : zF) (p : Int) (g : Int → Int) : Nat → Int → Int
  | 0 => g
  | m + 1 => js_uz (zgi f p g m) (znext p (f (8 + ((m : Int) + 1) - 1))) 1
def zgo (f : zF) (w : Int → Int) : Nat → Int → Int
  | 0 => zpnt (-1)
  | k + 1 => if w k = 0 then zgo f w k else zgi f k (zgo f w k) 5
def zrea (f : zF) (p : Int) : Nat → Int → Int
  | 0 => zpnt p
  | k + 1 => zgo f (zrea f p k) 100
theorem zgi_01 {f : zF} {p : Int} {g : Int → Int} (h : ∀ j, g j = 0 ∨ g j = 1) (m : Nat) (j : Int) : zgi f p g m j = 0 ∨ zgi f p g m j = 1 := by
  induction m with
  | zero => exact h j
  | succ m ih =>
    show (if j = znext p (f (8 + ((m : Int) + 1) - 1)) then (1 : Int) else zgi f p g m j) = 0 ∨ (if j = znext p (f (8 + ((m : Int) + 1) - 1)) then (1 : Int) else zgi f p g m j) = 1
    split
    · exact Or.inr rfl
    · exact ih
theorem zgo_01 {f : zF} {w : Int → Int} (k : Nat) : ∀ j, zgo f w k j = 0 ∨ zgo f w k j = 1 := by
  induction k with
  | zero => exact zpnt_01 (-1)
  | succ k ih =>
    intro j
    show (if w k = 0 then zgo f w k else zgi f k (zgo f w k) 5) j = 0 ∨ (if w k = 0 then zgo f w k else zgi f k (zgo f w k) 5) j = 1
    split
    · exact ih j
    · exact zgi_01 ih 5 j
theorem zrea_01 {f : zF} {p : Int} (k : Nat) : ∀ j, zrea f p k j = 0 ∨ zrea f p k j = 1 := by
  cases k with
  | zero => exact zpnt_01 p
  | succ k => exact zgo_01 100
/-- the fewest hours, 1 at least, from p to q; 1000 for none -/
noncomputable def zhn (f : zF) (p q : Int) : Nat := zfst (fun j : Nat => zrea f p (j + 1) q = 0) 100 0
noncomputable def zhto (f : zF) (p q : Int) : Int := if zhn f p q = 100 then 1000 else zhn f p q + 1
theorem zhto_r (f : zF) (p q : Int) : 1 ≤ zhto f p q ∧ zhto f p q ≤ 1000 := by
  have := zfst_le (fun j : Nat => zrea f p (j + 1) q = 0) 100 0
  unfold zhto zhn
  split <;> omega
noncomputable def zfo (f : zF) (b : Int) : Int := if f (13 + 9 * b + 5) < f 1 then zhto f (zpt f b) (zgt f (f (13 + 9 * b + 5))) else 1000
theorem zfo_r (f : zF) (b : Int) : 1 ≤ zfo f b ∧ zfo f b ≤ 1000 := by
  unfold zfo
  split
  · exact zhto_r _ _ _
  · exact ⟨by decide, by decide⟩
/-- a height isn't the one -/
def zbno (f : zF) (b : Int) (m : Nat) : Prop := if zfo f b = 1 then znext (zpt f b) (f (8 + ((m : Int) + 1) - 1)) ≠ zgt f (f (13 + 9 * b + 5)) else zhto f (znext (zpt f b) (f (8 + ((m : Int) + 1) - 1))) (zgt f (f (13 + 9 * b + 5))) ≠ zfo f b - 1
noncomputable def zbn (f : zF) (b : Int) : Nat := zfst (zbno f b) 5 0
noncomputable def zbest (f : zF) (b : Int) : Int := if zbn f b = 5 then 0 else zbn f b + 1
/-- how many truths -/
def zcn (g : Int → Int) : Nat → Int
  | 0 => 0
  | k + 1 => zcn g k + (if g k = 0 then 0 else 1)
theorem zfst_up {P : Nat → Prop} (n j : Nat) (h : ∀ i : Nat, j ≤ i → i < j + n → P i) : zfst P n j = j + n := by
  induction n generalizing j with
  | zero => rfl
  | succ n ih =>
    show @ite Nat (P j) (Classical.propDecidable _) (zfst P n (j + 1)) j = j + (n + 1)
    rw [if_pos (h j (by omega) (by omega)), ih (j + 1) (fun i a c => h i (by omega) (by omega))]
    omega
theorem zfst_all {P : Nat → Prop} {n : Nat} (h : ∀ i : Nat, i < n → P i) : zfst P n 0 = n := by
  rw [zfst_up n 0 (fun i _ c => h i (by omega)), Nat.zero_add]
