set_option maxRecDepth 100000
/-! reading: p = (place, whether there is a fault) -/
abbrev zP : Type := Int × Int
def zis (tx : Int → Int) (len lo hi : Int) (p : zP) : Prop := p.2 = 0 ∧ p.1 < len ∧ lo ≤ tx p.1 ∧ tx p.1 ≤ hi
noncomputable def zsg (tx : Int → Int) (len lo hi : Int) (p : zP) : zP := @ite zP (zis tx len lo hi p) (Classical.propDecidable _) (p.1 + 1, 0) (p.1, 1)
noncomputable def zsv (tx : Int → Int) (len lo hi : Int) (p : zP) : Int := @ite Int (zis tx len lo hi p) (Classical.propDecidable _) (tx p.1 - lo) 0
/-- a place within the text -/
def zpok (len : Int) (p : zP) : Prop := (0 ≤ p.1 ∧ p.1 ≤ len) ∧ (p.2 = 0 ∨ p.2 = 1)
theorem zsg_ok {tx : Int → Int} {len lo hi : Int} {p : zP} (h : zpok len p) : zpok len (zsg tx len lo hi p) := by
  unfold zsg
  split
  next q => exact ⟨by have := h.1; have := q.2.1; show 0 ≤ p.1 + 1 ∧ p.1 + 1 ≤ len; omega, Or.inl rfl⟩
  next q => exact ⟨h.1, Or.inr rfl⟩
theorem zsv_r {tx : Int → Int} {len lo hi : Int} {p : zP} (h : lo ≤ hi) : 0 ≤ zsv tx len lo hi p ∧ zsv tx len lo hi p ≤ hi - lo := by
  unfold zsv
  split
  next q => have := q.2.2; omega
  next q => omega
/-- a text is skipped, sign by sign -/
noncomputable def zskp (tx : Int → Int) (len : Int) (g : Int → Int) (p : zP) : Nat → zP
  | 0 => p
  | k + 1 => if (zskp tx len g p k).2 = 0 then zsg tx len (g k) (g k) (zskp tx len g p k) else zskp tx len g p k
theorem zskp_ok {tx : Int → Int} {len : Int} {g : Int → Int} {p : zP} (h : zpok len p) (k : Nat) : zpok len (zskp tx len g p k) := by
  induction k with
  | zero => exact h
  | succ k ih =>
    show zpok len (if (zskp tx len g p k).2 = 0 then zsg tx len (g k) (g k) (zskp tx len g p k) else zskp tx len g p k)
    split
    · exact zsg_ok ih
    · exact ih
theorem zskp_stop {tx : Int → Int} {len : Int} {g : Int → Int} {p : zP} {k : Nat} (h : (zskp tx len g p k).2 ≠ 0) (n : Nat) (hn : k ≤ n) : zskp tx len g p n = zskp tx len g p k := by
  induction n with
  | zero => rw [show k = 0 by omega]
  | succ n ih =>
    by_cases q : k = n + 1
    · rw [q]
    · have e := ih (by omega)
      show (if (zskp tx len g p n).2 = 0 then zsg tx len (g n) (g n) (zskp tx len g p n) else zskp tx len g p n) = _
      rw [e, if_neg h]
/-- one or two digits -/
noncomputable def znp (tx : Int → Int) (len : Int) (p : zP) : zP := @ite zP (zis tx len 48 57 (zsg tx len 48 57 p)) (Classical.propDecidable _) (zsg tx len 48 57 (zsg tx len 48 57 p)) (zsg tx len 48 57 p)
noncomputable def znv (tx : Int → Int) (len : Int) (p : zP) : Int := @ite Int (zis tx len 48 57 (zsg tx len 48 57 p)) (Classical.propDecidable _) (10 * zsv tx len 48 57 p + zsv tx len 48 57 (zsg tx len 48 57 p)) (zsv tx len 48 57 p)
theorem znp_ok {tx : Int → Int} {len : Int} {p : zP} (h : zpok len p) : zpok len (znp tx len p) := by
  unfold znp
  split
  · exact zsg_ok (zsg_ok h)
  · exact zsg_ok h
/-- one of some signs -/
def zsdv (tx : Int → Int) (len : Int) (g : Int → Int) (n : Nat) (p : zP) : Int := if p.1 < len then zidx g (tx p.1) n 0 else -1
def zsdp (tx : Int → Int) (len : Int) (g : Int → Int) (n : Nat) (p : zP) : zP := if p.2 = 0 ∧ 0 ≤ zsdv tx len g n p then (p.1 + 1, 0) else (p.1, 1)
theorem zsdp_ok {tx : Int → Int} {len : Int} {g : Int → Int} {n : Nat} {p : zP} (h : zpok len p) : zpok len (zsdp tx len g n p) := by
  unfold zsdp
  split
  next q =>
    have h1 : p.1 < len := by
      have h2 := q.2
      unfold zsdv at h2
      split at h2
      · assumption
      · omega
    exact ⟨by have := h.1; show 0 ≤ p.1 + 1 ∧ p.1 + 1 ≤ len; omega, Or.inl rfl⟩
  next q => exact ⟨h.1, Or.inr rfl⟩
