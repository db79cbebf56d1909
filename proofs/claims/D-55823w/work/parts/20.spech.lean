set_option maxRecDepth 100000
/-- the sum of a number of balloons, or how many have one above 0 -/
def zall (f : zF) (w s : Int) : Nat → Int
  | 0 => 0
  | k + 1 => zall f w s k + (if s = 0 then (if 0 < f (13 + 9 * (k : Int) + w) then 1 else 0) else f (13 + 9 * (k : Int) + w))
def zfrm (f : zF) : Nat → Int
  | 0 => 0
  | k + 1 => zfrm f k + (if 0 < f (87 + (k : Int)) then 1 else 0)
def zacc (f : zF) (pm len w : Int) : Int :=
  if w = 0 then f 0 else if w = 1 then zall f 2 0 (f 0).toNat else if w = 2 then f 1 else if w = 7 then zall f 3 1 (f 0).toNat else if w = 8 then f 6 else if w = 9 then f 7 else if w = 10 then zall f 8 0 (f 0).toNat else if w = 11 then zfrm f 100 else if w = 12 then len else if w = 13 then pm else f (2 + w - 3)
theorem zmany_r {f : zF} {w : Int} (k : Nat) : 0 ≤ zall f w 0 k ∧ zall f w 0 k ≤ k := by
  induction k with
  | zero => exact ⟨Int.le_refl 0, (show (0 : Int) ≤ ((0 : Nat) : Int) by decide)⟩
  | succ k ih =>
    have e : zall f w 0 (k + 1) = zall f w 0 k + (if 0 < f (13 + 9 * (k : Int) + w) then 1 else 0) := rfl
    rw [e]
    split <;> omega
theorem zsum_r {f : zF} {w : Int} (k : Nat) (h : ∀ b : Nat, b < k → 0 ≤ f (13 + 9 * b + w) ∧ f (13 + 9 * b + w) ≤ 40) : 0 ≤ zall f w 1 k ∧ zall f w 1 k ≤ 40 * k := by
  induction k with
  | zero => exact ⟨Int.le_refl 0, (show (0 : Int) ≤ 40 * ((0 : Nat) : Int) by decide)⟩
  | succ k ih =>
    have j := ih (fun b z => h b (by omega))
    have g := h k (by omega)
    have e : zall f w 1 (k + 1) = zall f w 1 k + f (13 + 9 * (k : Int) + w) := rfl
    rw [e]
    omega
theorem zn64 : ∀ a : Fin 241, ∀ b : Fin 7, b.val ≠ 0 → vf_n64 (FP.ddiv (FP.i2d (jI (a.val : Int))) (FP.i2d (jI (b.val : Int)))) := by
  unfold vf_n64
  decide +kernel
theorem zn32 : ∀ a : Fin 7, ∀ b : Fin 7, b.val ≠ 0 → vf_n32 (FP.fdiv (FP.i2f (jI (a.val : Int))) (FP.i2f (jI (b.val : Int)))) ∧ vf_n64 (FP.f2d (FP.fdiv (FP.i2f (jI (a.val : Int))) (FP.i2f (jI (b.val : Int))))) := by
  unfold vf_n32 vf_n64
  decide +kernel
theorem zn64' {a b : Int} (h : 0 ≤ a ∧ a ≤ 240) (k : 1 ≤ b ∧ b ≤ 6) : vf_n64 (FP.ddiv (FP.i2d (jI a)) (FP.i2d (jI b))) := by
  have := zn64 ⟨a.toNat, by omega⟩ ⟨b.toNat, by omega⟩ (by show b.toNat ≠ 0; omega)
  rwa [show ((⟨a.toNat, by omega⟩ : Fin 241).val : Int) = a by show ((a.toNat : Nat) : Int) = a; omega, show ((⟨b.toNat, by omega⟩ : Fin 7).val : Int) = b by show ((b.toNat : Nat) : Int) = b; omega] at this
theorem zn32' {a b : Int} (h : 0 ≤ a ∧ a ≤ 6) (k : 1 ≤ b ∧ b ≤ 6) : vf_n32 (FP.fdiv (FP.i2f (jI a)) (FP.i2f (jI b))) ∧ vf_n64 (FP.f2d (FP.fdiv (FP.i2f (jI a)) (FP.i2f (jI b)))) := by
  have := zn32 ⟨a.toNat, by omega⟩ ⟨b.toNat, by omega⟩ (by show b.toNat ≠ 0; omega)
  rwa [show ((⟨a.toNat, by omega⟩ : Fin 7).val : Int) = a by show ((a.toNat : Nat) : Int) = a; omega, show ((⟨b.toNat, by omega⟩ : Fin 7).val : Int) = b by show ((b.toNat : Nat) : Int) = b; omega] at this
