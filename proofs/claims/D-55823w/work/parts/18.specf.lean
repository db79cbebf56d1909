set_option maxRecDepth 100000
theorem js_retI {a b : Int32} (e : a = b) : (Sum.inl (some (Value.int a)) : Option Value ⊕ String) = .inl (some (.int b)) := by rw [e]
def zvI (t : Int) (v : Int32) : Int32 := if 0 < t then jI 0 else v
theorem zvI_p {t : Int} {v : Int32} (h : 0 < t) : zvI t v = jI 0 := if_pos h
theorem zvI_n {t : Int} {v : Int32} (h : ¬ 0 < t) : zvI t v = v := if_neg h
/-- one balloon is ahead of another -/
def zah (f : zF) (a b : Int) : Prop := f (13 + 9 * b + 6) < f (13 + 9 * a + 6) ∨ (f (13 + 9 * b + 6) = f (13 + 9 * a + 6) ∧ (f (13 + 9 * b + 5) < f (13 + 9 * a + 5) ∨ (f (13 + 9 * b + 5) = f (13 + 9 * a + 5) ∧ (f (13 + 9 * a + 7) < f (13 + 9 * b + 7) ∨ (f (13 + 9 * a + 7) = f (13 + 9 * b + 7) ∧ a < b)))))
noncomputable def zcnt (f : zF) (b : Int) : Nat → Int
  | 0 => 0
  | k + 1 => zcnt f b k + jb (zah f k b)
theorem zcnt_r {f : zF} {b : Int} (k : Nat) : 0 ≤ zcnt f b k ∧ zcnt f b k ≤ k := by
  induction k with
  | zero => exact ⟨Int.le_refl 0, (show (0 : Int) ≤ ((0 : Nat) : Int) by decide)⟩
  | succ k ih =>
    have := jb_rng (zah f k b)
    show 0 ≤ zcnt f b k + jb (zah f k b) ∧ zcnt f b k + jb (zah f k b) ≤ _
    omega
noncomputable def zrk (f : zF) (pl : Int) : Nat → Int
  | 0 => 0
  | k + 1 => if zcnt f k (f 0).toNat = pl then k else zrk f pl k
/-- the dearest point -/
def zdb (f : zF) : Nat → Int
  | 0 => 0
  | k + 1 => if f (187 + zdb f k) < f (187 + ((k : Int) + 1)) then (k : Int) + 1 else zdb f k
theorem zdb_r {f : zF} (k : Nat) : 0 ≤ zdb f k ∧ zdb f k ≤ k := by
  induction k with
  | zero => exact ⟨Int.le_refl 0, (show (0 : Int) ≤ ((0 : Nat) : Int) by decide)⟩
  | succ k ih =>
    show 0 ≤ (if f (187 + zdb f k) < f (187 + ((k : Int) + 1)) then (k : Int) + 1 else zdb f k) ∧ (if f (187 + zdb f k) < f (187 + ((k : Int) + 1)) then (k : Int) + 1 else zdb f k) ≤ _
    split <;> omega
/-- a balloon's number after hours: its point or another -/
noncomputable def zaft (f : zF) (b n w : Int) : Int := if w = 0 then zpt (zhrs f n.toNat) b else zhrs f n.toNat (13 + 9 * b + w)
theorem js_top {ρ : js_R} {M : js_M} {Q : js_Q} {d kc ks pc : Nat} {L : List (Nat × Value)} {st : List Value} {h : js_H} {a b : Int} (e : a = b) (nx : js_ok ρ M Q d kc ks pc L (.int (jI b) :: st) h) : js_ok ρ M Q d kc ks pc L (.int (jI a) :: st) h := e ▸ nx
/-- an answer, what counts of the whole object, and anything in its rows for thinking -/
def zPost (A : Nat → Nat) (R : Value) (f svd pas rf tx ln : Int → Int) (isS pm th len fa lm : Int) (h : js_H) : js_Q := fun r h' => r = .inl (some R) ∧ ∃ (bef asd it wt od : Int → Int) (at_ wr om : Int), h' = zH A f bef asd svd pas rf it wt tx od ln isS pm th len at_ wr fa om lm h
