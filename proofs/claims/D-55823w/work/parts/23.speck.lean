set_option maxRecDepth 100000
section
variable {ρ : js_R} {M : js_M} {Q : js_Q} {d kc ks pc : Nat} {L : List (Nat × Value)} {st : List Value} {h : js_H}
theorem js_ldcwI {idx : Nat} {v : Int32} (hl : Cond.constant (js_y M).cls idx v ∈ lw_all) (hd : decode (js_c M) pc = .ok (.ldc_w idx, 3)) (nx : js_ok ρ M Q d kc ks (pc + 3) L (.int v :: st) h) : js_ok ρ M Q d kc ks pc L st h := by
  intro p l e R s m args below meth c H locs cells slots ls mc ms hC h1 h2 h3 h4 h5 h6 h7 h8 h9 h10
  exact lv_ldcw hC.1 hC.2.1 hC.2.2.2.2.2.1 (hC.2.2.2.2.2.2.1 _ hl) hd (nx hC h1 h2 h3 h4 h5 h6 h7 h8 h9 h10)
/-- a String constant: number k of js_sr -/
theorem js_ldcS {idx a : Nat} {tx : String} (k : Nat) (hq : js_sr[k]? = some ((js_y M).cls, idx, tx)) (hv : js_sv ρ (100 + k) = .ref a) (hd : decode (js_c M) pc = .ok (.ldc idx, 2)) (nx : js_ok ρ M Q d kc ks (pc + 2) L (.ref a :: st) h) : js_ok ρ M Q d kc ks pc L st h := by
  intro p l e R s m args below meth c H locs cells slots ls mc ms hC h1 h2 h3 h4 h5 h6 h7 h8 h9 h10
  obtain ⟨a', e1, e2⟩ := hC.2.2.2.2.2.2.2.2.1.2.2.2.2.2.2.2.2.2.2.2.2.1 k _ hq
  rw [hv] at e1
  cases e1
  exact va_ldcS hC.1 hC.2.1 hC.2.2.2.2.2.1 e2 hd (nx hC h1 h2 h3 h4 h5 h6 h7 h8 h9 h10)
theorem js_ldcwS {idx a : Nat} {tx : String} (k : Nat) (hq : js_sr[k]? = some ((js_y M).cls, idx, tx)) (hv : js_sv ρ (100 + k) = .ref a) (hd : decode (js_c M) pc = .ok (.ldc_w idx, 3)) (nx : js_ok ρ M Q d kc ks (pc + 3) L (.ref a :: st) h) : js_ok ρ M Q d kc ks pc L st h := by
  intro p l e R s m args below meth c H locs cells slots ls mc ms hC h1 h2 h3 h4 h5 h6 h7 h8 h9 h10
  obtain ⟨a', e1, e2⟩ := hC.2.2.2.2.2.2.2.2.1.2.2.2.2.2.2.2.2.2.2.2.2.1 k _ hq
  rw [hv] at e1
  cases e1
  intro T hT X
  obtain ⟨t, a1, b1⟩ := nx hC h1 h2 h3 h4 h5 h6 h7 h8 h9 h10 T hT X
  obtain ⟨k0, cf, i, a', hk, hcf, hcp, -, hr, hev'⟩ := Cond.stringRef_spec hC.2.2.2.2.2.1 e2.1
  cases e2.2.symm.trans hev'
  obtain ⟨k', hk', he⟩ := X.warmed.alike.2.2 _ _ hk
  have hr' : k'.resolved[idx]? = some (some (.string a)) := by
    rcases X.warmed.entry hk hk' idx with h | ⟨h, -⟩
    · rw [h]; exact hr
    · rw [hr] at h; cases h
  refine ⟨t, ?_, b1⟩
  jvm_step X.here [hC.1, hC.2.1, hd, Op.ldc_w.wp_string (e := e) (s := T) (f := F0 m pc ls st) X.here.top hk' (by rw [he]; exact hcf) hcp hr']
  exact a1
end
/-! sets of balloons as numbers -/
def zbi (f : zF) (p : Int) : Nat → Int
  | 0 => 0
  | k + 1 => zbi f p k + (if zpt f k = p then ((2 ^ k : Nat) : Int) else 0)
theorem zor : ∀ k : Fin 6, ∀ x : Fin 64, x.val < 2 ^ k.val → jI (x.val : Int) ||| (jI 1 <<< (jI (k.val : Int) &&& 31)) = jI ((x.val : Int) + ((2 ^ k.val : Nat) : Int)) := by decide +kernel
theorem zor0 (x : Int32) : x ||| jI 0 = x := by
  show x ||| 0 = x
  exact Int32.or_zero
theorem zbi_r {f : zF} {p : Int} (k : Nat) : 0 ≤ zbi f p k ∧ zbi f p k < ((2 ^ k : Nat) : Int) := by
  induction k with
  | zero => exact ⟨Int.le_refl 0, (show (0 : Int) < ((2 ^ 0 : Nat) : Int) by decide)⟩
  | succ k ih =>
    have e : ((2 ^ (k + 1) : Nat) : Int) = ((2 ^ k : Nat) : Int) + ((2 ^ k : Nat) : Int) := by rw [Nat.pow_succ]; omega
    show 0 ≤ zbi f p k + (if zpt f k = p then ((2 ^ k : Nat) : Int) else 0) ∧ zbi f p k + (if zpt f k = p then ((2 ^ k : Nat) : Int) else 0) < _
    rw [e]
    split <;> omega
theorem zbon_i {f : zF} {p : Int} (k : Nat) (hk : k ≤ 6) : zbon f p k = jI (zbi f p k) := by
  induction k with
  | zero => rfl
  | succ k ih =>
    have r := zbi_r (f := f) (p := p) k
    have p2 : (2 : Nat) ^ k ≤ 2 ^ 5 := Nat.pow_le_pow_right (by decide) (by omega)
    show zbon f p k ||| (if zpt f k = p then jI 1 <<< (jI k &&& 31) else jI 0) = jI (zbi f p k + (if zpt f k = p then ((2 ^ k : Nat) : Int) else 0))
    rw [ih (by omega)]
    by_cases q : zpt f k = p
    · rw [if_pos q, if_pos q]
      have := zor ⟨k, by omega⟩ ⟨(zbi f p k).toNat, by omega⟩ (by show (zbi f p k).toNat < 2 ^ k; omega)
      rwa [show (((⟨(zbi f p k).toNat, by omega⟩ : Fin 64).val : Nat) : Int) = zbi f p k by show (((zbi f p k).toNat : Nat) : Int) = _; omega] at this
    · rw [if_neg q, if_neg q, Int.add_zero, zor0]
theorem zbi_63 {f : zF} {p : Int} (k : Nat) (hk : k ≤ 6) : 0 ≤ zbi f p k ∧ zbi f p k ≤ 63 := by
  have r := zbi_r (f := f) (p := p) k
  have p2 : (2 : Nat) ^ k ≤ 2 ^ 6 := Nat.pow_le_pow_right (by decide) (by omega)
  omega
/-- the place of the lowest bit of a number below 64 -/
def zntz (n : Int) : Int := if n % 2 = 1 then 0 else if n % 4 = 2 then 1 else if n % 8 = 4 then 2 else if n % 16 = 8 then 3 else if n % 32 = 16 then 4 else 5
def zlo (n : Int) : Int := if n % 2 = 1 then 0 else if n % 4 = 2 then 1 else if n % 8 = 4 then 3 else if n % 16 = 8 then 7 else if n % 32 = 16 then 15 else 31
theorem zlo_e : ∀ n : Fin 64, n.val ≠ 0 → ((jI (n.val : Int) ^^^ jI (-1)) &&& jI ((n.val : Int) - 1)) = jI (zlo (n.val : Int)) := by decide +kernel
theorem zlo_e' {n : Int} (h : 1 ≤ n ∧ n ≤ 63) : ((jI n ^^^ jI (-1)) &&& jI (n - 1)) = jI (zlo n) := by
  have := zlo_e ⟨n.toNat, by omega⟩ (by show n.toNat ≠ 0; omega)
  rwa [show (((⟨n.toNat, by omega⟩ : Fin 64).val : Nat) : Int) = n by show ((n.toNat : Nat) : Int) = n; omega] at this
theorem zlo_c (n : Int) : (zlo n = 0 ∧ zntz n = 0) ∨ (zlo n = 1 ∧ zntz n = 1) ∨ (zlo n = 3 ∧ zntz n = 2) ∨ (zlo n = 7 ∧ zntz n = 3) ∨ (zlo n = 15 ∧ zntz n = 4) ∨ (zlo n = 31 ∧ zntz n = 5) := by
  unfold zlo zntz
  by_cases h1 : n % 2 = 1
  · rw [if_pos h1, if_pos h1]; simp
  rw [if_neg h1, if_neg h1]
  by_cases h2 : n % 4 = 2
  · rw [if_pos h2, if_pos h2]; simp
  rw [if_neg h2, if_neg h2]
  by_cases h3 : n % 8 = 4
  · rw [if_pos h3, if_pos h3]; simp
  rw [if_neg h3, if_neg h3]
  by_cases h4 : n % 16 = 8
  · rw [if_pos h4, if_pos h4]; simp
  rw [if_neg h4, if_neg h4]
  by_cases h5 : n % 32 = 16
  · rw [if_pos h5, if_pos h5]; simp
  · rw [if_neg h5, if_neg h5]; simp
theorem js_topR {ρ : js_R} {M : js_M} {Q : js_Q} {d kc ks pc : Nat} {L : List (Nat × Value)} {st : List Value} {h : js_H} {x : Int32} {b : Int} (e : x = jI b) (nx : js_ok ρ M Q d kc ks pc L (.int (jI b) :: st) h) : js_ok ρ M Q d kc ks pc L (.int x :: st) h := e ▸ nx
/-! lines: signs written from a place on -/
def zwl (g : Int → Int) (n : Int) : List Int → Int → Int
  | [] => g
  | c :: l => zwl (js_uz g n c) (n + 1) l
theorem zwl_app (g : Int → Int) (n : Int) (l m : List Int) : zwl g n (l ++ m) = zwl (zwl g n l) (n + (l.length : Int)) m := by
  induction l generalizing g n with
  | nil => rw [show n + (([] : List Int).length : Int) = n from Int.add_zero n]; rfl
  | cons c l ih =>
    show zwl (js_uz g n c) (n + 1) (l ++ m) = zwl (zwl (js_uz g n c) (n + 1) l) (n + ((c :: l).length : Int)) m
    rw [ih, show n + ((c :: l).length : Int) = n + 1 + (l.length : Int) by rw [List.length_cons]; omega]
theorem zwl_1 (g : Int → Int) (l : List Int) (c : Int) : js_uz (zwl g 0 l) (l.length : Int) c = zwl g 0 (l ++ [c]) := by
  rw [zwl_app, Int.zero_add]
  rfl
theorem zlen1 (l : List Int) (c : Int) : (l.length : Int) + 1 = ((l ++ [c]).length : Int) := by rw [List.length_append]; rfl
/-- a number's digits -/
def zdig (v : Int) : List Int := if v > 9 then [48 + v / 10, 48 + v % 10] else [48 + v % 10]
theorem zdig_l (v : Int) : (zdig v).length = 1 ∨ (zdig v).length = 2 := by unfold zdig; split <;> simp
theorem zlenD (l : List Int) (v : Int) : ((l ++ zdig v).length : Int) ≤ (l.length : Int) + 2 := by
  have := zdig_l v
  rw [List.length_append]
  omega
