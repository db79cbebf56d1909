/-! THE LAYER: an abstract heap, one judgement js_ok, one contract js_Con; see NOTES.md -/
set_option maxRecDepth 100000
/-- an entry: may it be written; an array of a kind, an object of a numbered kind with its fields, or an exception of a name -/
abbrev js_E : Type := Bool × ((Nat × vp_A) ⊕ ((Nat × List Value) ⊕ String))
abbrev js_H : Type := Nat → Option js_E
def js_up (h : js_H) (a : Nat) (e : js_E) : js_H := fun b => if b = a then some e else h b
theorem js_up_s {h : js_H} {a : Nat} {e : js_E} : js_up h a e a = some e := if_pos rfl
theorem js_up_n {h : js_H} {a b : Nat} {e : js_E} (n : b ≠ a) : js_up h a e b = h b := if_neg n
theorem js_up_up {h : js_H} {a : Nat} {e e' : js_E} : js_up (js_up h a e) a e' = js_up h a e' := by
  funext b
  unfold js_up
  by_cases q : b = a
  · rw [if_pos q, if_pos q]
  · rw [if_neg q, if_neg q, if_neg q]
theorem js_up_comm {h : js_H} {a b : Nat} {e e' : js_E} (n : a ≠ b) : js_up (js_up h a e) b e' = js_up (js_up h b e') a e := by
  funext q
  unfold js_up
  by_cases qa : q = a
  · rw [if_pos qa, if_neg (fun z => n (qa.symm.trans z)), if_pos qa]
  · rw [if_neg qa, if_neg qa]
/-- ints -/
def jI (z : Int) : Int32 := Int32.ofInt z
theorem jI_add (a b : Int) : jI a + jI b = jI (a + b) := (Int32.ofInt_add a b).symm
theorem jI_mul (a b : Int) : jI a * jI b = jI (a * b) := (Int32.ofInt_mul a b).symm
theorem jI_neg (a : Int) : - jI a = jI (-a) := (Int32.ofInt_neg a).symm
theorem jI_sub (a b : Int) : jI a - jI b = jI (a - b) := by
  rw [Int32.sub_eq_add_neg, jI_neg, jI_add, Int.sub_eq_add_neg]
theorem jI_toInt {a : Int} (h1 : -2147483648 ≤ a) (h2 : a < 2147483648) : (jI a).toInt = a := Int32.toInt_ofInt_of_le (by simpa using h1) (by simpa using h2)
theorem jI_self (x : Int32) : jI x.toInt = x := Int32.ofInt_toInt x
theorem jI_lt {a b : Int} (h : -2147483648 ≤ a ∧ a < 2147483648 ∧ -2147483648 ≤ b ∧ b < 2147483648) : jI a < jI b ↔ a < b := by
  rw [Int32.lt_iff_toInt_lt, jI_toInt h.1 h.2.1, jI_toInt h.2.2.1 h.2.2.2]
theorem jI_le {a b : Int} (h : -2147483648 ≤ a ∧ a < 2147483648 ∧ -2147483648 ≤ b ∧ b < 2147483648) : jI a ≤ jI b ↔ a ≤ b := by
  rw [Int32.le_iff_toInt_le, jI_toInt h.1 h.2.1, jI_toInt h.2.2.1 h.2.2.2]
theorem jI_eq {a b : Int} (h : -2147483648 ≤ a ∧ a < 2147483648 ∧ -2147483648 ≤ b ∧ b < 2147483648) : jI a = jI b ↔ a = b := by
  rw [← Int32.toInt_inj, jI_toInt h.1 h.2.1, jI_toInt h.2.2.1 h.2.2.2]
theorem jI_clamp {a : Int} (h1 : 0 ≤ a) (h2 : a < 2147483648) : (jI a).toNatClampNeg = a.toNat := by
  show (jI a).toInt.toNat = a.toNat
  rw [jI_toInt (by omega) h2]
theorem jI_div {a b : Int} (h1 : 0 ≤ a) (h2 : a < 2147483648) (h3 : 0 < b) (h4 : b < 2147483648) : jI a / jI b = jI (a / b) := by
  apply Int32.toInt_inj.mp
  have h5 : 0 ≤ a / b := Int.ediv_nonneg h1 (by omega)
  have h6 : a / b ≤ a := Int.ediv_le_self b h1
  rw [Int32.toInt_div, jI_toInt (by omega) h2, jI_toInt (by omega) h4, jI_toInt (by omega) (by omega), Int.tdiv_eq_ediv_of_nonneg h1]
  exact Int.bmod_eq_of_le (by omega) (by omega)
theorem jI_rem {a b : Int} (h1 : 0 ≤ a) (h2 : a < 2147483648) (h3 : 0 < b) (h4 : b < 2147483648) : jI a - jI a / jI b * jI b = jI (a % b) := by
  rw [jI_div h1 h2 h3 h4, jI_mul, jI_sub]
  congr 1
  have := Int.emod_add_mul_ediv a b
  have e : a / b * b = b * (a / b) := Int.mul_comm _ _
  omega
theorem jI_ofNat (n : Nat) : Int32.ofNat n = jI (n : Int) := by
  exact Int32.ofInt_eq_ofNat.symm
/-- arrays of ints (of kind t: 0 int, 1 boolean, 2 byte, 3 char), of longs, of doubles, of references (6 Object, 7 String) -/
def js_aI (w : Bool) (t n : Nat) (g : Int → Int) : js_E := (w, .inl (t, n, (.inl (fun (j : Nat) => jI (g (j : Int))))))
def js_aL (w : Bool) (t n : Nat) (g : Nat → Int64) : js_E := (w, .inl (t, n, .inr (.inl g)))
def js_aD (w : Bool) (t n : Nat) (g : Nat → UInt64) : js_E := (w, .inl (t, n, .inr (.inr (.inr (.inl g)))))
def js_aQ (w : Bool) (t n : Nat) (g : Int → Option Nat) : js_E := (w, .inl (t, n, .inr (.inr (.inr (.inr (fun (j : Nat) => g (j : Int)))))))
def js_ob (w : Bool) (ci : Nat) (fs : List Value) : js_E := (w, .inr (.inl (ci, fs)))
def js_xc (w : Bool) (E : String) : js_E := (w, .inr (.inr E))
/-- a function of whole numbers, changed at a place -/
def js_uz {α : Type} (g : Int → α) (k : Int) (v : α) : Int → α := fun j => if j = k then v else g j
theorem js_uz_s {α : Type} {g : Int → α} {k : Int} {v : α} : js_uz g k v k = v := if_pos rfl
theorem js_uz_n {α : Type} {g : Int → α} {k j : Int} {v : α} (n : j ≠ k) : js_uz g k v j = g j := if_neg n
theorem js_updI {g : Int → Int} {i v : Int} (h : 0 ≤ i) : upd (fun (j : Nat) => jI (g (j : Int))) i.toNat (jI v) = fun (j : Nat) => jI (js_uz g i v (j : Int)) := by
  funext j
  unfold upd js_uz
  by_cases q : j = i.toNat
  · rw [if_pos q, if_pos (by omega)]
  · rw [if_neg q, if_neg (by omega)]
theorem js_updQ {g : Int → Option Nat} {i : Int} {v : Option Nat} (h : 0 ≤ i) : va_up (fun (j : Nat) => g (j : Int)) i.toNat v = fun (j : Nat) => js_uz g i v (j : Int) := by
  funext j
  unfold va_up js_uz
  by_cases q : j = i.toNat
  · rw [if_pos q, if_pos (by omega)]
  · rw [if_neg q, if_neg (by omega)]
theorem js_inI {i : Int} {n : Nat} (h : 0 ≤ i ∧ i < n ∧ n < 2147483648) : vp_in (jI i) n := by
  intro q
  rcases q with q | q
  · rw [Int32.lt_iff_toInt_lt, jI_toInt (by omega) (by omega), Int32.toInt_zero] at q
    omega
  · rw [jI_clamp h.1 (by omega)] at q
    omega
def js_ty : Nat → FieldType := fun t => match t with
  | 0 => .int
  | 1 => .boolean
  | 2 => .byte
  | 3 => .char
  | 4 => .long
  | 5 => .double
  | 6 => .object "java/lang/Object"
  | 7 => .object "java/lang/String"
  | _ => .object "java/lang/Integer"
/-- the kinds of objects, by number -/
def js_cl : List vw_C := [(RX1, TX1, 8), (RX2, TX2, 11), (RX3, TX3, 20), (RX4, TX4, 3), (RX5, TX5, 8), (RX6, TX6, 3), (RX7, TX7, 1), (RX8, TX8, 2), (RX9, TX9, 3), (RX10, TX10, 2), (RX11, TX11, 5), (RX12, TX12, 2), (RX14, TX14, 1), (RX15, TX15, 1), (RX16, TX16, 1), (RJ2, TJ2, 3), (RJ3, TJ3, 3), (RJ5, TJ5, 4), (RJ6, TJ6, 4), (RJ12, TJ12, 4), (RJ24, TJ24, 1)]
/-- what a run has fixed: numbers of kinds and slots, of array kinds, the first new address, the old entries, the numbers of names, the statics -/
abbrev js_R : Type := va_G × (Nat → ClassId) × Nat × js_H × (String → Option ClassId) × (Nat → Value)
abbrev js_D (ρ : js_R) : va_G := ρ.1
abbrev js_dA (ρ : js_R) : Nat → ClassId := ρ.2.1
abbrev js_B (ρ : js_R) : Nat := ρ.2.2.1
abbrev js_hc (ρ : js_R) : js_H := ρ.2.2.2.1
abbrev js_fc (ρ : js_R) : String → Option ClassId := ρ.2.2.2.2.1
abbrev js_sv (ρ : js_R) : Nat → Value := ρ.2.2.2.2.2
def js_fr (ρ : js_R) : Nat → Prop := fun q => js_B ρ ≤ q
/-- an entry that may be written, as it lies in the machine's heap -/
def js_at (ρ : js_R) (a : Nat) (e : js_E) (H : Heap) : Prop := match e.2 with
  | .inl x => H[a]? = some (vp_cell (js_dA ρ x.1) x.2)
  | .inr (.inl o) => va_at (js_D ρ) js_cl (a, .inr o) H
  | .inr (.inr E) => ∃ ce : Cell, H[a]? = some ce ∧ ce.vm = .none ∧ js_fc ρ E = some ce.cls
/-- an entry as it can be read -/
def js_ct (ρ : js_R) (U : State) (a : Nat) (e : js_E) (H : Heap) : Prop := match e.2 with
  | .inl (t, n, .inl f) => ∃ cell : Cell, H[a]? = some cell ∧ U.isArrayOf cell (js_ty t) ∧ cell.vm ≠ .unknown ∧ n ≤ cell.slots.size ∧ cell.slots.size.toInt32 = Int32.ofNat n ∧ ∀ j : Nat, j < n → cell.slots[j]? = some (.int (f j))
  | .inl (t, n, .inr (.inl f)) => ∃ cell : Cell, H[a]? = some cell ∧ U.isArrayOf cell (js_ty t) ∧ cell.vm ≠ .unknown ∧ n ≤ cell.slots.size ∧ cell.slots.size.toInt32 = Int32.ofNat n ∧ ∀ j : Nat, j < n → cell.slots[j]? = some (.long (f j))
  | .inl (t, n, .inr (.inr (.inr (.inl f)))) => ∃ cell : Cell, H[a]? = some cell ∧ U.isArrayOf cell (js_ty t) ∧ cell.vm ≠ .unknown ∧ n ≤ cell.slots.size ∧ cell.slots.size.toInt32 = Int32.ofNat n ∧ ∀ j : Nat, j < n → cell.slots[j]? = some (.double (f j))
  | .inl (t, n, .inr (.inr (.inr (.inr f)))) => ∃ cell : Cell, H[a]? = some cell ∧ U.isArrayOf cell (js_ty t) ∧ cell.vm ≠ .unknown ∧ n ≤ cell.slots.size ∧ cell.slots.size.toInt32 = Int32.ofNat n ∧ ∀ j : Nat, j < n → cell.slots[j]? = some (va_rf (f j))
  | .inl (_, _, .inr (.inr (.inl _))) => False
  | .inr (.inl (ci, fs)) => ∃ (r : vw_C) (cell : Cell), js_cl[ci]? = some r ∧ H[a]? = some cell ∧ cell.cls = (js_D ρ).1 ci ∧ cell.vm.isStatics = false ∧ cell.vm ≠ .unknown ∧ ∀ k : Nat, k < r.2.2 → cell.slots[(js_D ρ).2 ci k]? = some (vp_V fs k)
  | .inr (.inr _) => False
def js_Pic (ρ : js_R) (h : js_H) (H : Heap) : Prop := ∀ (a : Nat) (e : js_E), h a = some e → e.1 = true → js_at ρ a e H ∧ js_B ρ ≤ a ∧ a < H.size
def js_Inv (ρ : js_R) (h : js_H) : Prop := (∀ (a : Nat) (e : js_E), js_hc ρ a = some e → e.1 = false ∧ h a = some e) ∧ ∀ (a : Nat) (e : js_E), h a = some e → e.1 = false → js_hc ρ a = some e
/-- the words that don't ride in lw_all, but hold all through -/
def js_nwk : Cond → Bool
  | .fieldLinkNest .. => true
  | .methodLinkNest .. => true
  | .castable .. => true
  | .declares .. => true
  | _ => false
def js_nw : List Cond := lw_tbl.filter js_nwk
def js_tys (ρ : js_R) : List (ClassId × FieldType) := (List.range 8).map fun t => (js_dA ρ t, js_ty t)
/-- the statics that are read: class, name, descriptor -/
def js_st : List (String × String × String) := [("java/lang/String", "COMPACT_STRINGS", "Z"), ("java/util/ArrayList", "DEFAULTCAPACITY_EMPTY_ELEMENTDATA", "[Ljava/lang/Object;"), ("java/lang/Integer$IntegerCache", "high", "I"), ("java/lang/Integer$IntegerCache", "cache", "[Ljava/lang/Integer;"), ("java/lang/Integer", "DigitTens", "[B"), ("java/lang/Integer", "DigitOnes", "[B"), ("jdk/internal/util/Preconditions", "SIOOBE_FORMATTER", "Ljava/util/function/BiFunction;")]
/-- the String constants that are loaded: whose pool, place, text -/
def js_sr : List (String × Nat × String) := [("BalloonSpires", 354, "enter"), ("BalloonSpires", 359, "spire"), ("BalloonSpires", 361, "farm"), ("BalloonSpires", 363, "wind"), ("BalloonSpires", 365, "drop"), ("BalloonSpires", 367, "vent"), ("BalloonSpires", 369, "trade"), ("BalloonSpires", 371, "seal"), ("BalloonSpires", 373, "hour"), ("BalloonSpires$Reader", 11, "enter"), ("BalloonSpires$Reader", 13, "spire"), ("BalloonSpires$Reader", 15, "farm"), ("BalloonSpires$Reader", 17, "wind"), ("BalloonSpires$Reader", 19, "drop"), ("BalloonSpires$Reader", 21, "vent"), ("BalloonSpires$Reader", 23, "trade"), ("BalloonSpires$Reader", 25, "seal"), ("BalloonSpires$Reader", 27, "hour"), ("BalloonSpires$Reader", 29, "retire"), ("BalloonSpiresModel", 243, " "), ("BalloonSpiresModel", 245, ""), ("BalloonSpiresModel", 254, "enter "), ("BalloonSpiresModel", 265, "farm "), ("BalloonSpiresModel", 267, "wind "), ("BalloonSpiresModel", 269, "-nesw"), ("BalloonSpiresModel", 275, "drop "), ("BalloonSpiresModel", 281, "vent "), ("BalloonSpiresModel", 283, "trade "), ("BalloonSpiresModel", 285, "hour "), ("BalloonSpiresModel", 287, "retire "), ("BalloonSpiresModel", 289, "s"), ("BalloonSpiresModel", 290, "pire "), ("BalloonSpiresModel", 292, "nesw"), ("BalloonSpiresModel", 294, "eal "), ("java/lang/StringLatin1", 151, "")]
def js_mn (c n d : String) : MethodName := ⟨c, n, d⟩
/-- calls by an interface: the receiver's kind, what is named, what is run -/
def js_fw : List (String × MethodName × MethodName) := [("BalloonSpires$State$Flying$1", ⟨"java/util/Iterator", "hasNext", "()Z"⟩, ⟨"BalloonSpires$State$Flying$1", "hasNext", "()Z"⟩), ("BalloonSpires$State$Flying$1", ⟨"java/util/Iterator", "next", "()Ljava/lang/Object;"⟩, ⟨"BalloonSpires$State$Flying$1", "next", "()Ljava/lang/Object;"⟩), ("java/util/ArrayList$Itr", ⟨"java/util/Iterator", "hasNext", "()Z"⟩, ⟨"java/util/ArrayList$Itr", "hasNext", "()Z"⟩), ("java/util/ArrayList$Itr", ⟨"java/util/Iterator", "next", "()Ljava/lang/Object;"⟩, ⟨"java/util/ArrayList$Itr", "next", "()Ljava/lang/Object;"⟩), ("java/util/ArrayList", ⟨"java/lang/Iterable", "iterator", "()Ljava/util/Iterator;"⟩, ⟨"java/util/ArrayList", "iterator", "()Ljava/util/Iterator;"⟩)]
/-- exceptions that a row of a table doesn't take -/
def js_nc : List (String × String) := [("java/lang/IllegalArgumentException", "java/lang/IndexOutOfBoundsException"), ("java/util/NoSuchElementException", "java/lang/IndexOutOfBoundsException"), ("java/lang/IllegalStateException", "java/lang/IllegalArgumentException"), ("java/lang/UnsupportedOperationException", "java/lang/IllegalArgumentException"), ("java/util/NoSuchElementException", "java/lang/IllegalArgumentException")]
def js_Ky (ρ : js_R) (U : State) : Prop :=
  (∀ q ∈ js_fw, va_Fw q.1 q.2.1 q.2.2 U) ∧ (∀ q ∈ js_nc, va_Nc q.1 q.2 U) ∧ (∀ (k : Nat) (q : String × Nat × String), js_sr[k]? = some q → ∃ a : Nat, js_sv ρ (100 + k) = .ref a ∧ vk_R q.1 q.2.1 q.2.2 a U) ∧ (∃ mi : Nat, js_sv ρ 50 = .ref mi ∧ va_Mi "[Ljava/lang/Object;" mi U) ∧ va_Dc U
def js_Kx (ρ : js_R) (U : State) (H : Heap) : Prop :=
  va_K (js_D ρ) js_cl (js_tys ρ) U ∧ (∀ w ∈ js_nw, va_Nw w U) ∧ (∀ C : String, U.vm.findClass C = js_fc ρ C) ∧ js_B ρ ≤ H.size ∧
  (∀ (a : Nat) (e : js_E), js_hc ρ a = some e → js_ct ρ U a e H ∧ a < js_B ρ) ∧
  (∀ (k : Nat) (q : String × String × String), js_st[k]? = some q → va_Z q.1 q.2.1 q.2.2 (js_sv ρ k) (js_fr ρ) U H) ∧
  va_AO "java/lang/Object" U ∧ va_AO "java/lang/String" U ∧
  vx_Zq Bundle.tN "UNASSIGNED_STACK" Bundle.steD (js_fr ρ) U H ∧ vx_Zq Bundle.tN "SUPPRESSED_SENTINEL" Bundle.listD (js_fr ρ) U H ∧ js_Ky ρ U
theorem js_at.kept {ρ : js_R} {a : Nat} {e : js_E} {H H1 : Heap} (h : js_at ρ a e H) (hq : H1[a]? = H[a]?) : js_at ρ a e H1 := by
  obtain ⟨w, x | o | E⟩ := e
  · exact hq.trans h
  · exact va_at.kept (q := (a, .inr o)) h hq
  · obtain ⟨ce, h1, h2⟩ := h
    exact ⟨ce, hq.trans h1, h2⟩
theorem js_ct.kept {ρ : js_R} {U : State} {a : Nat} {e : js_E} {H H1 : Heap} (h : js_ct ρ U a e H) (hq : H1[a]? = H[a]?) : js_ct ρ U a e H1 := by
  obtain ⟨w, ⟨t, n, f | f | f | f | f⟩ | ⟨ci, fs⟩ | E⟩ := e
  · obtain ⟨cell, h1, h2⟩ := h; exact ⟨cell, hq.trans h1, h2⟩
  · obtain ⟨cell, h1, h2⟩ := h; exact ⟨cell, hq.trans h1, h2⟩
  · exact h
  · obtain ⟨cell, h1, h2⟩ := h; exact ⟨cell, hq.trans h1, h2⟩
  · obtain ⟨cell, h1, h2⟩ := h; exact ⟨cell, hq.trans h1, h2⟩
  · obtain ⟨r, cell, h1, h2, h3⟩ := h; exact ⟨r, cell, h1, hq.trans h2, h3⟩
  · exact h
theorem js_ct.moved {ρ : js_R} {s U : State} {a : Nat} {e : js_E} {H : Heap} (hvm : s.vm.Alike U.vm) (h : js_ct ρ s a e H) : js_ct ρ U a e H := by
  obtain ⟨w, ⟨t, n, f | f | f | f | f⟩ | ⟨ci, fs⟩ | E⟩ := e
  · obtain ⟨cell, h1, h2, h3⟩ := h; exact ⟨cell, h1, State.isArrayOf_alike hvm h2, h3⟩
  · obtain ⟨cell, h1, h2, h3⟩ := h; exact ⟨cell, h1, State.isArrayOf_alike hvm h2, h3⟩
  · exact h
  · obtain ⟨cell, h1, h2, h3⟩ := h; exact ⟨cell, h1, State.isArrayOf_alike hvm h2, h3⟩
  · obtain ⟨cell, h1, h2, h3⟩ := h; exact ⟨cell, h1, State.isArrayOf_alike hvm h2, h3⟩
  · exact h
  · exact h
theorem js_nw_warm {s U : State} (hW : s.WarmedH U.vm) (h : ∀ w ∈ js_nw, va_Nw w s) : ∀ w ∈ js_nw, va_Nw w U := by
  intro w hw
  have h1 := h w hw
  have h2 : js_nwk w = true := (List.mem_filter.mp hw).2
  cases w <;> first | exact va_Nw.warmF hW h1 | exact va_Nw.warmM hW h1 | exact va_Nw.warmC hW h1 | exact va_Nw.warmD hW h1 | exact absurd h2 (by simp [js_nwk])
theorem js_Ky.warm {ρ : js_R} {s U : State} (hW : s.WarmedH U.vm) (h : js_Ky ρ s) : js_Ky ρ U := by
  obtain ⟨h1, h2, h3, ⟨mi, h4, h5⟩, h6⟩ := h
  refine ⟨fun q hq => va_Fw.moved ?_ hW.alike (h1 q hq), fun q hq => va_Nc.moved hW.alike (h2 q hq), fun k q hq => ?_, ⟨mi, h4, va_Mi.moved hW.alike h5⟩, va_Dc.moved hW.alike h6⟩
  · simp only [js_fw, List.mem_cons, List.not_mem_nil, or_false] at hq
    rcases hq with rfl | rfl | rfl | rfl | rfl <;> exact ⟨by decide, by decide⟩
  · obtain ⟨a, g1, g2⟩ := h3 k q hq
    exact ⟨a, g1, vk_R.warm hW g2⟩
theorem js_Kx.warm {ρ : js_R} {s U : State} {H H1 : Heap} (hW : s.WarmedH U.vm) (hz : H.size ≤ H1.size) (hk : ∀ q : Nat, q < H.size → ¬ js_fr ρ q → H1[q]? = H[q]?) (h : js_Kx ρ s H) : js_Kx ρ U H1 := by
  obtain ⟨h1, h2, h3, h4, h5, h6, h7, h8, h9, h10, h11⟩ := h
  have hvm := hW.alike
  refine ⟨va_K.moved hvm h1, js_nw_warm hW h2, fun C => by rw [hvm.findClass]; exact h3 C, Nat.le_trans h4 hz, fun a e ha => ?_, fun k q hq => ?_, va_AO.moved hvm h7, va_AO.moved hvm h8, vx_Zq.moved hvm (h9.kept hk), vx_Zq.moved hvm (h10.kept hk), h11.warm hW⟩
  · obtain ⟨g1, g2⟩ := h5 a e ha
    exact ⟨(g1.moved hvm).kept (hk a (by omega) (by show ¬ js_B ρ ≤ a; omega)), g2⟩
  · exact va_Z.moved hvm ((h6 k q hq).kept hk)
theorem js_Pic.up {ρ : js_R} {h : js_H} {H H1 : Heap} {a : Nat} {e : js_E} (hP : js_Pic ρ h H) (z : H.size ≤ H1.size) (oq : ∀ q : Nat, q < H.size → q ≠ a → H1[q]? = H[q]?) (ha : js_at ρ a e H1) (hB : js_B ρ ≤ a) (hl : a < H1.size) : js_Pic ρ (js_up h a e) H1 := by
  intro b x hb hx
  by_cases q : b = a
  · subst q
    rw [js_up_s] at hb
    cases hb
    exact ⟨ha, hB, hl⟩
  · rw [js_up_n q] at hb
    obtain ⟨g1, g2, g3⟩ := hP b x hb hx
    exact ⟨g1.kept (oq b g3 q), g2, Nat.lt_of_lt_of_le g3 z⟩
theorem js_Inv.up {ρ : js_R} {h : js_H} {a : Nat} {e : js_E} (hI : js_Inv ρ h) (he : e.1 = true) (ha : h a = none ∨ ∃ e0, h a = some e0 ∧ e0.1 = true) : js_Inv ρ (js_up h a e) := by
  refine ⟨fun b x hb => ?_, fun b x hb hx => ?_⟩
  · obtain ⟨g1, g2⟩ := hI.1 b x hb
    refine ⟨g1, ?_⟩
    by_cases q : b = a
    · subst q
      rcases ha with ha | ⟨e0, ha, h0⟩
      · rw [ha] at g2; cases g2
      · rw [ha] at g2; cases g2; rw [h0] at g1; cases g1
    · rw [js_up_n q]; exact g2
  · by_cases q : b = a
    · subst q
      rw [js_up_s] at hb
      cases hb
      rw [he] at hx; cases hx
    · rw [js_up_n q] at hb
      exact hI.2 b x hb hx
theorem js_fresh {ρ : js_R} {U : State} {h : js_H} {H H0 : Heap} (hI : js_Inv ρ h) (hP : js_Pic ρ h H) (hK : js_Kx ρ U H0) (hz : H0.size ≤ H.size) : h H.size = none := by
  cases q : h H.size with
  | none => rfl
  | some e =>
    exfalso
    cases w : e.1 with
    | true => exact absurd (hP _ _ q w).2.2 (Nat.lt_irrefl _)
    | false =>
      have h1 := (hK.2.2.2.2.1 _ _ (hI.2 _ _ q w)).2
      have h2 := hK.2.2.2.1
      omega
theorem js_tyAt {ρ : js_R} {U : State} {H : Heap} (hK : js_Kx ρ U H) {t : Nat} (ht : t < 8) : ArrOfT U (js_dA ρ t) (js_ty t) ∧ va_RA U (js_dA ρ t) (js_ty t) := by
  refine hK.1.2 t (js_dA ρ t, js_ty t) ?_
  simp [js_tys, ht]
theorem js_rdI {ρ : js_R} {s : State} {h : js_H} {H : Heap} {locs : List Loc} (hK : js_Kx ρ s s.heap) (hI : js_Inv ρ h) (hP : js_Pic ρ h H) (hS : va_S (js_fr ρ) s.heap H locs) {a : Nat} {w : Bool} {t n : Nat} {g : Int → Int} (ha : h a = some (js_aI w t n g)) (ht : t < 8) : js_ct ρ s a (js_aI w t n g) H := by
  cases w with
  | true =>
    have h1 : H[a]? = some (vp_cell (js_dA ρ t) _) := (hP a _ ha rfl).1
    rw [vp_cell_i] at h1
    exact ⟨_, h1, (js_tyAt hK ht).1 n _, (fun q => by cases q), by rw [arrV_size]; exact Nat.le_refl _, by rw [arrV_size] <;> rfl, fun j hj => arrV_read _ _ hj⟩
  | false =>
    obtain ⟨h1, h2⟩ := hK.2.2.2.2.1 a _ (hI.2 a _ ha rfl)
    exact h1.kept (hS.2.1 a (Nat.lt_of_lt_of_le h2 hK.2.2.2.1) (by show ¬ js_B ρ ≤ a; omega))
theorem js_rdL {ρ : js_R} {s : State} {h : js_H} {H : Heap} {locs : List Loc} (hK : js_Kx ρ s s.heap) (hI : js_Inv ρ h) (hP : js_Pic ρ h H) (hS : va_S (js_fr ρ) s.heap H locs) {a : Nat} {w : Bool} {t n : Nat} {g : Nat → Int64} (ha : h a = some (js_aL w t n g)) (ht : t < 8) : js_ct ρ s a (js_aL w t n g) H := by
  cases w with
  | true =>
    have h1 : H[a]? = some (vp_cell (js_dA ρ t) _) := (hP a _ ha rfl).1
    rw [vp_cell_l] at h1
    exact ⟨_, h1, (js_tyAt hK ht).1 n _, (fun q => by cases q), by rw [arrV_size]; exact Nat.le_refl _, by rw [arrV_size] <;> rfl, fun j hj => arrV_read _ _ hj⟩
  | false =>
    obtain ⟨h1, h2⟩ := hK.2.2.2.2.1 a _ (hI.2 a _ ha rfl)
    exact h1.kept (hS.2.1 a (Nat.lt_of_lt_of_le h2 hK.2.2.2.1) (by show ¬ js_B ρ ≤ a; omega))
theorem js_rdD {ρ : js_R} {s : State} {h : js_H} {H : Heap} {locs : List Loc} (hK : js_Kx ρ s s.heap) (hI : js_Inv ρ h) (hP : js_Pic ρ h H) (hS : va_S (js_fr ρ) s.heap H locs) {a : Nat} {w : Bool} {t n : Nat} {g : Nat → UInt64} (ha : h a = some (js_aD w t n g)) (ht : t < 8) : js_ct ρ s a (js_aD w t n g) H := by
  cases w with
  | true =>
    have h1 : H[a]? = some (vp_cell (js_dA ρ t) _) := (hP a _ ha rfl).1
    rw [vp_cell_d] at h1
    exact ⟨_, h1, (js_tyAt hK ht).1 n _, (fun q => by cases q), by rw [arrV_size]; exact Nat.le_refl _, by rw [arrV_size] <;> rfl, fun j hj => arrV_read _ _ hj⟩
  | false =>
    obtain ⟨h1, h2⟩ := hK.2.2.2.2.1 a _ (hI.2 a _ ha rfl)
    exact h1.kept (hS.2.1 a (Nat.lt_of_lt_of_le h2 hK.2.2.2.1) (by show ¬ js_B ρ ≤ a; omega))
theorem js_rdQ {ρ : js_R} {s : State} {h : js_H} {H : Heap} {locs : List Loc} (hK : js_Kx ρ s s.heap) (hI : js_Inv ρ h) (hP : js_Pic ρ h H) (hS : va_S (js_fr ρ) s.heap H locs) {a : Nat} {w : Bool} {t n : Nat} {g : Int → Option Nat} (ha : h a = some (js_aQ w t n g)) (ht : t < 8) : js_ct ρ s a (js_aQ w t n g) H := by
  cases w with
  | true =>
    have h1 : H[a]? = some (vp_cell (js_dA ρ t) _) := (hP a _ ha rfl).1
    rw [vp_cell_q] at h1
    exact ⟨_, h1, (js_tyAt hK ht).1 n _, (fun q => by cases q), by rw [arrV_size]; exact Nat.le_refl _, by rw [arrV_size] <;> rfl, fun j hj => arrV_read _ _ hj⟩
  | false =>
    obtain ⟨h1, h2⟩ := hK.2.2.2.2.1 a _ (hI.2 a _ ha rfl)
    exact h1.kept (hS.2.1 a (Nat.lt_of_lt_of_le h2 hK.2.2.2.1) (by show ¬ js_B ρ ≤ a; omega))
theorem js_rdO {ρ : js_R} {s : State} {h : js_H} {H : Heap} {locs : List Loc} (hK : js_Kx ρ s s.heap) (hI : js_Inv ρ h) (hP : js_Pic ρ h H) (hS : va_S (js_fr ρ) s.heap H locs) {a : Nat} {w : Bool} {ci : Nat} {fs : List Value} (ha : h a = some (js_ob w ci fs)) : js_ct ρ s a (js_ob w ci fs) H := by
  cases w with
  | true =>
    obtain ⟨r, h1, cell, q1, q2, q3, q4⟩ := (hP a _ ha rfl).1
    exact ⟨r, cell, h1, q1, q2, by rw [q3]; rfl, by rw [q3]; exact (fun h => by cases h), q4⟩
  | false =>
    obtain ⟨h1, h2⟩ := hK.2.2.2.2.1 a _ (hI.2 a _ ha rfl)
    exact h1.kept (hS.2.1 a (Nat.lt_of_lt_of_le h2 hK.2.2.2.1) (by show ¬ js_B ρ ≤ a; omega))
/-- the receiver's kind -/
theorem js_recv {ρ : js_R} {s : State} {h : js_H} {H : Heap} {locs : List Loc} (hK : js_Kx ρ s s.heap) (hI : js_Inv ρ h) (hP : js_Pic ρ h H) (hS : va_S (js_fr ρ) s.heap H locs) {a : Nat} {w : Bool} {ci : Nat} {fs : List Value} (ha : h a = some (js_ob w ci fs)) {r : vw_C} (hr : js_cl[ci]? = some r) : ∃ cell : Cell, H[a]? = some cell ∧ cell.vm.isStatics = false ∧ s.vm.findClass r.1 = some cell.cls := by
  obtain ⟨r', cell, h1, h2, h3, h4, -⟩ := js_rdO hK hI hP hS ha
  cases Option.some.inj (h1.symm.trans hr)
  exact ⟨cell, h2, h4, by rw [h3]; exact (hK.1.1 ci _ hr).2.1⟩
/-! the judgement -/
abbrev js_M : Type := MethodName × ByteArray × Nat × Option FieldType × List (Nat × Nat × Nat × Nat)
abbrev js_y (M : js_M) : MethodName := M.1
abbrev js_c (M : js_M) : ByteArray := M.2.1
abbrev js_n (M : js_M) : Nat := M.2.2.1
abbrev js_r (M : js_M) : Option FieldType := M.2.2.2.1
abbrev js_t (M : js_M) : List (Nat × Nat × Nat × Nat) := M.2.2.2.2
abbrev js_Q : Type := (Option Value ⊕ String) → js_H → Prop
def js_Qc (ρ : js_R) (Q : js_Q) : Array Value → State → Outcome → State → Prop := fun _ st o t => ∃ (v : Option Value) (h' : js_H), o = .returned v ∧ Q (.inl v) h' ∧ js_Inv ρ h' ∧ js_Pic ρ h' t.heap ∧ va_F (js_fr ρ) st t
def js_XC (ρ : js_R) (Q : js_Q) : String → State → State → Prop := fun E st t => ∃ h' : js_H, Q (.inr E) h' ∧ js_Inv ρ h' ∧ js_Pic ρ h' t.heap ∧ va_F (js_fr ρ) st t
def js_Pc (ρ : js_R) (av : List Value) (h : js_H) : Array Value → State → Prop := fun v U => v = av.toArray ∧ js_Inv ρ h ∧ js_Pic ρ h U.heap ∧ js_Kx ρ U U.heap
def js_ws (M : js_M) : List Cond := match js_t M with
  | [] => ws_ (js_y M) (js_c M) (js_n M) (js_r M)
  | x :: l => wsW_ (js_y M) (js_c M) (js_n M) (js_r M) (x :: l)
def js_Cx (ρ : js_R) (M : js_M) (p : Program) (l : Launch) (s : State) (m : MethodId) (args : Array Value) (meth : Method) (c : Code) : Prop :=
  p.tables.exec = Jvm.exec ∧ c.code = js_c M ∧ meth.sig.returnType = js_r M ∧ meth.locks = false ∧ c.maxLocals = js_n M ∧ s.vm.findClass (js_y M).cls = some m.cls ∧ (∀ w ∈ lw_all, w.before args s = true) ∧ c.exceptionTable.toList = tableOf (js_t M) ∧ js_Kx ρ s s.heap ∧ meth.name = (js_y M).name ∧ l.stackTraces = false
/-- from pc, with locals L, stack st and heap h, in a method M, with room d for calls, kc new cells and ks new slots: it ends, with Q -/
def js_ok (ρ : js_R) (M : js_M) (Q : js_Q) (d kc ks pc : Nat) (L : List (Nat × Value)) (st : List Value) (h : js_H) : Prop :=
  ∀ ⦃p : Program⦄ ⦃l : Launch⦄ ⦃e : Env⦄ ⦃R : Room⦄ ⦃s : State⦄ ⦃m : MethodId⦄ ⦃args : Array Value⦄ ⦃below : List Frame⦄ ⦃meth : Method⦄ ⦃c : Code⦄ ⦃H : Heap⦄ ⦃locs : List Loc⦄ ⦃cells slots : Nat⦄ ⦃ls : Array Slot⦄ ⦃mc ms : Nat⦄,
    js_Cx ρ M p l s m args meth c → d ≤ R.frames → 64 * d ≤ R.locals → js_Inv ρ h → js_Pic ρ h H → va_S (js_fr ρ) s.heap H locs → lv_has ls (js_n M) L → cells + kc ≤ R.cells → slots + ks ≤ R.slots → cells + kc ≤ mc → slots + ks ≤ ms →
    W p l e R s m args below meth c H locs cells slots (vx_MQ below (js_Qc ρ Q) (js_XC ρ Q) args s mc ms (js_fr ρ)) (F0 m pc ls st)
/-- an exception of the kind E has been raised at pc -/
def js_thr (ρ : js_R) (M : js_M) (Q : js_Q) (d kc ks pc : Nat) (L : List (Nat × Value)) (E : String) (h : js_H) : Prop :=
  ∀ ⦃p : Program⦄ ⦃l : Launch⦄ ⦃e : Env⦄ ⦃R : Room⦄ ⦃s : State⦄ ⦃m : MethodId⦄ ⦃args : Array Value⦄ ⦃below : List Frame⦄ ⦃meth : Method⦄ ⦃c : Code⦄ ⦃H : Heap⦄ ⦃locs : List Loc⦄ ⦃cells slots : Nat⦄ ⦃ls : Array Slot⦄ ⦃mc ms : Nat⦄ ⦃rest : List Value⦄ ⦃q : Addr⦄ ⦃ce : Cell⦄,
    js_Cx ρ M p l s m args meth c → d ≤ R.frames → 64 * d ≤ R.locals → js_Inv ρ h → js_Pic ρ h H → va_S (js_fr ρ) s.heap H locs → lv_has ls (js_n M) L → cells + kc ≤ R.cells → slots + ks ≤ R.slots → cells + kc ≤ mc → slots + ks ≤ ms →
    H[q]? = some ce → ce.vm = .none → js_fc ρ E = some ce.cls →
    vx_W p l e R s m args below meth c H locs cells slots (vx_MQ below (js_Qc ρ Q) (js_XC ρ Q) args s mc ms (js_fr ρ)) (F0 m pc ls rest) q
/-- a method's contract -/
def js_Con (ρ : js_R) (M : js_M) (d kc ks : Nat) (av : List Value) (h : js_H) (Q : js_Q) : Prop :=
  ∀ (l : Launch) (rm : Room) (mc ms : Nat) (Q' : js_Q), l.stackTraces = false → d ≤ rm.frames → 64 * d ≤ rm.locals → rm.cells = mc → rm.slots = ms → kc ≤ mc → ks ≤ ms → (∀ r h', Q r h' → Q' r h') → vx_Met l (js_y M) (js_ws M) rm (js_Pc ρ av h) (js_Qc ρ Q') (js_XC ρ Q') mc ms (js_fr ρ)
theorem js_Con.more {ρ : js_R} {M : js_M} {d kc ks d' kc' ks' : Nat} {av : List Value} {h : js_H} {Q : js_Q} (k : js_Con ρ M d kc ks av h Q) (h1 : d ≤ d') (h2 : kc ≤ kc') (h3 : ks ≤ ks') : js_Con ρ M d' kc' ks' av h Q :=
  fun l rm mc ms Q' a1 a2 a3 a4 a5 a6 a7 => k l rm mc ms Q' a1 (by omega) (by omega) a4 a5 (by omega) (by omega)
theorem js_Con.post {ρ : js_R} {M : js_M} {d kc ks : Nat} {av : List Value} {h : js_H} {Q Q' : js_Q} (k : js_Con ρ M d kc ks av h Q) (hQ : ∀ r h', Q r h' → Q' r h') : js_Con ρ M d kc ks av h Q' :=
  fun l rm mc ms Q2 a1 a2 a3 a4 a5 a6 a7 a8 => k l rm mc ms Q2 a1 a2 a3 a4 a5 a6 a7 (fun r h' q => a8 r h' (hQ r h' q))
/-! instructions -/
section
variable {ρ : js_R} {M : js_M} {Q : js_Q} {d kc ks pc : Nat} {L : List (Nat × Value)} {st : List Value} {h : js_H}
theorem js_ok.post {Q' : js_Q} (k : js_ok ρ M Q d kc ks pc L st h) (hQ : ∀ r h', Q r h' → Q' r h') : js_ok ρ M Q' d kc ks pc L st h := by
  intro p l e R s m args below meth c H locs cells slots ls mc ms hC h1 h2 h3 h4 h5 h6 h7 h8 h9 h10
  intro T hT X
  obtain ⟨t, a1, o, b1, b2, b3⟩ := k hC h1 h2 h3 h4 h5 h6 h7 h8 h9 h10 T hT X
  refine ⟨t, a1, o, b1, b2, ?_⟩
  rcases b3 with ⟨⟨v, h', e1, e2, e3⟩, b4⟩ | ⟨q, e1, E, ce, L9, ⟨h', e2, e3⟩, e4⟩
  · exact Or.inl ⟨⟨v, h', e1, hQ _ _ e2, e3⟩, b4⟩
  · exact Or.inr ⟨q, e1, E, ce, L9, ⟨h', hQ _ _ e2, e3⟩, e4⟩
theorem js_ok.more {d' kc' ks' : Nat} (k : js_ok ρ M Q d kc ks pc L st h) (g1 : d ≤ d') (g2 : kc ≤ kc') (g3 : ks ≤ ks') : js_ok ρ M Q d' kc' ks' pc L st h := by
  intro p l e R s m args below meth c H locs cells slots ls mc ms hC h1 h2 h3 h4 h5 h6 h7 h8 h9 h10
  exact k hC (by omega) (by omega) h3 h4 h5 h6 (by omega) (by omega) (by omega) (by omega)
theorem js_sub {L' : List (Nat × Value)} (is : List Nat) (hsub : lv_pick L is = L') (nx : js_ok ρ M Q d kc ks pc L' st h) : js_ok ρ M Q d kc ks pc L st h := by
  intro p l e R s m args below meth c H locs cells slots ls mc ms hC h1 h2 h3 h4 h5 h6 h7 h8 h9 h10
  exact nx hC h1 h2 h3 h4 h5 (lv_sub h6 is hsub) h7 h8 h9 h10
/-- what the old entries are -/
theorem js_old (nx : (∀ (a : Nat) (e : js_E), js_hc ρ a = some e → e.1 = false ∧ h a = some e) → js_ok ρ M Q d kc ks pc L st h) : js_ok ρ M Q d kc ks pc L st h := by
  intro p l e R s m args below meth c H locs cells slots ls mc ms hC h1 h2 h3 h4 h5 h6 h7 h8 h9 h10
  exact nx h3.1 hC h1 h2 h3 h4 h5 h6 h7 h8 h9 h10
theorem js_iconst {n : Int} (hd : decode (js_c M) pc = .ok (.iconst n, 1)) (nx : js_ok ρ M Q d kc ks (pc + 1) L (.int (jI n) :: st) h) : js_ok ρ M Q d kc ks pc L st h := by
  intro p l e R s m args below meth c H locs cells slots ls mc ms hC h1 h2 h3 h4 h5 h6 h7 h8 h9 h10
  exact lv_iconst hC.1 hC.2.1 hd rfl (nx hC h1 h2 h3 h4 h5 h6 h7 h8 h9 h10)
theorem js_bipush {n : Int} (hd : decode (js_c M) pc = .ok (.bipush n, 2)) (hv : (Int8.ofInt n).toInt32 = jI n) (nx : js_ok ρ M Q d kc ks (pc + 2) L (.int (jI n) :: st) h) : js_ok ρ M Q d kc ks pc L st h := by
  intro p l e R s m args below meth c H locs cells slots ls mc ms hC h1 h2 h3 h4 h5 h6 h7 h8 h9 h10
  exact lv_bipush hC.1 hC.2.1 hd hv (nx hC h1 h2 h3 h4 h5 h6 h7 h8 h9 h10)
theorem js_sipush {n : Int} (hd : decode (js_c M) pc = .ok (.sipush n, 3)) (hv : (Int16.ofInt n).toInt32 = jI n) (nx : js_ok ρ M Q d kc ks (pc + 3) L (.int (jI n) :: st) h) : js_ok ρ M Q d kc ks pc L st h := by
  intro p l e R s m args below meth c H locs cells slots ls mc ms hC h1 h2 h3 h4 h5 h6 h7 h8 h9 h10
  exact lv_sipush hC.1 hC.2.1 hd hv (nx hC h1 h2 h3 h4 h5 h6 h7 h8 h9 h10)
theorem js_null (hd : decode (js_c M) pc = .ok (.aconst_null, 1)) (nx : js_ok ρ M Q d kc ks (pc + 1) L (.null :: st) h) : js_ok ρ M Q d kc ks pc L st h := by
  intro p l e R s m args below meth c H locs cells slots ls mc ms hC h1 h2 h3 h4 h5 h6 h7 h8 h9 h10
  exact lv_null hC.1 hC.2.1 hd (nx hC h1 h2 h3 h4 h5 h6 h7 h8 h9 h10)
theorem js_lconst {n : Fin 2} (hd : decode (js_c M) pc = .ok (.lconst n, 1)) (nx : js_ok ρ M Q d kc ks (pc + 1) L (.long (Int64.ofNat (n : Nat)) :: st) h) : js_ok ρ M Q d kc ks pc L st h := by
  intro p l e R s m args below meth c H locs cells slots ls mc ms hC h1 h2 h3 h4 h5 h6 h7 h8 h9 h10
  exact lv_lconst hC.1 hC.2.1 hd rfl (nx hC h1 h2 h3 h4 h5 h6 h7 h8 h9 h10)
theorem js_fconst0 (hd : decode (js_c M) pc = .ok (.fconst 0, 1)) (nx : js_ok ρ M Q d kc ks (pc + 1) L (.float 0 :: st) h) : js_ok ρ M Q d kc ks pc L st h := by
  intro p l e R s m args below meth c H locs cells slots ls mc ms hC h1 h2 h3 h4 h5 h6 h7 h8 h9 h10
  exact lv_fconst0 hC.1 hC.2.1 hd (nx hC h1 h2 h3 h4 h5 h6 h7 h8 h9 h10)
theorem js_dconst0 (hd : decode (js_c M) pc = .ok (.dconst 0, 1)) (nx : js_ok ρ M Q d kc ks (pc + 1) L (.double 0 :: st) h) : js_ok ρ M Q d kc ks pc L st h := by
  intro p l e R s m args below meth c H locs cells slots ls mc ms hC h1 h2 h3 h4 h5 h6 h7 h8 h9 h10
  exact lv_dconst0 hC.1 hC.2.1 hd (nx hC h1 h2 h3 h4 h5 h6 h7 h8 h9 h10)
theorem js_iload_n {k : Fin 4} {v : Int32} (j : Nat) (hd : decode (js_c M) pc = .ok (.iload_n k, 1)) (hl : L[j]? = some ((k : Nat), .int v)) (nx : js_ok ρ M Q d kc ks (pc + 1) L (.int v :: st) h) : js_ok ρ M Q d kc ks pc L st h := by
  intro p l e R s m args below meth c H locs cells slots ls mc ms hC h1 h2 h3 h4 h5 h6 h7 h8 h9 h10
  exact lv_iload_n hC.1 hC.2.1 hd rfl (lv_at h6 j hl) (nx hC h1 h2 h3 h4 h5 h6 h7 h8 h9 h10)
theorem js_iload {i : Nat} {v : Int32} (j : Nat) (hd : decode (js_c M) pc = .ok (.iload i, 2)) (hl : L[j]? = some (i, .int v)) (nx : js_ok ρ M Q d kc ks (pc + 2) L (.int v :: st) h) : js_ok ρ M Q d kc ks pc L st h := by
  intro p l e R s m args below meth c H locs cells slots ls mc ms hC h1 h2 h3 h4 h5 h6 h7 h8 h9 h10
  exact lv_iload hC.1 hC.2.1 hd (lv_at h6 j hl) (nx hC h1 h2 h3 h4 h5 h6 h7 h8 h9 h10)
theorem js_lload_n {k : Fin 4} {v : Int64} (j : Nat) (hd : decode (js_c M) pc = .ok (.lload_n k, 1)) (hl : L[j]? = some ((k : Nat), .long v)) (nx : js_ok ρ M Q d kc ks (pc + 1) L (.long v :: st) h) : js_ok ρ M Q d kc ks pc L st h := by
  intro p l e R s m args below meth c H locs cells slots ls mc ms hC h1 h2 h3 h4 h5 h6 h7 h8 h9 h10
  exact lv_lload_n hC.1 hC.2.1 hd rfl (lv_at h6 j hl) (nx hC h1 h2 h3 h4 h5 h6 h7 h8 h9 h10)
theorem js_lload {i : Nat} {v : Int64} (j : Nat) (hd : decode (js_c M) pc = .ok (.lload i, 2)) (hl : L[j]? = some (i, .long v)) (nx : js_ok ρ M Q d kc ks (pc + 2) L (.long v :: st) h) : js_ok ρ M Q d kc ks pc L st h := by
  intro p l e R s m args below meth c H locs cells slots ls mc ms hC h1 h2 h3 h4 h5 h6 h7 h8 h9 h10
  exact lv_lload hC.1 hC.2.1 hd (lv_at h6 j hl) (nx hC h1 h2 h3 h4 h5 h6 h7 h8 h9 h10)
theorem js_aload_n {k : Fin 4} {v : Nat} (j : Nat) (hd : decode (js_c M) pc = .ok (.aload_n k, 1)) (hl : L[j]? = some ((k : Nat), .ref v)) (nx : js_ok ρ M Q d kc ks (pc + 1) L (.ref v :: st) h) : js_ok ρ M Q d kc ks pc L st h := by
  intro p l e R s m args below meth c H locs cells slots ls mc ms hC h1 h2 h3 h4 h5 h6 h7 h8 h9 h10
  exact lv_aload_n hC.1 hC.2.1 hd rfl (lv_at h6 j hl) (nx hC h1 h2 h3 h4 h5 h6 h7 h8 h9 h10)
theorem js_aload {i : Nat} {v : Nat} (j : Nat) (hd : decode (js_c M) pc = .ok (.aload i, 2)) (hl : L[j]? = some (i, .ref v)) (nx : js_ok ρ M Q d kc ks (pc + 2) L (.ref v :: st) h) : js_ok ρ M Q d kc ks pc L st h := by
  intro p l e R s m args below meth c H locs cells slots ls mc ms hC h1 h2 h3 h4 h5 h6 h7 h8 h9 h10
  exact lv_aload hC.1 hC.2.1 hd (lv_at h6 j hl) (nx hC h1 h2 h3 h4 h5 h6 h7 h8 h9 h10)
theorem js_fload_n {k : Fin 4} {v : UInt32} (j : Nat) (hd : decode (js_c M) pc = .ok (.fload_n k, 1)) (hl : L[j]? = some ((k : Nat), .float v)) (nx : js_ok ρ M Q d kc ks (pc + 1) L (.float v :: st) h) : js_ok ρ M Q d kc ks pc L st h := by
  intro p l e R s m args below meth c H locs cells slots ls mc ms hC h1 h2 h3 h4 h5 h6 h7 h8 h9 h10
  exact lv_fload_n hC.1 hC.2.1 hd rfl (lv_at h6 j hl) (nx hC h1 h2 h3 h4 h5 h6 h7 h8 h9 h10)
theorem js_fload {i : Nat} {v : UInt32} (j : Nat) (hd : decode (js_c M) pc = .ok (.fload i, 2)) (hl : L[j]? = some (i, .float v)) (nx : js_ok ρ M Q d kc ks (pc + 2) L (.float v :: st) h) : js_ok ρ M Q d kc ks pc L st h := by
  intro p l e R s m args below meth c H locs cells slots ls mc ms hC h1 h2 h3 h4 h5 h6 h7 h8 h9 h10
  exact lv_fload hC.1 hC.2.1 hd (lv_at h6 j hl) (nx hC h1 h2 h3 h4 h5 h6 h7 h8 h9 h10)
theorem js_dload_n {k : Fin 4} {v : UInt64} (j : Nat) (hd : decode (js_c M) pc = .ok (.dload_n k, 1)) (hl : L[j]? = some ((k : Nat), .double v)) (nx : js_ok ρ M Q d kc ks (pc + 1) L (.double v :: st) h) : js_ok ρ M Q d kc ks pc L st h := by
  intro p l e R s m args below meth c H locs cells slots ls mc ms hC h1 h2 h3 h4 h5 h6 h7 h8 h9 h10
  exact lv_dload_n hC.1 hC.2.1 hd rfl (lv_at h6 j hl) (nx hC h1 h2 h3 h4 h5 h6 h7 h8 h9 h10)
theorem js_dload {i : Nat} {v : UInt64} (j : Nat) (hd : decode (js_c M) pc = .ok (.dload i, 2)) (hl : L[j]? = some (i, .double v)) (nx : js_ok ρ M Q d kc ks (pc + 2) L (.double v :: st) h) : js_ok ρ M Q d kc ks pc L st h := by
  intro p l e R s m args below meth c H locs cells slots ls mc ms hC h1 h2 h3 h4 h5 h6 h7 h8 h9 h10
  exact lv_dload hC.1 hC.2.1 hd (lv_at h6 j hl) (nx hC h1 h2 h3 h4 h5 h6 h7 h8 h9 h10)
theorem js_aload_nN {k : Fin 4} (j : Nat) (hd : decode (js_c M) pc = .ok (.aload_n k, 1)) (hl : L[j]? = some ((k : Nat), .null)) (nx : js_ok ρ M Q d kc ks (pc + 1) L (.null :: st) h) : js_ok ρ M Q d kc ks pc L st h := by
  intro p l e R s m args below meth c H locs cells slots ls mc ms hC h1 h2 h3 h4 h5 h6 h7 h8 h9 h10
  exact lv_aload_nN hC.1 hC.2.1 hd rfl (lv_at h6 j hl) (nx hC h1 h2 h3 h4 h5 h6 h7 h8 h9 h10)
theorem js_aloadN {i : Nat} (j : Nat) (hd : decode (js_c M) pc = .ok (.aload i, 2)) (hl : L[j]? = some (i, .null)) (nx : js_ok ρ M Q d kc ks (pc + 2) L (.null :: st) h) : js_ok ρ M Q d kc ks pc L st h := by
  intro p l e R s m args below meth c H locs cells slots ls mc ms hC h1 h2 h3 h4 h5 h6 h7 h8 h9 h10
  exact lv_aloadN hC.1 hC.2.1 hd (lv_at h6 j hl) (nx hC h1 h2 h3 h4 h5 h6 h7 h8 h9 h10)
theorem js_istore_n {k : Fin 4} {v : Int32} {L' : List (Nat × Value)} (hd : decode (js_c M) pc = .ok (.istore_n k, 1)) (hn : (k : Nat) < js_n M) (hl : (((k : Nat), Value.int v) :: L.filter (fun q => !(q.1 == (k : Nat)) && !(q.1 + 1 == (k : Nat) && q.2.category == 2))) = L') (nx : js_ok ρ M Q d kc ks (pc + 1) L' st h) : js_ok ρ M Q d kc ks pc L (.int v :: st) h := by
  intro p l e R s m args below meth c H locs cells slots ls mc ms hC h1 h2 h3 h4 h5 h6 h7 h8 h9 h10
  exact lv_istore_n hC.1 hC.2.1 hd rfl h6 hn hl (fun ls' h6 => nx hC h1 h2 h3 h4 h5 h6 h7 h8 h9 h10)
theorem js_istore {i : Nat} {v : Int32} {L' : List (Nat × Value)} (hd : decode (js_c M) pc = .ok (.istore i, 2)) (hn : i < js_n M) (hl : ((i, Value.int v) :: L.filter (fun q => !(q.1 == i) && !(q.1 + 1 == i && q.2.category == 2))) = L') (nx : js_ok ρ M Q d kc ks (pc + 2) L' st h) : js_ok ρ M Q d kc ks pc L (.int v :: st) h := by
  intro p l e R s m args below meth c H locs cells slots ls mc ms hC h1 h2 h3 h4 h5 h6 h7 h8 h9 h10
  exact lv_istore hC.1 hC.2.1 hd h6 hn hl (fun ls' h6 => nx hC h1 h2 h3 h4 h5 h6 h7 h8 h9 h10)
theorem js_lstore_n {k : Fin 4} {v : Int64} {L' : List (Nat × Value)} (hd : decode (js_c M) pc = .ok (.lstore_n k, 1)) (hn : (k : Nat) + 1 < js_n M) (hl : (((k : Nat), Value.long v) :: L.filter (fun q => !(q.1 == (k : Nat)) && (!(q.1 == (k : Nat) + 1) && !(q.1 + 1 == (k : Nat) && q.2.category == 2)))) = L') (nx : js_ok ρ M Q d kc ks (pc + 1) L' st h) : js_ok ρ M Q d kc ks pc L (.long v :: st) h := by
  intro p l e R s m args below meth c H locs cells slots ls mc ms hC h1 h2 h3 h4 h5 h6 h7 h8 h9 h10
  exact lv_lstore_n hC.1 hC.2.1 hd rfl h6 hn hl (fun ls' h6 => nx hC h1 h2 h3 h4 h5 h6 h7 h8 h9 h10)
theorem js_lstore {i : Nat} {v : Int64} {L' : List (Nat × Value)} (hd : decode (js_c M) pc = .ok (.lstore i, 2)) (hn : i + 1 < js_n M) (hl : ((i, Value.long v) :: L.filter (fun q => !(q.1 == i) && (!(q.1 == i + 1) && !(q.1 + 1 == i && q.2.category == 2)))) = L') (nx : js_ok ρ M Q d kc ks (pc + 2) L' st h) : js_ok ρ M Q d kc ks pc L (.long v :: st) h := by
  intro p l e R s m args below meth c H locs cells slots ls mc ms hC h1 h2 h3 h4 h5 h6 h7 h8 h9 h10
  exact lv_lstore hC.1 hC.2.1 hd h6 hn hl (fun ls' h6 => nx hC h1 h2 h3 h4 h5 h6 h7 h8 h9 h10)
theorem js_astore_n {k : Fin 4} {v : Nat} {L' : List (Nat × Value)} (hd : decode (js_c M) pc = .ok (.astore_n k, 1)) (hn : (k : Nat) < js_n M) (hl : (((k : Nat), Value.ref v) :: L.filter (fun q => !(q.1 == (k : Nat)) && !(q.1 + 1 == (k : Nat) && q.2.category == 2))) = L') (nx : js_ok ρ M Q d kc ks (pc + 1) L' st h) : js_ok ρ M Q d kc ks pc L (.ref v :: st) h := by
  intro p l e R s m args below meth c H locs cells slots ls mc ms hC h1 h2 h3 h4 h5 h6 h7 h8 h9 h10
  exact lv_astore_n hC.1 hC.2.1 hd rfl h6 hn hl (fun ls' h6 => nx hC h1 h2 h3 h4 h5 h6 h7 h8 h9 h10)
theorem js_astore {i : Nat} {v : Nat} {L' : List (Nat × Value)} (hd : decode (js_c M) pc = .ok (.astore i, 2)) (hn : i < js_n M) (hl : ((i, Value.ref v) :: L.filter (fun q => !(q.1 == i) && !(q.1 + 1 == i && q.2.category == 2))) = L') (nx : js_ok ρ M Q d kc ks (pc + 2) L' st h) : js_ok ρ M Q d kc ks pc L (.ref v :: st) h := by
  intro p l e R s m args below meth c H locs cells slots ls mc ms hC h1 h2 h3 h4 h5 h6 h7 h8 h9 h10
  exact lv_astore hC.1 hC.2.1 hd h6 hn hl (fun ls' h6 => nx hC h1 h2 h3 h4 h5 h6 h7 h8 h9 h10)
theorem js_fstore_n {k : Fin 4} {v : UInt32} {L' : List (Nat × Value)} (hd : decode (js_c M) pc = .ok (.fstore_n k, 1)) (hn : (k : Nat) < js_n M) (hl : (((k : Nat), Value.float v) :: L.filter (fun q => !(q.1 == (k : Nat)) && !(q.1 + 1 == (k : Nat) && q.2.category == 2))) = L') (nx : js_ok ρ M Q d kc ks (pc + 1) L' st h) : js_ok ρ M Q d kc ks pc L (.float v :: st) h := by
  intro p l e R s m args below meth c H locs cells slots ls mc ms hC h1 h2 h3 h4 h5 h6 h7 h8 h9 h10
  exact lv_fstore_n hC.1 hC.2.1 hd rfl h6 hn hl (fun ls' h6 => nx hC h1 h2 h3 h4 h5 h6 h7 h8 h9 h10)
theorem js_fstore {i : Nat} {v : UInt32} {L' : List (Nat × Value)} (hd : decode (js_c M) pc = .ok (.fstore i, 2)) (hn : i < js_n M) (hl : ((i, Value.float v) :: L.filter (fun q => !(q.1 == i) && !(q.1 + 1 == i && q.2.category == 2))) = L') (nx : js_ok ρ M Q d kc ks (pc + 2) L' st h) : js_ok ρ M Q d kc ks pc L (.float v :: st) h := by
  intro p l e R s m args below meth c H locs cells slots ls mc ms hC h1 h2 h3 h4 h5 h6 h7 h8 h9 h10
  exact lv_fstore hC.1 hC.2.1 hd h6 hn hl (fun ls' h6 => nx hC h1 h2 h3 h4 h5 h6 h7 h8 h9 h10)
theorem js_dstore_n {k : Fin 4} {v : UInt64} {L' : List (Nat × Value)} (hd : decode (js_c M) pc = .ok (.dstore_n k, 1)) (hn : (k : Nat) + 1 < js_n M) (hl : (((k : Nat), Value.double v) :: L.filter (fun q => !(q.1 == (k : Nat)) && (!(q.1 == (k : Nat) + 1) && !(q.1 + 1 == (k : Nat) && q.2.category == 2)))) = L') (nx : js_ok ρ M Q d kc ks (pc + 1) L' st h) : js_ok ρ M Q d kc ks pc L (.double v :: st) h := by
  intro p l e R s m args below meth c H locs cells slots ls mc ms hC h1 h2 h3 h4 h5 h6 h7 h8 h9 h10
  exact lv_dstore_n hC.1 hC.2.1 hd rfl h6 hn hl (fun ls' h6 => nx hC h1 h2 h3 h4 h5 h6 h7 h8 h9 h10)
theorem js_dstore {i : Nat} {v : UInt64} {L' : List (Nat × Value)} (hd : decode (js_c M) pc = .ok (.dstore i, 2)) (hn : i + 1 < js_n M) (hl : ((i, Value.double v) :: L.filter (fun q => !(q.1 == i) && (!(q.1 == i + 1) && !(q.1 + 1 == i && q.2.category == 2)))) = L') (nx : js_ok ρ M Q d kc ks (pc + 2) L' st h) : js_ok ρ M Q d kc ks pc L (.double v :: st) h := by
  intro p l e R s m args below meth c H locs cells slots ls mc ms hC h1 h2 h3 h4 h5 h6 h7 h8 h9 h10
  exact lv_dstore hC.1 hC.2.1 hd h6 hn hl (fun ls' h6 => nx hC h1 h2 h3 h4 h5 h6 h7 h8 h9 h10)
theorem js_astore_nN {k : Fin 4} {L' : List (Nat × Value)} (hd : decode (js_c M) pc = .ok (.astore_n k, 1)) (hn : (k : Nat) < js_n M) (hl : (((k : Nat), Value.null) :: L.filter (fun q => !(q.1 == (k : Nat)) && !(q.1 + 1 == (k : Nat) && q.2.category == 2))) = L') (nx : js_ok ρ M Q d kc ks (pc + 1) L' st h) : js_ok ρ M Q d kc ks pc L (.null :: st) h := by
  intro p l e R s m args below meth c H locs cells slots ls mc ms hC h1 h2 h3 h4 h5 h6 h7 h8 h9 h10
  exact lv_astore_nN hC.1 hC.2.1 hd rfl h6 hn hl (fun ls' h6 => nx hC h1 h2 h3 h4 h5 h6 h7 h8 h9 h10)
theorem js_astoreN {i : Nat} {L' : List (Nat × Value)} (hd : decode (js_c M) pc = .ok (.astore i, 2)) (hn : i < js_n M) (hl : ((i, Value.null) :: L.filter (fun q => !(q.1 == i) && !(q.1 + 1 == i && q.2.category == 2))) = L') (nx : js_ok ρ M Q d kc ks (pc + 2) L' st h) : js_ok ρ M Q d kc ks pc L (.null :: st) h := by
  intro p l e R s m args below meth c H locs cells slots ls mc ms hC h1 h2 h3 h4 h5 h6 h7 h8 h9 h10
  exact lv_astoreN hC.1 hC.2.1 hd h6 hn hl (fun ls' h6 => nx hC h1 h2 h3 h4 h5 h6 h7 h8 h9 h10)
theorem js_iinc {i : Nat} {n a : Int} {L' : List (Nat × Value)} (j : Nat) (hd : decode (js_c M) pc = .ok (.iinc i n, 3)) (hj : L[j]? = some (i, .int (jI a))) (hn : i < js_n M) (hl : ((i, Value.int (jI (a + n))) :: L.filter (fun q => !(q.1 == i) && !(q.1 + 1 == i && q.2.category == 2))) = L') (nx : js_ok ρ M Q d kc ks (pc + 3) L' st h) : js_ok ρ M Q d kc ks pc L st h := by
  intro p l e R s m args below meth c H locs cells slots ls mc ms hC h1 h2 h3 h4 h5 h6 h7 h8 h9 h10
  exact lv_iinc hC.1 hC.2.1 hd h6 hj (jI_add a n) hn hl (fun ls' h6 => nx hC h1 h2 h3 h4 h5 h6 h7 h8 h9 h10)
theorem js_iadd {a b : Int} (hd : decode (js_c M) pc = .ok (.iadd, 1)) (nx : js_ok ρ M Q d kc ks (pc + 1) L (.int (jI (a + b)) :: st) h) : js_ok ρ M Q d kc ks pc L (.int (jI b) :: .int (jI a) :: st) h := by
  intro p l e R s m args below meth c H locs cells slots ls mc ms hC h1 h2 h3 h4 h5 h6 h7 h8 h9 h10
  exact lv_iadd hC.1 hC.2.1 hd (by rw [jI_add]; exact nx hC h1 h2 h3 h4 h5 h6 h7 h8 h9 h10)
theorem js_isub {a b : Int} (hd : decode (js_c M) pc = .ok (.isub, 1)) (nx : js_ok ρ M Q d kc ks (pc + 1) L (.int (jI (a - b)) :: st) h) : js_ok ρ M Q d kc ks pc L (.int (jI b) :: .int (jI a) :: st) h := by
  intro p l e R s m args below meth c H locs cells slots ls mc ms hC h1 h2 h3 h4 h5 h6 h7 h8 h9 h10
  exact lv_isub hC.1 hC.2.1 hd (by rw [jI_sub]; exact nx hC h1 h2 h3 h4 h5 h6 h7 h8 h9 h10)
theorem js_imul {a b : Int} (hd : decode (js_c M) pc = .ok (.imul, 1)) (nx : js_ok ρ M Q d kc ks (pc + 1) L (.int (jI (a * b)) :: st) h) : js_ok ρ M Q d kc ks pc L (.int (jI b) :: .int (jI a) :: st) h := by
  intro p l e R s m args below meth c H locs cells slots ls mc ms hC h1 h2 h3 h4 h5 h6 h7 h8 h9 h10
  exact lv_imul hC.1 hC.2.1 hd (by rw [jI_mul]; exact nx hC h1 h2 h3 h4 h5 h6 h7 h8 h9 h10)
theorem js_idiv {a b : Int} (hd : decode (js_c M) pc = .ok (.idiv, 1)) (hr : 0 ≤ a ∧ a < 2147483648 ∧ 0 < b ∧ b < 2147483648) (nx : js_ok ρ M Q d kc ks (pc + 1) L (.int (jI (a / b)) :: st) h) : js_ok ρ M Q d kc ks pc L (.int (jI b) :: .int (jI a) :: st) h := by
  intro p l e R s m args below meth c H locs cells slots ls mc ms hC h1 h2 h3 h4 h5 h6 h7 h8 h9 h10
  exact lv_idiv hC.1 hC.2.1 hd (by rw [show (0 : Int32) = jI 0 from rfl, jI_eq (by omega)]; omega) (by rw [jI_div hr.1 hr.2.1 hr.2.2.1 hr.2.2.2]; exact nx hC h1 h2 h3 h4 h5 h6 h7 h8 h9 h10)
theorem js_irem {a b : Int} (hd : decode (js_c M) pc = .ok (.irem, 1)) (hr : 0 ≤ a ∧ a < 2147483648 ∧ 0 < b ∧ b < 2147483648) (nx : js_ok ρ M Q d kc ks (pc + 1) L (.int (jI (a % b)) :: st) h) : js_ok ρ M Q d kc ks pc L (.int (jI b) :: .int (jI a) :: st) h := by
  intro p l e R s m args below meth c H locs cells slots ls mc ms hC h1 h2 h3 h4 h5 h6 h7 h8 h9 h10
  exact lv_irem hC.1 hC.2.1 hd (by rw [show (0 : Int32) = jI 0 from rfl, jI_eq (by omega)]; omega) (by rw [jI_rem hr.1 hr.2.1 hr.2.2.1 hr.2.2.2]; exact nx hC h1 h2 h3 h4 h5 h6 h7 h8 h9 h10)
theorem js_ineg {a : Int} (hd : decode (js_c M) pc = .ok (.ineg, 1)) (nx : js_ok ρ M Q d kc ks (pc + 1) L (.int (jI (-a)) :: st) h) : js_ok ρ M Q d kc ks pc L (.int (jI a) :: st) h := by
  intro p l e R s m args below meth c H locs cells slots ls mc ms hC h1 h2 h3 h4 h5 h6 h7 h8 h9 h10
  exact lv_ineg hC.1 hC.2.1 hd (by rw [jI_neg]; exact nx hC h1 h2 h3 h4 h5 h6 h7 h8 h9 h10)
theorem js_iand {x y : Int32} (hd : decode (js_c M) pc = .ok (.iand, 1)) (nx : js_ok ρ M Q d kc ks (pc + 1) L (.int (x &&& y) :: st) h) : js_ok ρ M Q d kc ks pc L (.int y :: .int x :: st) h := by
  intro p l e R s m args below meth c H locs cells slots ls mc ms hC h1 h2 h3 h4 h5 h6 h7 h8 h9 h10
  exact lv_iand hC.1 hC.2.1 hd (nx hC h1 h2 h3 h4 h5 h6 h7 h8 h9 h10)
theorem js_ior {x y : Int32} (hd : decode (js_c M) pc = .ok (.ior, 1)) (nx : js_ok ρ M Q d kc ks (pc + 1) L (.int (x ||| y) :: st) h) : js_ok ρ M Q d kc ks pc L (.int y :: .int x :: st) h := by
  intro p l e R s m args below meth c H locs cells slots ls mc ms hC h1 h2 h3 h4 h5 h6 h7 h8 h9 h10
  exact lv_ior hC.1 hC.2.1 hd (nx hC h1 h2 h3 h4 h5 h6 h7 h8 h9 h10)
theorem js_ixor {x y : Int32} (hd : decode (js_c M) pc = .ok (.ixor, 1)) (nx : js_ok ρ M Q d kc ks (pc + 1) L (.int (x ^^^ y) :: st) h) : js_ok ρ M Q d kc ks pc L (.int y :: .int x :: st) h := by
  intro p l e R s m args below meth c H locs cells slots ls mc ms hC h1 h2 h3 h4 h5 h6 h7 h8 h9 h10
  exact lv_ixor hC.1 hC.2.1 hd (nx hC h1 h2 h3 h4 h5 h6 h7 h8 h9 h10)
theorem js_ishl {x y : Int32} (hd : decode (js_c M) pc = .ok (.ishl, 1)) (nx : js_ok ρ M Q d kc ks (pc + 1) L (.int (x <<< (y &&& 31)) :: st) h) : js_ok ρ M Q d kc ks pc L (.int y :: .int x :: st) h := by
  intro p l e R s m args below meth c H locs cells slots ls mc ms hC h1 h2 h3 h4 h5 h6 h7 h8 h9 h10
  exact lv_ishl hC.1 hC.2.1 hd (nx hC h1 h2 h3 h4 h5 h6 h7 h8 h9 h10)
theorem js_ishr {x y : Int32} (hd : decode (js_c M) pc = .ok (.ishr, 1)) (nx : js_ok ρ M Q d kc ks (pc + 1) L (.int (x >>> (y &&& 31)) :: st) h) : js_ok ρ M Q d kc ks pc L (.int y :: .int x :: st) h := by
  intro p l e R s m args below meth c H locs cells slots ls mc ms hC h1 h2 h3 h4 h5 h6 h7 h8 h9 h10
  exact lv_ishr hC.1 hC.2.1 hd (nx hC h1 h2 h3 h4 h5 h6 h7 h8 h9 h10)
theorem js_iushr {x y : Int32} (hd : decode (js_c M) pc = .ok (.iushr, 1)) (nx : js_ok ρ M Q d kc ks (pc + 1) L (.int (x.toUInt32 >>> (y.toUInt32 &&& Int32.toUInt32 31)).toInt32 :: st) h) : js_ok ρ M Q d kc ks pc L (.int y :: .int x :: st) h := by
  intro p l e R s m args below meth c H locs cells slots ls mc ms hC h1 h2 h3 h4 h5 h6 h7 h8 h9 h10
  exact lv_iushr hC.1 hC.2.1 hd rfl (nx hC h1 h2 h3 h4 h5 h6 h7 h8 h9 h10)
theorem js_i2l {x : Int32} (hd : decode (js_c M) pc = .ok (.i2l, 1)) (nx : js_ok ρ M Q d kc ks (pc + 1) L (.long x.toInt64 :: st) h) : js_ok ρ M Q d kc ks pc L (.int x :: st) h := by
  intro p l e R s m args below meth c H locs cells slots ls mc ms hC h1 h2 h3 h4 h5 h6 h7 h8 h9 h10
  exact lv_i2l hC.1 hC.2.1 hd rfl (nx hC h1 h2 h3 h4 h5 h6 h7 h8 h9 h10)
theorem js_l2i {x : Int64} (hd : decode (js_c M) pc = .ok (.l2i, 1)) (nx : js_ok ρ M Q d kc ks (pc + 1) L (.int x.toInt32 :: st) h) : js_ok ρ M Q d kc ks pc L (.long x :: st) h := by
  intro p l e R s m args below meth c H locs cells slots ls mc ms hC h1 h2 h3 h4 h5 h6 h7 h8 h9 h10
  exact lv_l2i hC.1 hC.2.1 hd rfl (nx hC h1 h2 h3 h4 h5 h6 h7 h8 h9 h10)
theorem js_i2b {x v : Int32} (hd : decode (js_c M) pc = .ok (.i2b, 1)) (hv : x.toInt8.toInt32 = v) (nx : js_ok ρ M Q d kc ks (pc + 1) L (.int v :: st) h) : js_ok ρ M Q d kc ks pc L (.int x :: st) h := by
  intro p l e R s m args below meth c H locs cells slots ls mc ms hC h1 h2 h3 h4 h5 h6 h7 h8 h9 h10
  exact lv_i2b hC.1 hC.2.1 hd hv (nx hC h1 h2 h3 h4 h5 h6 h7 h8 h9 h10)
theorem js_i2c {x v : Int32} (hd : decode (js_c M) pc = .ok (.i2c, 1)) (hv : (x.toUInt32 % 65536).toInt32 = v) (nx : js_ok ρ M Q d kc ks (pc + 1) L (.int v :: st) h) : js_ok ρ M Q d kc ks pc L (.int x :: st) h := by
  intro p l e R s m args below meth c H locs cells slots ls mc ms hC h1 h2 h3 h4 h5 h6 h7 h8 h9 h10
  exact lv_i2c hC.1 hC.2.1 hd hv (nx hC h1 h2 h3 h4 h5 h6 h7 h8 h9 h10)
theorem js_i2f {x : Int32} (hd : decode (js_c M) pc = .ok (.i2f, 1)) (nx : js_ok ρ M Q d kc ks (pc + 1) L (.float (FP.i2f x) :: st) h) : js_ok ρ M Q d kc ks pc L (.int x :: st) h := by
  intro p l e R s m args below meth c H locs cells slots ls mc ms hC h1 h2 h3 h4 h5 h6 h7 h8 h9 h10
  exact lv_i2f hC.1 hC.2.1 hd (nx hC h1 h2 h3 h4 h5 h6 h7 h8 h9 h10)
theorem js_i2d {x : Int32} (hd : decode (js_c M) pc = .ok (.i2d, 1)) (nx : js_ok ρ M Q d kc ks (pc + 1) L (.double (FP.i2d x) :: st) h) : js_ok ρ M Q d kc ks pc L (.int x :: st) h := by
  intro p l e R s m args below meth c H locs cells slots ls mc ms hC h1 h2 h3 h4 h5 h6 h7 h8 h9 h10
  exact lv_i2d hC.1 hC.2.1 hd (nx hC h1 h2 h3 h4 h5 h6 h7 h8 h9 h10)
theorem js_f2d {x : UInt32} (hd : decode (js_c M) pc = .ok (.f2d, 1)) (hne : vf_n64 (FP.f2d x)) (nx : js_ok ρ M Q d kc ks (pc + 1) L (.double (FP.f2d x) :: st) h) : js_ok ρ M Q d kc ks pc L (.float x :: st) h := by
  intro p l e R s m args below meth c H locs cells slots ls mc ms hC h1 h2 h3 h4 h5 h6 h7 h8 h9 h10
  exact lv_f2d hC.1 hC.2.1 hd hne (nx hC h1 h2 h3 h4 h5 h6 h7 h8 h9 h10)
theorem js_fdiv {x y : UInt32} (hd : decode (js_c M) pc = .ok (.fdiv, 1)) (hne : vf_n32 (FP.fdiv x y)) (nx : js_ok ρ M Q d kc ks (pc + 1) L (.float (FP.fdiv x y) :: st) h) : js_ok ρ M Q d kc ks pc L (.float y :: .float x :: st) h := by
  intro p l e R s m args below meth c H locs cells slots ls mc ms hC h1 h2 h3 h4 h5 h6 h7 h8 h9 h10
  exact lv_fdiv hC.1 hC.2.1 hd hne (nx hC h1 h2 h3 h4 h5 h6 h7 h8 h9 h10)
theorem js_ddiv {x y : UInt64} (hd : decode (js_c M) pc = .ok (.ddiv, 1)) (hne : vf_n64 (FP.ddiv x y)) (nx : js_ok ρ M Q d kc ks (pc + 1) L (.double (FP.ddiv x y) :: st) h) : js_ok ρ M Q d kc ks pc L (.double y :: .double x :: st) h := by
  intro p l e R s m args below meth c H locs cells slots ls mc ms hC h1 h2 h3 h4 h5 h6 h7 h8 h9 h10
  exact lv_ddiv hC.1 hC.2.1 hd hne (nx hC h1 h2 h3 h4 h5 h6 h7 h8 h9 h10)
theorem js_fcmp {x y : UInt32} {op : CmpOp} (hd : decode (js_c M) pc = .ok (.fcmp op, 1)) (nx : js_ok ρ M Q d kc ks (pc + 1) L (.int (Op.cmpValue (FP.fcmp x y) op) :: st) h) : js_ok ρ M Q d kc ks pc L (.float y :: .float x :: st) h := by
  intro p l e R s m args below meth c H locs cells slots ls mc ms hC h1 h2 h3 h4 h5 h6 h7 h8 h9 h10
  exact lv_fcmp hC.1 hC.2.1 hd (nx hC h1 h2 h3 h4 h5 h6 h7 h8 h9 h10)
theorem js_dcmp {x y : UInt64} {op : CmpOp} (hd : decode (js_c M) pc = .ok (.dcmp op, 1)) (nx : js_ok ρ M Q d kc ks (pc + 1) L (.int (Op.cmpValue (FP.dcmp x y) op) :: st) h) : js_ok ρ M Q d kc ks pc L (.double y :: .double x :: st) h := by
  intro p l e R s m args below meth c H locs cells slots ls mc ms hC h1 h2 h3 h4 h5 h6 h7 h8 h9 h10
  exact lv_dcmp hC.1 hC.2.1 hd (nx hC h1 h2 h3 h4 h5 h6 h7 h8 h9 h10)
theorem js_lcmp {x y : Int64} (hd : decode (js_c M) pc = .ok (.lcmp, 1)) (nx : js_ok ρ M Q d kc ks (pc + 1) L (.int (lg_cmp x y) :: st) h) : js_ok ρ M Q d kc ks pc L (.long y :: .long x :: st) h := by
  intro p l e R s m args below meth c H locs cells slots ls mc ms hC h1 h2 h3 h4 h5 h6 h7 h8 h9 h10
  exact W.lcmp hC.1 hC.2.1 hd (nx hC h1 h2 h3 h4 h5 h6 h7 h8 h9 h10)
theorem js_dup {a : Value} (hd : decode (js_c M) pc = .ok (.dup, 1)) (c1 : a.category = 1) (nx : js_ok ρ M Q d kc ks (pc + 1) L (a :: a :: st) h) : js_ok ρ M Q d kc ks pc L (a :: st) h := by
  intro p l e R s m args below meth c H locs cells slots ls mc ms hC h1 h2 h3 h4 h5 h6 h7 h8 h9 h10
  exact lv_dup hC.1 hC.2.1 hd c1 (nx hC h1 h2 h3 h4 h5 h6 h7 h8 h9 h10)
theorem js_pop {a : Value} (hd : decode (js_c M) pc = .ok (.pop, 1)) (c1 : a.category = 1) (nx : js_ok ρ M Q d kc ks (pc + 1) L st h) : js_ok ρ M Q d kc ks pc L (a :: st) h := by
  intro p l e R s m args below meth c H locs cells slots ls mc ms hC h1 h2 h3 h4 h5 h6 h7 h8 h9 h10
  exact lv_pop hC.1 hC.2.1 hd c1 (nx hC h1 h2 h3 h4 h5 h6 h7 h8 h9 h10)
theorem js_dup_x1 {a b : Value} (hd : decode (js_c M) pc = .ok (.dup_x1, 1)) (c1 : a.category = 1) (c2 : b.category = 1) (nx : js_ok ρ M Q d kc ks (pc + 1) L (a :: b :: a :: st) h) : js_ok ρ M Q d kc ks pc L (a :: b :: st) h := by
  intro p l e R s m args below meth c H locs cells slots ls mc ms hC h1 h2 h3 h4 h5 h6 h7 h8 h9 h10
  exact lv_dup_x1 hC.1 hC.2.1 hd c1 c2 (nx hC h1 h2 h3 h4 h5 h6 h7 h8 h9 h10)
theorem js_dup_x2 {a b v : Value} (hd : decode (js_c M) pc = .ok (.dup_x2, 1)) (c1 : a.category = 1) (c2 : b.category = 1) (c3 : v.category = 1) (nx : js_ok ρ M Q d kc ks (pc + 1) L (a :: b :: v :: a :: st) h) : js_ok ρ M Q d kc ks pc L (a :: b :: v :: st) h := by
  intro p l e R s m args below meth c H locs cells slots ls mc ms hC h1 h2 h3 h4 h5 h6 h7 h8 h9 h10
  exact lv_dup_x2 hC.1 hC.2.1 hd c1 c2 c3 (nx hC h1 h2 h3 h4 h5 h6 h7 h8 h9 h10)
theorem js_dup2 {a b : Value} (hd : decode (js_c M) pc = .ok (.dup2, 1)) (c1 : a.category = 1) (c2 : b.category = 1) (nx : js_ok ρ M Q d kc ks (pc + 1) L (a :: b :: a :: b :: st) h) : js_ok ρ M Q d kc ks pc L (a :: b :: st) h := by
  intro p l e R s m args below meth c H locs cells slots ls mc ms hC h1 h2 h3 h4 h5 h6 h7 h8 h9 h10
  exact lv_dup2_11 hC.1 hC.2.1 hd c1 c2 (nx hC h1 h2 h3 h4 h5 h6 h7 h8 h9 h10)
theorem js_goto {off : Int} {tgt : Nat} (hd : decode (js_c M) pc = .ok (.goto off, 3)) (ht : (pc : Int) + off = (tgt : Int)) (nx : js_ok ρ M Q d kc ks tgt L st h) : js_ok ρ M Q d kc ks pc L st h := by
  intro p l e R s m args below meth c H locs cells slots ls mc ms hC h1 h2 h3 h4 h5 h6 h7 h8 h9 h10
  exact lv_goto hC.1 hC.2.1 hd ht (nx hC h1 h2 h3 h4 h5 h6 h7 h8 h9 h10)
theorem js_icmp_eq {a b off : Int} {tgt : Nat} (hd : decode (js_c M) pc = .ok (.if_icmp .eq off, 3)) (ht : (pc : Int) + off = (tgt : Int)) (hr : -2147483648 ≤ a ∧ a < 2147483648 ∧ -2147483648 ≤ b ∧ b < 2147483648) (kt : a = b → js_ok ρ M Q d kc ks tgt L st h) (kf : ¬ a = b → js_ok ρ M Q d kc ks (pc + 3) L st h) : js_ok ρ M Q d kc ks pc L (.int (jI b) :: .int (jI a) :: st) h := by
  intro p l e R s m args below meth c H locs cells slots ls mc ms hC h1 h2 h3 h4 h5 h6 h7 h8 h9 h10
  exact lv_icmp_eq hC.1 hC.2.1 hd ht (fun q => kt ((jI_eq hr).1 q) hC h1 h2 h3 h4 h5 h6 h7 h8 h9 h10) (fun q => kf (fun z => q ((jI_eq hr).2 z)) hC h1 h2 h3 h4 h5 h6 h7 h8 h9 h10)
theorem js_if_eq {a off : Int} {tgt : Nat} (hd : decode (js_c M) pc = .ok (.ifCond .eq off, 3)) (ht : (pc : Int) + off = (tgt : Int)) (hr : -2147483648 ≤ a ∧ a < 2147483648) (kt : a = 0 → js_ok ρ M Q d kc ks tgt L st h) (kf : ¬ a = 0 → js_ok ρ M Q d kc ks (pc + 3) L st h) : js_ok ρ M Q d kc ks pc L (.int (jI a) :: st) h := by
  intro p l e R s m args below meth c H locs cells slots ls mc ms hC h1 h2 h3 h4 h5 h6 h7 h8 h9 h10
  exact lv_if_eq hC.1 hC.2.1 hd ht (fun q => kt ((jI_eq (a := a) (b := 0) (by omega)).1 q) hC h1 h2 h3 h4 h5 h6 h7 h8 h9 h10) (fun q => kf (fun z => q ((jI_eq (a := a) (b := 0) (by omega)).2 z)) hC h1 h2 h3 h4 h5 h6 h7 h8 h9 h10)
theorem js_if_eqR {x : Int32} {off : Int} {tgt : Nat} (hd : decode (js_c M) pc = .ok (.ifCond .eq off, 3)) (ht : (pc : Int) + off = (tgt : Int)) (kt : x = 0 → js_ok ρ M Q d kc ks tgt L st h) (kf : ¬ x = 0 → js_ok ρ M Q d kc ks (pc + 3) L st h) : js_ok ρ M Q d kc ks pc L (.int x :: st) h := by
  intro p l e R s m args below meth c H locs cells slots ls mc ms hC h1 h2 h3 h4 h5 h6 h7 h8 h9 h10
  exact lv_if_eq hC.1 hC.2.1 hd ht (fun q => kt q hC h1 h2 h3 h4 h5 h6 h7 h8 h9 h10) (fun q => kf q hC h1 h2 h3 h4 h5 h6 h7 h8 h9 h10)
theorem js_icmp_ne {a b off : Int} {tgt : Nat} (hd : decode (js_c M) pc = .ok (.if_icmp .ne off, 3)) (ht : (pc : Int) + off = (tgt : Int)) (hr : -2147483648 ≤ a ∧ a < 2147483648 ∧ -2147483648 ≤ b ∧ b < 2147483648) (kt : ¬ a = b → js_ok ρ M Q d kc ks tgt L st h) (kf : a = b → js_ok ρ M Q d kc ks (pc + 3) L st h) : js_ok ρ M Q d kc ks pc L (.int (jI b) :: .int (jI a) :: st) h := by
  intro p l e R s m args below meth c H locs cells slots ls mc ms hC h1 h2 h3 h4 h5 h6 h7 h8 h9 h10
  exact lv_icmp_ne hC.1 hC.2.1 hd ht (fun q => kt (fun z => q ((jI_eq hr).2 z)) hC h1 h2 h3 h4 h5 h6 h7 h8 h9 h10) (fun q => kf ((jI_eq hr).1 q) hC h1 h2 h3 h4 h5 h6 h7 h8 h9 h10)
theorem js_if_ne {a off : Int} {tgt : Nat} (hd : decode (js_c M) pc = .ok (.ifCond .ne off, 3)) (ht : (pc : Int) + off = (tgt : Int)) (hr : -2147483648 ≤ a ∧ a < 2147483648) (kt : ¬ a = 0 → js_ok ρ M Q d kc ks tgt L st h) (kf : a = 0 → js_ok ρ M Q d kc ks (pc + 3) L st h) : js_ok ρ M Q d kc ks pc L (.int (jI a) :: st) h := by
  intro p l e R s m args below meth c H locs cells slots ls mc ms hC h1 h2 h3 h4 h5 h6 h7 h8 h9 h10
  exact lv_if_ne hC.1 hC.2.1 hd ht (fun q => kt (fun z => q ((jI_eq (a := a) (b := 0) (by omega)).2 z)) hC h1 h2 h3 h4 h5 h6 h7 h8 h9 h10) (fun q => kf ((jI_eq (a := a) (b := 0) (by omega)).1 q) hC h1 h2 h3 h4 h5 h6 h7 h8 h9 h10)
theorem js_if_neR {x : Int32} {off : Int} {tgt : Nat} (hd : decode (js_c M) pc = .ok (.ifCond .ne off, 3)) (ht : (pc : Int) + off = (tgt : Int)) (kt : ¬ x = 0 → js_ok ρ M Q d kc ks tgt L st h) (kf : x = 0 → js_ok ρ M Q d kc ks (pc + 3) L st h) : js_ok ρ M Q d kc ks pc L (.int x :: st) h := by
  intro p l e R s m args below meth c H locs cells slots ls mc ms hC h1 h2 h3 h4 h5 h6 h7 h8 h9 h10
  exact lv_if_ne hC.1 hC.2.1 hd ht (fun q => kt q hC h1 h2 h3 h4 h5 h6 h7 h8 h9 h10) (fun q => kf q hC h1 h2 h3 h4 h5 h6 h7 h8 h9 h10)
theorem js_icmp_lt {a b off : Int} {tgt : Nat} (hd : decode (js_c M) pc = .ok (.if_icmp .lt off, 3)) (ht : (pc : Int) + off = (tgt : Int)) (hr : -2147483648 ≤ a ∧ a < 2147483648 ∧ -2147483648 ≤ b ∧ b < 2147483648) (kt : a < b → js_ok ρ M Q d kc ks tgt L st h) (kf : b ≤ a → js_ok ρ M Q d kc ks (pc + 3) L st h) : js_ok ρ M Q d kc ks pc L (.int (jI b) :: .int (jI a) :: st) h := by
  intro p l e R s m args below meth c H locs cells slots ls mc ms hC h1 h2 h3 h4 h5 h6 h7 h8 h9 h10
  exact lv_icmp_lt hC.1 hC.2.1 hd ht (fun q => kt ((jI_lt hr).1 q) hC h1 h2 h3 h4 h5 h6 h7 h8 h9 h10) (fun q => kf (Int.not_lt.mp (fun z => q ((jI_lt hr).2 z))) hC h1 h2 h3 h4 h5 h6 h7 h8 h9 h10)
theorem js_if_lt {a off : Int} {tgt : Nat} (hd : decode (js_c M) pc = .ok (.ifCond .lt off, 3)) (ht : (pc : Int) + off = (tgt : Int)) (hr : -2147483648 ≤ a ∧ a < 2147483648) (kt : a < 0 → js_ok ρ M Q d kc ks tgt L st h) (kf : 0 ≤ a → js_ok ρ M Q d kc ks (pc + 3) L st h) : js_ok ρ M Q d kc ks pc L (.int (jI a) :: st) h := by
  intro p l e R s m args below meth c H locs cells slots ls mc ms hC h1 h2 h3 h4 h5 h6 h7 h8 h9 h10
  exact lv_if_lt hC.1 hC.2.1 hd ht (fun q => kt ((jI_lt (a := a) (b := 0) (by omega)).1 q) hC h1 h2 h3 h4 h5 h6 h7 h8 h9 h10) (fun q => kf (Int.not_lt.mp (fun z => q ((jI_lt (a := a) (b := 0) (by omega)).2 z))) hC h1 h2 h3 h4 h5 h6 h7 h8 h9 h10)
theorem js_icmp_ge {a b off : Int} {tgt : Nat} (hd : decode (js_c M) pc = .ok (.if_icmp .ge off, 3)) (ht : (pc : Int) + off = (tgt : Int)) (hr : -2147483648 ≤ a ∧ a < 2147483648 ∧ -2147483648 ≤ b ∧ b < 2147483648) (kt : b ≤ a → js_ok ρ M Q d kc ks tgt L st h) (kf : a < b → js_ok ρ M Q d kc ks (pc + 3) L st h) : js_ok ρ M Q d kc ks pc L (.int (jI b) :: .int (jI a) :: st) h := by
  intro p l e R s m args below meth c H locs cells slots ls mc ms hC h1 h2 h3 h4 h5 h6 h7 h8 h9 h10
  exact lv_icmp_ge hC.1 hC.2.1 hd ht (fun q => kt ((jI_le (a := b) (b := a) (by omega)).1 q) hC h1 h2 h3 h4 h5 h6 h7 h8 h9 h10) (fun q => kf (Int.not_le.mp (fun z => q ((jI_le (a := b) (b := a) (by omega)).2 z))) hC h1 h2 h3 h4 h5 h6 h7 h8 h9 h10)
theorem js_if_ge {a off : Int} {tgt : Nat} (hd : decode (js_c M) pc = .ok (.ifCond .ge off, 3)) (ht : (pc : Int) + off = (tgt : Int)) (hr : -2147483648 ≤ a ∧ a < 2147483648) (kt : 0 ≤ a → js_ok ρ M Q d kc ks tgt L st h) (kf : a < 0 → js_ok ρ M Q d kc ks (pc + 3) L st h) : js_ok ρ M Q d kc ks pc L (.int (jI a) :: st) h := by
  intro p l e R s m args below meth c H locs cells slots ls mc ms hC h1 h2 h3 h4 h5 h6 h7 h8 h9 h10
  exact lv_if_ge hC.1 hC.2.1 hd ht (fun q => kt ((jI_le (a := 0) (b := a) (by omega)).1 q) hC h1 h2 h3 h4 h5 h6 h7 h8 h9 h10) (fun q => kf (Int.not_le.mp (fun z => q ((jI_le (a := 0) (b := a) (by omega)).2 z))) hC h1 h2 h3 h4 h5 h6 h7 h8 h9 h10)
theorem js_icmp_gt {a b off : Int} {tgt : Nat} (hd : decode (js_c M) pc = .ok (.if_icmp .gt off, 3)) (ht : (pc : Int) + off = (tgt : Int)) (hr : -2147483648 ≤ a ∧ a < 2147483648 ∧ -2147483648 ≤ b ∧ b < 2147483648) (kt : b < a → js_ok ρ M Q d kc ks tgt L st h) (kf : a ≤ b → js_ok ρ M Q d kc ks (pc + 3) L st h) : js_ok ρ M Q d kc ks pc L (.int (jI b) :: .int (jI a) :: st) h := by
  intro p l e R s m args below meth c H locs cells slots ls mc ms hC h1 h2 h3 h4 h5 h6 h7 h8 h9 h10
  exact lv_icmp_gt hC.1 hC.2.1 hd ht (fun q => kt ((jI_lt (a := b) (b := a) (by omega)).1 q) hC h1 h2 h3 h4 h5 h6 h7 h8 h9 h10) (fun q => kf (Int.not_lt.mp (fun z => q ((jI_lt (a := b) (b := a) (by omega)).2 z))) hC h1 h2 h3 h4 h5 h6 h7 h8 h9 h10)
theorem js_if_gt {a off : Int} {tgt : Nat} (hd : decode (js_c M) pc = .ok (.ifCond .gt off, 3)) (ht : (pc : Int) + off = (tgt : Int)) (hr : -2147483648 ≤ a ∧ a < 2147483648) (kt : 0 < a → js_ok ρ M Q d kc ks tgt L st h) (kf : a ≤ 0 → js_ok ρ M Q d kc ks (pc + 3) L st h) : js_ok ρ M Q d kc ks pc L (.int (jI a) :: st) h := by
  intro p l e R s m args below meth c H locs cells slots ls mc ms hC h1 h2 h3 h4 h5 h6 h7 h8 h9 h10
  exact lv_if_gt hC.1 hC.2.1 hd ht (fun q => kt ((jI_lt (a := 0) (b := a) (by omega)).1 q) hC h1 h2 h3 h4 h5 h6 h7 h8 h9 h10) (fun q => kf (Int.not_lt.mp (fun z => q ((jI_lt (a := 0) (b := a) (by omega)).2 z))) hC h1 h2 h3 h4 h5 h6 h7 h8 h9 h10)
theorem js_icmp_le {a b off : Int} {tgt : Nat} (hd : decode (js_c M) pc = .ok (.if_icmp .le off, 3)) (ht : (pc : Int) + off = (tgt : Int)) (hr : -2147483648 ≤ a ∧ a < 2147483648 ∧ -2147483648 ≤ b ∧ b < 2147483648) (kt : a ≤ b → js_ok ρ M Q d kc ks tgt L st h) (kf : b < a → js_ok ρ M Q d kc ks (pc + 3) L st h) : js_ok ρ M Q d kc ks pc L (.int (jI b) :: .int (jI a) :: st) h := by
  intro p l e R s m args below meth c H locs cells slots ls mc ms hC h1 h2 h3 h4 h5 h6 h7 h8 h9 h10
  exact lv_icmp_le hC.1 hC.2.1 hd ht (fun q => kt ((jI_le hr).1 q) hC h1 h2 h3 h4 h5 h6 h7 h8 h9 h10) (fun q => kf (Int.not_le.mp (fun z => q ((jI_le hr).2 z))) hC h1 h2 h3 h4 h5 h6 h7 h8 h9 h10)
theorem js_if_le {a off : Int} {tgt : Nat} (hd : decode (js_c M) pc = .ok (.ifCond .le off, 3)) (ht : (pc : Int) + off = (tgt : Int)) (hr : -2147483648 ≤ a ∧ a < 2147483648) (kt : a ≤ 0 → js_ok ρ M Q d kc ks tgt L st h) (kf : 0 < a → js_ok ρ M Q d kc ks (pc + 3) L st h) : js_ok ρ M Q d kc ks pc L (.int (jI a) :: st) h := by
  intro p l e R s m args below meth c H locs cells slots ls mc ms hC h1 h2 h3 h4 h5 h6 h7 h8 h9 h10
  exact lv_if_le hC.1 hC.2.1 hd ht (fun q => kt ((jI_le (a := a) (b := 0) (by omega)).1 q) hC h1 h2 h3 h4 h5 h6 h7 h8 h9 h10) (fun q => kf (Int.not_le.mp (fun z => q ((jI_le (a := a) (b := 0) (by omega)).2 z))) hC h1 h2 h3 h4 h5 h6 h7 h8 h9 h10)
theorem js_ifnull {x : Nat} {off : Int} (hd : decode (js_c M) pc = .ok (.ifnull off, 3)) (nx : js_ok ρ M Q d kc ks (pc + 3) L st h) : js_ok ρ M Q d kc ks pc L (.ref x :: st) h := by
  intro p l e R s m args below meth c H locs cells slots ls mc ms hC h1 h2 h3 h4 h5 h6 h7 h8 h9 h10
  exact lv_ifnull hC.1 hC.2.1 hd (nx hC h1 h2 h3 h4 h5 h6 h7 h8 h9 h10)
theorem js_ifnullN {off : Int} {tgt : Nat} (hd : decode (js_c M) pc = .ok (.ifnull off, 3)) (ht : (pc : Int) + off = (tgt : Int)) (nx : js_ok ρ M Q d kc ks tgt L st h) : js_ok ρ M Q d kc ks pc L (.null :: st) h := by
  intro p l e R s m args below meth c H locs cells slots ls mc ms hC h1 h2 h3 h4 h5 h6 h7 h8 h9 h10
  exact lv_ifnullN hC.1 hC.2.1 hd ht (nx hC h1 h2 h3 h4 h5 h6 h7 h8 h9 h10)
theorem js_ifnonnull {x : Nat} {off : Int} {tgt : Nat} (hd : decode (js_c M) pc = .ok (.ifnonnull off, 3)) (ht : (pc : Int) + off = (tgt : Int)) (nx : js_ok ρ M Q d kc ks tgt L st h) : js_ok ρ M Q d kc ks pc L (.ref x :: st) h := by
  intro p l e R s m args below meth c H locs cells slots ls mc ms hC h1 h2 h3 h4 h5 h6 h7 h8 h9 h10
  exact lv_ifnonnull hC.1 hC.2.1 hd ht (nx hC h1 h2 h3 h4 h5 h6 h7 h8 h9 h10)
theorem js_ifnonnullN {off : Int} (hd : decode (js_c M) pc = .ok (.ifnonnull off, 3)) (nx : js_ok ρ M Q d kc ks (pc + 3) L st h) : js_ok ρ M Q d kc ks pc L (.null :: st) h := by
  intro p l e R s m args below meth c H locs cells slots ls mc ms hC h1 h2 h3 h4 h5 h6 h7 h8 h9 h10
  exact lv_ifnonnullN hC.1 hC.2.1 hd (nx hC h1 h2 h3 h4 h5 h6 h7 h8 h9 h10)
theorem js_acmp_eq {rx ry : Option Nat} {off : Int} {tgt : Nat} (hd : decode (js_c M) pc = .ok (.if_acmp .eq off, 3)) (ht : (pc : Int) + off = (tgt : Int)) (kt : rx = ry → js_ok ρ M Q d kc ks tgt L st h) (kf : ¬ rx = ry → js_ok ρ M Q d kc ks (pc + 3) L st h) : js_ok ρ M Q d kc ks pc L (va_rf ry :: va_rf rx :: st) h := by
  intro p l e R s m args below meth c H locs cells slots ls mc ms hC h1 h2 h3 h4 h5 h6 h7 h8 h9 h10
  exact lv_acmp_eq hC.1 hC.2.1 hd ht (fun q => kt q hC h1 h2 h3 h4 h5 h6 h7 h8 h9 h10) (fun q => kf q hC h1 h2 h3 h4 h5 h6 h7 h8 h9 h10)
theorem js_acmp_ne {rx ry : Option Nat} {off : Int} {tgt : Nat} (hd : decode (js_c M) pc = .ok (.if_acmp .ne off, 3)) (ht : (pc : Int) + off = (tgt : Int)) (kt : ¬ rx = ry → js_ok ρ M Q d kc ks tgt L st h) (kf : rx = ry → js_ok ρ M Q d kc ks (pc + 3) L st h) : js_ok ρ M Q d kc ks pc L (va_rf ry :: va_rf rx :: st) h := by
  intro p l e R s m args below meth c H locs cells slots ls mc ms hC h1 h2 h3 h4 h5 h6 h7 h8 h9 h10
  exact lv_acmp_ne hC.1 hC.2.1 hd ht (fun q => kt q hC h1 h2 h3 h4 h5 h6 h7 h8 h9 h10) (fun q => kf q hC h1 h2 h3 h4 h5 h6 h7 h8 h9 h10)
theorem js_lookup {dflt off : Int} {ps : Array (Int × Int)} {len tgt : Nat} {x : Int32} (hd : decode (js_c M) pc = .ok (.lookupswitch dflt ps, len)) (hp : (ps.toList.zip (ps.toList.drop 1)).all (fun (a, next) => a.1 < next.1) = true) (ho : Op.lookupswitch.offset ps.toList dflt x.toInt = off) (ht : (pc : Int) + off = (tgt : Int)) (nx : js_ok ρ M Q d kc ks tgt L st h) : js_ok ρ M Q d kc ks pc L (.int x :: st) h := by
  intro p l e R s m args below meth c H locs cells slots ls mc ms hC h1 h2 h3 h4 h5 h6 h7 h8 h9 h10
  exact lv_lookup hC.1 hC.2.1 hd hp ho ht (nx hC h1 h2 h3 h4 h5 h6 h7 h8 h9 h10)
theorem js_tableOut {dflt lo hi a : Int} {offs : Array Int} {len tgt : Nat} (hd : decode (js_c M) pc = .ok (.tableswitch dflt lo hi offs, len)) (hr : -2147483648 ≤ a ∧ a < 2147483648) (ho : a < lo ∨ hi < a) (ht : (pc : Int) + dflt = (tgt : Int)) (nx : js_ok ρ M Q d kc ks tgt L st h) : js_ok ρ M Q d kc ks pc L (.int (jI a) :: st) h := by
  intro p l e R s m args below meth c H locs cells slots ls mc ms hC h1 h2 h3 h4 h5 h6 h7 h8 h9 h10
  exact lv_tableOut hC.1 hC.2.1 hd (by rw [jI_toInt hr.1 hr.2]; exact ho) ht (nx hC h1 h2 h3 h4 h5 h6 h7 h8 h9 h10)
theorem js_tableIn {dflt lo hi a off : Int} {offs : Array Int} {len tgt : Nat} (hd : decode (js_c M) pc = .ok (.tableswitch dflt lo hi offs, len)) (hr : -2147483648 ≤ a ∧ a < 2147483648) (h1 : lo ≤ a) (h2 : a ≤ hi) (ho : offs[(a - lo).toNat]? = some off) (ht : (pc : Int) + off = (tgt : Int)) (nx : js_ok ρ M Q d kc ks tgt L st h) : js_ok ρ M Q d kc ks pc L (.int (jI a) :: st) h := by
  intro p l e R s m args below meth c H locs cells slots ls mc ms hC h1' h2' h3 h4 h5 h6 h7 h8 h9 h10
  exact lv_tableIn hC.1 hC.2.1 hd (by rw [jI_toInt hr.1 hr.2]; omega) (by rw [jI_toInt hr.1 hr.2]; omega) (by rw [jI_toInt hr.1 hr.2]; exact ho) ht (nx hC h1' h2' h3 h4 h5 h6 h7 h8 h9 h10)
end
theorem js_nar_boolean {v : Int} (hv : v = 0 ∨ v = 1) : narrow .boolean (.int (jI v)) = .int (jI v) := by
  rcases hv with rfl | rfl <;> rfl
theorem js_nar_byte {v : Int} (hv : -128 ≤ v ∧ v < 128) : narrow .byte (.int (jI v)) = .int (jI v) := by
  show Value.int (jI v).toInt8.toInt32 = _
  congr 1
  apply Int32.toInt_inj.mp
  rw [Int8.toInt_toInt32, Int32.toInt_toInt8, jI_toInt (by omega) (by omega)]
  exact Int.bmod_eq_of_le (by omega) (by omega)
theorem js_i2cE {v : Int} : ((jI v).toUInt32 % 65536).toInt32 = jI (v % 65536) := by
  rw [pk_char]
  show Int32.ofNat _ = _
  rw [jI_ofNat]
  congr 1
  have e : (jI v).toBitVec.toNat = (v % 4294967296).toNat := by
    show (BitVec.ofInt 32 v).toNat = _
    rw [BitVec.toNat_ofInt]
    rfl
  rw [e]
  omega
theorem js_i2c0 {v : Int} (hv : 0 ≤ v ∧ v < 65536) : ((jI v).toUInt32 % 65536).toInt32 = jI v := by
  rw [js_i2cE, Int.emod_eq_of_lt hv.1 hv.2]
theorem js_nar_char {v : Int} (hv : 0 ≤ v ∧ v < 65536) : narrow .char (.int (jI v)) = .int (jI v) := by
  have e := pk_nc (jI v)
  rw [js_i2c0 hv] at e
  exact e
theorem js_updV {g : Int → Int} {i v : Int} (h : 0 ≤ i) : updV (fun (j : Nat) => Value.int (jI (g (j : Int)))) i.toNat (.int (jI v)) = fun (j : Nat) => Value.int (jI (js_uz g i v (j : Int))) := by
  funext j
  unfold updV js_uz
  by_cases q : j = i.toNat
  · rw [if_pos q, if_pos (by omega)]
  · rw [if_neg q, if_neg (by omega)]
/-! the heap -/
section
variable {ρ : js_R} {M : js_M} {Q : js_Q} {d kc ks pc : Nat} {L : List (Nat × Value)} {st : List Value} {h : js_H}
theorem js_getf {C : String} {T : u_T} {N ci idx a : Nat} {w : Bool} {fs : List Value} {v : Value} (k : Nat) (hc : js_cl[ci]? = some (C, T, N)) (hin : ∀ w ∈ u_ws C T N, w ∈ lw_all) (hk : k < N) (hl : Cond.fieldLink (js_y M).cls idx (T k).1 (T k).2.1 (T k).2.2.1 ∈ lw_all) (hd : decode (js_c M) pc = .ok (.getfield idx, 3)) (hh : h a = some (js_ob w ci fs)) (hv : fs[k]? = some v) (nx : js_ok ρ M Q d kc ks (pc + 3) L (v :: st) h) : js_ok ρ M Q d kc ks pc L (.ref a :: st) h := by
  intro p l e R s m args below meth c H locs cells slots ls mc ms hC h1 h2 h3 h4 h5 h6 h7 h8 h9 h10
  obtain ⟨r, cell, q0, q1, q2, q3, q4, q5⟩ := js_rdO hC.2.2.2.2.2.2.2.2.1 h3 h4 h5 hh
  cases Option.some.inj (q0.symm.trans hc)
  obtain ⟨hS, hfc, kC, hkC, hkind⟩ := hC.2.2.2.2.2.2.2.2.1.1.1 ci _ hc
  obtain ⟨cf, kf, fi, f, hi, hsl⟩ := hS k hk
  refine W.getf hC.1 hC.2.1 hC.2.2.2.2.2.1 (hC.2.2.2.2.2.2.1 _ hl) hi (u_facts hfc hkC (u_lays hC.2.2.2.2.2.2.1 hin hk) hi).1 q1 q4 (v := v) ?_ rfl rfl hd (nx hC h1 h2 h3 h4 h5 h6 h7 h8 h9 h10)
  rw [hsl, q5 k hk]
  simp [vp_V, hv]
theorem js_getfS {C : String} {T : u_T} {N ci idx a : Nat} {w : Bool} {fs : List Value} {v : Value} (k : Nat) (hc : js_cl[ci]? = some (C, T, N)) (hin : ∀ w ∈ u_ws C T N, w ∈ lw_all) {ref : String} (hk : k < N) (hl : Cond.fieldLink (js_y M).cls idx ref (T k).2.1 (T k).2.2.1 ∈ lw_all) (hs : Cond.sameField ref (T k).1 (T k).2.1 (T k).2.2.1 ∈ lw_all) (hd : decode (js_c M) pc = .ok (.getfield idx, 3)) (hh : h a = some (js_ob w ci fs)) (hv : fs[k]? = some v) (nx : js_ok ρ M Q d kc ks (pc + 3) L (v :: st) h) : js_ok ρ M Q d kc ks pc L (.ref a :: st) h := by
  intro p l e R s m args below meth c H locs cells slots ls mc ms hC h1 h2 h3 h4 h5 h6 h7 h8 h9 h10
  obtain ⟨r, cell, q0, q1, q2, q3, q4, q5⟩ := js_rdO hC.2.2.2.2.2.2.2.2.1 h3 h4 h5 hh
  cases Option.some.inj (q0.symm.trans hc)
  obtain ⟨hS, hfc, kC, hkC, hkind⟩ := hC.2.2.2.2.2.2.2.2.1.1.1 ci _ hc
  obtain ⟨cf, kf, fi, f, hi, hsl⟩ := hS k hk
  refine W.getf hC.1 hC.2.1 hC.2.2.2.2.2.1 (hC.2.2.2.2.2.2.1 _ hl) (u_same (hC.2.2.2.2.2.2.1 _ hs) _ hi) (u_facts hfc hkC (u_lays hC.2.2.2.2.2.2.1 hin hk) hi).1 q1 q4 (v := v) ?_ rfl rfl hd (nx hC h1 h2 h3 h4 h5 h6 h7 h8 h9 h10)
  rw [hsl, q5 k hk]
  simp [vp_V, hv]
theorem js_getN {C : String} {T : u_T} {N ci idx a : Nat} {w : Bool} {fs : List Value} {v : Value} (k : Nat) (hc : js_cl[ci]? = some (C, T, N)) (hin : ∀ w ∈ u_ws C T N, w ∈ lw_all) {host : String} (hk : k < N) (hl : Cond.fieldLinkNest (js_y M).cls idx (T k).1 (T k).2.1 (T k).2.2.1 host ∈ js_nw) (hd : decode (js_c M) pc = .ok (.getfield idx, 3)) (hh : h a = some (js_ob w ci fs)) (hv : fs[k]? = some v) (nx : js_ok ρ M Q d kc ks (pc + 3) L (v :: st) h) : js_ok ρ M Q d kc ks pc L (.ref a :: st) h := by
  intro p l e R s m args below meth c H locs cells slots ls mc ms hC h1 h2 h3 h4 h5 h6 h7 h8 h9 h10
  obtain ⟨r, cell, q0, q1, q2, q3, q4, q5⟩ := js_rdO hC.2.2.2.2.2.2.2.2.1 h3 h4 h5 hh
  cases Option.some.inj (q0.symm.trans hc)
  obtain ⟨hS, hfc, kC, hkC, hkind⟩ := hC.2.2.2.2.2.2.2.2.1.1.1 ci _ hc
  obtain ⟨cf, kf, fi, f, hi, hsl⟩ := hS k hk
  refine va_Wgetf hC.1 hC.2.1 hC.2.2.2.2.2.1 (va_Nw.use rfl (hC.2.2.2.2.2.2.2.2.1.2.1 _ hl)) hi (u_facts hfc hkC (u_lays hC.2.2.2.2.2.2.1 hin hk) hi).1 q1 q4 (v := v) ?_ rfl rfl hd (nx hC h1 h2 h3 h4 h5 h6 h7 h8 h9 h10)
  rw [hsl, q5 k hk]
  simp [vp_V, hv]
theorem js_putf {C : String} {T : u_T} {N ci idx a : Nat} {fs : List Value} {v : Value} (k : Nat) (hc : js_cl[ci]? = some (C, T, N)) (hin : ∀ w ∈ u_ws C T N, w ∈ lw_all) (ty0 : Nat → FieldType) (hty : ∀ k, k < N → parseFieldDescriptor (T k).2.2.1 = some (ty0 k)) (hnm : ∀ a, a < N → ∀ b, b < N → a ≠ b → (T a).2.1 ≠ (T b).2.1) (hk : k < N) (hl : Cond.fieldLink (js_y M).cls idx (T k).1 (T k).2.1 (T k).2.2.1 ∈ lw_all) (hfin : (T k).2.2.2 = false) (hd : decode (js_c M) pc = .ok (.putfield idx, 3)) (hh : h a = some (js_ob true ci fs)) (hlen : k < fs.length) {ty : FieldType} (hdy : parseFieldDescriptor (T k).2.2.1 = some ty) (hn : narrow ty v = v) (hfit : fits ty v = true) (nx : js_ok ρ M Q d kc ks (pc + 3) L st (js_up h a (js_ob true ci (fs.set k v)))) : js_ok ρ M Q d kc ks pc L (v :: .ref a :: st) h := by
  intro p l e R s m args below meth c H locs cells slots ls mc ms hC h1 h2 h3 h4 h5 h6 h7 h8 h9 h10
  obtain ⟨g1, hBa, hla⟩ := h4 a _ hh rfl
  obtain ⟨r, hr0, cell, q1, q2, q3, q4⟩ := g1
  cases Option.some.inj (hr0.symm.trans hc)
  have hap := va_apart (own := (js_y M).cls) hC.2.2.2.2.2.2.1 hin ty0 hty hnm hC.2.2.2.2.2.2.2.2.1.1 hc
  obtain ⟨hS, hfc, kC, hkC, hkind⟩ := hC.2.2.2.2.2.2.2.2.1.1.1 ci _ hc
  obtain ⟨cf, kf, fi, f, hi, hsl⟩ := hS k hk
  have hlay := hC.2.2.2.2.2.2.1 _ (hin _ (u_in_lay hk))
  unfold u_lay at hlay
  rw [if_neg (by rw [hfin]; decide)] at hlay
  have hst := (u_facts hfc hkC (u_lays hC.2.2.2.2.2.2.1 hin hk) hi).1
  have h6' := u_store hfc hkC hkind hlay hi hdy hn hfit
  refine W.putK hC.1 hC.2.1 (f := f) ⟨hC.2.2.2.2.2.1, hC.2.2.2.2.2.2.1 _ hl, ⟨_, _, _, hi⟩, hst⟩ (by rw [q2]; exact h6') q1 q3 (by rw [hsl]; exact k2_hasslot (q4 k hk)) rfl rfl hd fun H' e1 e2 e3 => ?_
  rw [hsl] at e1 ⊢
  have hat : js_at ρ a (js_ob true ci (fs.set k v)) H' := ⟨_, hc, t_OB.to (V := updV (vp_V fs) k v) ⟨_, e1, q2, q3, t_set q4 hap hk v⟩ (fun j _ => vp_updV_set hlen v j)⟩
  exact nx hC h1 h2 (h3.up rfl (Or.inr ⟨_, hh, rfl⟩)) (h4.up (Nat.le_of_eq e2.symm) (fun q _ hq => e3 q hq) hat hBa (by rw [e2]; exact hla)) (h5.put e2 e3 hBa) h6 h7 h8 h9 h10
theorem js_putfS {C : String} {T : u_T} {N ci idx a : Nat} {fs : List Value} {v : Value} (k : Nat) (hc : js_cl[ci]? = some (C, T, N)) (hin : ∀ w ∈ u_ws C T N, w ∈ lw_all) (ty0 : Nat → FieldType) (hty : ∀ k, k < N → parseFieldDescriptor (T k).2.2.1 = some (ty0 k)) (hnm : ∀ a, a < N → ∀ b, b < N → a ≠ b → (T a).2.1 ≠ (T b).2.1) (hk : k < N) {ref : String} (hl : Cond.fieldLink (js_y M).cls idx ref (T k).2.1 (T k).2.2.1 ∈ lw_all) (hs : Cond.sameField ref (T k).1 (T k).2.1 (T k).2.2.1 ∈ lw_all) (hfin : (T k).2.2.2 = false) (hd : decode (js_c M) pc = .ok (.putfield idx, 3)) (hh : h a = some (js_ob true ci fs)) (hlen : k < fs.length) {ty : FieldType} (hdy : parseFieldDescriptor (T k).2.2.1 = some ty) (hn : narrow ty v = v) (hfit : fits ty v = true) (nx : js_ok ρ M Q d kc ks (pc + 3) L st (js_up h a (js_ob true ci (fs.set k v)))) : js_ok ρ M Q d kc ks pc L (v :: .ref a :: st) h := by
  intro p l e R s m args below meth c H locs cells slots ls mc ms hC h1 h2 h3 h4 h5 h6 h7 h8 h9 h10
  obtain ⟨g1, hBa, hla⟩ := h4 a _ hh rfl
  obtain ⟨r, hr0, cell, q1, q2, q3, q4⟩ := g1
  cases Option.some.inj (hr0.symm.trans hc)
  have hap := va_apart (own := (js_y M).cls) hC.2.2.2.2.2.2.1 hin ty0 hty hnm hC.2.2.2.2.2.2.2.2.1.1 hc
  obtain ⟨hS, hfc, kC, hkC, hkind⟩ := hC.2.2.2.2.2.2.2.2.1.1.1 ci _ hc
  obtain ⟨cf, kf, fi, f, hi, hsl⟩ := hS k hk
  have hlay := hC.2.2.2.2.2.2.1 _ (hin _ (u_in_lay hk))
  unfold u_lay at hlay
  rw [if_neg (by rw [hfin]; decide)] at hlay
  have hst := (u_facts hfc hkC (u_lays hC.2.2.2.2.2.2.1 hin hk) hi).1
  have h6' := u_store hfc hkC hkind hlay hi hdy hn hfit
  refine W.putK hC.1 hC.2.1 (f := f) ⟨hC.2.2.2.2.2.1, hC.2.2.2.2.2.2.1 _ hl, ⟨_, _, _, u_same (hC.2.2.2.2.2.2.1 _ hs) _ hi⟩, hst⟩ (by rw [q2]; exact h6') q1 q3 (by rw [hsl]; exact k2_hasslot (q4 k hk)) rfl rfl hd fun H' e1 e2 e3 => ?_
  rw [hsl] at e1 ⊢
  have hat : js_at ρ a (js_ob true ci (fs.set k v)) H' := ⟨_, hc, t_OB.to (V := updV (vp_V fs) k v) ⟨_, e1, q2, q3, t_set q4 hap hk v⟩ (fun j _ => vp_updV_set hlen v j)⟩
  exact nx hC h1 h2 (h3.up rfl (Or.inr ⟨_, hh, rfl⟩)) (h4.up (Nat.le_of_eq e2.symm) (fun q _ hq => e3 q hq) hat hBa (by rw [e2]; exact hla)) (h5.put e2 e3 hBa) h6 h7 h8 h9 h10
theorem js_putN {C : String} {T : u_T} {N ci idx a : Nat} {fs : List Value} {v : Value} (k : Nat) (hc : js_cl[ci]? = some (C, T, N)) (hin : ∀ w ∈ u_ws C T N, w ∈ lw_all) (ty0 : Nat → FieldType) (hty : ∀ k, k < N → parseFieldDescriptor (T k).2.2.1 = some (ty0 k)) (hnm : ∀ a, a < N → ∀ b, b < N → a ≠ b → (T a).2.1 ≠ (T b).2.1) (hk : k < N) {host : String} (hl : Cond.fieldLinkNest (js_y M).cls idx (T k).1 (T k).2.1 (T k).2.2.1 host ∈ js_nw) (hfin : (T k).2.2.2 = false) (hd : decode (js_c M) pc = .ok (.putfield idx, 3)) (hh : h a = some (js_ob true ci fs)) (hlen : k < fs.length) {ty : FieldType} (hdy : parseFieldDescriptor (T k).2.2.1 = some ty) (hn : narrow ty v = v) (hfit : fits ty v = true) (nx : js_ok ρ M Q d kc ks (pc + 3) L st (js_up h a (js_ob true ci (fs.set k v)))) : js_ok ρ M Q d kc ks pc L (v :: .ref a :: st) h := by
  intro p l e R s m args below meth c H locs cells slots ls mc ms hC h1 h2 h3 h4 h5 h6 h7 h8 h9 h10
  obtain ⟨g1, hBa, hla⟩ := h4 a _ hh rfl
  obtain ⟨r, hr0, cell, q1, q2, q3, q4⟩ := g1
  cases Option.some.inj (hr0.symm.trans hc)
  have hap := va_apart (own := (js_y M).cls) hC.2.2.2.2.2.2.1 hin ty0 hty hnm hC.2.2.2.2.2.2.2.2.1.1 hc
  obtain ⟨hS, hfc, kC, hkC, hkind⟩ := hC.2.2.2.2.2.2.2.2.1.1.1 ci _ hc
  obtain ⟨cf, kf, fi, f, hi, hsl⟩ := hS k hk
  have hlay := hC.2.2.2.2.2.2.1 _ (hin _ (u_in_lay hk))
  unfold u_lay at hlay
  rw [if_neg (by rw [hfin]; decide)] at hlay
  have hst := (u_facts hfc hkC (u_lays hC.2.2.2.2.2.2.1 hin hk) hi).1
  have h6' := u_store hfc hkC hkind hlay hi hdy hn hfit
  refine va_WputK hC.1 hC.2.1 (f := f) hC.2.2.2.2.2.1 (va_Nw.use rfl (hC.2.2.2.2.2.2.2.2.1.2.1 _ hl)) hi hst (by rw [q2]; exact h6') q1 q3 (by rw [hsl]; exact k2_hasslot (q4 k hk)) rfl rfl hd fun H' e1 e2 e3 => ?_
  rw [hsl] at e1 ⊢
  have hat : js_at ρ a (js_ob true ci (fs.set k v)) H' := ⟨_, hc, t_OB.to (V := updV (vp_V fs) k v) ⟨_, e1, q2, q3, t_set q4 hap hk v⟩ (fun j _ => vp_updV_set hlen v j)⟩
  exact nx hC h1 h2 (h3.up rfl (Or.inr ⟨_, hh, rfl⟩)) (h4.up (Nat.le_of_eq e2.symm) (fun q _ hq => e3 q hq) hat hBa (by rw [e2]; exact hla)) (h5.put e2 e3 hBa) h6 h7 h8 h9 h10
theorem js_putF {C : String} {T : u_T} {N ci idx a : Nat} {fs : List Value} {v : Value} (k : Nat) (hc : js_cl[ci]? = some (C, T, N)) (hin : ∀ w ∈ u_ws C T N, w ∈ lw_all) (ty0 : Nat → FieldType) (hty : ∀ k, k < N → parseFieldDescriptor (T k).2.2.1 = some (ty0 k)) (hnm : ∀ a, a < N → ∀ b, b < N → a ≠ b → (T a).2.1 ≠ (T b).2.1) (hk : k < N) (hl : Cond.fieldLink (js_y M).cls idx (T k).1 (T k).2.1 (T k).2.2.1 ∈ lw_all) (hfin : (T k).2.2.2 = true) (hin2 : (js_y M).name = "<init>") (hdecl : (T k).1 = (js_y M).cls) (hd : decode (js_c M) pc = .ok (.putfield idx, 3)) (hh : h a = some (js_ob true ci fs)) (hlen : k < fs.length) {ty : FieldType} (hdy : parseFieldDescriptor (T k).2.2.1 = some ty) (hn : narrow ty v = v) (hfit : fits ty v = true) (nx : js_ok ρ M Q d kc ks (pc + 3) L st (js_up h a (js_ob true ci (fs.set k v)))) : js_ok ρ M Q d kc ks pc L (v :: .ref a :: st) h := by
  intro p l e R s m args below meth c H locs cells slots ls mc ms hC h1 h2 h3 h4 h5 h6 h7 h8 h9 h10
  obtain ⟨g1, hBa, hla⟩ := h4 a _ hh rfl
  obtain ⟨r, hr0, cell, q1, q2, q3, q4⟩ := g1
  cases Option.some.inj (hr0.symm.trans hc)
  have hap := va_apart (own := (js_y M).cls) hC.2.2.2.2.2.2.1 hin ty0 hty hnm hC.2.2.2.2.2.2.2.2.1.1 hc
  obtain ⟨hS, hfc, kC, hkC, hkind⟩ := hC.2.2.2.2.2.2.2.2.1.1.1 ci _ hc
  obtain ⟨cf, kf, fi, f, hi, hsl⟩ := hS k hk
  have hlay := hC.2.2.2.2.2.2.1 _ (hin _ (u_in_lay hk))
  unfold u_lay at hlay
  rw [if_pos hfin] at hlay
  have hst := (u_facts hfc hkC (u_lays hC.2.2.2.2.2.2.1 hin hk) hi).1
  have hcf : m.cls = cf := by
    obtain ⟨_, _, c', _, _, _, -, -, hf', -, -, -, hown2, -⟩ := Cond.laysFinal_spec hlay
    have e1 : c' = cf := by have := hi.symm.trans hf'; simp at this; exact this.1.symm
    rw [hdecl] at hown2
    rw [← e1]; exact Option.some.inj (hC.2.2.2.2.2.1.symm.trans hown2)
  have h6' := u_fits hfc hkC hkind (Or.inr hlay) hi hdy hn hfit
  refine W.putFinK hC.1 hC.2.1 hC.2.2.2.2.2.1 (hC.2.2.2.2.2.2.1 _ hl) hi hst hcf (hC.2.2.2.2.2.2.2.2.2.1.trans hin2) (by rw [q2]; exact h6') q1 q3 (by rw [hsl]; exact k2_hasslot (q4 k hk)) rfl rfl hd fun H' e1 e2 e3 => ?_
  rw [hsl] at e1 ⊢
  have hat : js_at ρ a (js_ob true ci (fs.set k v)) H' := ⟨_, hc, t_OB.to (V := updV (vp_V fs) k v) ⟨_, e1, q2, q3, t_set q4 hap hk v⟩ (fun j _ => vp_updV_set hlen v j)⟩
  exact nx hC h1 h2 (h3.up rfl (Or.inr ⟨_, hh, rfl⟩)) (h4.up (Nat.le_of_eq e2.symm) (fun q _ hq => e3 q hq) hat hBa (by rw [e2]; exact hla)) (h5.put e2 e3 hBa) h6 h7 h8 h9 h10
theorem js_new {C : String} {T : u_T} {N ci idx : Nat} {kc' ks' : Nat} (fs : List Value) (hc : js_cl[ci]? = some (C, T, N)) (hin : ∀ w ∈ u_ws C T N, w ∈ lw_all) (ty0 : Nat → FieldType) (hty : ∀ k, k < N → parseFieldDescriptor (T k).2.2.1 = some (ty0 k)) (hl : Cond.classLink (js_y M).cls idx C ∈ lw_all) (hn : Cond.instantiable C N ∈ lw_all) (hi : Cond.initialized C ∈ lw_all) (hfs : ∀ j, j < N → defaultValue (ty0 j) = vp_V fs j) (hd : decode (js_c M) pc = .ok (.new idx, 3)) (hk : kc' + 1 ≤ kc) (hs : ks' + N ≤ ks) (nx : ∀ a : Nat, h a = none → js_B ρ ≤ a → js_ok ρ M Q d kc' ks' (pc + 3) L (.ref a :: st) (js_up h a (js_ob true ci fs))) : js_ok ρ M Q d kc ks pc L st h := by
  intro p l e R s m args below meth c H locs cells slots ls mc ms hC h1 h2 h3 h4 h5 h6 h7 h8 h9 h10
  have hKn := hC.2.2.2.2.2.2.2.2.1.1.1 ci _ hc
  have hfr := js_fresh h3 h4 hC.2.2.2.2.2.2.2.2.1 h5.1
  have hBH : js_B ρ ≤ H.size := Nat.le_trans hC.2.2.2.2.2.2.2.2.1.2.2.2.1 h5.1
  refine W.newcK hC.1 hC.2.1 hC.2.2.2.2.2.1 (hC.2.2.2.2.2.2.1 _ hl) (hC.2.2.2.2.2.2.1 _ hn) (hC.2.2.2.2.2.2.1 _ hi) rfl hd (by omega) (by omega) hKn.2.1 rfl fun H1 kC hkC e1 z1 o1 => ?_
  have hat : js_at ρ H.size (js_ob true ci fs) H1 := ⟨_, hc, (u_born ty0 hC.2.2.2.2.2.2.1 hin hKn hkC e1 hty).to hfs⟩
  exact nx H.size hfr hBH hC h1 h2 (h3.up rfl (Or.inl hfr)) (h4.up (by omega) (fun q hq _ => o1 q hq) hat hBH (by omega)) ⟨by have := h5.1; omega, fun q g1 g2 => (o1 q (Nat.lt_of_lt_of_le g1 h5.1)).trans (h5.2.1 q g1 g2), h5.2.2⟩ h6 (by omega) (by omega) (by omega) (by omega)
theorem js_newa {t : Nat} {n : Int} {atype : ArrayType} {kc' ks' : Nat} {en : js_E} (ht : t < 8) (hty : newarray.typeOf atype = js_ty t) (hl : Cond.arrayClass (js_ty t) ∈ lw_all) (he : en.1 = true ∧ ∃ x, en.2 = .inl (t, x) ∧ ∀ cA : ClassId, vp_cell cA x = arrV cA n.toNat (fun _ => defaultValue (js_ty t))) (hnm : ∀ (U : State) (cA : ClassId), va_RA U cA (js_ty t) → U.vm.findClass ("[" ++ (js_ty t).toString) = some cA) (hd : decode (js_c M) pc = .ok (.newarray atype, 2)) (hr : 0 ≤ n ∧ n ≤ 1000000) (hb9 : componentBytes (js_ty t) ≤ 8) (hk : kc' + 1 ≤ kc) (hs : (ks' : Int) + n ≤ ks) (nx : ∀ a : Nat, h a = none → js_B ρ ≤ a → js_ok ρ M Q d kc' ks' (pc + 2) L (.ref a :: st) (js_up h a en)) : js_ok ρ M Q d kc ks pc L (.int (jI n) :: st) h := by
  intro p l e R s m args below meth c H locs cells slots ls mc ms hC h1 h2 h3 h4 h5 h6 h7 h8 h9 h10
  have hfr := js_fresh h3 h4 hC.2.2.2.2.2.2.2.2.1 h5.1
  have hBH : js_B ρ ≤ H.size := Nat.le_trans hC.2.2.2.2.2.2.2.2.1.2.2.2.1 h5.1
  have hN : (jI n).toNatClampNeg = n.toNat := jI_clamp hr.1 (by omega)
  have hb8 : n.toNat * componentBytes (newarray.typeOf atype) ≤ 536870912 := by
    rw [hty]
    have h8 : n.toNat * componentBytes (js_ty t) ≤ 1000000 * 8 := Nat.mul_le_mul (by omega) hb9
    omega
  refine va_newaK hC.1 hC.2.1 (by rw [hty]; exact hC.2.2.2.2.2.2.1 _ hl) rfl hd rfl (by rw [show (0 : Int32) = jI 0 from rfl, jI_lt (by omega)]; omega) hN hb8 (by omega) (by omega) rfl fun H1 cA e1 z1 o1 hAr hNm => ?_
  obtain ⟨he1, x, he2, he3⟩ := he
  have hcA : cA = js_dA ρ t := by
    rw [hty] at hNm
    exact Option.some.inj (hNm.symm.trans (hnm s _ (js_tyAt hC.2.2.2.2.2.2.2.2.1 ht).2))
  rw [hcA] at e1
  have hat : js_at ρ H.size en H1 := by
    unfold js_at
    rw [he2]
    show H1[H.size]? = some (vp_cell (js_dA ρ t) x)
    rw [he3, e1, hty]
  exact nx H.size hfr hBH hC h1 h2 (h3.up he1 (Or.inl hfr)) (h4.up (by omega) (fun q hq _ => o1 q hq) hat hBH (by omega)) ⟨by have := h5.1; omega, fun q g1 g2 => (o1 q (Nat.lt_of_lt_of_le g1 h5.1)).trans (h5.2.1 q g1 g2), h5.2.2⟩ h6 (by omega) (by omega) (by omega) (by omega)
theorem js_newq {t : Nat} {n : Int} {C : String} {idx kc' ks' : Nat} (ht : t < 8) (hty : js_ty t = .object C) (hao : ∀ {U : State} {H0 : Heap}, js_Kx ρ U H0 → va_AO C U) (hl : Cond.classLink (js_y M).cls idx C ∈ lw_all) (hd : decode (js_c M) pc = .ok (.anewarray idx, 3)) (hr : 0 ≤ n ∧ n ≤ 1000000) (hk : kc' + 1 ≤ kc) (hs : (ks' : Int) + n ≤ ks) (nx : ∀ a : Nat, h a = none → js_B ρ ≤ a → js_ok ρ M Q d kc' ks' (pc + 3) L (.ref a :: st) (js_up h a (js_aQ true t n.toNat (fun _ => none)))) : js_ok ρ M Q d kc ks pc L (.int (jI n) :: st) h := by
  intro p l e R s m args below meth c H locs cells slots ls mc ms hC h1 h2 h3 h4 h5 h6 h7 h8 h9 h10
  have hfr := js_fresh h3 h4 hC.2.2.2.2.2.2.2.2.1 h5.1
  have hBH : js_B ρ ≤ H.size := Nat.le_trans hC.2.2.2.2.2.2.2.2.1.2.2.2.1 h5.1
  have hN : (jI n).toNatClampNeg = n.toNat := jI_clamp hr.1 (by omega)
  refine W.anew hC.1 hC.2.1 hC.2.2.2.2.2.1 (hC.2.2.2.2.2.2.1 _ hl) (va_AO.use (hao hC.2.2.2.2.2.2.2.2.1)) rfl hd rfl (by rw [show (0 : Int32) = jI 0 from rfl, jI_lt (by omega)]; omega) (by omega) (by omega) (by omega) fun cA kA comp f1 f2 f3 f4 => ?_
  generalize hH1 : H.push ({ cls := cA, slots := Array.replicate (jI n).toNatClampNeg .null, vm := .none } : Cell) = H1
  have z1 : H1.size = H.size + 1 := by rw [← hH1, Array.size_push]
  have e1 : H1[H.size]? = some (arrV cA n.toNat (fun _ => .null)) := by rw [← hH1, Array.getElem?_push_size, ← arrV_new, hN]
  have o1 : ∀ q : Nat, q < H.size → H1[q]? = H[q]? := fun q hq => by rw [← hH1, Array.getElem?_push, if_neg (Nat.ne_of_lt hq)]
  have hcA : cA = js_dA ρ t := by
    have h9 := (js_tyAt hC.2.2.2.2.2.2.2.2.1 ht).2
    rw [hty] at h9
    obtain ⟨k8, c8, k1, k2, k3, k4⟩ := h9
    exact Option.some.inj (f1.symm.trans k4)
  rw [hcA] at e1
  have hat : js_at ρ H.size (js_aQ true t n.toNat (fun _ => none)) H1 := e1
  rw [hN]
  exact nx H.size hfr hBH hC h1 h2 (h3.up rfl (Or.inl hfr)) (h4.up (by omega) (fun q hq _ => o1 q hq) hat hBH (by omega)) ⟨by have := h5.1; omega, fun q g1 g2 => (o1 q (Nat.lt_of_lt_of_le g1 h5.1)).trans (h5.2.1 q g1 g2), h5.2.2⟩ h6 (by omega) (by omega) (by omega) (by omega)
theorem js_iaload {a n : Nat} {w : Bool} {g : Int → Int} {i : Int} (hd : decode (js_c M) pc = .ok (.iaload, 1)) (hh : h a = some (js_aI w 0 n g)) (hr : 0 ≤ i ∧ i < n ∧ n < 2147483648) (nx : js_ok ρ M Q d kc ks (pc + 1) L (.int (jI (g i)) :: st) h) : js_ok ρ M Q d kc ks pc L (.int (jI i) :: .ref a :: st) h := by
  intro p l e R s m args below meth c H locs cells slots ls mc ms hC h1 h2 h3 h4 h5 h6 h7 h8 h9 h10
  obtain ⟨cell, q1, q2, q3, q4, q5, q6⟩ := js_rdI hC.2.2.2.2.2.2.2.2.1 h3 h4 h5 hh (by decide)
  have hN : (jI i).toNatClampNeg = i.toNat := jI_clamp hr.1 (by omega)
  have hv := q6 i.toNat (by omega)
  have hi9 : ((i.toNat : Nat) : Int) = i := by omega
  simp only [hi9] at hv
  exact W.iald (v := .int (jI (g i))) hC.1 hC.2.1 q1 q2 q3 (fun z => js_inI (n := n) (i := i) (by omega) (z.imp id (fun z => Nat.le_trans q4 z))) (by rw [hN]; exact hv) rfl rfl hd (nx hC h1 h2 h3 h4 h5 h6 h7 h8 h9 h10)
theorem js_zaload {a n : Nat} {w : Bool} {g : Int → Int} {i : Int} (hd : decode (js_c M) pc = .ok (.baload, 1)) (hh : h a = some (js_aI w 1 n g)) (hr : 0 ≤ i ∧ i < n ∧ n < 2147483648) (nx : js_ok ρ M Q d kc ks (pc + 1) L (.int (jI (g i)) :: st) h) : js_ok ρ M Q d kc ks pc L (.int (jI i) :: .ref a :: st) h := by
  intro p l e R s m args below meth c H locs cells slots ls mc ms hC h1 h2 h3 h4 h5 h6 h7 h8 h9 h10
  obtain ⟨cell, q1, q2, q3, q4, q5, q6⟩ := js_rdI hC.2.2.2.2.2.2.2.2.1 h3 h4 h5 hh (by decide)
  have hN : (jI i).toNatClampNeg = i.toNat := jI_clamp hr.1 (by omega)
  have hv := q6 i.toNat (by omega)
  have hi9 : ((i.toNat : Nat) : Int) = i := by omega
  simp only [hi9] at hv
  exact W.zald (v := .int (jI (g i))) hC.1 hC.2.1 q1 q2 q3 (fun z => js_inI (n := n) (i := i) (by omega) (z.imp id (fun z => Nat.le_trans q4 z))) (by rw [hN]; exact hv) rfl rfl hd (nx hC h1 h2 h3 h4 h5 h6 h7 h8 h9 h10)
theorem js_baload {a n : Nat} {w : Bool} {g : Int → Int} {i : Int} (hd : decode (js_c M) pc = .ok (.baload, 1)) (hh : h a = some (js_aI w 2 n g)) (hr : 0 ≤ i ∧ i < n ∧ n < 2147483648) (nx : js_ok ρ M Q d kc ks (pc + 1) L (.int (jI (g i)) :: st) h) : js_ok ρ M Q d kc ks pc L (.int (jI i) :: .ref a :: st) h := by
  intro p l e R s m args below meth c H locs cells slots ls mc ms hC h1 h2 h3 h4 h5 h6 h7 h8 h9 h10
  obtain ⟨cell, q1, q2, q3, q4, q5, q6⟩ := js_rdI hC.2.2.2.2.2.2.2.2.1 h3 h4 h5 hh (by decide)
  have hN : (jI i).toNatClampNeg = i.toNat := jI_clamp hr.1 (by omega)
  have hv := q6 i.toNat (by omega)
  have hi9 : ((i.toNat : Nat) : Int) = i := by omega
  simp only [hi9] at hv
  exact W.bald (v := .int (jI (g i))) hC.1 hC.2.1 q1 q2 q3 (fun z => js_inI (n := n) (i := i) (by omega) (z.imp id (fun z => Nat.le_trans q4 z))) (by rw [hN]; exact hv) rfl rfl hd (nx hC h1 h2 h3 h4 h5 h6 h7 h8 h9 h10)
theorem js_caload {a n : Nat} {w : Bool} {g : Int → Int} {i : Int} (hd : decode (js_c M) pc = .ok (.caload, 1)) (hh : h a = some (js_aI w 3 n g)) (hr : 0 ≤ i ∧ i < n ∧ n < 2147483648) (nx : js_ok ρ M Q d kc ks (pc + 1) L (.int (jI (g i)) :: st) h) : js_ok ρ M Q d kc ks pc L (.int (jI i) :: .ref a :: st) h := by
  intro p l e R s m args below meth c H locs cells slots ls mc ms hC h1 h2 h3 h4 h5 h6 h7 h8 h9 h10
  obtain ⟨cell, q1, q2, q3, q4, q5, q6⟩ := js_rdI hC.2.2.2.2.2.2.2.2.1 h3 h4 h5 hh (by decide)
  have hN : (jI i).toNatClampNeg = i.toNat := jI_clamp hr.1 (by omega)
  have hv := q6 i.toNat (by omega)
  have hi9 : ((i.toNat : Nat) : Int) = i := by omega
  simp only [hi9] at hv
  exact W.cald (v := .int (jI (g i))) hC.1 hC.2.1 q1 q2 q3 (fun z => js_inI (n := n) (i := i) (by omega) (z.imp id (fun z => Nat.le_trans q4 z))) (by rw [hN]; exact hv) rfl rfl hd (nx hC h1 h2 h3 h4 h5 h6 h7 h8 h9 h10)
theorem js_laload {a n : Nat} {w : Bool} {g : Nat → Int64} {i : Int} (hd : decode (js_c M) pc = .ok (.laload, 1)) (hh : h a = some (js_aL w 4 n g)) (hr : 0 ≤ i ∧ i < n ∧ n < 2147483648) (nx : js_ok ρ M Q d kc ks (pc + 1) L (.long (g i.toNat) :: st) h) : js_ok ρ M Q d kc ks pc L (.int (jI i) :: .ref a :: st) h := by
  intro p l e R s m args below meth c H locs cells slots ls mc ms hC h1 h2 h3 h4 h5 h6 h7 h8 h9 h10
  obtain ⟨cell, q1, q2, q3, q4, q5, q6⟩ := js_rdL hC.2.2.2.2.2.2.2.2.1 h3 h4 h5 hh (by decide)
  have hN : (jI i).toNatClampNeg = i.toNat := jI_clamp hr.1 (by omega)
  exact W.lald (v := .long (g i.toNat)) hC.1 hC.2.1 q1 q2 q3 (fun z => js_inI (n := n) (i := i) (by omega) (z.imp id (fun z => Nat.le_trans q4 z))) (by rw [hN]; exact q6 i.toNat (by omega)) rfl rfl hd (nx hC h1 h2 h3 h4 h5 h6 h7 h8 h9 h10)
theorem js_daload {a n : Nat} {w : Bool} {g : Nat → UInt64} {i : Int} (hd : decode (js_c M) pc = .ok (.daload, 1)) (hh : h a = some (js_aD w 5 n g)) (hr : 0 ≤ i ∧ i < n ∧ n < 2147483648) (nx : js_ok ρ M Q d kc ks (pc + 1) L (.double (g i.toNat) :: st) h) : js_ok ρ M Q d kc ks pc L (.int (jI i) :: .ref a :: st) h := by
  intro p l e R s m args below meth c H locs cells slots ls mc ms hC h1 h2 h3 h4 h5 h6 h7 h8 h9 h10
  obtain ⟨cell, q1, q2, q3, q4, q5, q6⟩ := js_rdD hC.2.2.2.2.2.2.2.2.1 h3 h4 h5 hh (by decide)
  have hN : (jI i).toNatClampNeg = i.toNat := jI_clamp hr.1 (by omega)
  exact W.dald (v := .double (g i.toNat)) hC.1 hC.2.1 q1 q2 q3 (fun z => js_inI (n := n) (i := i) (by omega) (z.imp id (fun z => Nat.le_trans q4 z))) (by rw [hN]; exact q6 i.toNat (by omega)) rfl rfl hd (nx hC h1 h2 h3 h4 h5 h6 h7 h8 h9 h10)
theorem js_aaload {a n t : Nat} {w : Bool} {g : Int → Option Nat} {i : Int} (ht : t = 6 ∨ t = 7) (hd : decode (js_c M) pc = .ok (.aaload, 1)) (hh : h a = some (js_aQ w t n g)) (hr : 0 ≤ i ∧ i < n ∧ n < 2147483648) (nx : js_ok ρ M Q d kc ks (pc + 1) L (va_rf (g i) :: st) h) : js_ok ρ M Q d kc ks pc L (.int (jI i) :: .ref a :: st) h := by
  intro p l e R s m args below meth c H locs cells slots ls mc ms hC h1 h2 h3 h4 h5 h6 h7 h8 h9 h10
  obtain ⟨cell, q1, q2, q3, q4, q5, q6⟩ := js_rdQ hC.2.2.2.2.2.2.2.2.1 h3 h4 h5 hh (by omega)
  have hN : (jI i).toNatClampNeg = i.toNat := jI_clamp hr.1 (by omega)
  have hv := q6 i.toNat (by omega)
  have hi9 : ((i.toNat : Nat) : Int) = i := by omega
  simp only [hi9] at hv
  exact W.aald (ty := js_ty t) (v := va_rf (g i)) hC.1 hC.2.1 q1 q2 (by rcases ht with rfl | rfl <;> rfl) q3 (fun z => js_inI (n := n) (i := i) (by omega) (z.imp id (fun z => Nat.le_trans q4 z))) (by rw [hN]; exact hv) rfl rfl hd (nx hC h1 h2 h3 h4 h5 h6 h7 h8 h9 h10)
theorem js_alenI {a n t : Nat} {w : Bool} {g : Int → Int} (hd : decode (js_c M) pc = .ok (.arraylength, 1)) (hh : h a = some (js_aI w t n g)) (ht : t < 8) (nx : js_ok ρ M Q d kc ks (pc + 1) L (.int (jI n) :: st) h) : js_ok ρ M Q d kc ks pc L (.ref a :: st) h := by
  intro p l e R s m args below meth c H locs cells slots ls mc ms hC h1 h2 h3 h4 h5 h6 h7 h8 h9 h10
  obtain ⟨cell, q1, q2, q3, q4, q5, q6⟩ := js_rdI hC.2.2.2.2.2.2.2.2.1 h3 h4 h5 hh ht
  exact W.alen (n := jI n) hC.1 hC.2.1 q1 q2 (by rw [q5, jI_ofNat]) rfl rfl hd (nx hC h1 h2 h3 h4 h5 h6 h7 h8 h9 h10)
theorem js_alenQ {a n t : Nat} {w : Bool} {g : Int → Option Nat} (hd : decode (js_c M) pc = .ok (.arraylength, 1)) (hh : h a = some (js_aQ w t n g)) (ht : t < 8) (nx : js_ok ρ M Q d kc ks (pc + 1) L (.int (jI n) :: st) h) : js_ok ρ M Q d kc ks pc L (.ref a :: st) h := by
  intro p l e R s m args below meth c H locs cells slots ls mc ms hC h1 h2 h3 h4 h5 h6 h7 h8 h9 h10
  obtain ⟨cell, q1, q2, q3, q4, q5, q6⟩ := js_rdQ hC.2.2.2.2.2.2.2.2.1 h3 h4 h5 hh ht
  exact W.alen (n := jI n) hC.1 hC.2.1 q1 q2 (by rw [q5, jI_ofNat]) rfl rfl hd (nx hC h1 h2 h3 h4 h5 h6 h7 h8 h9 h10)
theorem js_alenL {a n t : Nat} {w : Bool} {g : Nat → Int64} (hd : decode (js_c M) pc = .ok (.arraylength, 1)) (hh : h a = some (js_aL w t n g)) (ht : t < 8) (nx : js_ok ρ M Q d kc ks (pc + 1) L (.int (jI n) :: st) h) : js_ok ρ M Q d kc ks pc L (.ref a :: st) h := by
  intro p l e R s m args below meth c H locs cells slots ls mc ms hC h1 h2 h3 h4 h5 h6 h7 h8 h9 h10
  obtain ⟨cell, q1, q2, q3, q4, q5, q6⟩ := js_rdL hC.2.2.2.2.2.2.2.2.1 h3 h4 h5 hh ht
  exact W.alen (n := jI n) hC.1 hC.2.1 q1 q2 (by rw [q5, jI_ofNat]) rfl rfl hd (nx hC h1 h2 h3 h4 h5 h6 h7 h8 h9 h10)
theorem js_alenD {a n t : Nat} {w : Bool} {g : Nat → UInt64} (hd : decode (js_c M) pc = .ok (.arraylength, 1)) (hh : h a = some (js_aD w t n g)) (ht : t < 8) (nx : js_ok ρ M Q d kc ks (pc + 1) L (.int (jI n) :: st) h) : js_ok ρ M Q d kc ks pc L (.ref a :: st) h := by
  intro p l e R s m args below meth c H locs cells slots ls mc ms hC h1 h2 h3 h4 h5 h6 h7 h8 h9 h10
  obtain ⟨cell, q1, q2, q3, q4, q5, q6⟩ := js_rdD hC.2.2.2.2.2.2.2.2.1 h3 h4 h5 hh ht
  exact W.alen (n := jI n) hC.1 hC.2.1 q1 q2 (by rw [q5, jI_ofNat]) rfl rfl hd (nx hC h1 h2 h3 h4 h5 h6 h7 h8 h9 h10)
theorem js_iastore {a n : Nat} {g : Int → Int} {i v : Int} (hd : decode (js_c M) pc = .ok (.iastore, 1)) (hh : h a = some (js_aI true 0 n g)) (hr : 0 ≤ i ∧ i < n ∧ n < 2147483648) (nx : js_ok ρ M Q d kc ks (pc + 1) L st (js_up h a (js_aI true 0 n (js_uz g i v)))) : js_ok ρ M Q d kc ks pc L (.int (jI v) :: .int (jI i) :: .ref a :: st) h := by
  intro p l e R s m args below meth c H locs cells slots ls mc ms hC h1 h2 h3 h4 h5 h6 h7 h8 h9 h10
  obtain ⟨g1, hBa, hla⟩ := h4 a _ hh rfl
  have hN : (jI i).toNatClampNeg = i.toNat := jI_clamp hr.1 (by omega)
  have g2 : H[a]? = some (arrV (js_dA ρ 0) n (fun j => .int (jI (g (j : Int))))) := g1
  refine W.iast hC.1 hC.2.1 g2 ((js_tyAt hC.2.2.2.2.2.2.2.2.1 (t := 0) (by decide)).1 n _) (fun q => by cases q) (by rw [arrV_size]; exact js_inI (by omega)) rfl rfl hd fun H' e1 e2 e3 => ?_
  have hat : js_at ρ a (js_aI true 0 n (js_uz g i v)) H' := by
    show H'[a]? = some (arrV (js_dA ρ 0) n (fun j => .int (jI (js_uz g i v (j : Int)))))
    rw [e1, arrV_store, hN, js_updV hr.1]
  exact nx hC h1 h2 (h3.up rfl (Or.inr ⟨_, hh, rfl⟩)) (h4.up (Nat.le_of_eq e2.symm) (fun q _ hq => e3 q hq) hat hBa (by rw [e2]; exact hla)) (h5.put e2 e3 hBa) h6 h7 h8 h9 h10
theorem js_zastore {a n : Nat} {g : Int → Int} {i v : Int} (hd : decode (js_c M) pc = .ok (.bastore, 1)) (hh : h a = some (js_aI true 1 n g)) (hr : 0 ≤ i ∧ i < n ∧ n < 2147483648) (hv : v = 0 ∨ v = 1) (nx : js_ok ρ M Q d kc ks (pc + 1) L st (js_up h a (js_aI true 1 n (js_uz g i v)))) : js_ok ρ M Q d kc ks pc L (.int (jI v) :: .int (jI i) :: .ref a :: st) h := by
  intro p l e R s m args below meth c H locs cells slots ls mc ms hC h1 h2 h3 h4 h5 h6 h7 h8 h9 h10
  obtain ⟨g1, hBa, hla⟩ := h4 a _ hh rfl
  have hN : (jI i).toNatClampNeg = i.toNat := jI_clamp hr.1 (by omega)
  have g2 : H[a]? = some (arrV (js_dA ρ 1) n (fun j => .int (jI (g (j : Int))))) := g1
  refine W.zast hC.1 hC.2.1 g2 ((js_tyAt hC.2.2.2.2.2.2.2.2.1 (t := 1) (by decide)).1 n _) (fun q => by cases q) (by rw [arrV_size]; exact js_inI (by omega)) rfl rfl hd fun H' e1 e2 e3 => ?_
  rw [js_nar_boolean hv] at e1
  have hat : js_at ρ a (js_aI true 1 n (js_uz g i v)) H' := by
    show H'[a]? = some (arrV (js_dA ρ 1) n (fun j => .int (jI (js_uz g i v (j : Int)))))
    rw [e1, arrV_store, hN, js_updV hr.1]
  exact nx hC h1 h2 (h3.up rfl (Or.inr ⟨_, hh, rfl⟩)) (h4.up (Nat.le_of_eq e2.symm) (fun q _ hq => e3 q hq) hat hBa (by rw [e2]; exact hla)) (h5.put e2 e3 hBa) h6 h7 h8 h9 h10
theorem js_bastore {a n : Nat} {g : Int → Int} {i v : Int} (hd : decode (js_c M) pc = .ok (.bastore, 1)) (hh : h a = some (js_aI true 2 n g)) (hr : 0 ≤ i ∧ i < n ∧ n < 2147483648) (hv : -128 ≤ v ∧ v < 128) (nx : js_ok ρ M Q d kc ks (pc + 1) L st (js_up h a (js_aI true 2 n (js_uz g i v)))) : js_ok ρ M Q d kc ks pc L (.int (jI v) :: .int (jI i) :: .ref a :: st) h := by
  intro p l e R s m args below meth c H locs cells slots ls mc ms hC h1 h2 h3 h4 h5 h6 h7 h8 h9 h10
  obtain ⟨g1, hBa, hla⟩ := h4 a _ hh rfl
  have hN : (jI i).toNatClampNeg = i.toNat := jI_clamp hr.1 (by omega)
  have g2 : H[a]? = some (arrV (js_dA ρ 2) n (fun j => .int (jI (g (j : Int))))) := g1
  refine W.bast hC.1 hC.2.1 g2 ((js_tyAt hC.2.2.2.2.2.2.2.2.1 (t := 2) (by decide)).1 n _) (fun q => by cases q) (by rw [arrV_size]; exact js_inI (by omega)) rfl rfl hd fun H' e1 e2 e3 => ?_
  rw [js_nar_byte hv] at e1
  have hat : js_at ρ a (js_aI true 2 n (js_uz g i v)) H' := by
    show H'[a]? = some (arrV (js_dA ρ 2) n (fun j => .int (jI (js_uz g i v (j : Int)))))
    rw [e1, arrV_store, hN, js_updV hr.1]
  exact nx hC h1 h2 (h3.up rfl (Or.inr ⟨_, hh, rfl⟩)) (h4.up (Nat.le_of_eq e2.symm) (fun q _ hq => e3 q hq) hat hBa (by rw [e2]; exact hla)) (h5.put e2 e3 hBa) h6 h7 h8 h9 h10
theorem js_castore {a n : Nat} {g : Int → Int} {i v : Int} (hd : decode (js_c M) pc = .ok (.castore, 1)) (hh : h a = some (js_aI true 3 n g)) (hr : 0 ≤ i ∧ i < n ∧ n < 2147483648) (hv : 0 ≤ v ∧ v < 65536) (nx : js_ok ρ M Q d kc ks (pc + 1) L st (js_up h a (js_aI true 3 n (js_uz g i v)))) : js_ok ρ M Q d kc ks pc L (.int (jI v) :: .int (jI i) :: .ref a :: st) h := by
  intro p l e R s m args below meth c H locs cells slots ls mc ms hC h1 h2 h3 h4 h5 h6 h7 h8 h9 h10
  obtain ⟨g1, hBa, hla⟩ := h4 a _ hh rfl
  have hN : (jI i).toNatClampNeg = i.toNat := jI_clamp hr.1 (by omega)
  have g2 : H[a]? = some (arrV (js_dA ρ 3) n (fun j => .int (jI (g (j : Int))))) := g1
  refine W.cast hC.1 hC.2.1 g2 ((js_tyAt hC.2.2.2.2.2.2.2.2.1 (t := 3) (by decide)).1 n _) (fun q => by cases q) (by rw [arrV_size]; exact js_inI (by omega)) rfl rfl hd fun H' e1 e2 e3 => ?_
  rw [js_nar_char hv] at e1
  have hat : js_at ρ a (js_aI true 3 n (js_uz g i v)) H' := by
    show H'[a]? = some (arrV (js_dA ρ 3) n (fun j => .int (jI (js_uz g i v (j : Int)))))
    rw [e1, arrV_store, hN, js_updV hr.1]
  exact nx hC h1 h2 (h3.up rfl (Or.inr ⟨_, hh, rfl⟩)) (h4.up (Nat.le_of_eq e2.symm) (fun q _ hq => e3 q hq) hat hBa (by rw [e2]; exact hla)) (h5.put e2 e3 hBa) h6 h7 h8 h9 h10
theorem js_lastore {a n : Nat} {g : Nat → Int64} {i : Int} {v : Int64} (hd : decode (js_c M) pc = .ok (.lastore, 1)) (hh : h a = some (js_aL true 4 n g)) (hr : 0 ≤ i ∧ i < n ∧ n < 2147483648) (nx : js_ok ρ M Q d kc ks (pc + 1) L st (js_up h a (js_aL true 4 n (vp_updL g i.toNat v)))) : js_ok ρ M Q d kc ks pc L (.long v :: .int (jI i) :: .ref a :: st) h := by
  intro p l e R s m args below meth c H locs cells slots ls mc ms hC h1 h2 h3 h4 h5 h6 h7 h8 h9 h10
  obtain ⟨g1, hBa, hla⟩ := h4 a _ hh rfl
  have hN : (jI i).toNatClampNeg = i.toNat := jI_clamp hr.1 (by omega)
  have g2 : H[a]? = some (arrV (js_dA ρ 4) n (fun j => .long (g j))) := g1
  refine W.last hC.1 hC.2.1 g2 ((js_tyAt hC.2.2.2.2.2.2.2.2.1 (t := 4) (by decide)).1 n _) (fun q => by cases q) (by rw [arrV_size]; exact js_inI (by omega)) rfl rfl hd fun H' e1 e2 e3 => ?_
  have hat : js_at ρ a (js_aL true 4 n (vp_updL g i.toNat v)) H' := by
    show H'[a]? = some (arrV (js_dA ρ 4) n (fun j => .long (vp_updL g i.toNat v j)))
    rw [e1, arrV_store, hN]
    congr 2
    funext q
    by_cases hq : q = i.toNat
    · subst hq
      simp [updV, vp_updL]
    · simp [updV, vp_updL, hq]
  exact nx hC h1 h2 (h3.up rfl (Or.inr ⟨_, hh, rfl⟩)) (h4.up (Nat.le_of_eq e2.symm) (fun q _ hq => e3 q hq) hat hBa (by rw [e2]; exact hla)) (h5.put e2 e3 hBa) h6 h7 h8 h9 h10
theorem js_dastore {a n : Nat} {g : Nat → UInt64} {i : Int} {v : UInt64} (hd : decode (js_c M) pc = .ok (.dastore, 1)) (hh : h a = some (js_aD true 5 n g)) (hr : 0 ≤ i ∧ i < n ∧ n < 2147483648) (nx : js_ok ρ M Q d kc ks (pc + 1) L st (js_up h a (js_aD true 5 n (vf_upd g i.toNat v)))) : js_ok ρ M Q d kc ks pc L (.double v :: .int (jI i) :: .ref a :: st) h := by
  intro p l e R s m args below meth c H locs cells slots ls mc ms hC h1 h2 h3 h4 h5 h6 h7 h8 h9 h10
  obtain ⟨g1, hBa, hla⟩ := h4 a _ hh rfl
  have hN : (jI i).toNatClampNeg = i.toNat := jI_clamp hr.1 (by omega)
  have g2 : H[a]? = some (arrV (js_dA ρ 5) n (fun j => .double (g j))) := g1
  refine W.dast hC.1 hC.2.1 g2 ((js_tyAt hC.2.2.2.2.2.2.2.2.1 (t := 5) (by decide)).1 n _) (fun q => by cases q) (by rw [arrV_size]; exact js_inI (by omega)) rfl rfl hd fun H' e1 e2 e3 => ?_
  have hat : js_at ρ a (js_aD true 5 n (vf_upd g i.toNat v)) H' := by
    show H'[a]? = some (arrV (js_dA ρ 5) n (fun j => .double (vf_upd g i.toNat v j)))
    rw [e1, arrV_store, hN]
    congr 2
    funext q
    by_cases hq : q = i.toNat
    · subst hq
      simp [updV, vf_upd]
    · simp [updV, vf_upd, hq]
  exact nx hC h1 h2 (h3.up rfl (Or.inr ⟨_, hh, rfl⟩)) (h4.up (Nat.le_of_eq e2.symm) (fun q _ hq => e3 q hq) hat hBa (by rw [e2]; exact hla)) (h5.put e2 e3 hBa) h6 h7 h8 h9 h10
theorem js_aastore {a n t v ci : Nat} {w : Bool} {g : Int → Option Nat} {i : Int} {fs : List Value} {r : vw_C} {E : String} (ht : t < 8) (hty : js_ty t = .object E) (hr9 : js_cl[ci]? = some r) (hca : Cond.castable r.1 E ∈ js_nw) (hd : decode (js_c M) pc = .ok (.aastore, 1)) (hh : h a = some (js_aQ true t n g)) (hv : h v = some (js_ob w ci fs)) (hr : 0 ≤ i ∧ i < n ∧ n < 2147483648) (nx : js_ok ρ M Q d kc ks (pc + 1) L st (js_up h a (js_aQ true t n (js_uz g i (some v))))) : js_ok ρ M Q d kc ks pc L (.ref v :: .int (jI i) :: .ref a :: st) h := by
  intro p l e R s m args below meth c H locs cells slots ls mc ms hC h1 h2 h3 h4 h5 h6 h7 h8 h9 h10
  obtain ⟨g1, hBa, hla⟩ := h4 a _ hh rfl
  have hN : (jI i).toNatClampNeg = i.toNat := jI_clamp hr.1 (by omega)
  have g2 : H[a]? = some (arrV (js_dA ρ t) n (fun j => va_rf (g (j : Int)))) := g1
  obtain ⟨cv, v1, v2, v3⟩ := js_recv hC.2.2.2.2.2.2.2.2.1 h3 h4 h5 hv hr9
  have h9' := (js_tyAt hC.2.2.2.2.2.2.2.2.1 ht).2
  rw [hty] at h9'
  obtain ⟨kA, comp, k1, k2, k3, -⟩ := h9'
  obtain ⟨kE, hkE, -⟩ := Vm.findClass_spec k3
  obtain ⟨c0, t1, f1, f2, f3⟩ := Cond.castable_spec (va_Nw.use (A := args) rfl (hC.2.2.2.2.2.2.2.2.1.2.1 _ hca))
  cases v3.symm.trans f1
  cases k3.symm.trans f2
  obtain ⟨kV, hkV, -⟩ := Vm.findClass_spec v3
  refine W.aast hC.1 hC.2.1 g2 (fun q h => by cases h) (fun h => by cases h) k1 k2 rfl hkE ⟨by rw [show (0 : Int32) = jI 0 from rfl, jI_lt (by omega)]; omega, by rw [arrV_size, hN]; omega⟩ v1 (fun q h => by rw [h] at v2; cases v2) hkV f3 rfl rfl hd fun H' e1 e2 e3 => ?_
  have hat : js_at ρ a (js_aQ true t n (js_uz g i (some v))) H' := by
    show H'[a]? = some (arrV (js_dA ρ t) n (fun j => va_rf (js_uz g i (some v) (j : Int))))
    rw [e1, arrV_store, hN]
    congr 2
    funext q
    by_cases hq : q = i.toNat
    · subst hq
      simp [updV, js_uz, va_rf, show ((i.toNat : Nat) : Int) = i by omega]
    · simp [updV, js_uz, hq, show ¬ ((q : Nat) : Int) = i by omega]
  exact nx hC h1 h2 (h3.up rfl (Or.inr ⟨_, hh, rfl⟩)) (h4.up (Nat.le_of_eq e2.symm) (fun q _ hq => e3 q hq) hat hBa (by rw [e2]; exact hla)) (h5.put e2 e3 hBa) h6 h7 h8 h9 h10
theorem js_aastoreN {a n t : Nat} {g : Int → Option Nat} {i : Int} {E : String} (ht : t < 8) (hty : js_ty t = .object E) (hd : decode (js_c M) pc = .ok (.aastore, 1)) (hh : h a = some (js_aQ true t n g)) (hr : 0 ≤ i ∧ i < n ∧ n < 2147483648) (nx : js_ok ρ M Q d kc ks (pc + 1) L st (js_up h a (js_aQ true t n (js_uz g i none)))) : js_ok ρ M Q d kc ks pc L (.null :: .int (jI i) :: .ref a :: st) h := by
  intro p l e R s m args below meth c H locs cells slots ls mc ms hC h1 h2 h3 h4 h5 h6 h7 h8 h9 h10
  obtain ⟨g1, hBa, hla⟩ := h4 a _ hh rfl
  have hN : (jI i).toNatClampNeg = i.toNat := jI_clamp hr.1 (by omega)
  have g2 : H[a]? = some (arrV (js_dA ρ t) n (fun j => va_rf (g (j : Int)))) := g1
  refine va_WaastN (C := E) hC.1 hC.2.1 g2 (by rw [← hty]; exact (js_tyAt hC.2.2.2.2.2.2.2.2.1 ht).1 n _) (fun h => by cases h) (by rw [arrV_size]; exact js_inI (by omega)) rfl rfl hd fun H' e1 e2 e3 => ?_
  have hat : js_at ρ a (js_aQ true t n (js_uz g i none)) H' := by
    show H'[a]? = some (arrV (js_dA ρ t) n (fun j => va_rf (js_uz g i none (j : Int))))
    rw [e1, arrV_store, hN]
    congr 2
    funext q
    by_cases hq : q = i.toNat
    · subst hq
      simp [updV, js_uz, va_rf, show ((i.toNat : Nat) : Int) = i by omega]
    · simp [updV, js_uz, hq, show ¬ ((q : Nat) : Int) = i by omega]
  exact nx hC h1 h2 (h3.up rfl (Or.inr ⟨_, hh, rfl⟩)) (h4.up (Nat.le_of_eq e2.symm) (fun q _ hq => e3 q hq) hat hBa (by rw [e2]; exact hla)) (h5.put e2 e3 hBa) h6 h7 h8 h9 h10
theorem js_cast {a ci idx : Nat} {w : Bool} {fs : List Value} {r : vw_C} {nm : String} (hr9 : js_cl[ci]? = some r) (hl : Cond.classLink (js_y M).cls idx nm ∈ lw_all) (hca : Cond.castable r.1 nm ∈ js_nw) (hd : decode (js_c M) pc = .ok (.checkcast idx, 3)) (hh : h a = some (js_ob w ci fs)) (nx : js_ok ρ M Q d kc ks (pc + 3) L (.ref a :: st) h) : js_ok ρ M Q d kc ks pc L (.ref a :: st) h := by
  intro p l e R s m args below meth c H locs cells slots ls mc ms hC h1 h2 h3 h4 h5 h6 h7 h8 h9 h10
  exact va_castY hC.1 hC.2.1 hC.2.2.2.2.2.1 (hC.2.2.2.2.2.2.1 _ hl) (hC.2.2.2.2.2.2.2.2.1.2.1 _ hca) (js_recv hC.2.2.2.2.2.2.2.2.1 h3 h4 h5 hh hr9) hd (nx hC h1 h2 h3 h4 h5 h6 h7 h8 h9 h10)
theorem js_castS {a ci idx : Nat} {w : Bool} {fs : List Value} {r : vw_C} (hr9 : js_cl[ci]? = some r) (hl : Cond.classLink (js_y M).cls idx r.1 ∈ lw_all) (hd : decode (js_c M) pc = .ok (.checkcast idx, 3)) (hh : h a = some (js_ob w ci fs)) (nx : js_ok ρ M Q d kc ks (pc + 3) L (.ref a :: st) h) : js_ok ρ M Q d kc ks pc L (.ref a :: st) h := by
  intro p l e R s m args below meth c H locs cells slots ls mc ms hC h1 h2 h3 h4 h5 h6 h7 h8 h9 h10
  exact va_castS hC.1 hC.2.1 hC.2.2.2.2.2.1 (hC.2.2.2.2.2.2.1 _ hl) (hC.2.2.2.2.2.2.2.2.1.1.1 ci r hr9).2 (js_recv hC.2.2.2.2.2.2.2.2.1 h3 h4 h5 hh hr9) hd (nx hC h1 h2 h3 h4 h5 h6 h7 h8 h9 h10)
theorem js_castN {idx : Nat} (hd : decode (js_c M) pc = .ok (.checkcast idx, 3)) (nx : js_ok ρ M Q d kc ks (pc + 3) L (.null :: st) h) : js_ok ρ M Q d kc ks pc L (.null :: st) h := by
  intro p l e R s m args below meth c H locs cells slots ls mc ms hC h1 h2 h3 h4 h5 h6 h7 h8 h9 h10
  exact lv_castN hC.1 hC.2.1 hd (nx hC h1 h2 h3 h4 h5 h6 h7 h8 h9 h10)
theorem js_instS {a ci idx : Nat} {w : Bool} {fs : List Value} {r : vw_C} (hr9 : js_cl[ci]? = some r) (hl : Cond.classLink (js_y M).cls idx r.1 ∈ lw_all) (hd : decode (js_c M) pc = .ok (.instanceof idx, 3)) (hh : h a = some (js_ob w ci fs)) (nx : js_ok ρ M Q d kc ks (pc + 3) L (.int (jI 1) :: st) h) : js_ok ρ M Q d kc ks pc L (.ref a :: st) h := by
  intro p l e R s m args below meth c H locs cells slots ls mc ms hC h1 h2 h3 h4 h5 h6 h7 h8 h9 h10
  exact va_instS hC.1 hC.2.1 hC.2.2.2.2.2.1 (hC.2.2.2.2.2.2.1 _ hl) (hC.2.2.2.2.2.2.2.2.1.1.1 ci r hr9).2 (js_recv hC.2.2.2.2.2.2.2.2.1 h3 h4 h5 hh hr9) hd (nx hC h1 h2 h3 h4 h5 h6 h7 h8 h9 h10)
theorem js_gets {idx : Nat} {q : String × String × String} (k : Nat) (hq : js_st[k]? = some q) (hl : Cond.fieldLink (js_y M).cls idx q.1 q.2.1 q.2.2 ∈ lw_all) (hd : decode (js_c M) pc = .ok (.getstatic idx, 3)) (nx : js_ok ρ M Q d kc ks (pc + 3) L (js_sv ρ k :: st) h) : js_ok ρ M Q d kc ks pc L st h := by
  intro p l e R s m args below meth c H locs cells slots ls mc ms hC h1 h2 h3 h4 h5 h6 h7 h8 h9 h10
  exact va_gets hC.1 hC.2.1 (hC.2.2.2.2.2.2.2.2.1.2.2.2.2.2.1 k q hq) h5 hC.2.2.2.2.2.1 (hC.2.2.2.2.2.2.1 _ hl) (fun _ x => x) hd (nx hC h1 h2 h3 h4 h5 h6 h7 h8 h9 h10)
theorem js_oinit {a idx : Nat} (hl : Cond.methodLink (js_y M).cls idx objectInit ∈ lw_all) (hi : Cond.instanceMethod objectInit ∈ lw_all) (hk : Cond.code objectInit ⟨#[0xb1]⟩ 1 none ∈ lw_all) (hdp : 1 ≤ d) (hcat : (st.map fun v => v.category).sum ≤ 8) (hd : decode (js_c M) pc = .ok (.invokespecial idx, 3)) (nx : js_ok ρ M Q d kc ks (pc + 3) L st h) : js_ok ρ M Q d kc ks pc L (.ref a :: st) h := by
  intro p l e R s m args below meth c H locs cells slots ls mc ms hC h1 h2 h3 h4 h5 h6 h7 h8 h9 h10
  exact W.objInit hC.1 hC.2.1 hC.2.2.2.2.2.1 (hC.2.2.2.2.2.2.1 _ hl) (hC.2.2.2.2.2.2.1 _ hi) (hC.2.2.2.2.2.2.1 _ hk) rfl (h6.1.trans hC.2.2.2.2.1.symm) rfl hd (by omega) (by have := lv_room (m := m) (pc := pc) (ls := ls) (rest := Value.ref a :: st) (st := st) hcat; omega) (nx hC h1 h2 h3 h4 h5 h6 h7 h8 h9 h10)
theorem js_ldcI {idx : Nat} {v : Int32} (hl : Cond.constant (js_y M).cls idx v ∈ lw_all) (hd : decode (js_c M) pc = .ok (.ldc idx, 2)) (nx : js_ok ρ M Q d kc ks (pc + 2) L (.int v :: st) h) : js_ok ρ M Q d kc ks pc L st h := by
  intro p l e R s m args below meth c H locs cells slots ls mc ms hC h1 h2 h3 h4 h5 h6 h7 h8 h9 h10
  exact lv_ldc hC.1 hC.2.1 hC.2.2.2.2.2.1 (hC.2.2.2.2.2.2.1 _ hl) hd (nx hC h1 h2 h3 h4 h5 h6 h7 h8 h9 h10)
end
