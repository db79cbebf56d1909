/-! small laws for the walks -/
set_option maxRecDepth 100000
/-- 1 or 0 -/
noncomputable def jb (p : Prop) : Int := @ite Int p (Classical.propDecidable p) 1 0
theorem jb_t {p : Prop} (h : p) : jb p = 1 := if_pos h
theorem jb_f {p : Prop} (h : ¬ p) : jb p = 0 := if_neg h
theorem jb_01 (p : Prop) : jb p = 0 ∨ jb p = 1 := by
  by_cases h : p
  · exact Or.inr (jb_t h)
  · exact Or.inl (jb_f h)
theorem jb_1 {p : Prop} (h : jb p = 1) : p := by
  by_cases q : p
  · exact q
  · rw [jb_f q] at h; cases h
theorem jb_0 {p : Prop} (h : jb p = 0) : ¬ p := by
  intro q
  rw [jb_t q] at h
  cases h
theorem jb_c {p q : Prop} (h : p ↔ q) : jb p = jb q := by rw [propext h]
theorem jb_rng (p : Prop) : 0 ≤ jb p ∧ jb p ≤ 1 := by rcases jb_01 p with e | e <;> rw [e] <;> decide
theorem jb_nar (p : Prop) : narrow .boolean (.int (jI (jb p))) = .int (jI (jb p)) := js_nar_boolean (jb_01 p)
theorem js_fit_boolean {v : Int} (hv : v = 0 ∨ v = 1) : fits .boolean (.int (jI v)) = true := by rcases hv with rfl | rfl <;> rfl
theorem js_reti {a b : Int} (e : a = b) : (Sum.inl (some (Value.int (jI a))) : Option Value ⊕ String) = .inl (some (.int (jI b))) := by rw [e]
/-- an entry's place isn't a free one -/
theorem js_nef {h : js_H} {a b : Nat} {e : js_E} (hb : h b = some e) (ha : h a = none) : b ≠ a := by
  rintro rfl
  rw [hb] at ha
  cases ha
theorem js_nek {h : js_H} {a b : Nat} {e e' : js_E} (ha : h a = some e) (hb : h b = some e') (n : e ≠ e') : a ≠ b := by
  rintro rfl
  rw [ha] at hb
  exact n (Option.some.inj hb)
theorem js_kOA {w w' : Bool} {ci t n : Nat} {fs : List Value} {g : Int → Int} : js_ob w ci fs ≠ js_aI w' t n g := by
  intro z; cases z
theorem js_kAO {w w' : Bool} {ci t n : Nat} {fs : List Value} {g : Int → Int} : js_aI w' t n g ≠ js_ob w ci fs := by
  intro z; cases z
theorem js_kOQ {w w' : Bool} {ci t n : Nat} {fs : List Value} {g : Int → Option Nat} : js_ob w ci fs ≠ js_aQ w' t n g := by
  intro z; cases z
theorem js_kQO {w w' : Bool} {ci t n : Nat} {fs : List Value} {g : Int → Option Nat} : js_aQ w' t n g ≠ js_ob w ci fs := by
  intro z; cases z
theorem js_kAQ {w w' : Bool} {t n t' n' : Nat} {f : Int → Int} {g : Int → Option Nat} : js_aI w t n f ≠ js_aQ w' t' n' g := by
  intro z
  have h := (Prod.mk.inj z).2
  have h2 := (Prod.mk.inj (Prod.mk.inj (Sum.inl.inj h)).2).2
  cases h2
theorem js_kQA {w w' : Bool} {t n t' n' : Nat} {f : Int → Int} {g : Int → Option Nat} : js_aQ w' t' n' g ≠ js_aI w t n f := fun z => js_kAQ z.symm
theorem js_kOO {w w' : Bool} {ci ci' : Nat} {fs fs' : List Value} (n : ci ≠ ci') : js_ob w ci fs ≠ js_ob w' ci' fs' := by
  intro z
  have h := (Prod.mk.inj z).2
  exact n (Prod.mk.inj (Sum.inl.inj (Sum.inr.inj h))).1
theorem js_kAn {w w' : Bool} {t n t' n' : Nat} {f g : Int → Int} (hn : n ≠ n') : js_aI w t n f ≠ js_aI w' t' n' g := by
  intro z
  have h := (Prod.mk.inj z).2
  exact hn (Prod.mk.inj (Prod.mk.inj (Sum.inl.inj h)).2).1
section
variable {ρ : js_R} {M : js_M} {Q : js_Q} {d kc ks pc : Nat} {L : List (Nat × Value)} {st : List Value} {h : js_H}
theorem js_if_eqB {p : Prop} {off : Int} {tgt : Nat} (hd : decode (js_c M) pc = .ok (.ifCond .eq off, 3)) (ht : (pc : Int) + off = (tgt : Int)) (kt : ¬ p → js_ok ρ M Q d kc ks tgt L st h) (kf : p → js_ok ρ M Q d kc ks (pc + 3) L st h) : js_ok ρ M Q d kc ks pc L (.int (jI (jb p)) :: st) h :=
  js_if_eq hd ht (by have := jb_rng p; omega) (fun q => kt (jb_0 q)) (fun q => kf (Classical.byContradiction fun z => q (jb_f z)))
theorem js_if_neB {p : Prop} {off : Int} {tgt : Nat} (hd : decode (js_c M) pc = .ok (.ifCond .ne off, 3)) (ht : (pc : Int) + off = (tgt : Int)) (kt : p → js_ok ρ M Q d kc ks tgt L st h) (kf : ¬ p → js_ok ρ M Q d kc ks (pc + 3) L st h) : js_ok ρ M Q d kc ks pc L (.int (jI (jb p)) :: st) h :=
  js_if_ne hd ht (by have := jb_rng p; omega) (fun q => kt (Classical.byContradiction fun z => q (jb_f z))) (fun q => kf (jb_0 q))
/-- two ways that meet, with a number on the stack -/
theorem js_join (pcJ : Nat) (LJ : List (Nat × Value)) (stJ : List Value) (hJ : js_H) (e : Int) (rest : ∀ z : Int, z = e → js_ok ρ M Q d kc ks pcJ LJ (.int (jI z) :: stJ) hJ) (k : (∀ z : Int, z = e → js_ok ρ M Q d kc ks pcJ LJ (.int (jI z) :: stJ) hJ) → js_ok ρ M Q d kc ks pc L st h) : js_ok ρ M Q d kc ks pc L st h := k rest
/-- two ways that meet -/
theorem js_cut {kc' ks' : Nat} (pcJ : Nat) (LJ : List (Nat × Value)) (stJ : List Value) (hJ : js_H) (rest : js_ok ρ M Q d kc' ks' pcJ LJ stJ hJ) (k : js_ok ρ M Q d kc' ks' pcJ LJ stJ hJ → js_ok ρ M Q d kc ks pc L st h) : js_ok ρ M Q d kc ks pc L st h := k rest
/-- two ways that meet in one of many states -/
theorem js_meet {σ : Type} (I : σ → Prop) (kcf ksf : σ → Nat) (pcJ : Nat) (LJ : σ → List (Nat × Value)) (stJ : σ → List Value) (hJ : σ → js_H) (rest : ∀ s : σ, I s → js_ok ρ M Q d (kcf s) (ksf s) pcJ (LJ s) (stJ s) (hJ s)) (k : (∀ s : σ, I s → js_ok ρ M Q d (kcf s) (ksf s) pcJ (LJ s) (stJ s) (hJ s)) → js_ok ρ M Q d kc ks pc L st h) : js_ok ρ M Q d kc ks pc L st h := k rest
/-- a loop: its states, what holds at its head, a measure that falls -/
theorem js_loop {σ : Type} (I : σ → Prop) (μ : σ → Nat) (kcf ksf : σ → Nat) (pcL : Nat) (Lf : σ → List (Nat × Value)) (stf : σ → List Value) (hf : σ → js_H) (step : ∀ s : σ, I s → (∀ s' : σ, I s' → μ s' < μ s → js_ok ρ M Q d (kcf s') (ksf s') pcL (Lf s') (stf s') (hf s')) → js_ok ρ M Q d (kcf s) (ksf s) pcL (Lf s) (stf s) (hf s)) (s0 : σ) (h0 : I s0) : js_ok ρ M Q d (kcf s0) (ksf s0) pcL (Lf s0) (stf s0) (hf s0) := by
  have key : ∀ n : Nat, ∀ s : σ, μ s < n → I s → js_ok ρ M Q d (kcf s) (ksf s) pcL (Lf s) (stf s) (hf s) := by
    intro n
    induction n with
    | zero => intro s hs _; exact absurd hs (Nat.not_lt_zero _)
    | succ n ih => intro s hs hI; exact step s hI (fun s' hI' hm => ih s' (by omega) hI')
  exact key (μ s0 + 1) s0 (Nat.lt_succ_self _) h0
end
theorem js_nar_rf {C : String} (r : Option Nat) : narrow (.object C) (va_rf r) = va_rf r := by cases r <;> rfl
theorem js_nar_rfA {t : FieldType} (r : Option Nat) : narrow (.array t) (va_rf r) = va_rf r := by cases r <;> rfl
theorem js_fit_rf {C : String} (r : Option Nat) : fits (.object C) (va_rf r) = true := by cases r <;> rfl
theorem js_fit_rfA {t : FieldType} (r : Option Nat) : fits (.array t) (va_rf r) = true := by cases r <;> rfl
section
variable {ρ : js_R} {M : js_M} {Q : js_Q} {d kc ks pc : Nat} {L : List (Nat × Value)} {st : List Value} {h : js_H}
theorem js_newaI {t N : Nat} {n : Int} {atype : ArrayType} {kc' ks' : Nat} (ht : t < 4) (hty : newarray.typeOf atype = js_ty t) (hl : Cond.arrayClass (js_ty t) ∈ lw_all) (hd : decode (js_c M) pc = .ok (.newarray atype, 2)) (hN : n.toNat = N) (hr : 0 ≤ n ∧ n ≤ 1000000) (hk : kc' + 1 ≤ kc) (hs : (ks' : Int) + n ≤ ks) (nx : ∀ a : Nat, h a = none → js_B ρ ≤ a → js_ok ρ M Q d kc' ks' (pc + 2) L (.ref a :: st) (js_up h a (js_aI true t N (fun _ => 0)))) : js_ok ρ M Q d kc ks pc L (.int (jI n) :: st) h := by
  subst hN
  refine js_newa (t := t) (en := js_aI true t n.toNat (fun _ => 0)) (by omega) hty hl ⟨rfl, _, rfl, fun cA => ?_⟩ ?_ hd hr ?_ hk hs nx
  · rw [vp_cell_i]
    rcases (show t = 0 ∨ t = 1 ∨ t = 2 ∨ t = 3 by omega) with rfl | rfl | rfl | rfl <;> rfl
  · intro U cA hz
    rcases (show t = 0 ∨ t = 1 ∨ t = 2 ∨ t = 3 by omega) with rfl | rfl | rfl | rfl <;> exact hz
  · rcases (show t = 0 ∨ t = 1 ∨ t = 2 ∨ t = 3 by omega) with rfl | rfl | rfl | rfl <;> decide
end
set_option maxRecDepth 100000
theorem thX8_54 : js_thW RX8 54 "java/util/NoSuchElementException" ["java/lang/RuntimeException", "java/lang/Exception"] [111, 411, 420, 429, 432, 434, 412, 413, 156, 157, 414, 419, 430, 447, 401, 448, 403, 449, 405, 415, 417, 407, 436, 437, 438, 439, 392, 439, 440, 441, 442, 394, 442, 443, 444, 412, 396, 435, 390, 391, 398, 399, 400, 402, 404, 406, 445, 409, 408] := ⟨by decide +kernel, by decide +kernel, by decide +kernel, by decide +kernel, by decide +kernel⟩
theorem thX1_48 : js_thW RX1 48 "java/lang/UnsupportedOperationException" ["java/lang/RuntimeException", "java/lang/Exception"] [111, 411, 420, 429, 432, 434, 412, 413, 156, 157, 414, 419, 430, 447, 401, 448, 403, 449, 405, 415, 417, 407, 1165, 1166, 1167, 439, 392, 439, 440, 441, 442, 394, 442, 443, 444, 412, 396, 1164, 1156, 1157, 1158, 428, 1159, 1160, 1161, 1162, 445, 409, 1163] := ⟨by decide +kernel, by decide +kernel, by decide +kernel, by decide +kernel, by decide +kernel⟩
theorem thX1_62 : js_thW RX1 62 "java/lang/IndexOutOfBoundsException" ["java/lang/RuntimeException", "java/lang/Exception"] [111, 411, 420, 429, 432, 434, 412, 413, 156, 157, 414, 419, 430, 447, 401, 448, 403, 449, 405, 415, 417, 407, 1369, 1370, 1371, 439, 392, 439, 440, 441, 442, 394, 442, 443, 444, 412, 396, 1368, 1360, 1361, 1362, 426, 1363, 1364, 1365, 1366, 445, 409, 1367] := ⟨by decide +kernel, by decide +kernel, by decide +kernel, by decide +kernel, by decide +kernel⟩
theorem thX1_59 : js_thW RX1 59 "java/lang/IllegalArgumentException" ["java/lang/RuntimeException", "java/lang/Exception"] [111, 411, 420, 429, 432, 434, 412, 413, 156, 157, 414, 419, 430, 447, 401, 448, 403, 449, 405, 415, 417, 407, 1379, 1380, 1381, 439, 392, 439, 440, 441, 442, 394, 442, 443, 444, 412, 396, 1378, 883, 884, 885, 424, 886, 887, 888, 889, 445, 409, 890] := ⟨by decide +kernel, by decide +kernel, by decide +kernel, by decide +kernel, by decide +kernel⟩
theorem thX1_65 : js_thW RX1 65 "java/util/NoSuchElementException" ["java/lang/RuntimeException", "java/lang/Exception"] [111, 411, 420, 429, 432, 434, 412, 413, 156, 157, 414, 419, 430, 447, 401, 448, 403, 449, 405, 415, 417, 407, 436, 437, 438, 439, 392, 439, 440, 441, 442, 394, 442, 443, 444, 412, 396, 1498, 390, 391, 398, 399, 400, 402, 404, 406, 445, 409, 408] := ⟨by decide +kernel, by decide +kernel, by decide +kernel, by decide +kernel, by decide +kernel⟩
theorem thX1_68 : js_thW RX1 68 "java/lang/IllegalStateException" ["java/lang/RuntimeException", "java/lang/Exception"] [111, 411, 420, 429, 432, 434, 412, 413, 156, 157, 414, 419, 430, 447, 401, 448, 403, 449, 405, 415, 417, 407, 1622, 1623, 1624, 439, 392, 439, 440, 441, 442, 394, 442, 443, 444, 412, 396, 1621, 575, 576, 577, 425, 578, 579, 580, 581, 445, 409, 582] := ⟨by decide +kernel, by decide +kernel, by decide +kernel, by decide +kernel, by decide +kernel⟩
theorem thX1_496 : js_thW RX1 496 "java/lang/ArithmeticException" ["java/lang/RuntimeException", "java/lang/Exception"] [111, 411, 420, 429, 432, 434, 412, 413, 156, 157, 414, 419, 430, 447, 401, 448, 403, 449, 405, 415, 417, 407, 2182, 2183, 2184, 439, 392, 439, 440, 441, 442, 394, 442, 443, 444, 412, 396, 2181, 2155, 2166, 2167, 422, 2161, 2162, 2164, 2160, 445, 409, 2159] := ⟨by decide +kernel, by decide +kernel, by decide +kernel, by decide +kernel, by decide +kernel⟩
