set_option maxRecDepth 100000
/-! Math.max, Math.min, Math.abs: rows of the machine -/
section
variable {ρ : js_R} {M : js_M} {Q : js_Q} {d kc ks pc : Nat} {L : List (Nat × Value)} {st : List Value} {h : js_H}
theorem js_mmax {a b : Int} {idx : Nat} (hl : Cond.methodLink (js_y M).cls idx Lib.Math.max.name ∈ lw_all) (hd : decode (js_c M) pc = .ok (.invokestatic idx, 3)) (hr : -2147483648 ≤ a ∧ a < 2147483648 ∧ -2147483648 ≤ b ∧ b < 2147483648) (hdp : 1 ≤ d) (hcat : (st.map fun v => v.category).sum ≤ 8) (nx : js_ok ρ M Q d kc ks (pc + 3) L (.int (jI (max a b)) :: st) h) : js_ok ρ M Q d kc ks pc L (.int (jI b) :: .int (jI a) :: st) h := by
  intro p l e R s m args below meth c H locs cells slots ls mc ms hC h1 h2 h3 h4 h5 h6 h7 h8 h9 h10
  refine va_mmax hC.1 hC.2.1 (by rw [hC.2.2.2.2.1]; exact h6.1.symm) hC.2.2.2.2.2.1 (hC.2.2.2.2.2.2.1 _ hl) (hC.2.2.2.2.2.2.1 _ q730) (hC.2.2.2.2.2.2.1 _ q121) (hC.2.2.2.2.2.2.1 _ q731) (by omega) (by omega) (by omega) (by omega) hd ?_
  have e : (if jI a < jI b then jI b else jI a) = jI (max a b) := by
    by_cases q : a < b
    · rw [if_pos ((jI_lt (by omega)).mpr q), Int.max_eq_right (by omega)]
    · rw [if_neg (fun z => q ((jI_lt (by omega)).mp z)), Int.max_eq_left (by omega)]
  rw [e]
  exact nx hC h1 h2 h3 h4 h5 h6 h7 h8 h9 h10
theorem js_mmin {a b : Int} {idx : Nat} (hl : Cond.methodLink (js_y M).cls idx Lib.Math.min.name ∈ lw_all) (hd : decode (js_c M) pc = .ok (.invokestatic idx, 3)) (hr : -2147483648 ≤ a ∧ a < 2147483648 ∧ -2147483648 ≤ b ∧ b < 2147483648) (hdp : 1 ≤ d) (hcat : (st.map fun v => v.category).sum ≤ 8) (nx : js_ok ρ M Q d kc ks (pc + 3) L (.int (jI (min a b)) :: st) h) : js_ok ρ M Q d kc ks pc L (.int (jI b) :: .int (jI a) :: st) h := by
  intro p l e R s m args below meth c H locs cells slots ls mc ms hC h1 h2 h3 h4 h5 h6 h7 h8 h9 h10
  refine va_mmin hC.1 hC.2.1 (by rw [hC.2.2.2.2.1]; exact h6.1.symm) hC.2.2.2.2.2.1 (hC.2.2.2.2.2.2.1 _ hl) (hC.2.2.2.2.2.2.1 _ q644) (hC.2.2.2.2.2.2.1 _ q121) (hC.2.2.2.2.2.2.1 _ q645) (by omega) (by omega) (by omega) (by omega) hd ?_
  have e : (if jI b < jI a then jI b else jI a) = jI (min a b) := by
    by_cases q : b < a
    · rw [if_pos ((jI_lt (by omega)).mpr q), Int.min_eq_right (by omega)]
    · rw [if_neg (fun z => q ((jI_lt (by omega)).mp z)), Int.min_eq_left (by omega)]
  rw [e]
  exact nx hC h1 h2 h3 h4 h5 h6 h7 h8 h9 h10
/-- how far a number is from 0 -/
def zabs (a : Int) : Int := if 0 ≤ a then a else -a
theorem js_mabs {a : Int} {idx : Nat} (hl : Cond.methodLink (js_y M).cls idx Lib.Math.abs.name ∈ lw_all) (hd : decode (js_c M) pc = .ok (.invokestatic idx, 3)) (hr : -2147483648 < a ∧ a < 2147483648) (hdp : 1 ≤ d) (hcat : (st.map fun v => v.category).sum ≤ 8) (nx : js_ok ρ M Q d kc ks (pc + 3) L (.int (jI (zabs a)) :: st) h) : js_ok ρ M Q d kc ks pc L (.int (jI a) :: st) h := by
  intro p l e R s m args below meth c H locs cells slots ls mc ms hC h1 h2 h3 h4 h5 h6 h7 h8 h9 h10
  refine va_mabs hC.1 hC.2.1 (by rw [hC.2.2.2.2.1]; exact h6.1.symm) hC.2.2.2.2.2.1 (hC.2.2.2.2.2.2.1 _ hl) (hC.2.2.2.2.2.2.1 _ q2427) (hC.2.2.2.2.2.2.1 _ q121) (hC.2.2.2.2.2.2.1 _ q2428) (by omega) (by omega) (by omega) (by omega) hd ?_
  have e : (if 0 ≤ jI a then jI a else 0 - jI a) = jI (zabs a) := by
    unfold zabs
    by_cases q : 0 ≤ a
    · rw [if_pos (by rw [show (0 : Int32) = jI 0 from rfl, jI_le (by omega)]; exact q), if_pos q]
    · rw [if_neg (by rw [show (0 : Int32) = jI 0 from rfl, jI_le (by omega)]; exact q), if_neg q, show (0 : Int32) = jI 0 from rfl, jI_sub, Int.zero_sub]
  rw [e]
  exact nx hC h1 h2 h3 h4 h5 h6 h7 h8 h9 h10
end
theorem js_selfU {h : js_H} {a : Nat} {e : js_E} (x : h a = some e) : js_up h a e = h := by
  funext q
  by_cases z : q = a
  · subst z; rw [x]; exact js_up_s
  · exact js_up_n z
theorem js_heq {ρ : js_R} {M : js_M} {Q : js_Q} {d kc ks pc : Nat} {L : List (Nat × Value)} {st : List Value} {h h' : js_H} (e : h' = h) (nx : js_ok ρ M Q d kc ks pc L st h') : js_ok ρ M Q d kc ks pc L st h := e ▸ nx
