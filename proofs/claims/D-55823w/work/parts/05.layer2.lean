/-! calls, ends, throws, bodies -/
section
variable {ρ : js_R} {M : js_M} {Q : js_Q} {d kc ks pc : Nat} {L : List (Nat × Value)} {st : List Value} {h : js_H}
theorem js_blind {ρ : js_R} {av : List Value} {h : js_H} : FrameBlind (js_Pc ρ av h) := by
  intro a U g mk q
  obtain ⟨q0, q1, q2, q3⟩ := q
  exact ⟨q0, q1, q2, js_Kx.warm (s := U) (U := U.calling g mk a) (State.WarmedH.refl U) (Nat.le_refl _) (fun _ _ _ => rfl) q3⟩
theorem js_pre {ρ : js_R} {s : State} {H : Heap} {locs : List Loc} {av : List Value} {h : js_H} (hK : js_Kx ρ s s.heap) (hI : js_Inv ρ h) (hP : js_Pic ρ h H) (hS : va_S (js_fr ρ) s.heap H locs) : ∀ U : State, U.heap = H → s.WarmedH U.vm → js_Pc ρ av h av.toArray U := by
  intro U hU hW
  refine ⟨rfl, hI, by rw [hU]; exact hP, hK.warm hW (by rw [hU]; exact hS.1) (fun q h1 h2 => by rw [hU]; exact hS.2.1 q h1 h2)⟩
/-- behind a call: it has returned, or thrown -/
theorem js_go {p : Program} {l : Launch} {e : Env} {R : Room} {s : State} {m : MethodId} {args : Array Value} {below : List Frame} {meth : Method} {c : Code} {H : Heap} {locs : List Loc} {cells slots mcc mss pc : Nat} {ls : Array Slot} {st0 rest : List Value} {Z : State → Prop} {a : Array Value} {ρ : js_R} {Q' : js_Q}
    (hr : vx_Run p l e R s m args below meth c H locs cells slots mcc mss (F0 m pc ls st0) rest (js_Qc ρ Q' a) (js_XC ρ Q') (js_fr ρ)) (hS : va_S (js_fr ρ) s.heap H locs)
    (kk : ∀ (v : Option Value) (h' : js_H) (H1 : Heap) (locs1 : List Loc), Q' (.inl v) h' → js_Inv ρ h' → js_Pic ρ h' H1 → va_S (js_fr ρ) s.heap H1 locs1 → W p l e R s m args below meth c H1 locs1 (cells + mcc) (slots + mss) Z (F0 m (pc + 3) ls (v.toList ++ rest)))
    (kx : ∀ (E : String) (h' : js_H) (H1 : Heap) (locs1 : List Loc) (q : Addr) (ce : Cell), Q' (.inr E) h' → js_Inv ρ h' → js_Pic ρ h' H1 → va_S (js_fr ρ) s.heap H1 locs1 → H1[q]? = some ce → ce.vm = .none → s.vm.findClass E = some ce.cls → vx_W p l e R s m args below meth c H1 locs1 (cells + mcc) (slots + mss) Z (F0 m pc ls rest) q) : W p l e R s m args below meth c H locs cells slots Z (F0 m pc ls st0) := by
  intro T hT X
  rcases hr T hT X with ⟨v, st₀, t, T', L, h0, X', hL, e1, e2, ⟨v', h', hv, hq, hI, hP, hF⟩, st⟩ | ⟨q, st₀, t, T', L, E, ce, h0, X', hL, e1, e2, ⟨h', hq, hI, hP, hF⟩, hce, hcv, hcl, st⟩
  · cases hv
    obtain ⟨k1, k2, k3⟩ := vx_keep h0 e1 hS (fun _ _ z => z) (fun _ z => z) hL hF
    obtain ⟨t2, a1, b1⟩ := kk v h' T'.heap (locs ++ L) hq hI (by rw [e1]; exact hP) k3 T' rfl X'
    exact ⟨t2, st t2 a1, b1⟩
  · obtain ⟨k1, k2, k3⟩ := vx_keep h0 e1 hS (fun _ _ z => z) (fun _ z => z) hL hF
    obtain ⟨t2, a1, b1⟩ := kx E h' T'.heap (locs ++ L) q ce hq hI (by rw [e1]; exact hP) k3 (by rw [e1]; exact hce) hcv hcl T' rfl X'
    exact ⟨t2, st.trans a1, b1⟩
/-- the same, by an interface -/
theorem js_go5 {p : Program} {l : Launch} {e : Env} {R : Room} {s : State} {m : MethodId} {args : Array Value} {below : List Frame} {meth : Method} {c : Code} {H : Heap} {locs : List Loc} {cells slots mcc mss pc : Nat} {ls : Array Slot} {st0 rest : List Value} {Z : State → Prop} {a : Array Value} {ρ : js_R} {Q' : js_Q}
    (hr : vx_Run5 p l e R s m args below meth c H locs cells slots mcc mss (F0 m pc ls st0) rest (js_Qc ρ Q' a) (js_XC ρ Q') (js_fr ρ)) (hS : va_S (js_fr ρ) s.heap H locs)
    (kk : ∀ (v : Option Value) (h' : js_H) (H1 : Heap) (locs1 : List Loc), Q' (.inl v) h' → js_Inv ρ h' → js_Pic ρ h' H1 → va_S (js_fr ρ) s.heap H1 locs1 → W p l e R s m args below meth c H1 locs1 (cells + mcc) (slots + mss) Z (F0 m (pc + 5) ls (v.toList ++ rest)))
    (kx : ∀ (E : String) (h' : js_H) (H1 : Heap) (locs1 : List Loc) (q : Addr) (ce : Cell), Q' (.inr E) h' → js_Inv ρ h' → js_Pic ρ h' H1 → va_S (js_fr ρ) s.heap H1 locs1 → H1[q]? = some ce → ce.vm = .none → s.vm.findClass E = some ce.cls → vx_W p l e R s m args below meth c H1 locs1 (cells + mcc) (slots + mss) Z (F0 m pc ls rest) q) : W p l e R s m args below meth c H locs cells slots Z (F0 m pc ls st0) := by
  intro T hT X
  rcases hr T hT X with ⟨v, st₀, t, T', L, h0, X', hL, e1, e2, ⟨v', h', hv, hq, hI, hP, hF⟩, st⟩ | ⟨q, st₀, t, T', L, E, ce, h0, X', hL, e1, e2, ⟨h', hq, hI, hP, hF⟩, hce, hcv, hcl, st⟩
  · cases hv
    obtain ⟨k1, k2, k3⟩ := vx_keep h0 e1 hS (fun _ _ z => z) (fun _ z => z) hL hF
    obtain ⟨t2, a1, b1⟩ := kk v h' T'.heap (locs ++ L) hq hI (by rw [e1]; exact hP) k3 T' rfl X'
    exact ⟨t2, st t2 a1, b1⟩
  · obtain ⟨k1, k2, k3⟩ := vx_keep h0 e1 hS (fun _ _ z => z) (fun _ z => z) hL hF
    obtain ⟨t2, a1, b1⟩ := kx E h' T'.heap (locs ++ L) q ce hq hI (by rw [e1]; exact hP) k3 (by rw [e1]; exact hce) hcv hcl T' rfl X'
    exact ⟨t2, st.trans a1, b1⟩
theorem js_ws0 {M : js_M} (ht : js_t M = []) : js_ws M = ws_ (js_y M) (js_c M) (js_n M) (js_r M) := by
  unfold js_ws
  rw [ht]
theorem js_wsW {M : js_M} {x : Nat × Nat × Nat × Nat} {tl : List (Nat × Nat × Nat × Nat)} (ht : js_t M = x :: tl) : js_ws M = wsW_ (js_y M) (js_c M) (js_n M) (js_r M) (x :: tl) := by
  unfold js_ws
  rw [ht]
/-- what a callee without handlers brings: its code word, its number of arguments, its size -/
def js_cal (M : js_M) (n : Nat) : Prop := js_t M = [] ∧ js_n M ≤ 40 ∧ Cond.code (js_y M) (js_c M) (js_n M) (js_r M) ∈ lw_all ∧ (js_y M).cls ≠ "java/lang/invoke/MethodHandle" ∧ (js_y M).cls ≠ "java/lang/invoke/VarHandle" ∧ (parseMethodDescriptor (js_y M).desc).map (fun d => d.parameters.length) = some n
def js_calW (M : js_M) (n : Nat) : Prop := js_t M ≠ [] ∧ js_n M ≤ 40 ∧ Cond.codeWith (js_y M) (js_c M) (js_n M) (js_r M) (js_t M) ∈ lw_all ∧ (js_y M).cls ≠ "java/lang/invoke/MethodHandle" ∧ (js_y M).cls ≠ "java/lang/invoke/VarHandle" ∧ (parseMethodDescriptor (js_y M).desc).map (fun d => d.parameters.length) = some n
theorem js_invV {M2 : js_M} {Q' : js_Q} {d2 kc2 ks2 kc' ks' n idx : Nat} {As : List Value} {sta : List Value} {C : String} {T : u_T} {N ci b : Nat} {w : Bool} {fs : List Value} (hcal : js_cal M2 n) (hy : (js_y M2).cls = C) (hr : js_cl[ci]? = some (C, T, N)) (w1 : Cond.methodLink (js_y M).cls idx (js_y M2) ∈ lw_all) (w2 : Cond.instanceMethod (js_y M2) ∈ lw_all) (w3 : Cond.selects C (js_y M2) (js_y M2) ∈ lw_all) (w4 : Cond.initialized C ∈ lw_all) (hn : As.length = n) (hsta : sta = As.reverse ++ .ref b :: st) (hd : decode (js_c M) pc = .ok (.invokevirtual idx, 3)) (hh : h b = some (js_ob w ci fs)) (hc : js_Con ρ M2 d2 kc2 ks2 (.ref b :: As) h Q') (hD : d2 < d) (hk : kc2 + kc' ≤ kc) (hs : ks2 + ks' ≤ ks) (hcat : (st.map fun v => v.category).sum ≤ 8) (kk : ∀ (v : Option Value) (h' : js_H), Q' (.inl v) h' → js_ok ρ M Q d kc' ks' (pc + 3) L (v.toList ++ st) h') (kx : ∀ (E : String) (h' : js_H), Q' (.inr E) h' → js_thr ρ M Q d kc' ks' pc L E h') : js_ok ρ M Q d kc ks pc L sta h := by
  intro p l e R s m args below meth c H locs cells slots ls mc ms hC h1 h2 h3 h4 h5 h6 h7 h8 h9 h10
  obtain ⟨ht, hnl, w5, hy1, hy2, hpd⟩ := hcal
  subst hsta
  have cw : CallW R s args (js_y M).cls C idx (js_y M2) (js_c M2) (js_n M2) (js_r M2) (js_ws M2) ({ frames := d2, cells := kc2, slots := ks2, locals := 64 * d2 } : Room) kc2 ks2 n :=
    cwV n hC.2.2.2.2.2.2.1 (by rw [js_ws0 ht]; exact lw_V w1 w2 w3 w4 w5) (js_ws0 ht) rfl rfl ⟨hy, hy1, hy2, hpd⟩ ⟨by show d2 + 1 ≤ R.frames; omega, by show 8 + (js_n M2 + 11) + 64 * d2 ≤ R.locals; omega⟩
  refine js_go (vx_runV ⟨hC.1, hC.2.1, hC.2.2.2.2.1, hC.2.2.2.2.2.1, hC.2.2.2.2.2.2.1⟩ (hc l ({ frames := d2, cells := kc2, slots := ks2, locals := 64 * d2 } : Room) kc2 ks2 Q' hC.2.2.2.2.2.2.2.2.2.2 (Nat.le_refl _) (Nat.le_refl _) rfl rfl (Nat.le_refl _) (Nat.le_refl _) (fun _ _ z => z)) cw ⟨js_blind, js_recv hC.2.2.2.2.2.2.2.2.1 h3 h4 h5 hh hr, js_pre hC.2.2.2.2.2.2.2.2.1 h3 h4 h5⟩ rfl hn h6.1 rfl (lv_room hcat) hd ⟨by omega, by omega⟩) h5 ?_ ?_
  · intro v h' H1 locs1 q1 q2 q3 q4
    exact kk v h' q1 hC h1 h2 q2 q3 q4 h6 (by omega) (by omega) (by omega) (by omega)
  · intro E h' H1 locs1 q ce q1 q2 q3 q4 q5 q6 q7
    exact kx E h' q1 hC h1 h2 q2 q3 q4 h6 (by omega) (by omega) (by omega) (by omega) q5 q6 (by rw [← hC.2.2.2.2.2.2.2.2.1.2.2.1]; exact q7)
theorem js_invVX {M2 : js_M} {Q' : js_Q} {d2 kc2 ks2 kc' ks' n idx : Nat} {As : List Value} {sta : List Value} {C : String} {T : u_T} {N ci b : Nat} {w : Bool} {fs : List Value} (hcal : js_calW M2 n) (hy : (js_y M2).cls = C) (hr : js_cl[ci]? = some (C, T, N)) (w1 : Cond.methodLink (js_y M).cls idx (js_y M2) ∈ lw_all) (w2 : Cond.instanceMethod (js_y M2) ∈ lw_all) (w3 : Cond.selects C (js_y M2) (js_y M2) ∈ lw_all) (w4 : Cond.initialized C ∈ lw_all) (hn : As.length = n) (hsta : sta = As.reverse ++ .ref b :: st) (hd : decode (js_c M) pc = .ok (.invokevirtual idx, 3)) (hh : h b = some (js_ob w ci fs)) (hc : js_Con ρ M2 d2 kc2 ks2 (.ref b :: As) h Q') (hD : d2 < d) (hk : kc2 + kc' ≤ kc) (hs : ks2 + ks' ≤ ks) (hcat : (st.map fun v => v.category).sum ≤ 8) (kk : ∀ (v : Option Value) (h' : js_H), Q' (.inl v) h' → js_ok ρ M Q d kc' ks' (pc + 3) L (v.toList ++ st) h') (kx : ∀ (E : String) (h' : js_H), Q' (.inr E) h' → js_thr ρ M Q d kc' ks' pc L E h') : js_ok ρ M Q d kc ks pc L sta h := by
  intro p l e R s m args below meth c H locs cells slots ls mc ms hC h1 h2 h3 h4 h5 h6 h7 h8 h9 h10
  obtain ⟨ht, hnl, w5, hy1, hy2, hpd⟩ := hcal
  obtain ⟨x, tl, ht⟩ := List.exists_cons_of_ne_nil ht
  rw [ht] at w5
  subst hsta
  have cw : vx_CVW R s args (js_y M).cls C idx (js_y M2) (js_c M2) (js_n M2) (js_r M2) (x :: tl) (js_ws M2) ({ frames := d2, cells := kc2, slots := ks2, locals := 64 * d2 } : Room) kc2 ks2 n :=
    vx_cwVW n hC.2.2.2.2.2.2.1 (by rw [js_wsW ht]; exact lw_VW w1 w2 w3 w4 w5) (js_wsW ht) rfl rfl ⟨hy, hy1, hy2, hpd⟩ ⟨by show d2 + 1 ≤ R.frames; omega, by show 8 + (js_n M2 + 11) + 64 * d2 ≤ R.locals; omega⟩
  refine js_go (vx_runVX ⟨hC.1, hC.2.1, hC.2.2.2.2.1, hC.2.2.2.2.2.1, hC.2.2.2.2.2.2.1⟩ (hc l ({ frames := d2, cells := kc2, slots := ks2, locals := 64 * d2 } : Room) kc2 ks2 Q' hC.2.2.2.2.2.2.2.2.2.2 (Nat.le_refl _) (Nat.le_refl _) rfl rfl (Nat.le_refl _) (Nat.le_refl _) (fun _ _ z => z)) cw ⟨js_blind, js_recv hC.2.2.2.2.2.2.2.2.1 h3 h4 h5 hh hr, js_pre hC.2.2.2.2.2.2.2.2.1 h3 h4 h5⟩ rfl hn h6.1 rfl (lv_room hcat) hd ⟨by omega, by omega⟩) h5 ?_ ?_
  · intro v h' H1 locs1 q1 q2 q3 q4
    exact kk v h' q1 hC h1 h2 q2 q3 q4 h6 (by omega) (by omega) (by omega) (by omega)
  · intro E h' H1 locs1 q ce q1 q2 q3 q4 q5 q6 q7
    exact kx E h' q1 hC h1 h2 q2 q3 q4 h6 (by omega) (by omega) (by omega) (by omega) q5 q6 (by rw [← hC.2.2.2.2.2.2.2.2.1.2.2.1]; exact q7)
theorem js_invS {M2 : js_M} {Q' : js_Q} {d2 kc2 ks2 kc' ks' n idx : Nat} {As : List Value} {sta : List Value} (hcal : js_cal M2 n) (w1 : Cond.methodLink (js_y M).cls idx (js_y M2) ∈ lw_all) (w2 : Cond.static (js_y M2) ∈ lw_all) (w4 : Cond.initialized (js_y M2).cls ∈ lw_all) (hn : As.length = n) (hsta : sta = As.reverse ++ st) (hd : decode (js_c M) pc = .ok (.invokestatic idx, 3)) (hc : js_Con ρ M2 d2 kc2 ks2 As h Q') (hD : d2 < d) (hk : kc2 + kc' ≤ kc) (hs : ks2 + ks' ≤ ks) (hcat : (st.map fun v => v.category).sum ≤ 8) (kk : ∀ (v : Option Value) (h' : js_H), Q' (.inl v) h' → js_ok ρ M Q d kc' ks' (pc + 3) L (v.toList ++ st) h') (kx : ∀ (E : String) (h' : js_H), Q' (.inr E) h' → js_thr ρ M Q d kc' ks' pc L E h') : js_ok ρ M Q d kc ks pc L sta h := by
  intro p l e R s m args below meth c H locs cells slots ls mc ms hC h1 h2 h3 h4 h5 h6 h7 h8 h9 h10
  obtain ⟨ht, hnl, w5, hy1, hy2, hpd⟩ := hcal
  subst hsta
  have cw := va_cwS (R := R) (s := s) (args := args) (own := (js_y M).cls) (index := idx) (y := js_y M2) (bytes := js_c M2) (maxL := js_n M2) (ret := js_r M2) (ws := js_ws M2) (rm := ({ frames := d2, cells := kc2, slots := ks2, locals := 64 * d2 } : Room)) (mc := kc2) (ms := ks2) n hC.2.2.2.2.2.2.1 (by rw [js_ws0 ht]; exact lw_S w1 w2 w4 w5) (js_ws0 ht) rfl rfl ⟨hy1, hy2, hpd⟩ ⟨by show d2 + 1 ≤ R.frames; omega, by show 8 + (js_n M2 + 11) + 64 * d2 ≤ R.locals; omega⟩
  refine js_go (vx_runS ⟨hC.1, hC.2.1, hC.2.2.2.2.1, hC.2.2.2.2.2.1, hC.2.2.2.2.2.2.1⟩ (hc l ({ frames := d2, cells := kc2, slots := ks2, locals := 64 * d2 } : Room) kc2 ks2 Q' hC.2.2.2.2.2.2.2.2.2.2 (Nat.le_refl _) (Nat.le_refl _) rfl rfl (Nat.le_refl _) (Nat.le_refl _) (fun _ _ z => z)) cw ⟨js_blind, js_pre hC.2.2.2.2.2.2.2.2.1 h3 h4 h5⟩ rfl hn h6.1 rfl (lv_room hcat) hd ⟨by omega, by omega⟩) h5 ?_ ?_
  · intro v h' H1 locs1 q1 q2 q3 q4
    exact kk v h' q1 hC h1 h2 q2 q3 q4 h6 (by omega) (by omega) (by omega) (by omega)
  · intro E h' H1 locs1 q ce q1 q2 q3 q4 q5 q6 q7
    exact kx E h' q1 hC h1 h2 q2 q3 q4 h6 (by omega) (by omega) (by omega) (by omega) q5 q6 (by rw [← hC.2.2.2.2.2.2.2.2.1.2.2.1]; exact q7)
theorem js_invSX {M2 : js_M} {Q' : js_Q} {d2 kc2 ks2 kc' ks' n idx : Nat} {As : List Value} {sta : List Value} (hcal : js_calW M2 n) (w1 : Cond.methodLink (js_y M).cls idx (js_y M2) ∈ lw_all) (w2 : Cond.static (js_y M2) ∈ lw_all) (w4 : Cond.initialized (js_y M2).cls ∈ lw_all) (hn : As.length = n) (hsta : sta = As.reverse ++ st) (hd : decode (js_c M) pc = .ok (.invokestatic idx, 3)) (hc : js_Con ρ M2 d2 kc2 ks2 As h Q') (hD : d2 < d) (hk : kc2 + kc' ≤ kc) (hs : ks2 + ks' ≤ ks) (hcat : (st.map fun v => v.category).sum ≤ 8) (kk : ∀ (v : Option Value) (h' : js_H), Q' (.inl v) h' → js_ok ρ M Q d kc' ks' (pc + 3) L (v.toList ++ st) h') (kx : ∀ (E : String) (h' : js_H), Q' (.inr E) h' → js_thr ρ M Q d kc' ks' pc L E h') : js_ok ρ M Q d kc ks pc L sta h := by
  intro p l e R s m args below meth c H locs cells slots ls mc ms hC h1 h2 h3 h4 h5 h6 h7 h8 h9 h10
  obtain ⟨ht, hnl, w5, hy1, hy2, hpd⟩ := hcal
  obtain ⟨x, tl, ht⟩ := List.exists_cons_of_ne_nil ht
  rw [ht] at w5
  subst hsta
  have cw := vx_cwSW (R := R) (s := s) (args := args) (own := (js_y M).cls) (index := idx) (y := js_y M2) (bytes := js_c M2) (maxL := js_n M2) (ret := js_r M2) (hh := x :: tl) (ws := js_ws M2) (rm := ({ frames := d2, cells := kc2, slots := ks2, locals := 64 * d2 } : Room)) (mc := kc2) (ms := ks2) n hC.2.2.2.2.2.2.1 (by rw [js_wsW ht]; exact lw_SW w1 w2 w4 w5) (js_wsW ht) rfl rfl ⟨hy1, hy2, hpd⟩ ⟨by show d2 + 1 ≤ R.frames; omega, by show 8 + (js_n M2 + 11) + 64 * d2 ≤ R.locals; omega⟩
  refine js_go (vx_runSX ⟨hC.1, hC.2.1, hC.2.2.2.2.1, hC.2.2.2.2.2.1, hC.2.2.2.2.2.2.1⟩ (hc l ({ frames := d2, cells := kc2, slots := ks2, locals := 64 * d2 } : Room) kc2 ks2 Q' hC.2.2.2.2.2.2.2.2.2.2 (Nat.le_refl _) (Nat.le_refl _) rfl rfl (Nat.le_refl _) (Nat.le_refl _) (fun _ _ z => z)) cw ⟨js_blind, js_pre hC.2.2.2.2.2.2.2.2.1 h3 h4 h5⟩ rfl hn h6.1 rfl (lv_room hcat) hd ⟨by omega, by omega⟩) h5 ?_ ?_
  · intro v h' H1 locs1 q1 q2 q3 q4
    exact kk v h' q1 hC h1 h2 q2 q3 q4 h6 (by omega) (by omega) (by omega) (by omega)
  · intro E h' H1 locs1 q ce q1 q2 q3 q4 q5 q6 q7
    exact kx E h' q1 hC h1 h2 q2 q3 q4 h6 (by omega) (by omega) (by omega) (by omega) q5 q6 (by rw [← hC.2.2.2.2.2.2.2.2.1.2.2.1]; exact q7)
theorem js_invI {M2 : js_M} {Q' : js_Q} {d2 kc2 ks2 kc' ks' n idx : Nat} {As : List Value} {sta : List Value} {b : Nat} (hcal : js_cal M2 n) (hr0 : js_r M2 = none) (hi : (js_y M2).name = "<init>") (w1 : Cond.methodLink (js_y M).cls idx (js_y M2) ∈ lw_all) (w2 : Cond.instanceMethod (js_y M2) ∈ lw_all) (w4 : Cond.initialized (js_y M2).cls ∈ lw_all) (hn : As.length = n) (hsta : sta = As.reverse ++ .ref b :: st) (hd : decode (js_c M) pc = .ok (.invokespecial idx, 3)) (hc : js_Con ρ M2 d2 kc2 ks2 (.ref b :: As) h Q') (hD : d2 < d) (hk : kc2 + kc' ≤ kc) (hs : ks2 + ks' ≤ ks) (hcat : (st.map fun v => v.category).sum ≤ 8) (kk : ∀ (v : Option Value) (h' : js_H), Q' (.inl v) h' → js_ok ρ M Q d kc' ks' (pc + 3) L (v.toList ++ st) h') (kx : ∀ (E : String) (h' : js_H), Q' (.inr E) h' → js_thr ρ M Q d kc' ks' pc L E h') : js_ok ρ M Q d kc ks pc L sta h := by
  intro p l e R s m args below meth c H locs cells slots ls mc ms hC h1 h2 h3 h4 h5 h6 h7 h8 h9 h10
  obtain ⟨ht, hnl, w5, hy1, hy2, hpd⟩ := hcal
  subst hsta
  have e0 := js_ws0 ht
  rw [hr0] at e0 w5
  have cw := cwI (R := R) (s := s) (args := args) (own := (js_y M).cls) (index := idx) (y := js_y M2) (bytes := js_c M2) (maxL := js_n M2) (ws := js_ws M2) (rm := ({ frames := d2, cells := kc2, slots := ks2, locals := 64 * d2 } : Room)) (mc := kc2) (ms := ks2) n hC.2.2.2.2.2.2.1 (by rw [e0]; exact lw_meth w5) e0 rfl rfl (hC.2.2.2.2.2.2.1 _ w4) (hC.2.2.2.2.2.2.1 _ w1) (hC.2.2.2.2.2.2.1 _ w2) hi ⟨hy1, hy2, hpd⟩ ⟨by show d2 + 1 ≤ R.frames; omega, by show 8 + (js_n M2 + 11) + 64 * d2 ≤ R.locals; omega⟩
  refine js_go (vx_runI ⟨hC.1, hC.2.1, hC.2.2.2.2.1, hC.2.2.2.2.2.1, hC.2.2.2.2.2.2.1⟩ (hc l ({ frames := d2, cells := kc2, slots := ks2, locals := 64 * d2 } : Room) kc2 ks2 Q' hC.2.2.2.2.2.2.2.2.2.2 (Nat.le_refl _) (Nat.le_refl _) rfl rfl (Nat.le_refl _) (Nat.le_refl _) (fun _ _ z => z)) cw ⟨js_blind, js_pre hC.2.2.2.2.2.2.2.2.1 h3 h4 h5⟩ rfl hn h6.1 rfl (lv_room hcat) hd ⟨by omega, by omega⟩) h5 ?_ ?_
  · intro v h' H1 locs1 q1 q2 q3 q4
    exact kk v h' q1 hC h1 h2 q2 q3 q4 h6 (by omega) (by omega) (by omega) (by omega)
  · intro E h' H1 locs1 q ce q1 q2 q3 q4 q5 q6 q7
    exact kx E h' q1 hC h1 h2 q2 q3 q4 h6 (by omega) (by omega) (by omega) (by omega) q5 q6 (by rw [← hC.2.2.2.2.2.2.2.2.1.2.2.1]; exact q7)
theorem js_invSN {M2 : js_M} {Q' : js_Q} {d2 kc2 ks2 kc' ks' n idx : Nat} {As : List Value} {sta : List Value} {host : String} (hcal : js_cal M2 n) (w1 : Cond.methodLinkNest (js_y M).cls idx (js_y M2) host ∈ js_nw) (w2 : Cond.static (js_y M2) ∈ lw_all) (w4 : Cond.initialized (js_y M2).cls ∈ lw_all) (hn : As.length = n) (hsta : sta = As.reverse ++ st) (hd : decode (js_c M) pc = .ok (.invokestatic idx, 3)) (hc : js_Con ρ M2 d2 kc2 ks2 As h Q') (hD : d2 < d) (hk : kc2 + kc' ≤ kc) (hs : ks2 + ks' ≤ ks) (hcat : (st.map fun v => v.category).sum ≤ 8) (kk : ∀ (v : Option Value) (h' : js_H), Q' (.inl v) h' → js_ok ρ M Q d kc' ks' (pc + 3) L (v.toList ++ st) h') (kx : ∀ (E : String) (h' : js_H), Q' (.inr E) h' → js_thr ρ M Q d kc' ks' pc L E h') : js_ok ρ M Q d kc ks pc L sta h := by
  intro p l e R s m args below meth c H locs cells slots ls mc ms hC h1 h2 h3 h4 h5 h6 h7 h8 h9 h10
  obtain ⟨ht, hnl, w5, hy1, hy2, hpd⟩ := hcal
  subst hsta
  have cw := va_cnB (R := R) (s := s) (args := args) (own := (js_y M).cls) (host := host) (index := idx) (y := js_y M2) (bytes := js_c M2) (maxL := js_n M2) (ret := js_r M2) (ws := js_ws M2) (rm := ({ frames := d2, cells := kc2, slots := ks2, locals := 64 * d2 } : Room)) (mc := kc2) (ms := ks2) n hC.2.2.2.2.2.2.1 (by rw [js_ws0 ht]; exact lw_meth w5) (js_ws0 ht) rfl rfl (hC.2.2.2.2.2.2.2.2.1.2.1 _ w1) (hC.2.2.2.2.2.2.1 _ w4) ⟨hy1, hy2, hpd⟩ ⟨by show d2 + 1 ≤ R.frames; omega, by show 8 + (js_n M2 + 11) + 64 * d2 ≤ R.locals; omega⟩
  refine js_go (vx_runSN ⟨hC.1, hC.2.1, hC.2.2.2.2.1, hC.2.2.2.2.2.1, hC.2.2.2.2.2.2.1⟩ (hc l ({ frames := d2, cells := kc2, slots := ks2, locals := 64 * d2 } : Room) kc2 ks2 Q' hC.2.2.2.2.2.2.2.2.2.2 (Nat.le_refl _) (Nat.le_refl _) rfl rfl (Nat.le_refl _) (Nat.le_refl _) (fun _ _ z => z)) ⟨cw, hC.2.2.2.2.2.2.1 _ w2, trivial⟩ ⟨js_blind, js_pre hC.2.2.2.2.2.2.2.2.1 h3 h4 h5⟩ rfl hn h6.1 rfl (lv_room hcat) hd ⟨by omega, by omega⟩) h5 ?_ ?_
  · intro v h' H1 locs1 q1 q2 q3 q4
    exact kk v h' q1 hC h1 h2 q2 q3 q4 h6 (by omega) (by omega) (by omega) (by omega)
  · intro E h' H1 locs1 q ce q1 q2 q3 q4 q5 q6 q7
    exact kx E h' q1 hC h1 h2 q2 q3 q4 h6 (by omega) (by omega) (by omega) (by omega) q5 q6 (by rw [← hC.2.2.2.2.2.2.2.2.1.2.2.1]; exact q7)
theorem js_invIN {M2 : js_M} {Q' : js_Q} {d2 kc2 ks2 kc' ks' n idx : Nat} {As : List Value} {sta : List Value} {host : String} {b : Nat} (hcal : js_cal M2 n) (hr0 : js_r M2 = none) (hi : (js_y M2).name = "<init>") (w1 : Cond.methodLinkNest (js_y M).cls idx (js_y M2) host ∈ js_nw) (w2 : Cond.instanceMethod (js_y M2) ∈ lw_all) (w4 : Cond.initialized (js_y M2).cls ∈ lw_all) (hn : As.length = n) (hsta : sta = As.reverse ++ .ref b :: st) (hd : decode (js_c M) pc = .ok (.invokespecial idx, 3)) (hc : js_Con ρ M2 d2 kc2 ks2 (.ref b :: As) h Q') (hD : d2 < d) (hk : kc2 + kc' ≤ kc) (hs : ks2 + ks' ≤ ks) (hcat : (st.map fun v => v.category).sum ≤ 8) (kk : ∀ (v : Option Value) (h' : js_H), Q' (.inl v) h' → js_ok ρ M Q d kc' ks' (pc + 3) L (v.toList ++ st) h') (kx : ∀ (E : String) (h' : js_H), Q' (.inr E) h' → js_thr ρ M Q d kc' ks' pc L E h') : js_ok ρ M Q d kc ks pc L sta h := by
  intro p l e R s m args below meth c H locs cells slots ls mc ms hC h1 h2 h3 h4 h5 h6 h7 h8 h9 h10
  obtain ⟨ht, hnl, w5, hy1, hy2, hpd⟩ := hcal
  subst hsta
  have e0 := js_ws0 ht
  rw [hr0] at e0 w5
  have cw := va_cnB (R := R) (s := s) (args := args) (own := (js_y M).cls) (host := host) (index := idx) (y := js_y M2) (bytes := js_c M2) (maxL := js_n M2) (ret := none) (ws := js_ws M2) (rm := ({ frames := d2, cells := kc2, slots := ks2, locals := 64 * d2 } : Room)) (mc := kc2) (ms := ks2) n hC.2.2.2.2.2.2.1 (by rw [e0]; exact lw_meth w5) e0 rfl rfl (hC.2.2.2.2.2.2.2.2.1.2.1 _ w1) (hC.2.2.2.2.2.2.1 _ w4) ⟨hy1, hy2, hpd⟩ ⟨by show d2 + 1 ≤ R.frames; omega, by show 8 + (js_n M2 + 11) + 64 * d2 ≤ R.locals; omega⟩
  refine js_go (vx_runIN ⟨hC.1, hC.2.1, hC.2.2.2.2.1, hC.2.2.2.2.2.1, hC.2.2.2.2.2.2.1⟩ (hc l ({ frames := d2, cells := kc2, slots := ks2, locals := 64 * d2 } : Room) kc2 ks2 Q' hC.2.2.2.2.2.2.2.2.2.2 (Nat.le_refl _) (Nat.le_refl _) rfl rfl (Nat.le_refl _) (Nat.le_refl _) (fun _ _ z => z)) ⟨cw, hi, hC.2.2.2.2.2.2.1 _ w2⟩ ⟨js_blind, js_pre hC.2.2.2.2.2.2.2.2.1 h3 h4 h5⟩ rfl hn h6.1 rfl (lv_room hcat) hd ⟨by omega, by omega⟩) h5 ?_ ?_
  · intro v h' H1 locs1 q1 q2 q3 q4
    exact kk v h' q1 hC h1 h2 q2 q3 q4 h6 (by omega) (by omega) (by omega) (by omega)
  · intro E h' H1 locs1 q ce q1 q2 q3 q4 q5 q6 q7
    exact kx E h' q1 hC h1 h2 q2 q3 q4 h6 (by omega) (by omega) (by omega) (by omega) q5 q6 (by rw [← hC.2.2.2.2.2.2.2.2.1.2.2.1]; exact q7)
theorem js_invU {M2 : js_M} {Q' : js_Q} {d2 kc2 ks2 kc' ks' n idx : Nat} {As : List Value} {sta : List Value} {x : MethodName} {C : String} {T : u_T} {N ci b : Nat} {w : Bool} {fs : List Value} (hcal : js_cal M2 n) (hyx : js_y M2 = ⟨(js_y M2).cls, x.name, x.desc⟩) (hr : js_cl[ci]? = some (C, T, N)) (w1 : Cond.methodLink (js_y M).cls idx x ∈ lw_all) (w1' : Cond.sameMethod x.cls (js_y M2).cls x.name x.desc ∈ lw_all) (w2 : Cond.instanceMethod (js_y M2) ∈ lw_all) (w3 : Cond.selects C x (js_y M2) ∈ lw_all) (w4 : Cond.initialized (js_y M2).cls ∈ lw_all) (hxd : (parseMethodDescriptor x.desc).map (fun d => d.parameters.length) = some n) (hn : As.length = n) (hsta : sta = As.reverse ++ .ref b :: st) (hd : decode (js_c M) pc = .ok (.invokevirtual idx, 3)) (hh : h b = some (js_ob w ci fs)) (hc : js_Con ρ M2 d2 kc2 ks2 (.ref b :: As) h Q') (hD : d2 < d) (hk : kc2 + kc' ≤ kc) (hs : ks2 + ks' ≤ ks) (hcat : (st.map fun v => v.category).sum ≤ 8) (kk : ∀ (v : Option Value) (h' : js_H), Q' (.inl v) h' → js_ok ρ M Q d kc' ks' (pc + 3) L (v.toList ++ st) h') (kx : ∀ (E : String) (h' : js_H), Q' (.inr E) h' → js_thr ρ M Q d kc' ks' pc L E h') : js_ok ρ M Q d kc ks pc L sta h := by
  intro p l e R s m args below meth c H locs cells slots ls mc ms hC h1 h2 h3 h4 h5 h6 h7 h8 h9 h10
  obtain ⟨ht, hnl, w5, hy1, hy2, hpd⟩ := hcal
  subst hsta
  have cw : va_CU R s args (js_y M).cls C (js_y M2).cls idx x (js_y M2) (js_c M2) (js_n M2) (js_r M2) (js_ws M2) ({ frames := d2, cells := kc2, slots := ks2, locals := 64 * d2 } : Room) kc2 ks2 n := by
    refine va_cwU n hC.2.2.2.2.2.2.1 ?_ (js_ws0 ht) rfl rfl hyx ⟨hy1, hy2, hxd⟩ ⟨by show d2 + 1 ≤ R.frames; omega, by show 8 + (js_n M2 + 11) + 64 * d2 ≤ R.locals; omega⟩
    rw [js_ws0 ht]
    refine lw_app ?_ (lw_meth w5)
    intro w hw
    simp only [List.mem_cons, List.not_mem_nil, or_false] at hw
    rcases hw with e | e | e | e | e <;> rw [e] <;> assumption
  refine js_go (vx_runU ⟨hC.1, hC.2.1, hC.2.2.2.2.1, hC.2.2.2.2.2.1, hC.2.2.2.2.2.2.1⟩ (hc l ({ frames := d2, cells := kc2, slots := ks2, locals := 64 * d2 } : Room) kc2 ks2 Q' hC.2.2.2.2.2.2.2.2.2.2 (Nat.le_refl _) (Nat.le_refl _) rfl rfl (Nat.le_refl _) (Nat.le_refl _) (fun _ _ z => z)) cw ⟨js_blind, js_recv hC.2.2.2.2.2.2.2.2.1 h3 h4 h5 hh hr, js_pre hC.2.2.2.2.2.2.2.2.1 h3 h4 h5⟩ rfl hn h6.1 rfl (lv_room hcat) hd ⟨by omega, by omega⟩) h5 ?_ ?_
  · intro v h' H1 locs1 q1 q2 q3 q4
    exact kk v h' q1 hC h1 h2 q2 q3 q4 h6 (by omega) (by omega) (by omega) (by omega)
  · intro E h' H1 locs1 q ce q1 q2 q3 q4 q5 q6 q7
    exact kx E h' q1 hC h1 h2 q2 q3 q4 h6 (by omega) (by omega) (by omega) (by omega) q5 q6 (by rw [← hC.2.2.2.2.2.2.2.2.1.2.2.1]; exact q7)
theorem js_invA {M2 : js_M} {Q' : js_Q} {d2 kc2 ks2 kc' ks' n idx : Nat} {As : List Value} {sta : List Value} {x : MethodName} {C : String} {T : u_T} {N ci b : Nat} {w : Bool} {fs : List Value} (hcal : js_cal M2 n) (hr : js_cl[ci]? = some (C, T, N)) (w1 : Cond.methodLink (js_y M).cls idx x ∈ lw_all) (w1' : Cond.sameMethod x.cls x.cls x.name x.desc ∈ lw_all) (w2 : Cond.instanceMethod (js_y M2) ∈ lw_all) (w3 : Cond.selects C x (js_y M2) ∈ lw_all) (w4 : Cond.initialized (js_y M2).cls ∈ lw_all) (w6 : Cond.declares ⟨x.cls, x.name, x.desc⟩ ∈ js_nw) (hxc : x.cls ≠ "java/lang/invoke/MethodHandle" ∧ x.cls ≠ "java/lang/invoke/VarHandle") (hxd : (parseMethodDescriptor x.desc).map (fun d => d.parameters.length) = some n) (hn : As.length = n) (hsta : sta = As.reverse ++ .ref b :: st) (hd : decode (js_c M) pc = .ok (.invokevirtual idx, 3)) (hh : h b = some (js_ob w ci fs)) (hc : js_Con ρ M2 d2 kc2 ks2 (.ref b :: As) h Q') (hD : d2 < d) (hk : kc2 + kc' ≤ kc) (hs : ks2 + ks' ≤ ks) (hcat : (st.map fun v => v.category).sum ≤ 8) (kk : ∀ (v : Option Value) (h' : js_H), Q' (.inl v) h' → js_ok ρ M Q d kc' ks' (pc + 3) L (v.toList ++ st) h') (kx : ∀ (E : String) (h' : js_H), Q' (.inr E) h' → js_thr ρ M Q d kc' ks' pc L E h') : js_ok ρ M Q d kc ks pc L sta h := by
  intro p l e R s m args below meth c H locs cells slots ls mc ms hC h1 h2 h3 h4 h5 h6 h7 h8 h9 h10
  obtain ⟨ht, hnl, w5, hy1, hy2, hpd⟩ := hcal
  subst hsta
  have cw : va_CU R s args (js_y M).cls C x.cls idx x (js_y M2) (js_c M2) (js_n M2) (js_r M2) (js_ws M2) ({ frames := d2, cells := kc2, slots := ks2, locals := 64 * d2 } : Room) kc2 ks2 n := by
    refine va_cwA n hC.2.2.2.2.2.2.1 ?_ (js_ws0 ht) rfl rfl (hC.2.2.2.2.2.2.2.2.1.2.1 _ w6) ⟨hxc.1, hxc.2, hxd⟩ ⟨by show d2 + 1 ≤ R.frames; omega, by show 8 + (js_n M2 + 11) + 64 * d2 ≤ R.locals; omega⟩
    rw [js_ws0 ht]
    refine lw_app ?_ (lw_meth w5)
    intro w hw
    simp only [List.mem_cons, List.not_mem_nil, or_false] at hw
    rcases hw with e | e | e | e | e <;> rw [e] <;> assumption
  refine js_go (vx_runU ⟨hC.1, hC.2.1, hC.2.2.2.2.1, hC.2.2.2.2.2.1, hC.2.2.2.2.2.2.1⟩ (hc l ({ frames := d2, cells := kc2, slots := ks2, locals := 64 * d2 } : Room) kc2 ks2 Q' hC.2.2.2.2.2.2.2.2.2.2 (Nat.le_refl _) (Nat.le_refl _) rfl rfl (Nat.le_refl _) (Nat.le_refl _) (fun _ _ z => z)) cw ⟨js_blind, js_recv hC.2.2.2.2.2.2.2.2.1 h3 h4 h5 hh hr, js_pre hC.2.2.2.2.2.2.2.2.1 h3 h4 h5⟩ rfl hn h6.1 rfl (lv_room hcat) hd ⟨by omega, by omega⟩) h5 ?_ ?_
  · intro v h' H1 locs1 q1 q2 q3 q4
    exact kk v h' q1 hC h1 h2 q2 q3 q4 h6 (by omega) (by omega) (by omega) (by omega)
  · intro E h' H1 locs1 q ce q1 q2 q3 q4 q5 q6 q7
    exact kx E h' q1 hC h1 h2 q2 q3 q4 h6 (by omega) (by omega) (by omega) (by omega) q5 q6 (by rw [← hC.2.2.2.2.2.2.2.2.1.2.2.1]; exact q7)
theorem js_invF {M2 : js_M} {Q' : js_Q} {d2 kc2 ks2 kc' ks' n idx : Nat} {As : List Value} {sta : List Value} {x : MethodName} {count : Nat} {C : String} {T : u_T} {N ci b : Nat} {w : Bool} {fs : List Value} (hcal : js_cal M2 n) (hfw : (C, x, js_y M2) ∈ js_fw) (hr : js_cl[ci]? = some (C, T, N)) (w1 : Cond.methodLink (js_y M).cls idx x ∈ lw_all) (w2 : Cond.instanceMethod (js_y M2) ∈ lw_all) (w3 : Cond.selects C x (js_y M2) ∈ lw_all) (w4 : Cond.initialized (js_y M2).cls ∈ lw_all) (hxc : x.cls ≠ "java/lang/invoke/MethodHandle" ∧ x.cls ≠ "java/lang/invoke/VarHandle") (hxd : (parseMethodDescriptor x.desc).map (fun d => d.parameters.length) = some n) (hn : As.length = n) (hsta : sta = As.reverse ++ .ref b :: st) (hd : decode (js_c M) pc = .ok (.invokeinterface idx count, 5)) (hh : h b = some (js_ob w ci fs)) (hc : js_Con ρ M2 d2 kc2 ks2 (.ref b :: As) h Q') (hD : d2 < d) (hk : kc2 + kc' ≤ kc) (hs : ks2 + ks' ≤ ks) (hcat : (st.map fun v => v.category).sum ≤ 8) (kk : ∀ (v : Option Value) (h' : js_H), Q' (.inl v) h' → js_ok ρ M Q d kc' ks' (pc + 5) L (v.toList ++ st) h') (kx : ∀ (E : String) (h' : js_H), Q' (.inr E) h' → js_thr ρ M Q d kc' ks' pc L E h') : js_ok ρ M Q d kc ks pc L sta h := by
  intro p l e R s m args below meth c H locs cells slots ls mc ms hC h1 h2 h3 h4 h5 h6 h7 h8 h9 h10
  obtain ⟨ht, hnl, w5, hy1, hy2, hpd⟩ := hcal
  subst hsta
  have cw : va_CI R s args (js_y M).cls C idx x (js_y M2) (js_c M2) (js_n M2) (js_r M2) (js_ws M2) ({ frames := d2, cells := kc2, slots := ks2, locals := 64 * d2 } : Room) kc2 ks2 n := by
    refine va_cwF n hC.2.2.2.2.2.2.1 ?_ (js_ws0 ht) rfl rfl (hC.2.2.2.2.2.2.2.2.1.2.2.2.2.2.2.2.2.2.2.1 _ hfw) ⟨hxc.1, hxc.2, hxd⟩ ⟨by show d2 + 1 ≤ R.frames; omega, by show 8 + (js_n M2 + 11) + 64 * d2 ≤ R.locals; omega⟩
    rw [js_ws0 ht]
    refine lw_app ?_ (lw_meth w5)
    intro w hw
    simp only [List.mem_cons, List.not_mem_nil, or_false] at hw
    rcases hw with e | e | e | e <;> rw [e] <;> assumption
  refine js_go5 (vx_runF (hC.2.2.2.2.2.2.2.2.1.1.1 ci _ hr).2 ⟨hC.1, hC.2.1, hC.2.2.2.2.1, hC.2.2.2.2.2.1, hC.2.2.2.2.2.2.1⟩ (hc l ({ frames := d2, cells := kc2, slots := ks2, locals := 64 * d2 } : Room) kc2 ks2 Q' hC.2.2.2.2.2.2.2.2.2.2 (Nat.le_refl _) (Nat.le_refl _) rfl rfl (Nat.le_refl _) (Nat.le_refl _) (fun _ _ z => z)) cw ⟨js_blind, js_recv hC.2.2.2.2.2.2.2.2.1 h3 h4 h5 hh hr, js_pre hC.2.2.2.2.2.2.2.2.1 h3 h4 h5⟩ rfl hn h6.1 rfl (lv_room hcat) hd ⟨by omega, by omega⟩) h5 ?_ ?_
  · intro v h' H1 locs1 q1 q2 q3 q4
    exact kk v h' q1 hC h1 h2 q2 q3 q4 h6 (by omega) (by omega) (by omega) (by omega)
  · intro E h' H1 locs1 q ce q1 q2 q3 q4 q5 q6 q7
    exact kx E h' q1 hC h1 h2 q2 q3 q4 h6 (by omega) (by omega) (by omega) (by omega) q5 q6 (by rw [← hC.2.2.2.2.2.2.2.2.1.2.2.1]; exact q7)
theorem js_invSU {M2 : js_M} {Q' : js_Q} {d2 kc2 ks2 kc' ks' n idx : Nat} {As : List Value} {sta : List Value} {C : String} {T : u_T} {N ci b : Nat} {w : Bool} {fs : List Value} (hcal : js_cal M2 n) (hni : (js_y M2).name ≠ "<init>") (hr : js_cl[ci]? = some (C, T, N)) (w1 : Cond.methodLink (js_y M).cls idx (js_y M2) ∈ lw_all) (w1' : Cond.sameMethod (js_y M2).cls (js_y M2).cls (js_y M2).name (js_y M2).desc ∈ lw_all) (w1s : Cond.superclass (js_y M).cls (js_y M2).cls ∈ lw_all) (w2 : Cond.instanceMethod (js_y M2) ∈ lw_all) (w4 : Cond.initialized (js_y M2).cls ∈ lw_all) (hn : As.length = n) (hsta : sta = As.reverse ++ .ref b :: st) (hd : decode (js_c M) pc = .ok (.invokespecial idx, 3)) (hh : h b = some (js_ob w ci fs)) (hc : js_Con ρ M2 d2 kc2 ks2 (.ref b :: As) h Q') (hD : d2 < d) (hk : kc2 + kc' ≤ kc) (hs : ks2 + ks' ≤ ks) (hcat : (st.map fun v => v.category).sum ≤ 8) (kk : ∀ (v : Option Value) (h' : js_H), Q' (.inl v) h' → js_ok ρ M Q d kc' ks' (pc + 3) L (v.toList ++ st) h') (kx : ∀ (E : String) (h' : js_H), Q' (.inr E) h' → js_thr ρ M Q d kc' ks' pc L E h') : js_ok ρ M Q d kc ks pc L sta h := by
  intro p l e R s m args below meth c H locs cells slots ls mc ms hC h1 h2 h3 h4 h5 h6 h7 h8 h9 h10
  obtain ⟨ht, hnl, w5, hy1, hy2, hpd⟩ := hcal
  subst hsta
  have cw : va_CS R s args (js_y M).cls idx (js_y M2) (js_c M2) (js_n M2) (js_r M2) (js_ws M2) ({ frames := d2, cells := kc2, slots := ks2, locals := 64 * d2 } : Room) kc2 ks2 n := by
    refine va_cwSU n hC.2.2.2.2.2.2.1 ?_ (js_ws0 ht) rfl rfl ⟨hni, hpd⟩ ⟨by show d2 + 1 ≤ R.frames; omega, by show 8 + (js_n M2 + 11) + 64 * d2 ≤ R.locals; omega⟩
    rw [js_ws0 ht]
    refine lw_app ?_ (lw_meth w5)
    intro w hw
    simp only [List.mem_cons, List.not_mem_nil, or_false] at hw
    rcases hw with e | e | e | e | e <;> rw [e] <;> assumption
  refine js_go (vx_runSU (hC.2.2.2.2.2.2.2.2.1.1.1 ci _ hr).2 ⟨hC.1, hC.2.1, hC.2.2.2.2.1, hC.2.2.2.2.2.1, hC.2.2.2.2.2.2.1⟩ (hc l ({ frames := d2, cells := kc2, slots := ks2, locals := 64 * d2 } : Room) kc2 ks2 Q' hC.2.2.2.2.2.2.2.2.2.2 (Nat.le_refl _) (Nat.le_refl _) rfl rfl (Nat.le_refl _) (Nat.le_refl _) (fun _ _ z => z)) cw ⟨js_blind, js_recv hC.2.2.2.2.2.2.2.2.1 h3 h4 h5 hh hr, js_pre hC.2.2.2.2.2.2.2.2.1 h3 h4 h5⟩ rfl hn h6.1 rfl (lv_room hcat) hd ⟨by omega, by omega⟩) h5 ?_ ?_
  · intro v h' H1 locs1 q1 q2 q3 q4
    exact kk v h' q1 hC h1 h2 q2 q3 q4 h6 (by omega) (by omega) (by omega) (by omega)
  · intro E h' H1 locs1 q ce q1 q2 q3 q4 q5 q6 q7
    exact kx E h' q1 hC h1 h2 q2 q3 q4 h6 (by omega) (by omega) (by omega) (by omega) q5 q6 (by rw [← hC.2.2.2.2.2.2.2.2.1.2.2.1]; exact q7)
theorem js_lret {v : Int64} (hr : js_r M = some .long) (hd : decode (js_c M) pc = .ok (.lreturn, 1)) (hq : Q (.inl (some (.long v))) h) : js_ok ρ M Q d kc ks pc L [.long v] h := by
  intro p l e R s m args below meth c H locs cells slots ls mc ms hC h1 h2 h3 h4 h5 h6 h7 h8 h9 h10
  exact vx_ret (W.widen (k := mc) (n := ms) (by omega) (by omega) (W.lret hC.1 hC.2.1 (hC.2.2.1.trans hr) (fun t ht hW => ⟨_, h, rfl, hq, h3, by rw [ht]; exact h4, h5.F ht⟩) h5.2.2 hd hC.2.2.2.1))
theorem js_fret {v : UInt32} (hr : js_r M = some .float) (hd : decode (js_c M) pc = .ok (.freturn, 1)) (hq : Q (.inl (some (.float v))) h) : js_ok ρ M Q d kc ks pc L [.float v] h := by
  intro p l e R s m args below meth c H locs cells slots ls mc ms hC h1 h2 h3 h4 h5 h6 h7 h8 h9 h10
  exact vx_ret (W.widen (k := mc) (n := ms) (by omega) (by omega) (W.fret hC.1 hC.2.1 (hC.2.2.1.trans hr) (fun t ht hW => ⟨_, h, rfl, hq, h3, by rw [ht]; exact h4, h5.F ht⟩) h5.2.2 hd hC.2.2.2.1))
theorem js_dret {v : UInt64} (hr : js_r M = some .double) (hd : decode (js_c M) pc = .ok (.dreturn, 1)) (hq : Q (.inl (some (.double v))) h) : js_ok ρ M Q d kc ks pc L [.double v] h := by
  intro p l e R s m args below meth c H locs cells slots ls mc ms hC h1 h2 h3 h4 h5 h6 h7 h8 h9 h10
  exact vx_ret (W.widen (k := mc) (n := ms) (by omega) (by omega) (W.dret hC.1 hC.2.1 (hC.2.2.1.trans hr) (fun t ht hW => ⟨_, h, rfl, hq, h3, by rw [ht]; exact h4, h5.F ht⟩) h5.2.2 hd hC.2.2.2.1))
theorem js_iret {v : Int32} {ty : FieldType} (hr : js_r M = some ty) (hn : narrow ty (.int v) = .int v) (hd : decode (js_c M) pc = .ok (.ireturn, 1)) (hq : Q (.inl (some (.int v))) h) : js_ok ρ M Q d kc ks pc L [.int v] h := by
  intro p l e R s m args below meth c H locs cells slots ls mc ms hC h1 h2 h3 h4 h5 h6 h7 h8 h9 h10
  exact vx_ret (W.widen (k := mc) (n := ms) (by omega) (by omega) (W.zret hC.1 hC.2.1 (hC.2.2.1.trans hr) hn (fun t ht hW => ⟨_, h, rfl, hq, h3, by rw [ht]; exact h4, h5.F ht⟩) h5.2.2 hd hC.2.2.2.1))
theorem js_vret (hr : js_r M = none) (hd : decode (js_c M) pc = .ok (.return_, 1)) (hq : Q (.inl none) h) : js_ok ρ M Q d kc ks pc L [] h := by
  intro p l e R s m args below meth c H locs cells slots ls mc ms hC h1 h2 h3 h4 h5 h6 h7 h8 h9 h10
  exact vx_ret (W.widen (k := mc) (n := ms) (by omega) (by omega) (W.vret hC.1 hC.2.1 (hC.2.2.1.trans hr) (fun t ht hW => ⟨_, h, rfl, hq, h3, by rw [ht]; exact h4, h5.F ht⟩) h5.2.2 hd hC.2.2.2.1))
theorem js_aret {v : Value} {ty : FieldType} (hr : js_r M = some ty) (hrt : (∃ n, ty = .object n) ∨ ∃ t, ty = .array t) (hv : v = .null ∨ ∃ a, v = .ref a) (hd : decode (js_c M) pc = .ok (.areturn, 1)) (hq : Q (.inl (some v)) h) : js_ok ρ M Q d kc ks pc L [v] h := by
  intro p l e R s m args below meth c H locs cells slots ls mc ms hC h1 h2 h3 h4 h5 h6 h7 h8 h9 h10
  exact vx_ret (W.widen (k := mc) (n := ms) (by omega) (by omega) (W.aret hC.1 hC.2.1 (hC.2.2.1.trans hr) hrt hv (fun t ht hW => ⟨_, h, rfl, hq, h3, by rw [ht]; exact h4, h5.F ht⟩) h5.2.2 hd hC.2.2.2.1))
theorem js_body {av : List Value} (L : List (Nat × Value)) (ht : js_t M = []) (hy : plainName (js_y M).cls = true) (hlen : (lg_sl av).length ≤ js_n M) (hL : lv_args 0 av = L) (k : js_ok ρ M Q d kc ks 0 L [] h) : js_Con ρ M d kc ks av h Q := by
  intro l rm mc ms Q' a1 a2 a3 a4 a5 a6 a7 a8
  refine vx_ofW (cc := js_c M) (maxL := js_n M) (ret := js_r M) (ws' := lw_all) hy (js_ws0 ht) ?_
  intro p e s m args below meth c s₁ B hml hx hv
  obtain ⟨rfl, hI, hP, hK⟩ := hv
  have hts0 := atoms_spec (ws := js_ws M) B.pre
  have hts : ∀ w ∈ lw_all, w.before av.toArray s = true := fun w hw => hts0 w (by rw [js_ws0 ht]; exact List.mem_cons_of_mem _ hw)
  rw [lg_entry_eq]
  have hl := lv_entry av (n := js_n M) hlen
  rw [hL] at hl
  have htab : c.exceptionTable.toList = tableOf (js_t M) := by
    rw [ht]
    exact List.eq_nil_iff_forall_not_mem.mpr (fun x hxx => hx x hxx)
  have hfr : (headSpec (js_ws M) rm).room = rm := rfl
  rw [hfr]
  exact (k.post a8) ⟨B.exec, B.bytes, B.returns, B.notSynchronized, hml, findClass_of_methodNamed B.named, hts, htab, hK, (name_of_methodNamed B.named B.method).1, a1⟩ a2 a3 hI hP va_S.rf hl (by omega) (by omega) (by omega) (by omega)
theorem js_bodyW {av : List Value} (L : List (Nat × Value)) (ht : js_t M ≠ []) (hy : plainName (js_y M).cls = true) (hlen : (lg_sl av).length ≤ js_n M) (hL : lv_args 0 av = L) (k : js_ok ρ M Q d kc ks 0 L [] h) : js_Con ρ M d kc ks av h Q := by
  intro l rm mc ms Q' a1 a2 a3 a4 a5 a6 a7 a8
  obtain ⟨x, tl, ht⟩ := List.exists_cons_of_ne_nil ht
  refine vx_ofWH (cc := js_c M) (maxL := js_n M) (ret := js_r M) (hh := x :: tl) (ws' := lw_all) hy (js_wsW ht) ?_
  intro p e s m args below meth c s₁ B hml hv
  obtain ⟨rfl, hI, hP, hK⟩ := hv
  have hts0 := atoms_spec (ws := js_ws M) B.pre
  have hts : ∀ w ∈ lw_all, w.before av.toArray s = true := fun w hw => hts0 w (by rw [js_wsW ht]; exact List.mem_cons_of_mem _ hw)
  have htab : c.exceptionTable.toList = tableOf (js_t M) := by
    rw [ht]
    exact vx_table (x := js_y M) (y := js_y M) B (hts0 _ (by rw [js_wsW ht]; exact List.mem_cons_self))
  rw [lg_entry_eq]
  have hl := lv_entry av (n := js_n M) hlen
  rw [hL] at hl
  have hfr : (headSpec (js_ws M) rm).room = rm := rfl
  rw [hfr]
  exact (k.post a8) ⟨B.exec, B.bytes, B.returns, B.notSynchronized, hml, findClass_of_methodNamed B.named, hts, htab, hK, (name_of_methodNamed B.named B.method).1, a1⟩ a2 a3 hI hP va_S.rf hl (by omega) (by omega) (by omega) (by omega)
/-- the words of a throw, by their places -/
def js_thW (own : String) (ic : Nat) (X : String) (names : List String) (ps : List Nat) : Prop := vx_at0 own ic X names = ps.filterMap (fun i => lw_tbl[i]?) ∧ (vx_at0 own ic X names).all (fun w => goodWord w || (js_nwk w && w.onTables)) = true ∧ (vx_at0 own ic X names).all vx_ot = true ∧ Bundle.fit X = true ∧ names.all Bundle.fit = true
theorem js_throw {X : String} {names : List String} {ik ic kc' ks' : Nat} {ps : List Nat} (hW : js_thW (js_y M).cls ic X names ps) (hk0 : Cond.classLink (js_y M).cls ik X ∈ lw_all) (hi0 : Cond.initialized X ∈ lw_all) (ht : js_t M = []) (hlen : names.length ≤ 4) (hdp : 9 ≤ d) (hk : 1 ≤ kc) (hs : 6 ≤ ks) (hcat : (st.map fun v => v.category).sum ≤ 8) (hd : decode (js_c M) pc = .ok (.new ik, 3)) (d3 : decode (js_c M) (pc + 3) = .ok (.dup, 1)) (d4 : decode (js_c M) (pc + 4) = .ok (.invokespecial ic, 3)) (d7 : decode (js_c M) (pc + 7) = .ok (.athrow, 1)) (hq : Q (.inr X) h) : js_ok ρ M Q d kc ks pc L st h := by
  intro p l e R s m args below meth c H locs cells slots ls mc ms hC h1 h2 h3 h4 h5 h6 h7 h8 h9 h10
  obtain ⟨g1, g2, g3, g4, g5⟩ := hW
  have hat : ∀ w ∈ vx_at0 (js_y M).cls ic X names, w.before args s = true := by
    intro w hw
    have hw1 : w ∈ lw_tbl := by
      rw [g1] at hw
      obtain ⟨i, -, hi⟩ := List.mem_filterMap.mp hw
      exact List.mem_of_getElem? hi
    have hw2 := List.all_eq_true.mp g2 w hw
    rw [Bool.or_eq_true, Bool.and_eq_true] at hw2
    rcases hw2 with hw2 | ⟨hw2, hw3⟩
    · exact hC.2.2.2.2.2.2.1 w (List.mem_filter.mpr ⟨hw1, hw2⟩)
    · exact va_Nw.use hw3 (hC.2.2.2.2.2.2.2.2.1.2.1 w (List.mem_filter.mpr ⟨hw1, hw2⟩))
  have hgood : ∀ w ∈ Cond.classLink (js_y M).cls ik X :: Cond.initialized X :: vx_at0 (js_y M).cls ic X names, vx_ot w = true := by
    intro w hw
    rcases List.mem_cons.mp hw with rfl | hw
    · rfl
    rcases List.mem_cons.mp hw with rfl | hw
    · rfl
    · exact List.all_eq_true.mp g3 w hw
  refine vx_throw0 hC.1 hC.2.1 hC.2.2.2.2.2.2.2.2.2.2 hC.2.2.2.2.2.1 g4 (fun n hn => List.all_eq_true.mp g5 n hn) (hC.2.2.2.2.2.2.1 _ hk0) (hC.2.2.2.2.2.2.1 _ hi0) hat hgood hC.2.2.2.2.2.2.2.2.1.2.2.2.2.2.2.2.2.1 hC.2.2.2.2.2.2.2.2.1.2.2.2.2.2.2.2.2.2.1 h5 (h6.1.trans hC.2.2.2.2.1.symm) hd d3 d4 d7 (fun x hx => ?_) (by omega) (by omega) (by omega) (by omega) hC.2.2.2.1 (fun t ha z1 z2 => ?_) h5.2.2 (by omega) (by omega)
  · rw [hC.2.2.2.2.2.2.2.1, ht] at hx
    cases hx
  · refine ⟨h, hq, h3, fun a e he hw => ?_, ⟨Nat.le_trans h5.1 z1, fun q q1 q2 => (z2 q (Nat.lt_of_lt_of_le q1 h5.1)).trans (h5.2.1 q q1 q2)⟩⟩
    obtain ⟨r1, r2, r3⟩ := h4 a e he hw
    exact ⟨r1.kept (z2 a r3), r2, Nat.lt_of_lt_of_le r3 z1⟩
/-- not caught: a method without handlers -/
theorem js_out {E : String} (ht : js_t M = []) (hq : Q (.inr E) h) : js_thr ρ M Q d kc ks pc L E h := by
  intro p l e R s m args below meth c H locs cells slots ls mc ms rest q ce hC h1 h2 h3 h4 h5 h6 h7 h8 h9 h10 x1 x2 x3
  refine vx_out (E := E) (fun x hx => ?_) hC.2.2.2.1 x1 x2 (by rw [hC.2.2.2.2.2.2.2.2.1.2.2.1]; exact x3) (fun t ht ha => ⟨h, hq, h3, by rw [ht]; exact h4, h5.F ht⟩) h5.2.2 (by omega) (by omega)
  rw [hC.2.2.2.2.2.2.2.1, ht] at hx
  cases hx
/-- a kind of entry that isn't an exception of the name E -/
def js_isX (E : String) (e : js_E) : Prop := match e.2 with
  | .inl _ => False
  | .inr (.inl (ci, _)) => ∃ r : vw_C, js_cl[ci]? = some r ∧ r.1 = E
  | .inr (.inr E') => E' = E
theorem js_thr.more {E : String} {kc' ks' : Nat} (k : js_thr ρ M Q d kc' ks' pc L E h) (g1 : kc' ≤ kc) (g2 : ks' ≤ ks) : js_thr ρ M Q d kc ks pc L E h := by
  intro p l e R s m args below meth c H locs cells slots ls mc ms rest q ce hC h1 h2 h3 h4 h5 h6 h7 h8 h9 h10 x1 x2 x3
  exact k hC h1 h2 h3 h4 h5 h6 (by omega) (by omega) (by omega) (by omega) x1 x2 x3
/-- caught by a row of the table; the rows ahead don't cover pc, or don't take it -/
theorem js_catch {E nm : String} (pre : List ExceptionTableEntry) (x : ExceptionTableEntry) (suf : List ExceptionTableEntry) (hsp : tableOf (js_t M) = pre ++ x :: suf) (hpre : ∀ z ∈ pre, covers z pc = false ∨ (z.catchType ≠ 0 ∧ ∃ n9 : String, Cond.classLink (js_y M).cls z.catchType n9 ∈ lw_all ∧ (E, n9) ∈ js_nc)) (hx : covers x pc = true) (h0 : x.catchType ≠ 0) (hl : Cond.classLink (js_y M).cls x.catchType nm ∈ lw_all) (hca : Cond.castable E nm ∈ js_nw)
    (nx : ∀ q : Nat, js_ok ρ M Q d kc ks x.handlerPc L [.ref q] h) : js_thr ρ M Q d kc ks pc L E h := by
  intro p l e R s m args below meth c H locs cells slots ls mc ms rest q ce hC h1 h2 h3 h4 h5 h6 h7 h8 h9 h10 x1 x2 x3
  refine vx_catch (E := E) (name := nm) hC.2.2.2.2.2.1 pre x suf (by rw [hC.2.2.2.2.2.2.2.1]; exact hsp) (fun z hz => ?_) hx h0 (hC.2.2.2.2.2.2.1 _ hl) (va_Nw.use rfl (hC.2.2.2.2.2.2.2.2.1.2.1 _ hca)) x1 x2 (by rw [hC.2.2.2.2.2.2.2.2.1.2.2.1]; exact x3) (nx q hC h1 h2 h3 h4 h5 h6 h7 h8 h9 h10)
  rcases hpre z hz with g | ⟨g1, n9, g2, g3⟩
  · exact Or.inl g
  · exact Or.inr ⟨g1, n9, hC.2.2.2.2.2.2.1 _ g2, hC.2.2.2.2.2.2.2.2.1.2.2.2.2.2.2.2.2.2.2.2.1 _ g3⟩
end
