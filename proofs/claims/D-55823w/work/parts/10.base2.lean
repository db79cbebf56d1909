set_option maxRecDepth 100000
/-- a stretch of f laid into g -/
def js_cp {α : Type} (f g : Int → α) (sp dp n : Int) : Int → α := fun j => if dp ≤ j ∧ j < dp + n then f (sp + (j - dp)) else g j
theorem js_cpI {f g : Int → Int} {sp dp n : Int} (h : 0 ≤ sp ∧ 0 ≤ dp ∧ 0 ≤ n) : va_cpy (fun (j : Nat) => jI (f (j : Int))) (fun (j : Nat) => jI (g (j : Int))) sp.toNat dp.toNat n.toNat = fun (j : Nat) => jI (js_cp f g sp dp n (j : Int)) := by
  funext k
  unfold va_cpy js_cp
  by_cases q : dp.toNat ≤ k ∧ k < dp.toNat + n.toNat
  · rw [if_pos q, if_pos (by omega)]
    show jI (f ((sp.toNat + (k - dp.toNat) : Nat) : Int)) = _
    rw [show ((sp.toNat + (k - dp.toNat) : Nat) : Int) = sp + ((k : Int) - dp) by omega]
  · rw [if_neg q, if_neg (by omega)]
theorem js_cpQ {f g : Int → Option Nat} {sp dp n : Int} (h : 0 ≤ sp ∧ 0 ≤ dp ∧ 0 ≤ n) : va_cpy (fun (j : Nat) => f (j : Int)) (fun (j : Nat) => g (j : Int)) sp.toNat dp.toNat n.toNat = fun (j : Nat) => js_cp f g sp dp n (j : Int) := by
  funext k
  unfold va_cpy js_cp
  by_cases q : dp.toNat ≤ k ∧ k < dp.toNat + n.toNat
  · rw [if_pos q, if_pos (by omega)]
    show f ((sp.toNat + (k - dp.toNat) : Nat) : Int) = _
    rw [show ((sp.toNat + (k - dp.toNat) : Nat) : Int) = sp + ((k : Int) - dp) by omega]
  · rw [if_neg q, if_neg (by omega)]
section
variable {ρ : js_R} {M : js_M} {Q : js_Q} {d kc ks pc : Nat} {L : List (Nat × Value)} {st : List Value} {h : js_H}
theorem js_copyI {a0 a1 n0 n1 t idx : Nat} {w : Bool} {f g : Int → Int} {sp dp n : Int} (ht : t < 4) (hl : Cond.methodLink (js_y M).cls idx arraycopyName ∈ lw_all) (hd : decode (js_c M) pc = .ok (.invokestatic idx, 3)) (hh0 : h a0 = some (js_aI w t n0 f)) (hh1 : h a1 = some (js_aI true t n1 g)) (hr : 0 ≤ sp ∧ 0 ≤ dp ∧ 0 ≤ n ∧ sp + n ≤ n0 ∧ dp + n ≤ n1 ∧ n0 < 2147483648 ∧ n1 < 2147483648) (hdp : 2 ≤ d) (hcat : (st.map fun v => v.category).sum ≤ 8) (hel : ∀ j : Int, sp ≤ j → j < sp + n → fits (js_ty t) (.int (jI (f j))) = true) (nx : js_ok ρ M Q d kc ks (pc + 3) L st (js_up h a1 (js_aI true t n1 (js_cp f g sp dp n)))) : js_ok ρ M Q d kc ks pc L (.int (jI n) :: .int (jI dp) :: .ref a1 :: .int (jI sp) :: .ref a0 :: st) h := by
  intro p l e R s m args below meth c H locs cells slots ls mc ms hC h1 h2 h3 h4 h5 h6 h7 h8 h9 h10
  obtain ⟨cs, q1, q2, q3, q4, q5, q6⟩ := js_rdI hC.2.2.2.2.2.2.2.2.1 h3 h4 h5 hh0 (by omega)
  obtain ⟨g1, hBa, hla⟩ := h4 a1 _ hh1 rfl
  have g2 : H[a1]? = some (arrV (js_dA ρ t) n1 (fun j => Value.int (jI (g (j : Int))))) := g1
  have hsp : (jI sp).toNatClampNeg = sp.toNat := jI_clamp (by omega) (by omega)
  have hdp' : (jI dp).toNatClampNeg = dp.toNat := jI_clamp (by omega) (by omega)
  have hnn : (jI n).toNatClampNeg = n.toNat := jI_clamp (by omega) (by omega)
  have isp : (jI sp).toInt = sp := jI_toInt (by omega) (by omega)
  have idp : (jI dp).toInt = dp := jI_toInt (by omega) (by omega)
  have inn : (jI n).toInt = n := jI_toInt (by omega) (by omega)
  have hneg : ∀ z : Int, 0 ≤ z → z < 2147483648 → ¬ jI z < 0 := fun z z1 z2 => by rw [show (0 : Int32) = jI 0 from rfl, jI_lt (by omega)]; omega
  intro T hT X
  obtain ⟨hs6, k0, hk0, cm0, hkk0⟩ := q2
  obtain ⟨-, k1, hk1, cm1, hkk1⟩ := (js_tyAt hC.2.2.2.2.2.2.2.2.1 (t := t) (by omega)).1 n1 (fun j => Value.int (jI (g (j : Int))))
  obtain ⟨vm', X', step⟩ := X.arraycopy hC.1 hC.2.2.2.2.2.1 (hC.2.2.2.2.2.2.1 _ hl) (hC.2.2.2.2.2.2.1 _ q648) (hC.2.2.2.2.2.2.1 _ q647) (hC.2.2.2.2.2.2.1 _ q123) (src := a0) (dst := a1) (cs := cs) (cd := arrV (js_dA ρ t) n1 (fun j => Value.int (jI (g (j : Int))))) (srcPos := jI sp) (destPos := jI dp) (n := jI n) (by rw [hT]; exact q1) (by rw [hT]; exact g2)
    hs6 (fun _ h => by cases h) q3 (fun h => by cases h) hk0 hk1 hkk0 hkk1 (by simp) (hneg _ (by omega) (by omega)) (hneg _ (by omega) (by omega)) (hneg _ (by omega) (by omega))
    (by rw [isp, inn]; omega)
    (by rw [idp, inn, arrV_size]; omega)
    (fun vm₁ hal i hi => by
      have hi' : i < n.toNat := by omega
      have e : cs.slots.getD ((jI sp).toNatClampNeg + i) .null = .int (jI (f (sp + (i : Int)))) := by
        rw [Array.getD_eq_getD_getElem?, hsp, q6 _ (by omega)]
        show Value.int (jI (f ((sp.toNat + i : Nat) : Int))) = _
        rw [show ((sp.toNat + i : Nat) : Int) = sp + (i : Int) by omega]
      rw [e]
      exact ⟨hel _ (by omega) (by omega), trivial⟩)
    (g := F0 m pc ls (.int (jI n) :: .int (jI dp) :: .ref a1 :: .int (jI sp) :: .ref a0 :: st)) rfl (by rw [hC.2.2.2.2.1]; exact h6.1) (rest := st) rfl (by rw [hC.2.1]; exact hd) (by omega) (by show 2 * 0 + _ + _ ≤ _; have hw : nativeFrameWords "java/lang/System" "arraycopy" 5 ≤ 30 := (by decide); omega)
  have e1 : copied cs (arrV (js_dA ρ t) n1 (fun j => Value.int (jI (g (j : Int))))) (jI sp) (jI dp) (jI n) = arrV (js_dA ρ t) n1 (fun j => Value.int (jI (js_cp f g sp dp n (j : Int)))) := by
    have e2 := va_copiedX (n1 := n1) (dp := dp.toNat) (fun z => Value.int z) cs (js_dA ρ t) (fun (j : Nat) => jI (f (j : Int))) (fun (j : Nat) => jI (g (j : Int))) q6 (show sp.toNat + n.toNat ≤ n0 by omega)
    rw [js_cpI ⟨hr.1, hr.2.1, hr.2.2.1⟩] at e2
    unfold copied
    rw [hsp, hdp', hnn]
    exact e2
  rw [e1] at X' step
  have hheap : ((T.setVm vm').setCell a1 (arrV (js_dA ρ t) n1 (fun j => Value.int (jI (js_cp f g sp dp n (j : Int)))))).heap = H.setIfInBounds a1 (arrV (js_dA ρ t) n1 (fun j => Value.int (jI (js_cp f g sp dp n (j : Int))))) := by rw [← hT]; rfl
  have oq : ∀ q : Nat, q ≠ a1 → (H.setIfInBounds a1 (arrV (js_dA ρ t) n1 (fun j => Value.int (jI (js_cp f g sp dp n (j : Int))))))[q]? = H[q]? := fun q hq => by simp [Array.getElem?_setIfInBounds, Ne.symm hq]
  have hat : js_at ρ a1 (js_aI true t n1 (js_cp f g sp dp n)) (H.setIfInBounds a1 (arrV (js_dA ρ t) n1 (fun j => Value.int (jI (js_cp f g sp dp n (j : Int)))))) := by
    show (H.setIfInBounds a1 _)[a1]? = some _
    simp [Array.getElem?_setIfInBounds, hla]
    rfl
  obtain ⟨t9, z1, z2⟩ := nx hC h1 h2 (h3.up rfl (Or.inr ⟨_, hh1, rfl⟩)) (h4.up (by simp) (fun q _ hq => oq q hq) hat hBa (by simpa using hla)) ⟨by simp; exact h5.1, fun q y1 y2 => by
      rw [oq q (fun e => y2 (by rw [e]; exact hBa))]
      exact h5.2.1 q y1 y2, fun q hq => by
      rcases List.mem_append.mp hq with y | y
      · exact h5.2.2 q y
      · obtain ⟨z, -, hz⟩ := List.mem_map.mp y
        rw [← hz]
        exact hBa⟩ h6 h7 h8 h9 h10 _ hheap X'
  exact ⟨t9, step t9 z1, z2⟩
theorem js_copyQ {a0 a1 n0 n1 t idx : Nat} {w : Bool} {f g : Int → Option Nat} {sp dp n : Int} (ht : t = 6) (hl : Cond.methodLink (js_y M).cls idx arraycopyName ∈ lw_all) (hd : decode (js_c M) pc = .ok (.invokestatic idx, 3)) (hh0 : h a0 = some (js_aQ w t n0 f)) (hh1 : h a1 = some (js_aQ true t n1 g)) (hr : 0 ≤ sp ∧ 0 ≤ dp ∧ 0 ≤ n ∧ sp + n ≤ n0 ∧ dp + n ≤ n1 ∧ n0 < 2147483648 ∧ n1 < 2147483648) (hdp : 2 ≤ d) (hcat : (st.map fun v => v.category).sum ≤ 8) (hel : ∀ j : Int, sp ≤ j → j < sp + n → ∀ y : Nat, f j = some y → ∃ (w9 : Bool) (ci9 : Nat) (fs9 : List Value) (r9 : vw_C), h y = some (js_ob w9 ci9 fs9) ∧ js_cl[ci9]? = some r9 ∧ Cond.castable r9.1 "java/lang/Object" ∈ js_nw) (nx : js_ok ρ M Q d kc ks (pc + 3) L st (js_up h a1 (js_aQ true t n1 (js_cp f g sp dp n)))) : js_ok ρ M Q d kc ks pc L (.int (jI n) :: .int (jI dp) :: .ref a1 :: .int (jI sp) :: .ref a0 :: st) h := by
  intro p l e R s m args below meth c H locs cells slots ls mc ms hC h1 h2 h3 h4 h5 h6 h7 h8 h9 h10
  obtain ⟨cs, q1, q2, q3, q4, q5, q6⟩ := js_rdQ hC.2.2.2.2.2.2.2.2.1 h3 h4 h5 hh0 (by omega)
  obtain ⟨g1, hBa, hla⟩ := h4 a1 _ hh1 rfl
  have g2 : H[a1]? = some (arrV (js_dA ρ t) n1 (fun j => va_rf (g (j : Int)))) := g1
  have hsp : (jI sp).toNatClampNeg = sp.toNat := jI_clamp (by omega) (by omega)
  have hdp' : (jI dp).toNatClampNeg = dp.toNat := jI_clamp (by omega) (by omega)
  have hnn : (jI n).toNatClampNeg = n.toNat := jI_clamp (by omega) (by omega)
  have isp : (jI sp).toInt = sp := jI_toInt (by omega) (by omega)
  have idp : (jI dp).toInt = dp := jI_toInt (by omega) (by omega)
  have inn : (jI n).toInt = n := jI_toInt (by omega) (by omega)
  have hneg : ∀ z : Int, 0 ≤ z → z < 2147483648 → ¬ jI z < 0 := fun z z1 z2 => by rw [show (0 : Int32) = jI 0 from rfl, jI_lt (by omega)]; omega
  intro T hT X
  obtain ⟨hs6, k0, hk0, cm0, hkk0⟩ := q2
  obtain ⟨-, k1, hk1, cm1, hkk1⟩ := (js_tyAt hC.2.2.2.2.2.2.2.2.1 (t := t) (by omega)).1 n1 (fun j => va_rf (g (j : Int)))
  obtain ⟨vm', X', step⟩ := X.arraycopy hC.1 hC.2.2.2.2.2.1 (hC.2.2.2.2.2.2.1 _ hl) (hC.2.2.2.2.2.2.1 _ q648) (hC.2.2.2.2.2.2.1 _ q647) (hC.2.2.2.2.2.2.1 _ q123) (src := a0) (dst := a1) (cs := cs) (cd := arrV (js_dA ρ t) n1 (fun j => va_rf (g (j : Int)))) (srcPos := jI sp) (destPos := jI dp) (n := jI n) (by rw [hT]; exact q1) (by rw [hT]; exact g2)
    hs6 (fun _ h => by cases h) q3 (fun h => by cases h) hk0 hk1 hkk0 hkk1 (by simp) (hneg _ (by omega) (by omega)) (hneg _ (by omega) (by omega)) (hneg _ (by omega) (by omega))
    (by rw [isp, inn]; omega)
    (by rw [idp, inn, arrV_size]; omega)
    (fun vm₁ hal i hi => by
      have hi' : i < n.toNat := by omega
      have e : cs.slots.getD ((jI sp).toNatClampNeg + i) .null = va_rf (f (sp + (i : Int))) := by
        rw [Array.getD_eq_getD_getElem?, hsp, q6 _ (by omega)]
        show va_rf (f ((sp.toNat + i : Nat) : Int)) = _
        rw [show ((sp.toNat + i : Nat) : Int) = sp + (i : Int) by omega]
      rw [e]
      subst ht
      cases hy : f (sp + (i : Int)) with
      | none => exact ⟨rfl, trivial⟩
      | some y =>
        obtain ⟨w9, ci9, fs9, r9, e1, e2, e3⟩ := hel _ (by omega) (by omega) y hy
        obtain ⟨cellV, g1, g2, g3⟩ := js_recv hC.2.2.2.2.2.2.2.2.1 h3 h4 h5 e1 e2
        obtain ⟨kA, comp, r1, r2, r3, -⟩ := (js_tyAt hC.2.2.2.2.2.2.2.2.1 (t := 6) (by decide)).2
        cases hk1.symm.trans r1
        cases hkk1.symm.trans r2
        obtain ⟨c0, t1, f1, f2, f3⟩ := Cond.castable_spec (va_Nw.use (A := args) rfl (hC.2.2.2.2.2.2.2.2.1.2.1 _ e3))
        cases g3.symm.trans f1
        cases r3.symm.trans f2
        obtain ⟨kC, hkC, -⟩ := Vm.findClass_spec g3
        obtain ⟨kE, hkE, -⟩ := Vm.findClass_spec r3
        obtain ⟨kC', hkC', -⟩ := hal.2.2 _ _ hkC
        obtain ⟨kE', hkE', -⟩ := hal.2.2 _ _ hkE
        refine ⟨rfl, cellV, (show T.heap[y]? = some cellV by rw [hT]; exact g1), (fun q h => by rw [h] at g2; cases g2), ⟨kC', hkC'⟩, ?_, ?_⟩
        · exact ⟨kE', hkE'⟩
        · show vm₁.assignable _ _ = true
          rw [hal.assignable]
          exact f3)
    (g := F0 m pc ls (.int (jI n) :: .int (jI dp) :: .ref a1 :: .int (jI sp) :: .ref a0 :: st)) rfl (by rw [hC.2.2.2.2.1]; exact h6.1) (rest := st) rfl (by rw [hC.2.1]; exact hd) (by omega) (by show 2 * 0 + _ + _ ≤ _; have hw : nativeFrameWords "java/lang/System" "arraycopy" 5 ≤ 30 := (by decide); omega)
  have e1 : copied cs (arrV (js_dA ρ t) n1 (fun j => va_rf (g (j : Int)))) (jI sp) (jI dp) (jI n) = arrV (js_dA ρ t) n1 (fun j => va_rf (js_cp f g sp dp n (j : Int))) := by
    have e2 := va_copiedX (n1 := n1) (dp := dp.toNat) (fun z => va_rf z) cs (js_dA ρ t) (fun (j : Nat) => f (j : Int)) (fun (j : Nat) => g (j : Int)) q6 (show sp.toNat + n.toNat ≤ n0 by omega)
    rw [js_cpQ ⟨hr.1, hr.2.1, hr.2.2.1⟩] at e2
    unfold copied
    rw [hsp, hdp', hnn]
    exact e2
  rw [e1] at X' step
  have hheap : ((T.setVm vm').setCell a1 (arrV (js_dA ρ t) n1 (fun j => va_rf (js_cp f g sp dp n (j : Int))))).heap = H.setIfInBounds a1 (arrV (js_dA ρ t) n1 (fun j => va_rf (js_cp f g sp dp n (j : Int)))) := by rw [← hT]; rfl
  have oq : ∀ q : Nat, q ≠ a1 → (H.setIfInBounds a1 (arrV (js_dA ρ t) n1 (fun j => va_rf (js_cp f g sp dp n (j : Int)))))[q]? = H[q]? := fun q hq => by simp [Array.getElem?_setIfInBounds, Ne.symm hq]
  have hat : js_at ρ a1 (js_aQ true t n1 (js_cp f g sp dp n)) (H.setIfInBounds a1 (arrV (js_dA ρ t) n1 (fun j => va_rf (js_cp f g sp dp n (j : Int))))) := by
    show (H.setIfInBounds a1 _)[a1]? = some _
    simp [Array.getElem?_setIfInBounds, hla]
    rfl
  obtain ⟨t9, z1, z2⟩ := nx hC h1 h2 (h3.up rfl (Or.inr ⟨_, hh1, rfl⟩)) (h4.up (by simp) (fun q _ hq => oq q hq) hat hBa (by simpa using hla)) ⟨by simp; exact h5.1, fun q y1 y2 => by
      rw [oq q (fun e => y2 (by rw [e]; exact hBa))]
      exact h5.2.1 q y1 y2, fun q hq => by
      rcases List.mem_append.mp hq with y | y
      · exact h5.2.2 q y
      · obtain ⟨z, -, hz⟩ := List.mem_map.mp y
        rw [← hz]
        exact hBa⟩ h6 h7 h8 h9 h10 _ hheap X'
  exact ⟨t9, step t9 z1, z2⟩
end
