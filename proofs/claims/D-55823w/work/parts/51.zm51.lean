set_option maxRecDepth 100000
/-! adding to the lists of a state -/
def zAddB (em : Nat) (T : Int) (P : Nat → Prop) (B : Nat → Nat) (Bb Bs : Int → Nat) (f f' : zF) (v : Nat) (h : js_H) : js_Q := fun r h' => r = .inl (some (.int (jI 1))) ∧ (∃ e6 : Nat, (P e6 ∨ h e6 = none) ∧ zSt em (T + 1) (fun a => P a ∨ a = v ∨ a = e6) (fun k => if k = 6 then e6 else B k) (js_uz Bb (f 0) v) Bs f' h') ∧ zFr P h h'
theorem zc_addB {ρ : js_R} {h : js_H} {em : Nat} {T : Int} {P : Nat → Prop} {B : Nat → Nat} {Bb Bs : Int → Nat} {f f' : zF} {v : Nat} (hZ : zSt em T P B Bb Bs f h) (hE : js_sv ρ 1 = .ref em) (hv : h v = some (zBo f' (f 0))) (nv : ¬ P v) (h6 : 0 ≤ f 0 ∧ f 0 ≤ 6 ∧ 0 ≤ f 1 ∧ f 1 ≤ 5 ∧ f 0 < 6) (e0 : f' 0 = f 0 + 1) (hf : ∀ k : Int, 0 ≤ k → k < 287 → k ≠ 0 → (k < 13 + 9 * f 0 ∨ 13 + 9 * f 0 + 9 ≤ k) → f' k = f k) : js_Con ρ mJ2_add 5 1 10 [.ref (B 1), .ref v] h (zAddB em T P B Bb Bs f f' v h) := by
  obtain ⟨⟨gm, z0⟩, z1, ⟨mb, r1, z2⟩, ⟨ms, r2, z3⟩, z4, z5, z6, z7, z8, z9, z10, z11, z12⟩ := id hZ
  obtain ⟨s1, s2, s3, s4, s5, s6, s7⟩ := z11
  have nvl : v ≠ B 1 := js_nek hv z2 (js_kOO (by decide))
  have hca : Cond.castable (RX5, TX5, 8).1 "java/lang/Object" ∈ js_nw := List.mem_filter.mpr ⟨q2820, rfl⟩
  rcases z7 with ⟨w1, w2⟩ | ⟨w1, w2⟩
  · have z2' := z2
    rw [w1, w2] at z2'
    refine js_Con.post (con_laddg z2' z0 hE hv (r := (RX5, TX5, 8)) rfl hca nvl) ?_
    rintro r h' ⟨e6, rfl, he, rfl⟩
    have z := zSt_addB hZ r1 (Or.inr he) hv nv h6 e0 hf
    have eg : js_uz (zgb Bb (f 0)) (f 0) (some v) = js_uz (fun _ => none) 0 (some v) := by
      rw [w1]
      funext j
      unfold js_uz zgb
      split
      · rfl
      · rw [if_neg (by omega)]
    rw [eg, show (f 0 + 1 : Int) = 1 by omega] at z
    exact ⟨rfl, ⟨e6, Or.inr he, z⟩, zFr_up (zFr_new zFr_refl he) s1.2.1⟩
  · refine js_Con.post ((con_ladd z2 (by omega) w2 (by omega) hv (r := (RX5, TX5, 8)) rfl hca nvl).more (Nat.le_of_ble_eq_true rfl) (Nat.zero_le _) (Nat.zero_le _)) ?_
    rintro r h' ⟨rfl, rfl⟩
    have z := zSt_addB hZ r1 (Or.inl ⟨w1, rfl⟩) hv nv h6 e0 hf
    exact ⟨rfl, ⟨B 6, Or.inl (s2 w1), z⟩, zFr_up (zFr_up zFr_refl (s2 w1)) s1.2.1⟩
def zAddS (em : Nat) (T : Int) (P : Nat → Prop) (B : Nat → Nat) (Bb Bs : Int → Nat) (f f' : zF) (v : Nat) (h : js_H) : js_Q := fun r h' => r = .inl (some (.int (jI 1))) ∧ (∃ e6 : Nat, (P e6 ∨ h e6 = none) ∧ zSt em (T + 1) (fun a => P a ∨ a = v ∨ a = e6) (fun k => if k = 7 then e6 else B k) Bb (js_uz Bs (f 1) v) f' h') ∧ zFr P h h'
theorem zc_addS {ρ : js_R} {h : js_H} {em : Nat} {T : Int} {P : Nat → Prop} {B : Nat → Nat} {Bb Bs : Int → Nat} {f f' : zF} {v : Nat} (hZ : zSt em T P B Bb Bs f h) (hE : js_sv ρ 1 = .ref em) (hv : h v = some (zSo f' (f 1))) (nv : ¬ P v) (h6 : 0 ≤ f 0 ∧ f 0 ≤ 6 ∧ 0 ≤ f 1 ∧ f 1 ≤ 5 ∧ f 1 < 5) (e0 : f' 1 = f 1 + 1) (hf : ∀ k : Int, 0 ≤ k → k < 287 → k ≠ 1 → (k < 67 + 4 * f 1 ∨ 67 + 4 * f 1 + 4 ≤ k) → f' k = f k) : js_Con ρ mJ2_add 5 1 10 [.ref (B 2), .ref v] h (zAddS em T P B Bb Bs f f' v h) := by
  obtain ⟨⟨gm, z0⟩, z1, ⟨mb, r1, z2⟩, ⟨ms, r2, z3⟩, z4, z5, z6, z7, z8, z9, z10, z11, z12⟩ := id hZ
  obtain ⟨s1, s2, s3, s4, s5, s6, s7⟩ := z11
  have nvl : v ≠ B 2 := js_nek hv z3 (js_kOO (by decide))
  have hca : Cond.castable (RX6, TX6, 3).1 "java/lang/Object" ∈ js_nw := List.mem_filter.mpr ⟨q2821, rfl⟩
  rcases z8 with ⟨w1, w2⟩ | ⟨w1, w2⟩
  · have z2' := z3
    rw [w1, w2] at z2'
    refine js_Con.post (con_laddg z2' z0 hE hv (r := (RX6, TX6, 3)) rfl hca nvl) ?_
    rintro r h' ⟨e6, rfl, he, rfl⟩
    have z := zSt_addS hZ r2 (Or.inr he) hv nv h6 e0 hf
    have eg : js_uz (zgb Bs (f 1)) (f 1) (some v) = js_uz (fun _ => none) 0 (some v) := by
      rw [w1]
      funext j
      unfold js_uz zgb
      split
      · rfl
      · rw [if_neg (by omega)]
    rw [eg, show (f 1 + 1 : Int) = 1 by omega] at z
    exact ⟨rfl, ⟨e6, Or.inr he, z⟩, zFr_up (zFr_new zFr_refl he) s1.2.2.1⟩
  · refine js_Con.post ((con_ladd z3 (by omega) w2 (by omega) hv (r := (RX6, TX6, 3)) rfl hca nvl).more (Nat.le_of_ble_eq_true rfl) (Nat.zero_le _) (Nat.zero_le _)) ?_
    rintro r h' ⟨rfl, rfl⟩
    have z := zSt_addS hZ r2 (Or.inl ⟨w1, rfl⟩) hv nv h6 e0 hf
    exact ⟨rfl, ⟨B 7, Or.inl (s3 w1), z⟩, zFr_up (zFr_up zFr_refl (s3 w1)) s1.2.2.1⟩
theorem con_liter {ρ : js_R} {h : js_H} {l e : Nat} {w : Bool} {mc n : Int} (hl : h l = some (js_ob w 15 [.int (jI mc), .ref e, .int (jI n)])) (rn : 0 ≤ n ∧ n ≤ 1000) : js_Con ρ mJ2_iterator 2 1 4 [.ref l] h (zNewO 19 [.int (jI 0), .int (jI (-1)), .int (jI mc), .ref l] h) := by
  refine js_body [(0, .ref l)] rfl (by decide) (Nat.le_of_ble_eq_true rfl) rfl ?_
  refine nJ2_267 (kc' := 0) (ks' := 0) rfl dJ2_iterator_0 (by omega) (by omega) (fun a1 hf_a1 hB_a1 => ?_)
  refine js_dup dJ2_iterator_3 rfl ?_
  refine js_aload_n 0 dJ2_iterator_4 rfl ?_
  refine eJ2_269 rfl dJ2_iterator_5 (con_itinit ((js_up_n (js_nef hl hf_a1)).trans hl) (by omega) js_up_s (Ne.symm (js_nef hl hf_a1))) (Nat.le_of_ble_eq_true rfl) (Nat.le_of_ble_eq_true rfl) ?_
  rw [js_up_up]
  show js_ok ρ mJ2_iterator _ 2 0 0 8 [(0, .ref l)] [.ref a1] (js_up h a1 (js_ob true 19 [.int (jI 0), .int (jI (-1)), .int (jI mc), .ref l]))
  exact js_aret rfl (Or.inl ⟨_, rfl⟩) (Or.inr ⟨_, rfl⟩) dJ2_iterator_8 ⟨a1, rfl, hf_a1, rfl⟩
