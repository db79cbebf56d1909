set_option maxRecDepth 100000
set_option maxRecDepth 100000
/-! State.hourOf over the row -/
theorem zc_hourOf {ρ : js_R} {h : js_H} {em : Nat} {T b : Int} {P : Nat → Prop} {B : Nat → Nat} {Bb Bs : Int → Nat} {f : zF} (hZ : zSt em T P B Bb Bs f h) {T2 : Int} (hI : zI T2 f) (hT : T2 + 2 ≤ 1000000) (hb : 0 ≤ b ∧ b < f 0) (h3 : 1 ≤ f (13 + 9 * b + 2)) : js_Con ρ mX2_hourOf 6 0 0 [.ref (B 0), .ref (Bb b)] h (zOk (some (.int (jI (zfly f b 3 - f 3)))) P (zSt em T P B Bb Bs (zfly f b)) h) := by
  have h01 := zI_01 hI
  have hB := zI_B hI hb.1 hb.2
  have hpr := zIB_p hB
  have hB' := hB
  unfold zIB at hB'
  obtain ⟨z0, z1, ⟨mb, rb, z2⟩, ⟨ms, rs, z3⟩, z4, z5, z6, z7, z8, z9, z10, z11, z12⟩ := id hZ
  obtain ⟨ws, cs, gs, hes, rcs, hgs⟩ := zL_rd z8 z0 (by omega)
  obtain ⟨gm, z0⟩ := z0
  obtain ⟨sa, sb, sc, sd, se, sf, sg⟩ := z11
  have hst := (zfly_step hI hb.1 hb.2 h3 hT).1
  obtain ⟨p, ep⟩ : ∃ p : Int, p = znext (zpt f b) (f (7 + f (13 + 9 * b + 2))) := ⟨_, rfl⟩
  have hp : 0 ≤ p ∧ p < 100 := by rw [ep]; exact znext_r hpr
  have hv := zfly_v hI hb.1 hb.2 h3 ep
  have hw7 : zwa f (f (13 + 9 * b + 2)) = f (7 + f (13 + 9 * b + 2)) := zwa_g (by omega)
  have hw8 := zI_w hI (7 + f (13 + 9 * b + 2)) (by omega) (by omega)
  obtain ⟨ht, eht⟩ : ∃ ht : Int, ht = if max 0 (f (13 + 9 * b + 4) - 1) = 0 then f (13 + 9 * b + 2) - 1 else f (13 + 9 * b + 2) := ⟨_, rfl⟩
  rw [← eht] at hv
  generalize zfly f b = f' at hv hst ⊢
  obtain ⟨e0, e1⟩ := hst.1
  obtain ⟨v0, v2, v3, v4, v7, v5, vc, vq, vn, vG, vN⟩ := hv
  have x87 : ∀ q : Int, 0 ≤ q → q < 100 → f' (87 + q) = f (87 + q) := hst.2.2.2.2.2.1
  have xw : ∀ k : Int, 8 ≤ k → k < 13 → f' k = f k := hst.2.1
  have xb : ∀ c k : Int, c ≠ b → 0 ≤ c → c < 6 → 0 ≤ k → k < 9 → f' (13 + 9 * c + k) = f (13 + 9 * c + k) := hst.2.2.1
  have xs : ∀ i k : Int, 0 ≤ i → i < 5 → 0 ≤ k → k < 3 → f' (67 + 4 * i + k) = f (67 + 4 * i + k) := hst.2.2.2.1
  have efa : zfa f' = zfa f := zfa_e (fun q a c => x87 q a c)
  have ewa : zwa f' = zwa f := zwa_e xw
  have hf7 : zfa f p = f (87 + p) := zfa_g hp
  have enp : p = znext (zpt f b) (zwa f (f (13 + 9 * b + 2))) := by rw [hw7]; exact ep
  by_cases hG : zgG f b p
  · have vG := vG hG
    clear vN
    obtain ⟨n2, hG⟩ := hG
    obtain ⟨n, en⟩ : ∃ n : Int, f (13 + 9 * b + 5) = n := ⟨_, rfl⟩
    obtain ⟨g5, gr, g3, ga, gb, gi⟩ := vG
    rw [en] at n2 hG g5 gr gi
    have n1 : 0 ≤ n := by omega
    have hP := zI_P hI n1 n2
    have hPp := zIP_p hP
    have hP2 := hP
    unfold zIP at hP2
    have ept : f' (13 + 9 * b + 6) = if f (13 + 9 * b + 8) = f (13 + 9 * b + 2) then f (13 + 9 * b + 6) + 10 + 5 else f (13 + 9 * b + 6) + 10 := by
      by_cases q : f (13 + 9 * b + 8) = f (13 + 9 * b + 2)
      · rw [if_pos q]; exact (ga q).1
      · rw [if_neg q]; exact (gb q).1
    have esl : f' (13 + 9 * b + 8) = if f (13 + 9 * b + 8) = f (13 + 9 * b + 2) then 0 else f (13 + 9 * b + 8) := by
      by_cases q : f (13 + 9 * b + 8) = f (13 + 9 * b + 2)
      · rw [if_pos q]; exact (ga q).2.1
      · rw [if_neg q]; exact (gb q).2.1
    have eb4 : f' 4 = f 4 + (if f (13 + 9 * b + 8) = f (13 + 9 * b + 2) then 1 else 0) := by
      by_cases q : f (13 + 9 * b + 8) = f (13 + 9 * b + 2)
      · rw [if_pos q]; exact (ga q).2.2
      · rw [if_neg q, Int.add_zero]; exact (gb q).2.2
    have eS : zSo f' n = js_ob true 5 [.int (jI (zsp f n)), .int (jI (f (67 + 4 * n + 2))), .int (jI (f (67 + 4 * n + 3) + 1))] := by
      have k0 := xs n 0 n1 (by omega) (by omega) (by omega)
      rw [Int.add_zero] at k0
      unfold zSo zsp
      rw [k0, xs n 1 n1 (by omega) (by omega) (by omega), xs n 2 n1 (by omega) (by omega) (by omega), gr]
    by_cases hld : ht ≤ 0
    · rw [if_pos hld] at v7 v5 vc
      have eB : zBo f' b = js_ob true 4 [.int (jI (p)), .int (jI (ht)), .int (jI (f (13 + 9 * b + 3))), .int (jI (max 0 (f (13 + 9 * b + 4) - 1))), .int (jI (n + 1)), .int (jI (f' (13 + 9 * b + 6))), .int (jI (f (13 + 9 * b + 7) + zfa f p)), .int (jI (f' (13 + 9 * b + 8)))] := by
        unfold zBo; rw [v0, v2, v3, v4, g5, v7, hf7]
      have eT : zTo f' B = js_ob true 1 [.ref (B 1), .ref (B 2), .ref (B 3), .ref (B 4), .ref (B 5), .int (jI (f 2)), .int (jI (f 3 + 1)), .int (jI (f 4 + (if f (13 + 9 * b + 8) = f (13 + 9 * b + 2) then 1 else 0))), .int (jI (f 5 + zfa f p)), .int (jI (f 6)), .int (jI (f 7))] := by
        unfold zTo; rw [vn.1, g3, eb4, v5, vn.2.1, vn.2.2, hf7]
      have eC : zca f' = js_uz (zca f) p (zca f p + zfa f p) := by
        rw [hf7, zca_g hp, zca_u hp]
        refine zca_e (fun q a c => ?_)
        by_cases qp : q = p
        · subst qp; rw [js_uz_s]; exact vc
        · rw [js_uz_n (by omega)]; exact vq q a c qp
      refine js_Con.post (con_hourTL z1 (z9 b hb.1 hb.2) z3 hes (by omega) (by omega) z6 hpr (by omega) (by rw [hw7]; omega) (by omega) (by omega) z4 z5 sg.1.2.1 sg.1.2.2.2 (by omega) (by rw [en]; exact hgs n n1 n2) (z10 n n1 n2) hPp (by omega) (by rw [hw7, ← ep]; exact hG) enp eht (by omega) ept esl (by omega)) ?_
      rintro r h' ⟨rfl, rfl⟩
      rw [en]
      refine ⟨by rw [g3]; exact congrArg (fun z => Sum.inl (some (Value.int (jI z)))) (by omega), ?_, (zFr_up (zFr_up (zFr_up (zFr_up (zFr_up zFr_refl (sd b hb.1 hb.2)) sa.2.2.2.2.1) sa.1) (se n n1 n2)) sa.1)⟩
      refine zSt_row hZ (fun a k => js_up_d (js_up_d (js_up_d (js_up_d (js_up_d (k)))))) e0 e1 ((js_up_n (js_nek z0 z1 js_kQO)).trans ((js_up_n (js_nek z0 (z10 n n1 n2) js_kQO)).trans ((js_up_n (js_nek z0 z1 js_kQO)).trans ((js_up_n (js_nek z0 z5 js_kQA)).trans ((js_up_n (js_nek z0 (z9 b hb.1 hb.2) js_kQO)).trans (rfl)))))) ((js_up_n (js_nek z2 z1 (js_kOO (by decide)))).trans ((js_up_n (js_nek z2 (z10 n n1 n2) (js_kOO (by decide)))).trans ((js_up_n (js_nek z2 z1 (js_kOO (by decide)))).trans ((js_up_n (js_nek z2 z5 js_kOA)).trans ((js_up_n (js_nek z2 (z9 b hb.1 hb.2) (js_kOO (by decide)))).trans (rfl)))))) ((js_up_n (js_nek z3 z1 (js_kOO (by decide)))).trans ((js_up_n (js_nek z3 (z10 n n1 n2) (js_kOO (by decide)))).trans ((js_up_n (js_nek z3 z1 (js_kOO (by decide)))).trans ((js_up_n (js_nek z3 z5 js_kOA)).trans ((js_up_n (js_nek z3 (z9 b hb.1 hb.2) (js_kOO (by decide)))).trans (rfl)))))) (fun q => by
        rcases z7 with w | ⟨_, w⟩
        · exact absurd w.2 q
        · exact (js_up_n (js_nek w z1 js_kQO)).trans ((js_up_n (js_nek w (z10 n n1 n2) js_kQO)).trans ((js_up_n (js_nek w z1 js_kQO)).trans ((js_up_n (js_nek w z5 js_kQA)).trans ((js_up_n (js_nek w (z9 b hb.1 hb.2) js_kQO)).trans (rfl)))))) (fun q => by
        rcases z8 with w | ⟨_, w⟩
        · exact absurd w.2 q
        · exact (js_up_n (js_nek w z1 js_kQO)).trans ((js_up_n (js_nek w (z10 n n1 n2) js_kQO)).trans ((js_up_n (js_nek w z1 js_kQO)).trans ((js_up_n (js_nek w z5 js_kQA)).trans ((js_up_n (js_nek w (z9 b hb.1 hb.2) js_kQO)).trans (rfl))))))
        (by rw [eT]; exact js_up_s) (by rw [efa]; exact (js_up_n (js_nek z4 z1 js_kAO)).trans ((js_up_n (js_nek z4 (z10 n n1 n2) js_kAO)).trans ((js_up_n (js_nek z4 z1 js_kAO)).trans ((js_up_n sg.1.2.1).trans ((js_up_n (js_nek z4 (z9 b hb.1 hb.2) js_kAO)).trans (z4)))))) (by rw [eC]; exact (js_up_n (js_nek z5 z1 js_kAO)).trans ((js_up_n (js_nek z5 (z10 n n1 n2) js_kAO)).trans ((js_up_n (js_nek z5 z1 js_kAO)).trans (js_up_s)))) (by rw [ewa]; exact (js_up_n (js_nek z6 z1 js_kAO)).trans ((js_up_n (js_nek z6 (z10 n n1 n2) js_kAO)).trans ((js_up_n (js_nek z6 z1 js_kAO)).trans ((js_up_n sg.1.2.2.2).trans ((js_up_n (js_nek z6 (z9 b hb.1 hb.2) js_kAO)).trans (z6)))))) (fun c c1 c2 => ?_) (fun c c1 c2 => ?_)
      · by_cases q : c = b
        · subst q; rw [eB]; exact (js_up_n (js_nek (z9 c hb.1 hb.2) z1 (js_kOO (by decide)))).trans ((js_up_n (js_nek (z9 c hb.1 hb.2) (z10 n n1 n2) (js_kOO (by decide)))).trans ((js_up_n (js_nek (z9 c hb.1 hb.2) z1 (js_kOO (by decide)))).trans ((js_up_n (js_nek (z9 c hb.1 hb.2) z5 js_kOA)).trans (js_up_s))))
        · rw [zBo_e (fun k k1 k2 => xb c k q c1 (by omega) k1 k2)]; exact (js_up_n (js_nek (z9 c c1 c2) z1 (js_kOO (by decide)))).trans ((js_up_n (js_nek (z9 c c1 c2) (z10 n n1 n2) (js_kOO (by decide)))).trans ((js_up_n (js_nek (z9 c c1 c2) z1 (js_kOO (by decide)))).trans ((js_up_n (js_nek (z9 c c1 c2) z5 js_kOA)).trans ((js_up_n (fun w => q (sg.2.2.1 _ _ c1 c2 hb.1 hb.2 w))).trans ((z9 c c1 c2))))))
      · by_cases q : c = n
        · subst q; rw [eS]; exact (js_up_n (js_nek (z10 c n1 n2) z1 (js_kOO (by decide)))).trans (js_up_s)
        · rw [zSo_e (fun k k1 k2 => by
            by_cases q3 : k = 3
            · subst q3; exact gi c c1 (by omega) q
            · exact xs c k c1 (by omega) k1 (by omega))]; exact (js_up_n (js_nek (z10 c c1 c2) z1 (js_kOO (by decide)))).trans ((js_up_n (fun w => q (sg.2.2.2 _ _ c1 c2 n1 n2 w))).trans ((js_up_n (js_nek (z10 c c1 c2) z1 (js_kOO (by decide)))).trans ((js_up_n (js_nek (z10 c c1 c2) z5 js_kOA)).trans ((js_up_n (js_nek (z10 c c1 c2) (z9 b hb.1 hb.2) (js_kOO (by decide)))).trans ((z10 c c1 c2))))))
    · rw [if_neg hld] at v7 v5 vc
      rw [Int.add_zero] at v7 v5 vc
      have eB : zBo f' b = js_ob true 4 [.int (jI (p)), .int (jI (ht)), .int (jI (f (13 + 9 * b + 3))), .int (jI (max 0 (f (13 + 9 * b + 4) - 1))), .int (jI (n + 1)), .int (jI (f' (13 + 9 * b + 6))), .int (jI (f (13 + 9 * b + 7))), .int (jI (f' (13 + 9 * b + 8)))] := by
        unfold zBo; rw [v0, v2, v3, v4, g5, v7]
      have eT : zTo f' B = js_ob true 1 [.ref (B 1), .ref (B 2), .ref (B 3), .ref (B 4), .ref (B 5), .int (jI (f 2)), .int (jI (f 3 + 1)), .int (jI (f 4 + (if f (13 + 9 * b + 8) = f (13 + 9 * b + 2) then 1 else 0))), .int (jI (f 5)), .int (jI (f 6)), .int (jI (f 7))] := by
        unfold zTo; rw [vn.1, g3, eb4, v5, vn.2.1, vn.2.2]
      have eC : zca f' = zca f := zca_e (fun q a c => by
        by_cases qp : q = p
        · subst qp; exact vc
        · exact vq q a c qp)
      refine js_Con.post (con_hourTK z1 (z9 b hb.1 hb.2) z3 hes (by omega) (by omega) z6 hpr (by omega) (by rw [hw7]; omega) (by omega) (by omega) z4 z5 sg.1.2.1 sg.1.2.2.2 (by omega) (by rw [en]; exact hgs n n1 n2) (z10 n n1 n2) hPp (by omega) (by rw [hw7, ← ep]; exact hG) enp eht (by omega) ept esl (by omega)) ?_
      rintro r h' ⟨rfl, rfl⟩
      rw [en]
      refine ⟨by rw [g3]; exact congrArg (fun z => Sum.inl (some (Value.int (jI z)))) (by omega), ?_, (zFr_up (zFr_up (zFr_up zFr_refl (sd b hb.1 hb.2)) (se n n1 n2)) sa.1)⟩
      refine zSt_row hZ (fun a k => js_up_d (js_up_d (js_up_d (k)))) e0 e1 ((js_up_n (js_nek z0 z1 js_kQO)).trans ((js_up_n (js_nek z0 (z10 n n1 n2) js_kQO)).trans ((js_up_n (js_nek z0 (z9 b hb.1 hb.2) js_kQO)).trans (rfl)))) ((js_up_n (js_nek z2 z1 (js_kOO (by decide)))).trans ((js_up_n (js_nek z2 (z10 n n1 n2) (js_kOO (by decide)))).trans ((js_up_n (js_nek z2 (z9 b hb.1 hb.2) (js_kOO (by decide)))).trans (rfl)))) ((js_up_n (js_nek z3 z1 (js_kOO (by decide)))).trans ((js_up_n (js_nek z3 (z10 n n1 n2) (js_kOO (by decide)))).trans ((js_up_n (js_nek z3 (z9 b hb.1 hb.2) (js_kOO (by decide)))).trans (rfl)))) (fun q => by
        rcases z7 with w | ⟨_, w⟩
        · exact absurd w.2 q
        · exact (js_up_n (js_nek w z1 js_kQO)).trans ((js_up_n (js_nek w (z10 n n1 n2) js_kQO)).trans ((js_up_n (js_nek w (z9 b hb.1 hb.2) js_kQO)).trans (rfl)))) (fun q => by
        rcases z8 with w | ⟨_, w⟩
        · exact absurd w.2 q
        · exact (js_up_n (js_nek w z1 js_kQO)).trans ((js_up_n (js_nek w (z10 n n1 n2) js_kQO)).trans ((js_up_n (js_nek w (z9 b hb.1 hb.2) js_kQO)).trans (rfl))))
        (by rw [eT]; exact js_up_s) (by rw [efa]; exact (js_up_n (js_nek z4 z1 js_kAO)).trans ((js_up_n (js_nek z4 (z10 n n1 n2) js_kAO)).trans ((js_up_n (js_nek z4 (z9 b hb.1 hb.2) js_kAO)).trans (z4)))) (by rw [eC]; exact (js_up_n (js_nek z5 z1 js_kAO)).trans ((js_up_n (js_nek z5 (z10 n n1 n2) js_kAO)).trans ((js_up_n (js_nek z5 (z9 b hb.1 hb.2) js_kAO)).trans (z5)))) (by rw [ewa]; exact (js_up_n (js_nek z6 z1 js_kAO)).trans ((js_up_n (js_nek z6 (z10 n n1 n2) js_kAO)).trans ((js_up_n (js_nek z6 (z9 b hb.1 hb.2) js_kAO)).trans (z6)))) (fun c c1 c2 => ?_) (fun c c1 c2 => ?_)
      · by_cases q : c = b
        · subst q; rw [eB]; exact (js_up_n (js_nek (z9 c hb.1 hb.2) z1 (js_kOO (by decide)))).trans ((js_up_n (js_nek (z9 c hb.1 hb.2) (z10 n n1 n2) (js_kOO (by decide)))).trans (js_up_s))
        · rw [zBo_e (fun k k1 k2 => xb c k q c1 (by omega) k1 k2)]; exact (js_up_n (js_nek (z9 c c1 c2) z1 (js_kOO (by decide)))).trans ((js_up_n (js_nek (z9 c c1 c2) (z10 n n1 n2) (js_kOO (by decide)))).trans ((js_up_n (fun w => q (sg.2.2.1 _ _ c1 c2 hb.1 hb.2 w))).trans ((z9 c c1 c2))))
      · by_cases q : c = n
        · subst q; rw [eS]; exact (js_up_n (js_nek (z10 c n1 n2) z1 (js_kOO (by decide)))).trans (js_up_s)
        · rw [zSo_e (fun k k1 k2 => by
            by_cases q3 : k = 3
            · subst q3; exact gi c c1 (by omega) q
            · exact xs c k c1 (by omega) k1 (by omega))]; exact (js_up_n (js_nek (z10 c c1 c2) z1 (js_kOO (by decide)))).trans ((js_up_n (fun w => q (sg.2.2.2 _ _ c1 c2 n1 n2 w))).trans ((js_up_n (js_nek (z10 c c1 c2) (z9 b hb.1 hb.2) (js_kOO (by decide)))).trans ((z10 c c1 c2))))
  · have vN := vN hG
    clear vG
    by_cases hlt : f (13 + 9 * b + 5) < f 1
    · obtain ⟨g5, g3, g6, g8, g4, gi⟩ := vN
      obtain ⟨n, en⟩ : ∃ n : Int, f (13 + 9 * b + 5) = n := ⟨_, rfl⟩
      have hG' : ¬ znext (zsp f n) (f (67 + 4 * n + 2)) = p := fun z => hG ⟨hlt, by rw [en]; exact z⟩
      rw [en] at hlt
      have n2 := hlt
      have n1 : 0 ≤ n := by omega
      have hP := zI_P hI n1 n2
      have hPp := zIP_p hP
      have hP2 := hP
      unfold zIP at hP2
      by_cases hld : ht ≤ 0
      · rw [if_pos hld] at v7 v5 vc
        have eB : zBo f' b = js_ob true 4 [.int (jI (p)), .int (jI (ht)), .int (jI (f (13 + 9 * b + 3))), .int (jI (max 0 (f (13 + 9 * b + 4) - 1))), .int (jI (f (13 + 9 * b + 5))), .int (jI (f (13 + 9 * b + 6))), .int (jI (f (13 + 9 * b + 7) + zfa f p)), .int (jI (f (13 + 9 * b + 8)))] := by
          unfold zBo; rw [v0, v2, v3, v4, g5, g6, v7, hf7, g8]
        have eT : zTo f' B = js_ob true 1 [.ref (B 1), .ref (B 2), .ref (B 3), .ref (B 4), .ref (B 5), .int (jI (f 2)), .int (jI (f 3)), .int (jI (f 4)), .int (jI (f 5 + zfa f p)), .int (jI (f 6)), .int (jI (f 7))] := by
          unfold zTo; rw [vn.1, g3, g4, v5, vn.2.1, vn.2.2, hf7]
        have eC : zca f' = js_uz (zca f) p (zca f p + zfa f p) := by
          rw [hf7, zca_g hp, zca_u hp]
          refine zca_e (fun q a c => ?_)
          by_cases qp : q = p
          · subst qp; rw [js_uz_s]; exact vc
          · rw [js_uz_n (by omega)]; exact vq q a c qp
        refine js_Con.post (con_hourFL z1 (z9 b hb.1 hb.2) z3 hes (by omega) (by omega) z6 hpr (by omega) (by rw [hw7]; omega) (by omega) (by omega) z4 z5 sg.1.2.1 sg.1.2.2.2 (by omega) (by rw [en]; exact hgs n n1 n2) (z10 n n1 n2) hPp (by omega) (by rw [hw7, ← ep]; exact hG') enp eht (by omega) (by omega)) ?_
        rintro r h' ⟨rfl, rfl⟩
        refine ⟨by rw [g3]; exact congrArg (fun z => Sum.inl (some (Value.int (jI z)))) (by omega), ?_, (zFr_up (zFr_up (zFr_up zFr_refl (sd b hb.1 hb.2)) sa.2.2.2.2.1) sa.1)⟩
        refine zSt_row hZ (fun a k => js_up_d (js_up_d (js_up_d (k)))) e0 e1 ((js_up_n (js_nek z0 z1 js_kQO)).trans ((js_up_n (js_nek z0 z5 js_kQA)).trans ((js_up_n (js_nek z0 (z9 b hb.1 hb.2) js_kQO)).trans (rfl)))) ((js_up_n (js_nek z2 z1 (js_kOO (by decide)))).trans ((js_up_n (js_nek z2 z5 js_kOA)).trans ((js_up_n (js_nek z2 (z9 b hb.1 hb.2) (js_kOO (by decide)))).trans (rfl)))) ((js_up_n (js_nek z3 z1 (js_kOO (by decide)))).trans ((js_up_n (js_nek z3 z5 js_kOA)).trans ((js_up_n (js_nek z3 (z9 b hb.1 hb.2) (js_kOO (by decide)))).trans (rfl)))) (fun q => by
          rcases z7 with w | ⟨_, w⟩
          · exact absurd w.2 q
          · exact (js_up_n (js_nek w z1 js_kQO)).trans ((js_up_n (js_nek w z5 js_kQA)).trans ((js_up_n (js_nek w (z9 b hb.1 hb.2) js_kQO)).trans (rfl)))) (fun q => by
          rcases z8 with w | ⟨_, w⟩
          · exact absurd w.2 q
          · exact (js_up_n (js_nek w z1 js_kQO)).trans ((js_up_n (js_nek w z5 js_kQA)).trans ((js_up_n (js_nek w (z9 b hb.1 hb.2) js_kQO)).trans (rfl))))
          (by rw [eT]; exact js_up_s) (by rw [efa]; exact (js_up_n (js_nek z4 z1 js_kAO)).trans ((js_up_n sg.1.2.1).trans ((js_up_n (js_nek z4 (z9 b hb.1 hb.2) js_kAO)).trans (z4)))) (by rw [eC]; exact (js_up_n (js_nek z5 z1 js_kAO)).trans (js_up_s)) (by rw [ewa]; exact (js_up_n (js_nek z6 z1 js_kAO)).trans ((js_up_n sg.1.2.2.2).trans ((js_up_n (js_nek z6 (z9 b hb.1 hb.2) js_kAO)).trans (z6)))) (fun c c1 c2 => ?_) (fun c c1 c2 => ?_)
        · by_cases q : c = b
          · subst q; rw [eB]; exact (js_up_n (js_nek (z9 c hb.1 hb.2) z1 (js_kOO (by decide)))).trans ((js_up_n (js_nek (z9 c hb.1 hb.2) z5 js_kOA)).trans (js_up_s))
          · rw [zBo_e (fun k k1 k2 => xb c k q c1 (by omega) k1 k2)]; exact (js_up_n (js_nek (z9 c c1 c2) z1 (js_kOO (by decide)))).trans ((js_up_n (js_nek (z9 c c1 c2) z5 js_kOA)).trans ((js_up_n (fun w => q (sg.2.2.1 _ _ c1 c2 hb.1 hb.2 w))).trans ((z9 c c1 c2))))
        · rw [zSo_e (fun k k1 k2 => by
            by_cases q3 : k = 3
            · subst q3; exact gi c c1 (by omega)
            · exact xs c k c1 (by omega) k1 (by omega))]; exact (js_up_n (js_nek (z10 c c1 c2) z1 (js_kOO (by decide)))).trans ((js_up_n (js_nek (z10 c c1 c2) z5 js_kOA)).trans ((js_up_n (js_nek (z10 c c1 c2) (z9 b hb.1 hb.2) (js_kOO (by decide)))).trans ((z10 c c1 c2))))
      · rw [if_neg hld] at v7 v5 vc
        rw [Int.add_zero] at v7 v5 vc
        have eB : zBo f' b = js_ob true 4 [.int (jI (p)), .int (jI (ht)), .int (jI (f (13 + 9 * b + 3))), .int (jI (max 0 (f (13 + 9 * b + 4) - 1))), .int (jI (f (13 + 9 * b + 5))), .int (jI (f (13 + 9 * b + 6))), .int (jI (f (13 + 9 * b + 7))), .int (jI (f (13 + 9 * b + 8)))] := by
          unfold zBo; rw [v0, v2, v3, v4, g5, g6, v7, g8]
        have eT : zTo f' B = js_ob true 1 [.ref (B 1), .ref (B 2), .ref (B 3), .ref (B 4), .ref (B 5), .int (jI (f 2)), .int (jI (f 3)), .int (jI (f 4)), .int (jI (f 5)), .int (jI (f 6)), .int (jI (f 7))] := by
          unfold zTo; rw [vn.1, g3, g4, v5, vn.2.1, vn.2.2]
        have eC : zca f' = zca f := zca_e (fun q a c => by
          by_cases qp : q = p
          · subst qp; exact vc
          · exact vq q a c qp)
        refine js_Con.post (con_hourFK z1 (z9 b hb.1 hb.2) z3 hes (by omega) (by omega) z6 hpr (by omega) (by rw [hw7]; omega) (by omega) (by omega) z4 z5 sg.1.2.1 sg.1.2.2.2 (by omega) (by rw [en]; exact hgs n n1 n2) (z10 n n1 n2) hPp (by omega) (by rw [hw7, ← ep]; exact hG') enp eht (by omega) (by omega)) ?_
        rintro r h' ⟨rfl, rfl⟩
        refine ⟨by rw [g3]; exact congrArg (fun z => Sum.inl (some (Value.int (jI z)))) (by omega), ?_, (zFr_up zFr_refl (sd b hb.1 hb.2))⟩
        refine zSt_row hZ (fun a k => js_up_d (k)) e0 e1 ((js_up_n (js_nek z0 (z9 b hb.1 hb.2) js_kQO)).trans (rfl)) ((js_up_n (js_nek z2 (z9 b hb.1 hb.2) (js_kOO (by decide)))).trans (rfl)) ((js_up_n (js_nek z3 (z9 b hb.1 hb.2) (js_kOO (by decide)))).trans (rfl)) (fun q => by
          rcases z7 with w | ⟨_, w⟩
          · exact absurd w.2 q
          · exact (js_up_n (js_nek w (z9 b hb.1 hb.2) js_kQO)).trans (rfl)) (fun q => by
          rcases z8 with w | ⟨_, w⟩
          · exact absurd w.2 q
          · exact (js_up_n (js_nek w (z9 b hb.1 hb.2) js_kQO)).trans (rfl))
          (by rw [eT]; exact (js_up_n (js_nek z1 (z9 b hb.1 hb.2) (js_kOO (by decide)))).trans (z1)) (by rw [efa]; exact (js_up_n (js_nek z4 (z9 b hb.1 hb.2) js_kAO)).trans (z4)) (by rw [eC]; exact (js_up_n (js_nek z5 (z9 b hb.1 hb.2) js_kAO)).trans (z5)) (by rw [ewa]; exact (js_up_n (js_nek z6 (z9 b hb.1 hb.2) js_kAO)).trans (z6)) (fun c c1 c2 => ?_) (fun c c1 c2 => ?_)
        · by_cases q : c = b
          · subst q; rw [eB]; exact js_up_s
          · rw [zBo_e (fun k k1 k2 => xb c k q c1 (by omega) k1 k2)]; exact (js_up_n (fun w => q (sg.2.2.1 _ _ c1 c2 hb.1 hb.2 w))).trans ((z9 c c1 c2))
        · rw [zSo_e (fun k k1 k2 => by
            by_cases q3 : k = 3
            · subst q3; exact gi c c1 (by omega)
            · exact xs c k c1 (by omega) k1 (by omega))]; exact (js_up_n (js_nek (z10 c c1 c2) (z9 b hb.1 hb.2) (js_kOO (by decide)))).trans ((z10 c c1 c2))
    · obtain ⟨g5, g3, g6, g8, g4, gi⟩ := vN
      by_cases hld : ht ≤ 0
      · rw [if_pos hld] at v7 v5 vc
        have eB : zBo f' b = js_ob true 4 [.int (jI (p)), .int (jI (ht)), .int (jI (f (13 + 9 * b + 3))), .int (jI (max 0 (f (13 + 9 * b + 4) - 1))), .int (jI (f (13 + 9 * b + 5))), .int (jI (f (13 + 9 * b + 6))), .int (jI (f (13 + 9 * b + 7) + zfa f p)), .int (jI (f (13 + 9 * b + 8)))] := by
          unfold zBo; rw [v0, v2, v3, v4, g5, g6, v7, hf7, g8]
        have eT : zTo f' B = js_ob true 1 [.ref (B 1), .ref (B 2), .ref (B 3), .ref (B 4), .ref (B 5), .int (jI (f 2)), .int (jI (f 3)), .int (jI (f 4)), .int (jI (f 5 + zfa f p)), .int (jI (f 6)), .int (jI (f 7))] := by
          unfold zTo; rw [vn.1, g3, g4, v5, vn.2.1, vn.2.2, hf7]
        have eC : zca f' = js_uz (zca f) p (zca f p + zfa f p) := by
          rw [hf7, zca_g hp, zca_u hp]
          refine zca_e (fun q a c => ?_)
          by_cases qp : q = p
          · subst qp; rw [js_uz_s]; exact vc
          · rw [js_uz_n (by omega)]; exact vq q a c qp
        refine js_Con.post (con_hourNL z1 (z9 b hb.1 hb.2) z3 hes (by omega) (by omega) z6 hpr (by omega) (by rw [hw7]; omega) (by omega) (by omega) z4 z5 sg.1.2.1 sg.1.2.2.2 (by omega) enp eht (by omega) (by omega)) ?_
        rintro r h' ⟨rfl, rfl⟩
        refine ⟨by rw [g3]; exact congrArg (fun z => Sum.inl (some (Value.int (jI z)))) (by omega), ?_, (zFr_up (zFr_up (zFr_up zFr_refl (sd b hb.1 hb.2)) sa.2.2.2.2.1) sa.1)⟩
        refine zSt_row hZ (fun a k => js_up_d (js_up_d (js_up_d (k)))) e0 e1 ((js_up_n (js_nek z0 z1 js_kQO)).trans ((js_up_n (js_nek z0 z5 js_kQA)).trans ((js_up_n (js_nek z0 (z9 b hb.1 hb.2) js_kQO)).trans (rfl)))) ((js_up_n (js_nek z2 z1 (js_kOO (by decide)))).trans ((js_up_n (js_nek z2 z5 js_kOA)).trans ((js_up_n (js_nek z2 (z9 b hb.1 hb.2) (js_kOO (by decide)))).trans (rfl)))) ((js_up_n (js_nek z3 z1 (js_kOO (by decide)))).trans ((js_up_n (js_nek z3 z5 js_kOA)).trans ((js_up_n (js_nek z3 (z9 b hb.1 hb.2) (js_kOO (by decide)))).trans (rfl)))) (fun q => by
          rcases z7 with w | ⟨_, w⟩
          · exact absurd w.2 q
          · exact (js_up_n (js_nek w z1 js_kQO)).trans ((js_up_n (js_nek w z5 js_kQA)).trans ((js_up_n (js_nek w (z9 b hb.1 hb.2) js_kQO)).trans (rfl)))) (fun q => by
          rcases z8 with w | ⟨_, w⟩
          · exact absurd w.2 q
          · exact (js_up_n (js_nek w z1 js_kQO)).trans ((js_up_n (js_nek w z5 js_kQA)).trans ((js_up_n (js_nek w (z9 b hb.1 hb.2) js_kQO)).trans (rfl))))
          (by rw [eT]; exact js_up_s) (by rw [efa]; exact (js_up_n (js_nek z4 z1 js_kAO)).trans ((js_up_n sg.1.2.1).trans ((js_up_n (js_nek z4 (z9 b hb.1 hb.2) js_kAO)).trans (z4)))) (by rw [eC]; exact (js_up_n (js_nek z5 z1 js_kAO)).trans (js_up_s)) (by rw [ewa]; exact (js_up_n (js_nek z6 z1 js_kAO)).trans ((js_up_n sg.1.2.2.2).trans ((js_up_n (js_nek z6 (z9 b hb.1 hb.2) js_kAO)).trans (z6)))) (fun c c1 c2 => ?_) (fun c c1 c2 => ?_)
        · by_cases q : c = b
          · subst q; rw [eB]; exact (js_up_n (js_nek (z9 c hb.1 hb.2) z1 (js_kOO (by decide)))).trans ((js_up_n (js_nek (z9 c hb.1 hb.2) z5 js_kOA)).trans (js_up_s))
          · rw [zBo_e (fun k k1 k2 => xb c k q c1 (by omega) k1 k2)]; exact (js_up_n (js_nek (z9 c c1 c2) z1 (js_kOO (by decide)))).trans ((js_up_n (js_nek (z9 c c1 c2) z5 js_kOA)).trans ((js_up_n (fun w => q (sg.2.2.1 _ _ c1 c2 hb.1 hb.2 w))).trans ((z9 c c1 c2))))
        · rw [zSo_e (fun k k1 k2 => by
            by_cases q3 : k = 3
            · subst q3; exact gi c c1 (by omega)
            · exact xs c k c1 (by omega) k1 (by omega))]; exact (js_up_n (js_nek (z10 c c1 c2) z1 (js_kOO (by decide)))).trans ((js_up_n (js_nek (z10 c c1 c2) z5 js_kOA)).trans ((js_up_n (js_nek (z10 c c1 c2) (z9 b hb.1 hb.2) (js_kOO (by decide)))).trans ((z10 c c1 c2))))
      · rw [if_neg hld] at v7 v5 vc
        rw [Int.add_zero] at v7 v5 vc
        have eB : zBo f' b = js_ob true 4 [.int (jI (p)), .int (jI (ht)), .int (jI (f (13 + 9 * b + 3))), .int (jI (max 0 (f (13 + 9 * b + 4) - 1))), .int (jI (f (13 + 9 * b + 5))), .int (jI (f (13 + 9 * b + 6))), .int (jI (f (13 + 9 * b + 7))), .int (jI (f (13 + 9 * b + 8)))] := by
          unfold zBo; rw [v0, v2, v3, v4, g5, g6, v7, g8]
        have eT : zTo f' B = js_ob true 1 [.ref (B 1), .ref (B 2), .ref (B 3), .ref (B 4), .ref (B 5), .int (jI (f 2)), .int (jI (f 3)), .int (jI (f 4)), .int (jI (f 5)), .int (jI (f 6)), .int (jI (f 7))] := by
          unfold zTo; rw [vn.1, g3, g4, v5, vn.2.1, vn.2.2]
        have eC : zca f' = zca f := zca_e (fun q a c => by
          by_cases qp : q = p
          · subst qp; exact vc
          · exact vq q a c qp)
        refine js_Con.post (con_hourNK z1 (z9 b hb.1 hb.2) z3 hes (by omega) (by omega) z6 hpr (by omega) (by rw [hw7]; omega) (by omega) (by omega) z4 z5 sg.1.2.1 sg.1.2.2.2 (by omega) enp eht (by omega) (by omega)) ?_
        rintro r h' ⟨rfl, rfl⟩
        refine ⟨by rw [g3]; exact congrArg (fun z => Sum.inl (some (Value.int (jI z)))) (by omega), ?_, (zFr_up zFr_refl (sd b hb.1 hb.2))⟩
        refine zSt_row hZ (fun a k => js_up_d (k)) e0 e1 ((js_up_n (js_nek z0 (z9 b hb.1 hb.2) js_kQO)).trans (rfl)) ((js_up_n (js_nek z2 (z9 b hb.1 hb.2) (js_kOO (by decide)))).trans (rfl)) ((js_up_n (js_nek z3 (z9 b hb.1 hb.2) (js_kOO (by decide)))).trans (rfl)) (fun q => by
          rcases z7 with w | ⟨_, w⟩
          · exact absurd w.2 q
          · exact (js_up_n (js_nek w (z9 b hb.1 hb.2) js_kQO)).trans (rfl)) (fun q => by
          rcases z8 with w | ⟨_, w⟩
          · exact absurd w.2 q
          · exact (js_up_n (js_nek w (z9 b hb.1 hb.2) js_kQO)).trans (rfl))
          (by rw [eT]; exact (js_up_n (js_nek z1 (z9 b hb.1 hb.2) (js_kOO (by decide)))).trans (z1)) (by rw [efa]; exact (js_up_n (js_nek z4 (z9 b hb.1 hb.2) js_kAO)).trans (z4)) (by rw [eC]; exact (js_up_n (js_nek z5 (z9 b hb.1 hb.2) js_kAO)).trans (z5)) (by rw [ewa]; exact (js_up_n (js_nek z6 (z9 b hb.1 hb.2) js_kAO)).trans (z6)) (fun c c1 c2 => ?_) (fun c c1 c2 => ?_)
        · by_cases q : c = b
          · subst q; rw [eB]; exact js_up_s
          · rw [zBo_e (fun k k1 k2 => xb c k q c1 (by omega) k1 k2)]; exact (js_up_n (fun w => q (sg.2.2.1 _ _ c1 c2 hb.1 hb.2 w))).trans ((z9 c c1 c2))
        · rw [zSo_e (fun k k1 k2 => by
            by_cases q3 : k = 3
            · subst q3; exact gi c c1 (by omega)
            · exact xs c k c1 (by omega) k1 (by omega))]; exact (js_up_n (js_nek (z10 c c1 c2) (z9 b hb.1 hb.2) (js_kOO (by decide)))).trans ((z10 c c1 c2))
