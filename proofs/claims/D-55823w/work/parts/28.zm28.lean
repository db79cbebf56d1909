set_option maxRecDepth 100000
/-! BalloonSpiresModel: orders are done -/
theorem com_does {ρ : js_R} {h : js_H} {A : Nat → Nat} {f bef asd svd pas rf it wt tx od ln : Int → Int} {isS pm th len at_ wr fa om lm : Int} {T k : Int} (hA : zA A) (hp : zMc A f bef asd svd pas rf it wt tx od ln isS pm th len at_ wr fa om lm h) (hI : zI T f) (hT : T + 400 ≤ 1000000) (hk : 0 ≤ k ∧ k < 60) (hod : ∀ j : Int, 0 ≤ j → j < 300 → -2147483648 ≤ od j ∧ od j < 2147483648) : js_Con ρ mX3_does 8 0 0 [.ref (A 0), .int (jI k)] h (js_ret none (zoH h (A 0) (A 1) (A 6) (js_ob true 2 [.ref (A 1), .ref (A 2), .ref (A 3), .ref (A 4), .int (jI isS), .ref (A 5), .int (jI pm), .int (jI 1), .ref (A 6), .ref (A 7), .ref (A 8), .ref (A 9), .int (jI len), .int (jI at_), .int (jI wr), .int (jI fa), .ref (A 10), .int (jI om), .ref (A 11), .int (jI lm)]) rf (zdo f od k))) := by
  refine js_body [(0, .ref (A 0)), (1, .int (jI k))] rfl (by decide) (Nat.le_of_ble_eq_true rfl) rfl ?_
  obtain ⟨p0, p1, p2, p3, p4, p5, p6, p7, p8, p9, p10, p11⟩ := hp
  have o0 := hod (5 * k) (by omega) (by omega)
  have o1 := hod (5 * k + 1) (by omega) (by omega)
  have o2 := hod (5 * k + 2) (by omega) (by omega)
  have o3 := hod (5 * k + 3) (by omega) (by omega)
  have o4 := hod (5 * k + 4) (by omega) (by omega)
  refine js_aload_n 0 dX3_does_0 rfl ?_
  refine gX3_43 rfl dX3_does_1 p0 rfl ?_
  refine js_iconst dX3_does_4 ?_
  refine js_iload_n 1 dX3_does_5 rfl ?_
  refine js_imul dX3_does_6 ?_
  refine js_iconst dX3_does_7 ?_
  refine js_iadd dX3_does_8 ?_
  refine js_iaload dX3_does_9 p10 (by omega) ?_
  refine js_istore_n (L' := [(2, .int (jI (od ((5 * k) + 1)))), (0, .ref (A 0)), (1, .int (jI k))]) dX3_does_10 (by decide) rfl ?_
  refine js_aload_n 1 dX3_does_11 rfl ?_
  refine gX3_43 rfl dX3_does_12 p0 rfl ?_
  refine js_iconst dX3_does_15 ?_
  refine js_iload_n 2 dX3_does_16 rfl ?_
  refine js_imul dX3_does_17 ?_
  refine js_iconst dX3_does_18 ?_
  refine js_iadd dX3_does_19 ?_
  refine js_iaload dX3_does_20 p10 (by omega) ?_
  refine js_istore_n (L' := [(3, .int (jI (od ((5 * k) + 2)))), (2, .int (jI (od ((5 * k) + 1)))), (0, .ref (A 0)), (1, .int (jI k))]) dX3_does_21 (by decide) rfl ?_
  refine js_aload_n 2 dX3_does_22 rfl ?_
  refine gX3_43 rfl dX3_does_23 p0 rfl ?_
  refine js_iconst dX3_does_26 ?_
  refine js_iload_n 3 dX3_does_27 rfl ?_
  refine js_imul dX3_does_28 ?_
  refine js_iconst dX3_does_29 ?_
  refine js_iadd dX3_does_30 ?_
  refine js_iaload dX3_does_31 p10 (by omega) ?_
  refine js_istore (L' := [(4, .int (jI (od ((5 * k) + 3)))), (3, .int (jI (od ((5 * k) + 2)))), (2, .int (jI (od ((5 * k) + 1)))), (0, .ref (A 0)), (1, .int (jI k))]) dX3_does_32 (by decide) rfl ?_
  refine js_aload_n 3 dX3_does_34 rfl ?_
  refine gX3_43 rfl dX3_does_35 p0 rfl ?_
  refine js_iconst dX3_does_38 ?_
  refine js_iload_n 4 dX3_does_39 rfl ?_
  refine js_imul dX3_does_40 ?_
  refine js_iaload dX3_does_41 p10 (by omega) ?_
  rcases (show ((od (5 * k) : Int) < 100 ∨ 119 < (od (5 * k) : Int)) ∨ (od (5 * k) : Int) = 100 ∨ (od (5 * k) : Int) = 101 ∨ (od (5 * k) : Int) = 102 ∨ (od (5 * k) : Int) = 103 ∨ (od (5 * k) : Int) = 104 ∨ (od (5 * k) : Int) = 105 ∨ (od (5 * k) : Int) = 106 ∨ (od (5 * k) : Int) = 107 ∨ (od (5 * k) : Int) = 108 ∨ (od (5 * k) : Int) = 109 ∨ (od (5 * k) : Int) = 110 ∨ (od (5 * k) : Int) = 111 ∨ (od (5 * k) : Int) = 112 ∨ (od (5 * k) : Int) = 113 ∨ (od (5 * k) : Int) = 114 ∨ (od (5 * k) : Int) = 115 ∨ (od (5 * k) : Int) = 116 ∨ (od (5 * k) : Int) = 117 ∨ (od (5 * k) : Int) = 118 ∨ (od (5 * k) : Int) = 119 from by omega) with t1 | t1 | t1 | t1 | t1 | t1 | t1 | t1 | t1 | t1 | t1 | t1 | t1 | t1 | t1 | t1 | t1 | t1 | t1 | t1 | t1
  · refine js_tableOut (tgt := 252) dX3_does_42 (by omega) (by omega) (by decide) ?_
    refine js_aload_n 3 dX3_does_252 rfl ?_
    refine js_iload_n 2 dX3_does_253 rfl ?_
    refine eX3_168 rfl dX3_does_254 p0 (com_doRetire p0 p1 p6 (hA 1 6 (by decide) (by decide) (by decide)) hI (by omega)) (Nat.le_of_ble_eq_true rfl) (Nat.le_of_ble_eq_true rfl) ?_
    refine js_istore (L' := [(5, .int (jI (zoR (zdoRetire f (od ((5 * k) + 1)))))), (4, .int (jI (od ((5 * k) + 3)))), (3, .int (jI (od ((5 * k) + 2)))), (2, .int (jI (od ((5 * k) + 1)))), (0, .ref (A 0)), (1, .int (jI k))]) dX3_does_257 (by decide) rfl ?_
    exact js_vret rfl dX3_does_259 ⟨rfl, (by rw [show zdo f od k = zdoRetire f (od ((5 * k) + 1)) from by unfold zdo; rw [if_neg (by omega), if_neg (by omega), if_neg (by omega), if_neg (by omega), if_neg (by omega), if_neg (by omega), if_neg (by omega), if_neg (by omega), if_neg (by omega)]])⟩
  · refine js_top (b := 100) t1 ?_
    refine js_tableIn (off := 154) (tgt := 196) dX3_does_42 (by decide) (by decide) (by decide) rfl (by decide) ?_
    refine js_aload_n 3 dX3_does_196 rfl ?_
    refine js_iload_n 2 dX3_does_197 rfl ?_
    refine js_iload_n 1 dX3_does_198 rfl ?_
    refine eX3_117 rfl dX3_does_199 p0 (com_doDrop p0 p1 p6 (hA 1 6 (by decide) (by decide) (by decide)) hI (by omega) (by omega)) (Nat.le_of_ble_eq_true rfl) (Nat.le_of_ble_eq_true rfl) ?_
    refine js_istore (L' := [(5, .int (jI (zoR (zdoDrop f (od ((5 * k) + 1)) (od ((5 * k) + 2)))))), (4, .int (jI (od ((5 * k) + 3)))), (3, .int (jI (od ((5 * k) + 2)))), (2, .int (jI (od ((5 * k) + 1)))), (0, .ref (A 0)), (1, .int (jI k))]) dX3_does_202 (by decide) rfl ?_
    refine js_goto (tgt := 259) dX3_does_204 (by decide) ?_
    exact js_vret rfl dX3_does_259 ⟨rfl, (by rw [show zdo f od k = zdoDrop f (od ((5 * k) + 1)) (od ((5 * k) + 2)) from by unfold zdo; rw [if_pos (by omega)]])⟩
  · refine js_top (b := 101) t1 ?_
    refine js_tableIn (off := 94) (tgt := 136) dX3_does_42 (by decide) (by decide) (by decide) rfl (by decide) ?_
    refine js_aload_n 3 dX3_does_136 rfl ?_
    refine js_iload_n 2 dX3_does_137 rfl ?_
    refine js_iload_n 1 dX3_does_138 rfl ?_
    refine js_iload 0 dX3_does_139 rfl ?_
    refine js_aload_n 3 dX3_does_141 rfl ?_
    refine gX3_43 rfl dX3_does_142 p0 rfl ?_
    refine js_iconst dX3_does_145 ?_
    refine js_iload_n 4 dX3_does_146 rfl ?_
    refine js_imul dX3_does_147 ?_
    refine js_iconst dX3_does_148 ?_
    refine js_iadd dX3_does_149 ?_
    refine js_iaload dX3_does_150 p10 (by omega) ?_
    refine eX3_93 rfl dX3_does_151 p0 (com_doEnter p0 p1 p6 (hA 1 6 (by decide) (by decide) (by decide)) hI (by omega) (by omega) (by omega) (by omega)) (Nat.le_of_ble_eq_true rfl) (Nat.le_of_ble_eq_true rfl) ?_
    refine js_istore (L' := [(5, .int (jI (zoR (zdoEnter f (od ((5 * k) + 1)) (od ((5 * k) + 2)) (od ((5 * k) + 3)) (od ((5 * k) + 4)))))), (4, .int (jI (od ((5 * k) + 3)))), (3, .int (jI (od ((5 * k) + 2)))), (2, .int (jI (od ((5 * k) + 1)))), (0, .ref (A 0)), (1, .int (jI k))]) dX3_does_154 (by decide) rfl ?_
    refine js_goto (tgt := 259) dX3_does_156 (by decide) ?_
    exact js_vret rfl dX3_does_259 ⟨rfl, (by rw [show zdo f od k = zdoEnter f (od ((5 * k) + 1)) (od ((5 * k) + 2)) (od ((5 * k) + 3)) (od ((5 * k) + 4)) from by unfold zdo; rw [if_neg (by omega), if_pos (by omega)]])⟩
  · refine js_top (b := 102) t1 ?_
    refine js_tableIn (off := 130) (tgt := 172) dX3_does_42 (by decide) (by decide) (by decide) rfl (by decide) ?_
    refine js_aload_n 3 dX3_does_172 rfl ?_
    refine js_iload_n 2 dX3_does_173 rfl ?_
    refine js_iload_n 1 dX3_does_174 rfl ?_
    refine js_iload 0 dX3_does_175 rfl ?_
    refine eX3_107 rfl dX3_does_177 p0 (com_doFarm p0 p1 p6 (hA 1 6 (by decide) (by decide) (by decide)) hI (by omega) (by omega) (by omega)) (Nat.le_of_ble_eq_true rfl) (Nat.le_of_ble_eq_true rfl) ?_
    refine js_istore (L' := [(5, .int (jI (zoR (zdoFarm f (od ((5 * k) + 1)) (od ((5 * k) + 2)) (od ((5 * k) + 3)))))), (4, .int (jI (od ((5 * k) + 3)))), (3, .int (jI (od ((5 * k) + 2)))), (2, .int (jI (od ((5 * k) + 1)))), (0, .ref (A 0)), (1, .int (jI k))]) dX3_does_180 (by decide) rfl ?_
    refine js_goto (tgt := 259) dX3_does_182 (by decide) ?_
    exact js_vret rfl dX3_does_259 ⟨rfl, (by rw [show zdo f od k = zdoFarm f (od ((5 * k) + 1)) (od ((5 * k) + 2)) (od ((5 * k) + 3)) from by unfold zdo; rw [if_neg (by omega), if_neg (by omega), if_pos (by omega)]])⟩
  · refine js_top (b := 103) t1 ?_
    refine js_tableIn (off := 210) (tgt := 252) dX3_does_42 (by decide) (by decide) (by decide) rfl (by decide) ?_
    refine js_aload_n 3 dX3_does_252 rfl ?_
    refine js_iload_n 2 dX3_does_253 rfl ?_
    refine eX3_168 rfl dX3_does_254 p0 (com_doRetire p0 p1 p6 (hA 1 6 (by decide) (by decide) (by decide)) hI (by omega)) (Nat.le_of_ble_eq_true rfl) (Nat.le_of_ble_eq_true rfl) ?_
    refine js_istore (L' := [(5, .int (jI (zoR (zdoRetire f (od ((5 * k) + 1)))))), (4, .int (jI (od ((5 * k) + 3)))), (3, .int (jI (od ((5 * k) + 2)))), (2, .int (jI (od ((5 * k) + 1)))), (0, .ref (A 0)), (1, .int (jI k))]) dX3_does_257 (by decide) rfl ?_
    exact js_vret rfl dX3_does_259 ⟨rfl, (by rw [show zdo f od k = zdoRetire f (od ((5 * k) + 1)) from by unfold zdo; rw [if_neg (by omega), if_neg (by omega), if_neg (by omega), if_neg (by omega), if_neg (by omega), if_neg (by omega), if_neg (by omega), if_neg (by omega), if_neg (by omega)]])⟩
  · refine js_top (b := 104) t1 ?_
    refine js_tableIn (off := 200) (tgt := 242) dX3_does_42 (by decide) (by decide) (by decide) rfl (by decide) ?_
    refine js_aload_n 3 dX3_does_242 rfl ?_
    refine js_iload_n 2 dX3_does_243 rfl ?_
    refine eX3_165 rfl dX3_does_244 p0 (com_doHour p0 p1 p6 (hA 1 6 (by decide) (by decide) (by decide)) hI hT (by omega)) (Nat.le_of_ble_eq_true rfl) (Nat.le_of_ble_eq_true rfl) ?_
    refine js_istore (L' := [(5, .int (jI (zoR (zdoHour f (od ((5 * k) + 1)))))), (4, .int (jI (od ((5 * k) + 3)))), (3, .int (jI (od ((5 * k) + 2)))), (2, .int (jI (od ((5 * k) + 1)))), (0, .ref (A 0)), (1, .int (jI k))]) dX3_does_247 (by decide) rfl ?_
    refine js_goto (tgt := 259) dX3_does_249 (by decide) ?_
    exact js_vret rfl dX3_does_259 ⟨rfl, (by rw [show zdo f od k = zdoHour f (od ((5 * k) + 1)) from by unfold zdo; rw [if_neg (by omega), if_neg (by omega), if_neg (by omega), if_pos (by omega)]])⟩
  · refine js_top (b := 105) t1 ?_
    refine js_tableIn (off := 210) (tgt := 252) dX3_does_42 (by decide) (by decide) (by decide) rfl (by decide) ?_
    refine js_aload_n 3 dX3_does_252 rfl ?_
    refine js_iload_n 2 dX3_does_253 rfl ?_
    refine eX3_168 rfl dX3_does_254 p0 (com_doRetire p0 p1 p6 (hA 1 6 (by decide) (by decide) (by decide)) hI (by omega)) (Nat.le_of_ble_eq_true rfl) (Nat.le_of_ble_eq_true rfl) ?_
    refine js_istore (L' := [(5, .int (jI (zoR (zdoRetire f (od ((5 * k) + 1)))))), (4, .int (jI (od ((5 * k) + 3)))), (3, .int (jI (od ((5 * k) + 2)))), (2, .int (jI (od ((5 * k) + 1)))), (0, .ref (A 0)), (1, .int (jI k))]) dX3_does_257 (by decide) rfl ?_
    exact js_vret rfl dX3_does_259 ⟨rfl, (by rw [show zdo f od k = zdoRetire f (od ((5 * k) + 1)) from by unfold zdo; rw [if_neg (by omega), if_neg (by omega), if_neg (by omega), if_neg (by omega), if_neg (by omega), if_neg (by omega), if_neg (by omega), if_neg (by omega), if_neg (by omega)]])⟩
  · refine js_top (b := 106) t1 ?_
    refine js_tableIn (off := 210) (tgt := 252) dX3_does_42 (by decide) (by decide) (by decide) rfl (by decide) ?_
    refine js_aload_n 3 dX3_does_252 rfl ?_
    refine js_iload_n 2 dX3_does_253 rfl ?_
    refine eX3_168 rfl dX3_does_254 p0 (com_doRetire p0 p1 p6 (hA 1 6 (by decide) (by decide) (by decide)) hI (by omega)) (Nat.le_of_ble_eq_true rfl) (Nat.le_of_ble_eq_true rfl) ?_
    refine js_istore (L' := [(5, .int (jI (zoR (zdoRetire f (od ((5 * k) + 1)))))), (4, .int (jI (od ((5 * k) + 3)))), (3, .int (jI (od ((5 * k) + 2)))), (2, .int (jI (od ((5 * k) + 1)))), (0, .ref (A 0)), (1, .int (jI k))]) dX3_does_257 (by decide) rfl ?_
    exact js_vret rfl dX3_does_259 ⟨rfl, (by rw [show zdo f od k = zdoRetire f (od ((5 * k) + 1)) from by unfold zdo; rw [if_neg (by omega), if_neg (by omega), if_neg (by omega), if_neg (by omega), if_neg (by omega), if_neg (by omega), if_neg (by omega), if_neg (by omega), if_neg (by omega)]])⟩
  · refine js_top (b := 107) t1 ?_
    refine js_tableIn (off := 210) (tgt := 252) dX3_does_42 (by decide) (by decide) (by decide) rfl (by decide) ?_
    refine js_aload_n 3 dX3_does_252 rfl ?_
    refine js_iload_n 2 dX3_does_253 rfl ?_
    refine eX3_168 rfl dX3_does_254 p0 (com_doRetire p0 p1 p6 (hA 1 6 (by decide) (by decide) (by decide)) hI (by omega)) (Nat.le_of_ble_eq_true rfl) (Nat.le_of_ble_eq_true rfl) ?_
    refine js_istore (L' := [(5, .int (jI (zoR (zdoRetire f (od ((5 * k) + 1)))))), (4, .int (jI (od ((5 * k) + 3)))), (3, .int (jI (od ((5 * k) + 2)))), (2, .int (jI (od ((5 * k) + 1)))), (0, .ref (A 0)), (1, .int (jI k))]) dX3_does_257 (by decide) rfl ?_
    exact js_vret rfl dX3_does_259 ⟨rfl, (by rw [show zdo f od k = zdoRetire f (od ((5 * k) + 1)) from by unfold zdo; rw [if_neg (by omega), if_neg (by omega), if_neg (by omega), if_neg (by omega), if_neg (by omega), if_neg (by omega), if_neg (by omega), if_neg (by omega), if_neg (by omega)]])⟩
  · refine js_top (b := 108) t1 ?_
    refine js_tableIn (off := 189) (tgt := 231) dX3_does_42 (by decide) (by decide) (by decide) rfl (by decide) ?_
    refine js_aload_n 3 dX3_does_231 rfl ?_
    refine js_iload_n 2 dX3_does_232 rfl ?_
    refine js_iload_n 1 dX3_does_233 rfl ?_
    refine eX3_140 rfl dX3_does_234 p0 (com_doSeal p0 p1 p6 (hA 1 6 (by decide) (by decide) (by decide)) hI (by omega) (by omega)) (Nat.le_of_ble_eq_true rfl) (Nat.le_of_ble_eq_true rfl) ?_
    refine js_istore (L' := [(5, .int (jI (zoR (zdoSeal f (od ((5 * k) + 1)) (od ((5 * k) + 2)))))), (4, .int (jI (od ((5 * k) + 3)))), (3, .int (jI (od ((5 * k) + 2)))), (2, .int (jI (od ((5 * k) + 1)))), (0, .ref (A 0)), (1, .int (jI k))]) dX3_does_237 (by decide) rfl ?_
    refine js_goto (tgt := 259) dX3_does_239 (by decide) ?_
    exact js_vret rfl dX3_does_259 ⟨rfl, (by rw [show zdo f od k = zdoSeal f (od ((5 * k) + 1)) (od ((5 * k) + 2)) from by unfold zdo; rw [if_neg (by omega), if_neg (by omega), if_neg (by omega), if_neg (by omega), if_pos (by omega)]])⟩
  · refine js_top (b := 109) t1 ?_
    refine js_tableIn (off := 210) (tgt := 252) dX3_does_42 (by decide) (by decide) (by decide) rfl (by decide) ?_
    refine js_aload_n 3 dX3_does_252 rfl ?_
    refine js_iload_n 2 dX3_does_253 rfl ?_
    refine eX3_168 rfl dX3_does_254 p0 (com_doRetire p0 p1 p6 (hA 1 6 (by decide) (by decide) (by decide)) hI (by omega)) (Nat.le_of_ble_eq_true rfl) (Nat.le_of_ble_eq_true rfl) ?_
    refine js_istore (L' := [(5, .int (jI (zoR (zdoRetire f (od ((5 * k) + 1)))))), (4, .int (jI (od ((5 * k) + 3)))), (3, .int (jI (od ((5 * k) + 2)))), (2, .int (jI (od ((5 * k) + 1)))), (0, .ref (A 0)), (1, .int (jI k))]) dX3_does_257 (by decide) rfl ?_
    exact js_vret rfl dX3_does_259 ⟨rfl, (by rw [show zdo f od k = zdoRetire f (od ((5 * k) + 1)) from by unfold zdo; rw [if_neg (by omega), if_neg (by omega), if_neg (by omega), if_neg (by omega), if_neg (by omega), if_neg (by omega), if_neg (by omega), if_neg (by omega), if_neg (by omega)]])⟩
  · refine js_top (b := 110) t1 ?_
    refine js_tableIn (off := 210) (tgt := 252) dX3_does_42 (by decide) (by decide) (by decide) rfl (by decide) ?_
    refine js_aload_n 3 dX3_does_252 rfl ?_
    refine js_iload_n 2 dX3_does_253 rfl ?_
    refine eX3_168 rfl dX3_does_254 p0 (com_doRetire p0 p1 p6 (hA 1 6 (by decide) (by decide) (by decide)) hI (by omega)) (Nat.le_of_ble_eq_true rfl) (Nat.le_of_ble_eq_true rfl) ?_
    refine js_istore (L' := [(5, .int (jI (zoR (zdoRetire f (od ((5 * k) + 1)))))), (4, .int (jI (od ((5 * k) + 3)))), (3, .int (jI (od ((5 * k) + 2)))), (2, .int (jI (od ((5 * k) + 1)))), (0, .ref (A 0)), (1, .int (jI k))]) dX3_does_257 (by decide) rfl ?_
    exact js_vret rfl dX3_does_259 ⟨rfl, (by rw [show zdo f od k = zdoRetire f (od ((5 * k) + 1)) from by unfold zdo; rw [if_neg (by omega), if_neg (by omega), if_neg (by omega), if_neg (by omega), if_neg (by omega), if_neg (by omega), if_neg (by omega), if_neg (by omega), if_neg (by omega)]])⟩
  · refine js_top (b := 111) t1 ?_
    refine js_tableIn (off := 210) (tgt := 252) dX3_does_42 (by decide) (by decide) (by decide) rfl (by decide) ?_
    refine js_aload_n 3 dX3_does_252 rfl ?_
    refine js_iload_n 2 dX3_does_253 rfl ?_
    refine eX3_168 rfl dX3_does_254 p0 (com_doRetire p0 p1 p6 (hA 1 6 (by decide) (by decide) (by decide)) hI (by omega)) (Nat.le_of_ble_eq_true rfl) (Nat.le_of_ble_eq_true rfl) ?_
    refine js_istore (L' := [(5, .int (jI (zoR (zdoRetire f (od ((5 * k) + 1)))))), (4, .int (jI (od ((5 * k) + 3)))), (3, .int (jI (od ((5 * k) + 2)))), (2, .int (jI (od ((5 * k) + 1)))), (0, .ref (A 0)), (1, .int (jI k))]) dX3_does_257 (by decide) rfl ?_
    exact js_vret rfl dX3_does_259 ⟨rfl, (by rw [show zdo f od k = zdoRetire f (od ((5 * k) + 1)) from by unfold zdo; rw [if_neg (by omega), if_neg (by omega), if_neg (by omega), if_neg (by omega), if_neg (by omega), if_neg (by omega), if_neg (by omega), if_neg (by omega), if_neg (by omega)]])⟩
  · refine js_top (b := 112) t1 ?_
    refine js_tableIn (off := 210) (tgt := 252) dX3_does_42 (by decide) (by decide) (by decide) rfl (by decide) ?_
    refine js_aload_n 3 dX3_does_252 rfl ?_
    refine js_iload_n 2 dX3_does_253 rfl ?_
    refine eX3_168 rfl dX3_does_254 p0 (com_doRetire p0 p1 p6 (hA 1 6 (by decide) (by decide) (by decide)) hI (by omega)) (Nat.le_of_ble_eq_true rfl) (Nat.le_of_ble_eq_true rfl) ?_
    refine js_istore (L' := [(5, .int (jI (zoR (zdoRetire f (od ((5 * k) + 1)))))), (4, .int (jI (od ((5 * k) + 3)))), (3, .int (jI (od ((5 * k) + 2)))), (2, .int (jI (od ((5 * k) + 1)))), (0, .ref (A 0)), (1, .int (jI k))]) dX3_does_257 (by decide) rfl ?_
    exact js_vret rfl dX3_does_259 ⟨rfl, (by rw [show zdo f od k = zdoRetire f (od ((5 * k) + 1)) from by unfold zdo; rw [if_neg (by omega), if_neg (by omega), if_neg (by omega), if_neg (by omega), if_neg (by omega), if_neg (by omega), if_neg (by omega), if_neg (by omega), if_neg (by omega)]])⟩
  · refine js_top (b := 113) t1 ?_
    refine js_tableIn (off := 210) (tgt := 252) dX3_does_42 (by decide) (by decide) (by decide) rfl (by decide) ?_
    refine js_aload_n 3 dX3_does_252 rfl ?_
    refine js_iload_n 2 dX3_does_253 rfl ?_
    refine eX3_168 rfl dX3_does_254 p0 (com_doRetire p0 p1 p6 (hA 1 6 (by decide) (by decide) (by decide)) hI (by omega)) (Nat.le_of_ble_eq_true rfl) (Nat.le_of_ble_eq_true rfl) ?_
    refine js_istore (L' := [(5, .int (jI (zoR (zdoRetire f (od ((5 * k) + 1)))))), (4, .int (jI (od ((5 * k) + 3)))), (3, .int (jI (od ((5 * k) + 2)))), (2, .int (jI (od ((5 * k) + 1)))), (0, .ref (A 0)), (1, .int (jI k))]) dX3_does_257 (by decide) rfl ?_
    exact js_vret rfl dX3_does_259 ⟨rfl, (by rw [show zdo f od k = zdoRetire f (od ((5 * k) + 1)) from by unfold zdo; rw [if_neg (by omega), if_neg (by omega), if_neg (by omega), if_neg (by omega), if_neg (by omega), if_neg (by omega), if_neg (by omega), if_neg (by omega), if_neg (by omega)]])⟩
  · refine js_top (b := 114) t1 ?_
    refine js_tableIn (off := 210) (tgt := 252) dX3_does_42 (by decide) (by decide) (by decide) rfl (by decide) ?_
    refine js_aload_n 3 dX3_does_252 rfl ?_
    refine js_iload_n 2 dX3_does_253 rfl ?_
    refine eX3_168 rfl dX3_does_254 p0 (com_doRetire p0 p1 p6 (hA 1 6 (by decide) (by decide) (by decide)) hI (by omega)) (Nat.le_of_ble_eq_true rfl) (Nat.le_of_ble_eq_true rfl) ?_
    refine js_istore (L' := [(5, .int (jI (zoR (zdoRetire f (od ((5 * k) + 1)))))), (4, .int (jI (od ((5 * k) + 3)))), (3, .int (jI (od ((5 * k) + 2)))), (2, .int (jI (od ((5 * k) + 1)))), (0, .ref (A 0)), (1, .int (jI k))]) dX3_does_257 (by decide) rfl ?_
    exact js_vret rfl dX3_does_259 ⟨rfl, (by rw [show zdo f od k = zdoRetire f (od ((5 * k) + 1)) from by unfold zdo; rw [if_neg (by omega), if_neg (by omega), if_neg (by omega), if_neg (by omega), if_neg (by omega), if_neg (by omega), if_neg (by omega), if_neg (by omega), if_neg (by omega)]])⟩
  · refine js_top (b := 115) t1 ?_
    refine js_tableIn (off := 117) (tgt := 159) dX3_does_42 (by decide) (by decide) (by decide) rfl (by decide) ?_
    refine js_aload_n 3 dX3_does_159 rfl ?_
    refine js_iload_n 2 dX3_does_160 rfl ?_
    refine js_iload_n 1 dX3_does_161 rfl ?_
    refine js_iload 0 dX3_does_162 rfl ?_
    refine eX3_103 rfl dX3_does_164 p0 (com_doSpire p0 p1 p6 (hA 1 6 (by decide) (by decide) (by decide)) hI (by omega) (by omega) (by omega)) (Nat.le_of_ble_eq_true rfl) (Nat.le_of_ble_eq_true rfl) ?_
    refine js_istore (L' := [(5, .int (jI (zoR (zdoSpire f (od ((5 * k) + 1)) (od ((5 * k) + 2)) (od ((5 * k) + 3)))))), (4, .int (jI (od ((5 * k) + 3)))), (3, .int (jI (od ((5 * k) + 2)))), (2, .int (jI (od ((5 * k) + 1)))), (0, .ref (A 0)), (1, .int (jI k))]) dX3_does_167 (by decide) rfl ?_
    refine js_goto (tgt := 259) dX3_does_169 (by decide) ?_
    exact js_vret rfl dX3_does_259 ⟨rfl, (by rw [show zdo f od k = zdoSpire f (od ((5 * k) + 1)) (od ((5 * k) + 2)) (od ((5 * k) + 3)) from by unfold zdo; rw [if_neg (by omega), if_neg (by omega), if_neg (by omega), if_neg (by omega), if_neg (by omega), if_pos (by omega)]])⟩
  · refine js_top (b := 116) t1 ?_
    refine js_tableIn (off := 176) (tgt := 218) dX3_does_42 (by decide) (by decide) (by decide) rfl (by decide) ?_
    refine js_aload_n 3 dX3_does_218 rfl ?_
    refine js_iload_n 2 dX3_does_219 rfl ?_
    refine js_iload_n 1 dX3_does_220 rfl ?_
    refine js_iload 0 dX3_does_221 rfl ?_
    refine eX3_137 rfl dX3_does_223 p0 (com_doTrade p0 p1 p6 (hA 1 6 (by decide) (by decide) (by decide)) hI (by omega) (by omega) (by omega)) (Nat.le_of_ble_eq_true rfl) (Nat.le_of_ble_eq_true rfl) ?_
    refine js_istore (L' := [(5, .int (jI (zoR (zdoTrade f (od ((5 * k) + 1)) (od ((5 * k) + 2)) (od ((5 * k) + 3)))))), (4, .int (jI (od ((5 * k) + 3)))), (3, .int (jI (od ((5 * k) + 2)))), (2, .int (jI (od ((5 * k) + 1)))), (0, .ref (A 0)), (1, .int (jI k))]) dX3_does_226 (by decide) rfl ?_
    refine js_goto (tgt := 259) dX3_does_228 (by decide) ?_
    exact js_vret rfl dX3_does_259 ⟨rfl, (by rw [show zdo f od k = zdoTrade f (od ((5 * k) + 1)) (od ((5 * k) + 2)) (od ((5 * k) + 3)) from by unfold zdo; rw [if_neg (by omega), if_neg (by omega), if_neg (by omega), if_neg (by omega), if_neg (by omega), if_neg (by omega), if_pos (by omega)]])⟩
  · refine js_top (b := 117) t1 ?_
    refine js_tableIn (off := 210) (tgt := 252) dX3_does_42 (by decide) (by decide) (by decide) rfl (by decide) ?_
    refine js_aload_n 3 dX3_does_252 rfl ?_
    refine js_iload_n 2 dX3_does_253 rfl ?_
    refine eX3_168 rfl dX3_does_254 p0 (com_doRetire p0 p1 p6 (hA 1 6 (by decide) (by decide) (by decide)) hI (by omega)) (Nat.le_of_ble_eq_true rfl) (Nat.le_of_ble_eq_true rfl) ?_
    refine js_istore (L' := [(5, .int (jI (zoR (zdoRetire f (od ((5 * k) + 1)))))), (4, .int (jI (od ((5 * k) + 3)))), (3, .int (jI (od ((5 * k) + 2)))), (2, .int (jI (od ((5 * k) + 1)))), (0, .ref (A 0)), (1, .int (jI k))]) dX3_does_257 (by decide) rfl ?_
    exact js_vret rfl dX3_does_259 ⟨rfl, (by rw [show zdo f od k = zdoRetire f (od ((5 * k) + 1)) from by unfold zdo; rw [if_neg (by omega), if_neg (by omega), if_neg (by omega), if_neg (by omega), if_neg (by omega), if_neg (by omega), if_neg (by omega), if_neg (by omega), if_neg (by omega)]])⟩
  · refine js_top (b := 118) t1 ?_
    refine js_tableIn (off := 165) (tgt := 207) dX3_does_42 (by decide) (by decide) (by decide) rfl (by decide) ?_
    refine js_aload_n 3 dX3_does_207 rfl ?_
    refine js_iload_n 2 dX3_does_208 rfl ?_
    refine js_iload_n 1 dX3_does_209 rfl ?_
    refine eX3_131 rfl dX3_does_210 p0 (com_doVent p0 p1 p6 (hA 1 6 (by decide) (by decide) (by decide)) hI (by omega) (by omega)) (Nat.le_of_ble_eq_true rfl) (Nat.le_of_ble_eq_true rfl) ?_
    refine js_istore (L' := [(5, .int (jI (zoR (zdoVent f (od ((5 * k) + 1)) (od ((5 * k) + 2)))))), (4, .int (jI (od ((5 * k) + 3)))), (3, .int (jI (od ((5 * k) + 2)))), (2, .int (jI (od ((5 * k) + 1)))), (0, .ref (A 0)), (1, .int (jI k))]) dX3_does_213 (by decide) rfl ?_
    refine js_goto (tgt := 259) dX3_does_215 (by decide) ?_
    exact js_vret rfl dX3_does_259 ⟨rfl, (by rw [show zdo f od k = zdoVent f (od ((5 * k) + 1)) (od ((5 * k) + 2)) from by unfold zdo; rw [if_neg (by omega), if_neg (by omega), if_neg (by omega), if_neg (by omega), if_neg (by omega), if_neg (by omega), if_neg (by omega), if_pos (by omega)]])⟩
  · refine js_top (b := 119) t1 ?_
    refine js_tableIn (off := 143) (tgt := 185) dX3_does_42 (by decide) (by decide) (by decide) rfl (by decide) ?_
    refine js_aload_n 3 dX3_does_185 rfl ?_
    refine js_iload_n 2 dX3_does_186 rfl ?_
    refine js_iload_n 1 dX3_does_187 rfl ?_
    refine eX3_110 rfl dX3_does_188 p0 (com_doWind p0 p1 p6 (hA 1 6 (by decide) (by decide) (by decide)) hI (by omega) (by omega)) (Nat.le_of_ble_eq_true rfl) (Nat.le_of_ble_eq_true rfl) ?_
    refine js_istore (L' := [(5, .int (jI (zoR (zdoWind f (od ((5 * k) + 1)) (od ((5 * k) + 2)))))), (4, .int (jI (od ((5 * k) + 3)))), (3, .int (jI (od ((5 * k) + 2)))), (2, .int (jI (od ((5 * k) + 1)))), (0, .ref (A 0)), (1, .int (jI k))]) dX3_does_191 (by decide) rfl ?_
    refine js_goto (tgt := 259) dX3_does_193 (by decide) ?_
    exact js_vret rfl dX3_does_259 ⟨rfl, (by rw [show zdo f od k = zdoWind f (od ((5 * k) + 1)) (od ((5 * k) + 2)) from by unfold zdo; rw [if_neg (by omega), if_neg (by omega), if_neg (by omega), if_neg (by omega), if_neg (by omega), if_neg (by omega), if_neg (by omega), if_neg (by omega), if_pos (by omega)]])⟩
