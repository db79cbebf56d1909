set_option maxRecDepth 100000
/-! String -/
theorem con_coder {ρ : js_R} {h : js_H} {s b n : Nat} {w w2 : Bool} {x y : Value} {g : Int → Int}  (hK : js_sv ρ 0 = .int (jI 1)) (hs : h s = some (js_ob w 18 [.ref b, .int (jI 0), x, y])) (hb : h b = some (js_aI w2 2 n g)) (hn : n < 2147483648)  : js_Con ρ mJ6_coder 0 0 0 [.ref s] h (js_ret (some (.int (jI 0))) h) := by
  refine js_body [(0, .ref s)] rfl (by decide) (Nat.le_of_ble_eq_true rfl) rfl ?_
  refine js_gets 0 rfl q786 dJ6_coder_0 ?_
  rw [hK]
  show js_ok ρ mJ6_coder _ 0 0 0 3 [(0, .ref s)] [.int (jI 1)] h
  refine js_if_eq (tgt := 13) dJ6_coder_3 (by decide) (by omega) (fun c1 => ?_) (fun c1 => ?_)
  · exfalso; revert c1; decide
  · refine js_aload_n 0 dJ6_coder_6 rfl ?_
    refine gJ6_15 rfl dJ6_coder_7 hs rfl ?_
    refine js_goto (tgt := 14) dJ6_coder_10 (by decide) ?_
    exact js_iret rfl (js_nar_byte (by omega)) dJ6_coder_14 ⟨rfl, rfl⟩
theorem con_isLatin1 {ρ : js_R} {h : js_H} {s b n : Nat} {w w2 : Bool} {x y : Value} {g : Int → Int}  (hK : js_sv ρ 0 = .int (jI 1)) (hs : h s = some (js_ob w 18 [.ref b, .int (jI 0), x, y])) (hb : h b = some (js_aI w2 2 n g)) (hn : n < 2147483648)  : js_Con ρ mJ6_isLatin1 0 0 0 [.ref s] h (js_ret (some (.int (jI 1))) h) := by
  refine js_body [(0, .ref s)] rfl (by decide) (Nat.le_of_ble_eq_true rfl) rfl ?_
  refine js_gets 0 rfl q786 dJ6_isLatin1_0 ?_
  rw [hK]
  show js_ok ρ mJ6_isLatin1 _ 0 0 0 3 [(0, .ref s)] [.int (jI 1)] h
  refine js_if_eq (tgt := 17) dJ6_isLatin1_3 (by decide) (by omega) (fun c1 => ?_) (fun c1 => ?_)
  · exfalso; revert c1; decide
  · refine js_aload_n 0 dJ6_isLatin1_6 rfl ?_
    refine gJ6_15 rfl dJ6_isLatin1_7 hs rfl ?_
    refine js_if_ne (tgt := 17) dJ6_isLatin1_10 (by decide) (by omega) (fun c2 => ?_) (fun c2 => ?_)
    · exfalso; revert c2; decide
    · refine js_iconst dJ6_isLatin1_13 ?_
      refine js_goto (tgt := 18) dJ6_isLatin1_14 (by decide) ?_
      exact js_iret rfl (js_nar_boolean (by omega)) dJ6_isLatin1_18 ⟨rfl, rfl⟩
theorem con_slen {ρ : js_R} {h : js_H} {s b n : Nat} {w w2 : Bool} {x y : Value} {g : Int → Int}  (hK : js_sv ρ 0 = .int (jI 1)) (hs : h s = some (js_ob w 18 [.ref b, .int (jI 0), x, y])) (hb : h b = some (js_aI w2 2 n g)) (hn : n < 2147483648)  : js_Con ρ mJ6_length 1 0 0 [.ref s] h (js_ret (some (.int (jI n))) h) := by
  refine js_body [(0, .ref s)] rfl (by decide) (Nat.le_of_ble_eq_true rfl) rfl ?_
  refine js_aload_n 0 dJ6_length_0 rfl ?_
  refine gJ6_9 rfl dJ6_length_1 hs rfl ?_
  refine js_alenI dJ6_length_4 hb (by decide) ?_
  refine js_aload_n 0 dJ6_length_5 rfl ?_
  refine eJ6_335 rfl dJ6_length_6 hs (con_coder hK hs hb hn) (Nat.le_of_ble_eq_true rfl) (Nat.le_of_ble_eq_true rfl) ?_
  refine js_ishr dJ6_length_9 ?_
  refine js_topR (b := (n : Int)) (zshr0 _) ?_
  exact js_iret rfl rfl dJ6_length_10 ⟨rfl, rfl⟩
theorem con_pci {ρ : js_R} {h : js_H} {i n : Int} {q : Nat} (ri : 0 ≤ i ∧ i < n ∧ n < 2147483648) : js_Con ρ mJ15_checkIndex 0 0 0 [.int (jI i), .int (jI n), .ref q] h (js_ret (some (.int (jI i))) h) := by
  refine js_body [(0, .int (jI i)), (1, .int (jI n)), (2, .ref q)] rfl (by decide) (Nat.le_of_ble_eq_true rfl) rfl ?_
  refine js_iload_n 0 dJ15_checkIndex_0 rfl ?_
  refine js_if_lt (tgt := 9) dJ15_checkIndex_1 (by decide) (by omega) (fun c1 => ?_) (fun c1 => ?_)
  · exfalso; omega
  · refine js_iload_n 0 dJ15_checkIndex_4 rfl ?_
    refine js_iload_n 1 dJ15_checkIndex_5 rfl ?_
    refine js_icmp_lt (tgt := 16) dJ15_checkIndex_6 (by decide) (by omega) (fun c2 => ?_) (fun c2 => ?_)
    · refine js_iload_n 0 dJ15_checkIndex_16 rfl ?_
      exact js_iret rfl rfl dJ15_checkIndex_17 ⟨rfl, rfl⟩
    · exfalso; omega
theorem con_sci {ρ : js_R} {h : js_H} {i n : Int} {fm : Nat} (ri : 0 ≤ i ∧ i < n ∧ n < 2147483648) (hF : js_sv ρ 6 = .ref fm) : js_Con ρ mJ6_checkIndex 1 0 0 [.int (jI i), .int (jI n)] h (js_ret none h) := by
  refine js_body [(0, .int (jI i)), (1, .int (jI n))] rfl (by decide) (Nat.le_of_ble_eq_true rfl) rfl ?_
  refine js_iload_n 0 dJ6_checkIndex_0 rfl ?_
  refine js_iload_n 1 dJ6_checkIndex_1 rfl ?_
  refine js_gets 6 rfl q764 dJ6_checkIndex_2 ?_
  rw [hF]
  show js_ok ρ mJ6_checkIndex _ 1 0 0 5 [(0, .int (jI i)), (1, .int (jI n))] [.ref fm, .int (jI n), .int (jI i)] h
  refine eJ6_1059 rfl dJ6_checkIndex_5 (con_pci (by omega)) (Nat.le_of_ble_eq_true rfl) (Nat.le_of_ble_eq_true rfl) ?_
  refine js_pop dJ6_checkIndex_8 rfl ?_
  exact js_vret rfl dJ6_checkIndex_9 ⟨rfl, rfl⟩
theorem con_lca {ρ : js_R} {h : js_H} {b n fm : Nat} {w2 : Bool} {g : Int → Int} {i : Int} (hF : js_sv ρ 6 = .ref fm) (hb : h b = some (js_aI w2 2 n g)) (ri : 0 ≤ i ∧ i < n ∧ n < 2147483648) (rg : 0 ≤ g i ∧ g i < 128) : js_Con ρ mJ25_charAt 2 0 0 [.ref b, .int (jI i)] h (js_ret (some (.int (jI (g i)))) h) := by
  refine js_body [(0, .ref b), (1, .int (jI i))] rfl (by decide) (Nat.le_of_ble_eq_true rfl) rfl ?_
  refine js_iload_n 1 dJ25_charAt_0 rfl ?_
  refine js_aload_n 0 dJ25_charAt_1 rfl ?_
  refine js_alenI dJ25_charAt_2 hb (by decide) ?_
  refine eJ25_9 rfl dJ25_charAt_3 (con_sci (by omega) hF) (Nat.le_of_ble_eq_true rfl) (Nat.le_of_ble_eq_true rfl) ?_
  refine js_aload_n 0 dJ25_charAt_6 rfl ?_
  refine js_iload_n 1 dJ25_charAt_7 rfl ?_
  refine js_baload dJ25_charAt_8 hb (by omega) ?_
  refine js_sipush dJ25_charAt_9 rfl ?_
  refine js_iand dJ25_charAt_12 ?_
  refine js_topR (b := g i) (zand255 rg) ?_
  refine js_i2c dJ25_charAt_13 (js_i2c0 (by omega)) ?_
  exact js_iret rfl (js_nar_char (by omega)) dJ25_charAt_14 ⟨rfl, rfl⟩
theorem con_charAt {ρ : js_R} {h : js_H} {s b n : Nat} {w w2 : Bool} {x y : Value} {g : Int → Int} {i : Int} {fm : Nat} (hK : js_sv ρ 0 = .int (jI 1)) (hs : h s = some (js_ob w 18 [.ref b, .int (jI 0), x, y])) (hb : h b = some (js_aI w2 2 n g)) (hn : n < 2147483648) (hF : js_sv ρ 6 = .ref fm) (ri : 0 ≤ i ∧ i < n) (rg : 0 ≤ g i ∧ g i < 128) : js_Con ρ mJ6_charAt 3 0 0 [.ref s, .int (jI i)] h (js_ret (some (.int (jI (g i)))) h) := by
  refine js_body [(0, .ref s), (1, .int (jI i))] rfl (by decide) (Nat.le_of_ble_eq_true rfl) rfl ?_
  refine js_aload_n 0 dJ6_charAt_0 rfl ?_
  refine eJ6_492 rfl dJ6_charAt_1 hs (con_isLatin1 hK hs hb hn) (Nat.le_of_ble_eq_true rfl) (Nat.le_of_ble_eq_true rfl) ?_
  refine js_if_eq (tgt := 16) dJ6_charAt_4 (by decide) (by omega) (fun c1 => ?_) (fun c1 => ?_)
  · exfalso; revert c1; decide
  · refine js_aload_n 0 dJ6_charAt_7 rfl ?_
    refine gJ6_9 rfl dJ6_charAt_8 hs rfl ?_
    refine js_iload_n 1 dJ6_charAt_11 rfl ?_
    refine eJ6_495 rfl dJ6_charAt_12 (con_lca hF hb (by omega) (by first | assumption | omega)) (Nat.le_of_ble_eq_true rfl) (Nat.le_of_ble_eq_true rfl) ?_
    exact js_iret rfl (js_nar_char (by omega)) dJ6_charAt_15 ⟨rfl, rfl⟩
theorem con_canE2 {ρ : js_R} {h : js_H} {c : Int} (rc : 0 ≤ c ∧ c < 128) : js_Con ρ mJ25_canEncode_2 0 0 0 [.int (jI c)] h (js_ret (some (.int (jI 1))) h) := by
  refine js_body [(0, .int (jI c))] rfl (by decide) (Nat.le_of_ble_eq_true rfl) rfl ?_
  refine js_iload_n 0 dJ25_canEncode_2_0 rfl ?_
  refine js_if_lt (tgt := 15) dJ25_canEncode_2_1 (by decide) (by omega) (fun c1 => ?_) (fun c1 => ?_)
  · exfalso; omega
  · refine js_iload_n 0 dJ25_canEncode_2_4 rfl ?_
    refine js_sipush dJ25_canEncode_2_5 rfl ?_
    refine js_icmp_gt (tgt := 15) dJ25_canEncode_2_8 (by decide) (by omega) (fun c2 => ?_) (fun c2 => ?_)
    · exfalso; omega
    · refine js_iconst dJ25_canEncode_2_11 ?_
      refine js_goto (tgt := 16) dJ25_canEncode_2_12 (by decide) ?_
      exact js_iret rfl (js_nar_boolean (by omega)) dJ25_canEncode_2_16 ⟨rfl, rfl⟩
theorem con_canE1 {ρ : js_R} {h : js_H} {c : Int} (rc : 0 ≤ c ∧ c < 128) : js_Con ρ mJ25_canEncode 0 0 0 [.int (jI c)] h (js_ret (some (.int (jI 1))) h) := by
  refine js_body [(0, .int (jI c))] rfl (by decide) (Nat.le_of_ble_eq_true rfl) rfl ?_
  refine js_iload_n 0 dJ25_canEncode_0 rfl ?_
  refine js_sipush dJ25_canEncode_1 rfl ?_
  refine js_icmp_gt (tgt := 11) dJ25_canEncode_4 (by decide) (by omega) (fun c1 => ?_) (fun c1 => ?_)
  · exfalso; omega
  · refine js_iconst dJ25_canEncode_7 ?_
    refine js_goto (tgt := 12) dJ25_canEncode_8 (by decide) ?_
    exact js_iret rfl (js_nar_boolean (by omega)) dJ25_canEncode_12 ⟨rfl, rfl⟩
theorem con_ioc {ρ : js_R} {h : js_H} {b n : Nat} {w2 : Bool} {g : Int → Int} {c : Int} (hb : h b = some (js_aI w2 2 n g)) (hn : n < 2147483648) (hg : zasc n g) (rc : 0 ≤ c ∧ c < 128) : js_Con ρ mJ25_indexOfChar 0 0 0 [.ref b, .int (jI c), .int (jI 0), .int (jI ((n : Int)))] h (js_ret (some (.int (jI (zidx g c n 0)))) h) := by
  refine js_body [(0, .ref b), (1, .int (jI c)), (2, .int (jI 0)), (3, .int (jI ((n : Int))))] rfl (by decide) (Nat.le_of_ble_eq_true rfl) rfl ?_
  refine js_iload_n 1 dJ25_indexOfChar_0 rfl ?_
  refine js_i2b (v := jI c) dJ25_indexOfChar_1 (zi2b (by omega)) ?_
  refine js_istore (L' := [(4, .int (jI c)), (0, .ref b), (1, .int (jI c)), (2, .int (jI 0)), (3, .int (jI ((n : Int))))]) dJ25_indexOfChar_2 (by decide) rfl ?_
  refine js_iload_n 3 dJ25_indexOfChar_4 rfl ?_
  refine js_istore (L' := [(5, .int (jI 0)), (4, .int (jI c)), (0, .ref b), (1, .int (jI c)), (2, .int (jI 0)), (3, .int (jI ((n : Int))))]) dJ25_indexOfChar_5 (by decide) rfl ?_
  refine js_sub (L' := [(0, .ref b), (1, .int (jI c)), (2, .int (jI 0)), (3, .int (jI ((n : Int)))), (4, .int (jI c)), (5, .int (jI 0))]) [2, 3, 4, 5, 1, 0] rfl ?_
  refine js_loop (σ := Nat) (fun k => k ≤ n ∧ zidx g c n 0 = zidx g c (n - k) k) (fun k => n - k) (fun k => 0) (fun k => 0) 7 (fun k => [(0, .ref b), (1, .int (jI c)), (2, .int (jI 0)), (3, .int (jI ((n : Int)))), (4, .int (jI c)), (5, .int (jI ((k : Int))))]) (fun k => []) (fun k => h) (fun k hk IHk => ?_) 0 ⟨Nat.zero_le _, rfl⟩
  show js_ok ρ mJ25_indexOfChar _ 0 0 0 7 [(0, .ref b), (1, .int (jI c)), (2, .int (jI 0)), (3, .int (jI ((n : Int)))), (4, .int (jI c)), (5, .int (jI ((k : Int))))] [] h
  obtain ⟨hk, he⟩ := hk
  refine js_iload 5 dJ25_indexOfChar_7 rfl ?_
  refine js_iload_n 3 dJ25_indexOfChar_9 rfl ?_
  refine js_icmp_ge (tgt := 31) dJ25_indexOfChar_10 (by decide) (by omega) (fun c2 => ?_) (fun c2 => ?_)
  · refine js_iconst dJ25_indexOfChar_31 ?_
    exact js_iret rfl rfl dJ25_indexOfChar_32 ⟨js_reti (by rw [he]; first | (rw [zidx_step (by omega), if_pos (by omega)]) | (rw [show n - k = 0 by omega]; rfl)), rfl⟩
  · have hgk := hg (k : Int) (by omega) (by omega)
    refine js_aload_n 0 dJ25_indexOfChar_13 rfl ?_
    refine js_iload 5 dJ25_indexOfChar_14 rfl ?_
    refine js_baload dJ25_indexOfChar_16 hb (by omega) ?_
    refine js_iload 4 dJ25_indexOfChar_17 rfl ?_
    refine js_icmp_ne (tgt := 25) dJ25_indexOfChar_19 (by decide) (by omega) (fun c3 => ?_) (fun c3 => ?_)
    · refine js_iinc (L' := [(5, .int (jI (((k : Int)) + 1))), (0, .ref b), (1, .int (jI c)), (2, .int (jI 0)), (3, .int (jI ((n : Int)))), (4, .int (jI c))]) 5 dJ25_indexOfChar_25 rfl (by decide) rfl ?_
      refine js_goto (tgt := 7) dJ25_indexOfChar_28 (by decide) ?_
      refine js_sub (L' := [(0, .ref b), (1, .int (jI c)), (2, .int (jI 0)), (3, .int (jI ((n : Int)))), (4, .int (jI c)), (5, .int (jI (((k : Int)) + 1)))]) [1, 2, 3, 4, 5, 0] rfl ?_
      exact IHk (k + 1) ⟨by omega, by rw [he, zidx_step (by omega), if_neg (by omega)]⟩ (by omega)
    · refine js_iload 5 dJ25_indexOfChar_22 rfl ?_
      exact js_iret rfl rfl dJ25_indexOfChar_24 ⟨js_reti (by rw [he]; first | (rw [zidx_step (by omega), if_pos (by omega)]) | (rw [show n - k = 0 by omega]; rfl)), rfl⟩
theorem con_lio {ρ : js_R} {h : js_H} {b n : Nat} {w2 : Bool} {g : Int → Int} {c : Int} (hb : h b = some (js_aI w2 2 n g)) (hn : n < 2147483648) (hg : zasc n g) (rc : 0 ≤ c ∧ c < 128) : js_Con ρ mJ25_indexOf 1 0 0 [.ref b, .int (jI c), .int (jI 0), .int (jI ((n : Int)))] h (js_ret (some (.int (jI (zidx g c n 0)))) h) := by
  refine js_body [(0, .ref b), (1, .int (jI c)), (2, .int (jI 0)), (3, .int (jI ((n : Int))))] rfl (by decide) (Nat.le_of_ble_eq_true rfl) rfl ?_
  refine js_iload_n 1 dJ25_indexOf_0 rfl ?_
  refine eJ25_88 rfl dJ25_indexOf_1 (con_canE2 (by omega)) (Nat.le_of_ble_eq_true rfl) (Nat.le_of_ble_eq_true rfl) ?_
  refine js_if_ne (tgt := 9) dJ25_indexOf_4 (by decide) (by omega) (fun c1 => ?_) (fun c1 => ?_)
  · refine js_iload_n 2 dJ25_indexOf_9 rfl ?_
    refine js_iconst dJ25_indexOf_10 ?_
    refine js_mmax q2676 dJ25_indexOf_11 (by omega) (Nat.le_of_ble_eq_true rfl) (Nat.le_of_ble_eq_true rfl) ?_
    refine js_top (b := 0) (by omega) ?_
    refine js_istore_n (L' := [(2, .int (jI 0)), (0, .ref b), (1, .int (jI c)), (3, .int (jI ((n : Int))))]) dJ25_indexOf_14 (by decide) rfl ?_
    refine js_iload_n 3 dJ25_indexOf_15 rfl ?_
    refine js_aload_n 1 dJ25_indexOf_16 rfl ?_
    refine js_alenI dJ25_indexOf_17 hb (by decide) ?_
    refine js_mmin q2677 dJ25_indexOf_18 (by omega) (Nat.le_of_ble_eq_true rfl) (Nat.le_of_ble_eq_true rfl) ?_
    refine js_top (b := (n : Int)) (by omega) ?_
    refine js_istore_n (L' := [(3, .int (jI ((n : Int)))), (2, .int (jI 0)), (0, .ref b), (1, .int (jI c))]) dJ25_indexOf_21 (by decide) rfl ?_
    refine js_iload_n 1 dJ25_indexOf_22 rfl ?_
    refine js_iload_n 0 dJ25_indexOf_23 rfl ?_
    refine js_icmp_lt (tgt := 29) dJ25_indexOf_24 (by decide) (by omega) (fun c2 => ?_) (fun c2 => ?_)
    · refine js_aload_n 2 dJ25_indexOf_29 rfl ?_
      refine js_iload_n 3 dJ25_indexOf_30 rfl ?_
      refine js_iload_n 1 dJ25_indexOf_31 rfl ?_
      refine js_iload_n 0 dJ25_indexOf_32 rfl ?_
      refine eJ25_95 rfl dJ25_indexOf_33 (con_ioc hb hn hg (by omega)) (Nat.le_of_ble_eq_true rfl) (Nat.le_of_ble_eq_true rfl) ?_
      exact js_iret rfl rfl dJ25_indexOf_36 ⟨js_reti (by first | rfl | (rw [show n = 0 by omega]; rfl)), rfl⟩
    · refine js_iconst dJ25_indexOf_27 ?_
      exact js_iret rfl rfl dJ25_indexOf_28 ⟨js_reti (by first | rfl | (rw [show n = 0 by omega]; rfl)), rfl⟩
  · exfalso; revert c1; decide
theorem con_io2 {ρ : js_R} {h : js_H} {s b n : Nat} {w w2 : Bool} {x y : Value} {g : Int → Int} {c : Int} (hK : js_sv ρ 0 = .int (jI 1)) (hs : h s = some (js_ob w 18 [.ref b, .int (jI 0), x, y])) (hb : h b = some (js_aI w2 2 n g)) (hn : n < 2147483648) (hg : zasc n g) (rc : 0 ≤ c ∧ c < 128) : js_Con ρ mJ6_indexOf_2 2 0 0 [.ref s, .int (jI c), .int (jI 0)] h (js_ret (some (.int (jI (zidx g c n 0)))) h) := by
  refine js_body [(0, .ref s), (1, .int (jI c)), (2, .int (jI 0))] rfl (by decide) (Nat.le_of_ble_eq_true rfl) rfl ?_
  refine js_aload_n 0 dJ6_indexOf_2_0 rfl ?_
  refine eJ6_492 rfl dJ6_indexOf_2_1 hs (con_isLatin1 hK hs hb hn) (Nat.le_of_ble_eq_true rfl) (Nat.le_of_ble_eq_true rfl) ?_
  refine js_if_eq (tgt := 23) dJ6_indexOf_2_4 (by decide) (by omega) (fun c1 => ?_) (fun c1 => ?_)
  · exfalso; revert c1; decide
  · refine js_aload_n 0 dJ6_indexOf_2_7 rfl ?_
    refine gJ6_9 rfl dJ6_indexOf_2_8 hs rfl ?_
    refine js_iload_n 1 dJ6_indexOf_2_11 rfl ?_
    refine js_iload_n 2 dJ6_indexOf_2_12 rfl ?_
    refine js_aload_n 0 dJ6_indexOf_2_13 rfl ?_
    refine eJ6_505 rfl dJ6_indexOf_2_14 hs (con_slen hK hs hb hn) (Nat.le_of_ble_eq_true rfl) (Nat.le_of_ble_eq_true rfl) ?_
    refine eJ6_637 rfl dJ6_indexOf_2_17 (con_lio hb hn hg (by omega)) (Nat.le_of_ble_eq_true rfl) (Nat.le_of_ble_eq_true rfl) ?_
    refine js_goto (tgt := 36) dJ6_indexOf_2_20 (by decide) ?_
    exact js_iret rfl rfl dJ6_indexOf_2_36 ⟨rfl, rfl⟩
theorem con_indexOf {ρ : js_R} {h : js_H} {s b n : Nat} {w w2 : Bool} {x y : Value} {g : Int → Int} {c : Int} (hK : js_sv ρ 0 = .int (jI 1)) (hs : h s = some (js_ob w 18 [.ref b, .int (jI 0), x, y])) (hb : h b = some (js_aI w2 2 n g)) (hn : n < 2147483648) (hg : zasc n g) (rc : 0 ≤ c ∧ c < 128) : js_Con ρ mJ6_indexOf 3 0 0 [.ref s, .int (jI c)] h (js_ret (some (.int (jI (zidx g c n 0)))) h) := by
  refine js_body [(0, .ref s), (1, .int (jI c))] rfl (by decide) (Nat.le_of_ble_eq_true rfl) rfl ?_
  refine js_aload_n 0 dJ6_indexOf_0 rfl ?_
  refine js_iload_n 1 dJ6_indexOf_1 rfl ?_
  refine js_iconst dJ6_indexOf_2 ?_
  refine eJ6_633 rfl dJ6_indexOf_3 hs (con_io2 hK hs hb hn hg (by omega)) (Nat.le_of_ble_eq_true rfl) (Nat.le_of_ble_eq_true rfl) ?_
  exact js_iret rfl rfl dJ6_indexOf_6 ⟨rfl, rfl⟩
