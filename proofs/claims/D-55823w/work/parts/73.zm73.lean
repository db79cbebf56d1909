set_option maxRecDepth 100000
/-! StringBuilder -/
theorem zshl0 (v : Int) : jI v <<< (jI 0 &&& 31) = jI v := by
  rw [show (jI 0 &&& 31 : Int32) = 0 from rfl]
  exact Int32.shiftLeft_zero
theorem zfitb {v : Int} (h : -128 ≤ v ∧ v < 128) : fits (js_ty 2) (.int (jI v)) = true := by
  show (decide (jI (-128) ≤ jI v) && decide (jI v ≤ jI 127)) = true
  rw [Bool.and_eq_true]
  exact ⟨decide_eq_true ((jI_le (by omega)).mpr (by omega)), decide_eq_true ((jI_le (by omega)).mpr (by omega))⟩
theorem con_sbl1 {ρ : js_R} {h : js_H} {a vb cap : Nat} {ml n : Int} {g : Int → Int}  (hK : js_sv ρ 0 = .int (jI 1)) (ha : h a = some (js_ob true 17 [.ref vb, .int (jI 0), .int (jI ml), .int (jI n)])) (hb : h vb = some (js_aI true 2 cap g)) (rc : 0 ≤ n ∧ n ≤ cap ∧ cap ≤ 1000)  : js_Con ρ mJ4_isLatin1 0 0 0 [.ref a] h (js_ret (some (.int (jI 1))) h) := by
  refine js_body [(0, .ref a)] rfl (by decide) (Nat.le_of_ble_eq_true rfl) rfl ?_
  refine js_gets 0 rfl q271 dJ4_isLatin1_0 ?_
  rw [hK]
  show js_ok ρ mJ4_isLatin1 _ 0 0 0 3 [(0, .ref a)] [.int (jI 1)] h
  refine js_if_eq (tgt := 17) dJ4_isLatin1_3 (by decide) (by omega) (fun c1 => ?_) (fun c1 => ?_)
  · exfalso; first | omega | (revert c1; decide)
  · refine js_aload_n 0 dJ4_isLatin1_6 rfl ?_
    refine gJ4_22 rfl dJ4_isLatin1_7 ha rfl ?_
    refine js_if_ne (tgt := 17) dJ4_isLatin1_10 (by decide) (by omega) (fun c2 => ?_) (fun c2 => ?_)
    · exfalso; first | omega | (revert c2; decide)
    · refine js_iconst dJ4_isLatin1_13 ?_
      refine js_goto (tgt := 18) dJ4_isLatin1_14 (by decide) ?_
      exact js_iret rfl (js_nar_boolean (by omega)) dJ4_isLatin1_18 ⟨rfl, rfl⟩
theorem con_l1can {ρ : js_R} {h : js_H} {c : Int} (rc : 0 ≤ c ∧ c < 128) : js_Con ρ mJ25_canEncode 0 0 0 [.int (jI c)] h (js_ret (some (.int (jI 1))) h) := by
  refine js_body [(0, .int (jI c))] rfl (by decide) (Nat.le_of_ble_eq_true rfl) rfl ?_
  refine js_iload_n 0 dJ25_canEncode_0 rfl ?_
  refine js_sipush dJ25_canEncode_1 rfl ?_
  refine js_icmp_gt (tgt := 11) dJ25_canEncode_4 (by decide) (by omega) (fun c1 => ?_) (fun c1 => ?_)
  · exfalso; omega
  · refine js_iconst dJ25_canEncode_7 ?_
    refine js_goto (tgt := 12) dJ25_canEncode_8 (by decide) ?_
    exact js_iret rfl (js_nar_boolean (by omega)) dJ25_canEncode_12 ⟨rfl, rfl⟩
theorem con_newlen {ρ : js_R} {h : js_H} {l g p : Int} (r : 0 ≤ l ∧ l ≤ 5000 ∧ 0 ≤ g ∧ g ≤ 5000 ∧ 0 ≤ p ∧ p ≤ 5000 ∧ 0 < max g p) : js_Con ρ mJ16_newLength 1 0 0 [.int (jI l), .int (jI g), .int (jI p)] h (js_ret (some (.int (jI (l + max g p)))) h) := by
  refine js_body [(0, .int (jI l)), (1, .int (jI g)), (2, .int (jI p))] rfl (by decide) (Nat.le_of_ble_eq_true rfl) rfl ?_
  refine js_iload_n 0 dJ16_newLength_0 rfl ?_
  refine js_iload_n 1 dJ16_newLength_1 rfl ?_
  refine js_iload_n 2 dJ16_newLength_2 rfl ?_
  refine js_mmax q729 dJ16_newLength_3 (by omega) (Nat.le_of_ble_eq_true rfl) (Nat.le_of_ble_eq_true rfl) ?_
  refine js_iadd dJ16_newLength_6 ?_
  refine js_istore_n (L' := [(3, .int (jI (l + (max g p)))), (0, .int (jI l)), (1, .int (jI g)), (2, .int (jI p))]) dJ16_newLength_7 (by decide) rfl ?_
  refine js_iconst dJ16_newLength_8 ?_
  refine js_iload_n 0 dJ16_newLength_9 rfl ?_
  refine js_icmp_ge (tgt := 21) dJ16_newLength_10 (by decide) (by omega) (fun c1 => ?_) (fun c1 => ?_)
  · exfalso; omega
  · refine js_iload_n 0 dJ16_newLength_13 rfl ?_
    refine js_ldcI q732 dJ16_newLength_14 ?_
    refine js_topR (b := 2147483639) rfl ?_
    refine js_icmp_gt (tgt := 21) dJ16_newLength_16 (by decide) (by omega) (fun c2 => ?_) (fun c2 => ?_)
    · exfalso; omega
    · refine js_iload_n 0 dJ16_newLength_19 rfl ?_
      exact js_iret rfl rfl dJ16_newLength_20 ⟨rfl, rfl⟩
theorem con_sbncap {ρ : js_R} {h : js_H} {a vb cap : Nat} {ml n : Int} {g : Int → Int} {mn : Int} (hK : js_sv ρ 0 = .int (jI 1)) (ha : h a = some (js_ob true 17 [.ref vb, .int (jI 0), .int (jI ml), .int (jI n)])) (hb : h vb = some (js_aI true 2 cap g)) (rc : 0 ≤ n ∧ n ≤ cap ∧ cap ≤ 1000) (rm : cap < mn ∧ mn ≤ 2000)  : js_Con ρ mJ4_newCapacity 3 0 0 [.ref a, .int (jI mn)] h (js_ret (some (.int (jI ((cap : Int) + max (mn - cap) (cap + 2))))) h) := by
  refine js_body [(0, .ref a), (1, .int (jI mn))] rfl (by decide) (Nat.le_of_ble_eq_true rfl) rfl ?_
  refine js_aload_n 0 dJ4_newCapacity_0 rfl ?_
  refine gJ4_15 rfl dJ4_newCapacity_1 ha rfl ?_
  refine js_alenI dJ4_newCapacity_4 hb (by decide) ?_
  refine js_istore_n (L' := [(2, .int (jI (((cap : Nat) : Int)))), (0, .ref a), (1, .int (jI mn))]) dJ4_newCapacity_5 (by decide) rfl ?_
  refine js_iload_n 2 dJ4_newCapacity_6 rfl ?_
  refine js_aload_n 1 dJ4_newCapacity_7 rfl ?_
  refine gJ4_22 rfl dJ4_newCapacity_8 ha rfl ?_
  refine js_ishl dJ4_newCapacity_11 ?_
  refine js_topR (b := mn) (zshl0 _) ?_
  refine js_istore_n (L' := [(3, .int (jI mn)), (2, .int (jI (((cap : Nat) : Int)))), (0, .ref a), (1, .int (jI mn))]) dJ4_newCapacity_12 (by decide) rfl ?_
  refine js_iload_n 0 dJ4_newCapacity_13 rfl ?_
  refine js_iload_n 1 dJ4_newCapacity_14 rfl ?_
  refine js_isub dJ4_newCapacity_15 ?_
  refine js_istore (L' := [(4, .int (jI (mn - (((cap : Nat) : Int))))), (3, .int (jI mn)), (2, .int (jI (((cap : Nat) : Int)))), (0, .ref a), (1, .int (jI mn))]) dJ4_newCapacity_16 (by decide) rfl ?_
  refine js_iload_n 2 dJ4_newCapacity_18 rfl ?_
  refine js_iload 0 dJ4_newCapacity_19 rfl ?_
  refine js_iload_n 2 dJ4_newCapacity_21 rfl ?_
  refine js_iconst dJ4_newCapacity_22 ?_
  refine js_aload_n 3 dJ4_newCapacity_23 rfl ?_
  refine gJ4_22 rfl dJ4_newCapacity_24 ha rfl ?_
  refine js_ishl dJ4_newCapacity_27 ?_
  refine js_topR (b := 2) (zshl0 _) ?_
  refine js_iadd dJ4_newCapacity_28 ?_
  refine eJ4_114 rfl dJ4_newCapacity_29 (con_newlen (by omega)) (Nat.le_of_ble_eq_true rfl) (Nat.le_of_ble_eq_true rfl) ?_
  refine js_istore (L' := [(5, .int (jI ((((cap : Nat) : Int)) + max (mn - (((cap : Nat) : Int))) ((((cap : Nat) : Int)) + 2)))), (4, .int (jI (mn - (((cap : Nat) : Int))))), (3, .int (jI mn)), (2, .int (jI (((cap : Nat) : Int)))), (0, .ref a), (1, .int (jI mn))]) dJ4_newCapacity_32 (by decide) rfl ?_
  refine js_iload 0 dJ4_newCapacity_34 rfl ?_
  refine js_ldcI q736 dJ4_newCapacity_36 ?_
  refine js_topR (b := 2147483647) rfl ?_
  refine js_icmp_ne (tgt := 51) dJ4_newCapacity_38 (by decide) (by omega) (fun c1 => ?_) (fun c1 => ?_)
  · refine js_iload 0 dJ4_newCapacity_51 rfl ?_
    refine js_aload_n 4 dJ4_newCapacity_53 rfl ?_
    refine gJ4_22 rfl dJ4_newCapacity_54 ha rfl ?_
    refine js_ishr dJ4_newCapacity_57 ?_
    refine js_topR (b := ((((cap : Nat) : Int)) + max (mn - (((cap : Nat) : Int))) ((((cap : Nat) : Int)) + 2))) (zshr0 _) ?_
    exact js_iret rfl rfl dJ4_newCapacity_58 ⟨rfl, rfl⟩
  · exfalso; omega
theorem con_bcopyOf {ρ : js_R} {h : js_H} {b cap : Nat} {w2 : Bool} {n : Int} {g : Int → Int} (hb : h b = some (js_aI w2 2 cap g)) (rn : (cap : Int) < n ∧ n ≤ 5000) (rg : ∀ j : Int, 0 ≤ j → j < cap → -128 ≤ g j ∧ g j < 128) : js_Con ρ mJ18_copyOf_3 3 1 5000 [.ref b, .int (jI n)] h (fun r h' => ∃ v : Nat, r = .inl (some (.ref v)) ∧ h v = none ∧ h' = js_up h v (js_aI true 2 n.toNat (js_cp g (fun _ => 0) 0 0 cap))) := by
  refine js_body [(0, .ref b), (1, .int (jI n))] rfl (by decide) (Nat.le_of_ble_eq_true rfl) rfl ?_
  refine js_iload_n 1 dJ18_copyOf_3_0 rfl ?_
  refine js_aload_n 0 dJ18_copyOf_3_1 rfl ?_
  refine js_alenI dJ18_copyOf_3_2 hb (by decide) ?_
  refine js_icmp_ne (tgt := 14) dJ18_copyOf_3_3 (by decide) (by omega) (fun c1 => ?_) (fun c1 => ?_)
  · refine js_iload_n 1 dJ18_copyOf_3_14 rfl ?_
    refine js_newaI (t := 2) (N := n.toNat) (kc' := 0) (ks' := (5000 - n.toNat)) (by decide) rfl q294 dJ18_copyOf_3_15 (by omega) (by omega) (by omega) (by omega) (fun a2 hf_a2 hB_a2 => ?_)
    refine js_astore_n (L' := [(2, .ref a2), (0, .ref b), (1, .int (jI n))]) dJ18_copyOf_3_17 (by decide) rfl ?_
    refine js_aload_n 1 dJ18_copyOf_3_18 rfl ?_
    refine js_iconst dJ18_copyOf_3_19 ?_
    refine js_aload_n 0 dJ18_copyOf_3_20 rfl ?_
    refine js_iconst dJ18_copyOf_3_21 ?_
    refine js_aload_n 1 dJ18_copyOf_3_22 rfl ?_
    refine js_alenI dJ18_copyOf_3_23 ((js_up_n (js_nef hb hf_a2)).trans hb) (by decide) ?_
    refine js_iload_n 2 dJ18_copyOf_3_24 rfl ?_
    refine js_mmin q643 dJ18_copyOf_3_25 (by omega) (Nat.le_of_ble_eq_true rfl) (Nat.le_of_ble_eq_true rfl) ?_
    refine js_top (b := (cap : Int)) (by omega) ?_
    refine js_copyI (by decide) q646 dJ18_copyOf_3_28 ((js_up_n (js_nef hb hf_a2)).trans hb) js_up_s (by omega) (Nat.le_of_ble_eq_true rfl) (Nat.le_of_ble_eq_true rfl) (fun j j1 j2 => zfitb (rg j (by omega) (by omega))) ?_
    rw [js_up_up]
    show js_ok ρ mJ18_copyOf_3 _ 3 0 ((5000 - n.toNat)) 31 [(2, .ref a2), (0, .ref b), (1, .int (jI n))] [] (js_up h a2 (js_aI true 2 n.toNat (js_cp g (fun _ => 0) 0 0 ((cap : Int)))))
    refine js_aload_n 0 dJ18_copyOf_3_31 rfl ?_
    exact js_aret rfl (Or.inr ⟨_, rfl⟩) (Or.inr ⟨_, rfl⟩) dJ18_copyOf_3_32 ⟨a2, rfl, hf_a2, rfl⟩
  · exfalso; omega
theorem con_sbensR {ρ : js_R} {h : js_H} {a vb cap : Nat} {ml n : Int} {g : Int → Int} {mn : Int} (hK : js_sv ρ 0 = .int (jI 1)) (ha : h a = some (js_ob true 17 [.ref vb, .int (jI 0), .int (jI ml), .int (jI n)])) (hb : h vb = some (js_aI true 2 cap g)) (rc : 0 ≤ n ∧ n ≤ cap ∧ cap ≤ 1000) (rm : 0 ≤ mn ∧ mn ≤ cap)  : js_Con ρ mJ4_ensureCapacityInternal 4 0 0 [.ref a, .int (jI mn)] h (js_ret none h) := by
  refine js_body [(0, .ref a), (1, .int (jI mn))] rfl (by decide) (Nat.le_of_ble_eq_true rfl) rfl ?_
  refine js_aload_n 0 dJ4_ensureCapacityInternal_0 rfl ?_
  refine gJ4_15 rfl dJ4_ensureCapacityInternal_1 ha rfl ?_
  refine js_alenI dJ4_ensureCapacityInternal_4 hb (by decide) ?_
  refine js_aload_n 0 dJ4_ensureCapacityInternal_5 rfl ?_
  refine gJ4_22 rfl dJ4_ensureCapacityInternal_6 ha rfl ?_
  refine js_ishr dJ4_ensureCapacityInternal_9 ?_
  refine js_topR (b := (cap : Int)) (zshr0 _) ?_
  refine js_istore_n (L' := [(2, .int (jI ((cap : Int)))), (0, .ref a), (1, .int (jI mn))]) dJ4_ensureCapacityInternal_10 (by decide) rfl ?_
  refine js_iload_n 2 dJ4_ensureCapacityInternal_11 rfl ?_
  refine js_iload_n 0 dJ4_ensureCapacityInternal_12 rfl ?_
  refine js_isub dJ4_ensureCapacityInternal_13 ?_
  refine js_if_le (tgt := 38) dJ4_ensureCapacityInternal_14 (by decide) (by omega) (fun c1 => ?_) (fun c1 => ?_)
  · exact js_vret rfl dJ4_ensureCapacityInternal_38 ⟨rfl, rfl⟩
  · exfalso; omega
theorem con_sbensG {ρ : js_R} {h : js_H} {a vb cap : Nat} {ml n : Int} {g : Int → Int} {mn : Int} (hK : js_sv ρ 0 = .int (jI 1)) (ha : h a = some (js_ob true 17 [.ref vb, .int (jI 0), .int (jI ml), .int (jI n)])) (hb : h vb = some (js_aI true 2 cap g)) (rc : 0 ≤ n ∧ n ≤ cap ∧ cap ≤ 1000) (rg : ∀ j : Int, 0 ≤ j → j < cap → -128 ≤ g j ∧ g j < 128) (rm : (cap : Int) < mn ∧ mn ≤ 100)  : js_Con ρ mJ4_ensureCapacityInternal 5 1 5000 [.ref a, .int (jI mn)] h (fun r h' => ∃ v : Nat, r = .inl none ∧ h v = none ∧ h' = js_up (js_up h v (js_aI true 2 (((cap : Int) + max (mn - cap) (cap + 2))).toNat (js_cp g (fun _ => 0) 0 0 cap))) a (js_ob true 17 [.ref v, .int (jI 0), .int (jI ml), .int (jI n)])) := by
  refine js_body [(0, .ref a), (1, .int (jI mn))] rfl (by decide) (Nat.le_of_ble_eq_true rfl) rfl ?_
  refine js_aload_n 0 dJ4_ensureCapacityInternal_0 rfl ?_
  refine gJ4_15 rfl dJ4_ensureCapacityInternal_1 ha rfl ?_
  refine js_alenI dJ4_ensureCapacityInternal_4 hb (by decide) ?_
  refine js_aload_n 0 dJ4_ensureCapacityInternal_5 rfl ?_
  refine gJ4_22 rfl dJ4_ensureCapacityInternal_6 ha rfl ?_
  refine js_ishr dJ4_ensureCapacityInternal_9 ?_
  refine js_topR (b := (cap : Int)) (zshr0 _) ?_
  refine js_istore_n (L' := [(2, .int (jI ((cap : Int)))), (0, .ref a), (1, .int (jI mn))]) dJ4_ensureCapacityInternal_10 (by decide) rfl ?_
  refine js_iload_n 2 dJ4_ensureCapacityInternal_11 rfl ?_
  refine js_iload_n 0 dJ4_ensureCapacityInternal_12 rfl ?_
  refine js_isub dJ4_ensureCapacityInternal_13 ?_
  refine js_if_le (tgt := 38) dJ4_ensureCapacityInternal_14 (by decide) (by omega) (fun c1 => ?_) (fun c1 => ?_)
  · exfalso; omega
  · refine js_aload_n 1 dJ4_ensureCapacityInternal_17 rfl ?_
    refine js_aload_n 1 dJ4_ensureCapacityInternal_18 rfl ?_
    refine gJ4_15 rfl dJ4_ensureCapacityInternal_19 ha rfl ?_
    refine js_aload_n 1 dJ4_ensureCapacityInternal_22 rfl ?_
    refine js_iload_n 2 dJ4_ensureCapacityInternal_23 rfl ?_
    refine eJ4_104 rfl dJ4_ensureCapacityInternal_24 ha (con_sbncap hK ha hb (by omega) (by omega)) (Nat.le_of_ble_eq_true rfl) (Nat.le_of_ble_eq_true rfl) ?_
    refine js_aload_n 1 dJ4_ensureCapacityInternal_27 rfl ?_
    refine gJ4_22 rfl dJ4_ensureCapacityInternal_28 ha rfl ?_
    refine js_ishl dJ4_ensureCapacityInternal_31 ?_
    refine js_topR (b := (cap : Int) + max (mn - cap) (cap + 2)) (zshl0 _) ?_
    refine vJ4_108 (kc' := 0) (ks' := 0) rfl dJ4_ensureCapacityInternal_32 (con_bcopyOf hb (by omega) rg) (Nat.le_of_ble_eq_true rfl) (by omega) (by omega) (Nat.le_of_ble_eq_true rfl) (fun v2 g2 q2 => ?_) (fun E2 g2 q2 => by obtain ⟨_, q2, _⟩ := q2; cases q2)
    obtain ⟨vn, e2, hf_vn, rfl⟩ := q2
    cases e2
    show js_ok ρ mJ4_ensureCapacityInternal _ 5 0 0 35 [(2, .int (jI ((cap : Int)))), (0, .ref a), (1, .int (jI mn))] [.ref vn, .ref a] (js_up h vn (js_aI true 2 (((cap : Int) + max (mn - cap) (cap + 2)).toNat) (js_cp g (fun _ => 0) 0 0 cap)))
    refine pJ4_15 rfl dJ4_ensureCapacityInternal_35 ((js_up_n (js_nef ha hf_vn)).trans ha) (Nat.le_of_ble_eq_true rfl) rfl rfl ?_
    show js_ok ρ mJ4_ensureCapacityInternal _ 5 0 0 38 [(2, .int (jI ((cap : Int)))), (0, .ref a), (1, .int (jI mn))] [] (js_up (js_up h vn (js_aI true 2 (((cap : Int) + max (mn - cap) (cap + 2)).toNat) (js_cp g (fun _ => 0) 0 0 cap))) a (js_ob true 17 [.ref vn, .int (jI 0), .int (jI ml), .int (jI n)]))
    exact js_vret rfl dJ4_ensureCapacityInternal_38 ⟨vn, rfl, hf_vn, rfl⟩
theorem con_sbapR {ρ : js_R} {h : js_H} {a vb cap : Nat} {ml n : Int} {g : Int → Int} {c : Int} (hK : js_sv ρ 0 = .int (jI 1)) (ha : h a = some (js_ob true 17 [.ref vb, .int (jI 0), .int (jI ml), .int (jI n)])) (hb : h vb = some (js_aI true 2 cap g)) (rc : 0 ≤ n ∧ n ≤ cap ∧ cap ≤ 1000) (rch : 0 ≤ c ∧ c < 128) (rr : n + 1 ≤ cap)  : js_Con ρ mJ4_append_3 5 0 0 [.ref a, .int (jI c)] h (js_ret (some (.ref a)) (js_up (js_up h a (js_ob true 17 [.ref vb, .int (jI 0), .int (jI ml), .int (jI (n + 1))])) vb (js_aI true 2 cap (js_uz g n c)))) := by
  refine js_body [(0, .ref a), (1, .int (jI c))] rfl (by decide) (Nat.le_of_ble_eq_true rfl) rfl ?_
  refine js_aload_n 0 dJ4_append_3_0 rfl ?_
  refine js_aload_n 0 dJ4_append_3_1 rfl ?_
  refine gJ4_79 rfl dJ4_append_3_2 ha rfl ?_
  refine js_iconst dJ4_append_3_5 ?_
  refine js_iadd dJ4_append_3_6 ?_
  refine eJ4_100 rfl dJ4_append_3_7 ha (con_sbensR hK ha hb (by omega) (by omega)) (Nat.le_of_ble_eq_true rfl) (Nat.le_of_ble_eq_true rfl) ?_
  refine js_aload_n 0 dJ4_append_3_10 rfl ?_
  refine eJ4_83 rfl dJ4_append_3_11 ha (con_sbl1 hK ha hb (by omega)) (Nat.le_of_ble_eq_true rfl) (Nat.le_of_ble_eq_true rfl) ?_
  refine js_if_eq (tgt := 45) dJ4_append_3_14 (by decide) (by omega) (fun c1 => ?_) (fun c1 => ?_)
  · exfalso; first | omega | (revert c1; decide)
  · refine js_iload_n 1 dJ4_append_3_17 rfl ?_
    refine eJ4_191 rfl dJ4_append_3_18 (con_l1can (by omega)) (Nat.le_of_ble_eq_true rfl) (Nat.le_of_ble_eq_true rfl) ?_
    refine js_if_eq (tgt := 45) dJ4_append_3_21 (by decide) (by omega) (fun c2 => ?_) (fun c2 => ?_)
    · exfalso; first | omega | (revert c2; decide)
    · refine js_aload_n 0 dJ4_append_3_24 rfl ?_
      refine gJ4_15 rfl dJ4_append_3_25 ha rfl ?_
      refine js_aload_n 0 dJ4_append_3_28 rfl ?_
      refine js_dup dJ4_append_3_29 rfl ?_
      refine gJ4_79 rfl dJ4_append_3_30 ha rfl ?_
      refine js_dup_x1 dJ4_append_3_33 rfl rfl ?_
      refine js_iconst dJ4_append_3_34 ?_
      refine js_iadd dJ4_append_3_35 ?_
      refine pJ4_79 rfl dJ4_append_3_36 ha (Nat.le_of_ble_eq_true rfl) rfl rfl ?_
      show js_ok ρ mJ4_append_3 _ 5 0 0 39 [(0, .ref a), (1, .int (jI c))] [.int (jI n), .ref vb] (js_up h a (js_ob true 17 [.ref vb, .int (jI 0), .int (jI ml), .int (jI (n + 1))]))
      refine js_iload_n 1 dJ4_append_3_39 rfl ?_
      refine js_i2b (v := jI c) dJ4_append_3_40 (zi2b (by omega)) ?_
      refine js_bastore dJ4_append_3_41 ((js_up_n (js_nek hb ha js_kAO)).trans hb) (by omega) (by omega) ?_
      show js_ok ρ mJ4_append_3 _ 5 0 0 42 [(0, .ref a), (1, .int (jI c))] [] (js_up (js_up h a (js_ob true 17 [.ref vb, .int (jI 0), .int (jI ml), .int (jI (n + 1))])) vb (js_aI true 2 cap (js_uz g n c)))
      refine js_goto (tgt := 75) dJ4_append_3_42 (by decide) ?_
      refine js_aload_n 0 dJ4_append_3_75 rfl ?_
      exact js_aret rfl (Or.inl ⟨_, rfl⟩) (Or.inr ⟨_, rfl⟩) dJ4_append_3_76 ⟨rfl, rfl⟩
theorem con_sbapG {ρ : js_R} {h : js_H} {a vb cap : Nat} {ml n : Int} {g : Int → Int} {c : Int} (hK : js_sv ρ 0 = .int (jI 1)) (ha : h a = some (js_ob true 17 [.ref vb, .int (jI 0), .int (jI ml), .int (jI n)])) (hb : h vb = some (js_aI true 2 cap g)) (rc : 0 ≤ n ∧ n ≤ cap ∧ cap ≤ 1000) (rg : ∀ j : Int, 0 ≤ j → j < cap → -128 ≤ g j ∧ g j < 128) (rch : 0 ≤ c ∧ c < 128) (rr : (cap : Int) < n + 1 ∧ n ≤ 60)  : js_Con ρ mJ4_append_3 6 1 5000 [.ref a, .int (jI c)] h (fun r h' => ∃ (v cap2 : Nat) (g2 : Int → Int), r = .inl (some (.ref a)) ∧ h v = none ∧ (n + 1 ≤ cap2 ∧ cap2 ≤ 1000) ∧ (∀ k : Int, 0 ≤ k → k < n → g2 k = g k) ∧ g2 n = c ∧ h' = js_up (js_up h v (js_aI true 2 cap2 g2)) a (js_ob true 17 [.ref v, .int (jI 0), .int (jI ml), .int (jI (n + 1))])) := by
  refine js_body [(0, .ref a), (1, .int (jI c))] rfl (by decide) (Nat.le_of_ble_eq_true rfl) rfl ?_
  refine js_aload_n 0 dJ4_append_3_0 rfl ?_
  refine js_aload_n 0 dJ4_append_3_1 rfl ?_
  refine gJ4_79 rfl dJ4_append_3_2 ha rfl ?_
  refine js_iconst dJ4_append_3_5 ?_
  refine js_iadd dJ4_append_3_6 ?_
  refine vJ4_100 (kc' := 0) (ks' := 0) rfl dJ4_append_3_7 ha (con_sbensG hK ha hb (by omega) rg (by omega)) (Nat.le_of_ble_eq_true rfl) (by omega) (by omega) (Nat.le_of_ble_eq_true rfl) (fun v1 g1 q1 => ?_) (fun E1 g1 q1 => by obtain ⟨_, q1, _⟩ := q1; cases q1)
  obtain ⟨vn, e1, hf_vn, rfl⟩ := q1
  cases e1
  have nav : a ≠ vn := js_nef ha hf_vn
  show js_ok ρ mJ4_append_3 _ 6 0 0 10 [(0, .ref a), (1, .int (jI c))] [] (js_up (js_up h vn (js_aI true 2 (((cap : Int) + max (n + 1 - cap) (cap + 2)).toNat) (js_cp g (fun _ => 0) 0 0 cap))) a (js_ob true 17 [.ref vn, .int (jI 0), .int (jI ml), .int (jI n)]))
  refine js_aload_n 0 dJ4_append_3_10 rfl ?_
  refine eJ4_83 rfl dJ4_append_3_11 js_up_s (con_sbl1 hK js_up_s ((js_up_n (Ne.symm (js_nef ha hf_vn))).trans js_up_s) (by omega)) (Nat.le_of_ble_eq_true rfl) (Nat.le_of_ble_eq_true rfl) ?_
  refine js_if_eq (tgt := 45) dJ4_append_3_14 (by decide) (by omega) (fun c2 => ?_) (fun c2 => ?_)
  · exfalso; first | omega | (revert c2; decide)
  · refine js_iload_n 1 dJ4_append_3_17 rfl ?_
    refine eJ4_191 rfl dJ4_append_3_18 (con_l1can (by omega)) (Nat.le_of_ble_eq_true rfl) (Nat.le_of_ble_eq_true rfl) ?_
    refine js_if_eq (tgt := 45) dJ4_append_3_21 (by decide) (by omega) (fun c3 => ?_) (fun c3 => ?_)
    · exfalso; first | omega | (revert c3; decide)
    · refine js_aload_n 0 dJ4_append_3_24 rfl ?_
      refine gJ4_15 rfl dJ4_append_3_25 js_up_s rfl ?_
      refine js_aload_n 0 dJ4_append_3_28 rfl ?_
      refine js_dup dJ4_append_3_29 rfl ?_
      refine gJ4_79 rfl dJ4_append_3_30 js_up_s rfl ?_
      refine js_dup_x1 dJ4_append_3_33 rfl rfl ?_
      refine js_iconst dJ4_append_3_34 ?_
      refine js_iadd dJ4_append_3_35 ?_
      refine pJ4_79 rfl dJ4_append_3_36 js_up_s (Nat.le_of_ble_eq_true rfl) rfl rfl ?_
      rw [js_up_up]
      show js_ok ρ mJ4_append_3 _ 6 0 0 39 [(0, .ref a), (1, .int (jI c))] [.int (jI n), .ref vn] (js_up (js_up h vn (js_aI true 2 (((cap : Int) + max (n + 1 - cap) (cap + 2)).toNat) (js_cp g (fun _ => 0) 0 0 cap))) a (js_ob true 17 [.ref vn, .int (jI 0), .int (jI ml), .int (jI (n + 1))]))
      refine js_iload_n 1 dJ4_append_3_39 rfl ?_
      refine js_i2b (v := jI c) dJ4_append_3_40 (zi2b (by omega)) ?_
      refine js_bastore dJ4_append_3_41 ((js_up_n (Ne.symm nav)).trans js_up_s) (by omega) (by omega) ?_
      show js_ok ρ mJ4_append_3 _ 6 0 0 42 [(0, .ref a), (1, .int (jI c))] [] (js_up (js_up (js_up h vn (js_aI true 2 (((cap : Int) + max (n + 1 - cap) (cap + 2)).toNat) (js_cp g (fun _ => 0) 0 0 cap))) a (js_ob true 17 [.ref vn, .int (jI 0), .int (jI ml), .int (jI (n + 1))])) vn (js_aI true 2 (((cap : Int) + max (n + 1 - cap) (cap + 2)).toNat) (js_uz (js_cp g (fun _ => 0) 0 0 cap) n c)))
      refine js_goto (tgt := 75) dJ4_append_3_42 (by decide) ?_
      refine js_aload_n 0 dJ4_append_3_75 rfl ?_
      exact js_aret rfl (Or.inl ⟨_, rfl⟩) (Or.inr ⟨_, rfl⟩) dJ4_append_3_76 ⟨vn, ((cap : Int) + max (n + 1 - cap) (cap + 2)).toNat, js_uz (js_cp g (fun _ => 0) 0 0 cap) n c, rfl, hf_vn, by omega, fun k k1 k2 => by rw [js_uz_n (by omega)]; unfold js_cp; rw [if_pos (by omega)]; congr 1; omega, js_uz_s, by rw [js_up_comm nav, js_up_up]⟩
theorem con_appR {ρ : js_R} {h : js_H} {a vb cap : Nat} {ml n : Int} {g : Int → Int} {c : Int} (hK : js_sv ρ 0 = .int (jI 1)) (ha : h a = some (js_ob true 17 [.ref vb, .int (jI 0), .int (jI ml), .int (jI n)])) (hb : h vb = some (js_aI true 2 cap g)) (rc : 0 ≤ n ∧ n ≤ cap ∧ cap ≤ 1000) (rch : 0 ≤ c ∧ c < 128) (rr : n + 1 ≤ cap)  : js_Con ρ mJ5_append_3 6 0 0 [.ref a, .int (jI c)] h (js_ret (some (.ref a)) (js_up (js_up h a (js_ob true 17 [.ref vb, .int (jI 0), .int (jI ml), .int (jI (n + 1))])) vb (js_aI true 2 cap (js_uz g n c)))) := by
  refine js_body [(0, .ref a), (1, .int (jI c))] rfl (by decide) (Nat.le_of_ble_eq_true rfl) rfl ?_
  refine js_aload_n 0 dJ5_append_3_0 rfl ?_
  refine js_iload_n 1 dJ5_append_3_1 rfl ?_
  refine eJ5_50 rfl dJ5_append_3_2 ha (con_sbapR hK ha hb (by omega) (by omega) (by omega)) (Nat.le_of_ble_eq_true rfl) (Nat.le_of_ble_eq_true rfl) ?_
  show js_ok ρ mJ5_append_3 _ 6 0 0 5 [(0, .ref a), (1, .int (jI c))] [.ref a] (js_up (js_up h a (js_ob true 17 [.ref vb, .int (jI 0), .int (jI ml), .int (jI (n + 1))])) vb (js_aI true 2 cap (js_uz g n c)))
  refine js_pop dJ5_append_3_5 rfl ?_
  refine js_aload_n 0 dJ5_append_3_6 rfl ?_
  exact js_aret rfl (Or.inl ⟨_, rfl⟩) (Or.inr ⟨_, rfl⟩) dJ5_append_3_7 ⟨rfl, rfl⟩
theorem con_appG {ρ : js_R} {h : js_H} {a vb cap : Nat} {ml n : Int} {g : Int → Int} {c : Int} (hK : js_sv ρ 0 = .int (jI 1)) (ha : h a = some (js_ob true 17 [.ref vb, .int (jI 0), .int (jI ml), .int (jI n)])) (hb : h vb = some (js_aI true 2 cap g)) (rc : 0 ≤ n ∧ n ≤ cap ∧ cap ≤ 1000) (rg : ∀ j : Int, 0 ≤ j → j < cap → -128 ≤ g j ∧ g j < 128) (rch : 0 ≤ c ∧ c < 128) (rr : (cap : Int) < n + 1 ∧ n ≤ 60)  : js_Con ρ mJ5_append_3 7 1 5000 [.ref a, .int (jI c)] h (fun r h' => ∃ (v cap2 : Nat) (g2 : Int → Int), r = .inl (some (.ref a)) ∧ h v = none ∧ (n + 1 ≤ cap2 ∧ cap2 ≤ 1000) ∧ (∀ k : Int, 0 ≤ k → k < n → g2 k = g k) ∧ g2 n = c ∧ h' = js_up (js_up h v (js_aI true 2 cap2 g2)) a (js_ob true 17 [.ref v, .int (jI 0), .int (jI ml), .int (jI (n + 1))])) := by
  refine js_body [(0, .ref a), (1, .int (jI c))] rfl (by decide) (Nat.le_of_ble_eq_true rfl) rfl ?_
  refine js_aload_n 0 dJ5_append_3_0 rfl ?_
  refine js_iload_n 1 dJ5_append_3_1 rfl ?_
  refine vJ5_50 (kc' := 0) (ks' := 0) rfl dJ5_append_3_2 ha (con_sbapG hK ha hb (by omega) rg (by omega) (by omega)) (Nat.le_of_ble_eq_true rfl) (by omega) (by omega) (Nat.le_of_ble_eq_true rfl) (fun v1 g1 q1 => ?_) (fun E1 g1 q1 => by obtain ⟨_, _, _, q1, _⟩ := q1; cases q1)
  obtain ⟨vn, cap2, g2, e1, rest⟩ := q1
  cases e1
  show js_ok ρ mJ5_append_3 _ 7 0 0 5 [(0, .ref a), (1, .int (jI c))] [.ref a] g1
  refine js_pop dJ5_append_3_5 rfl ?_
  refine js_aload_n 0 dJ5_append_3_6 rfl ?_
  exact js_aret rfl (Or.inl ⟨_, rfl⟩) (Or.inr ⟨_, rfl⟩) dJ5_append_3_7 ⟨vn, cap2, g2, rfl, rest⟩
theorem con_sb4set0 {ρ : js_R} {h : js_H} {a vb cap : Nat} {ml n : Int} {g : Int → Int}  (hK : js_sv ρ 0 = .int (jI 1)) (ha : h a = some (js_ob true 17 [.ref vb, .int (jI 0), .int (jI ml), .int (jI n)])) (hb : h vb = some (js_aI true 2 cap g)) (rc : 0 ≤ n ∧ n ≤ cap ∧ cap ≤ 1000) (ml0 : ml = 0 ∨ ml = 1)  : js_Con ρ mJ4_setLength 5 0 0 [.ref a, .int (jI 0)] h (fun r h' => r = .inl none ∧ ∃ ml' : Int, (ml' = 0 ∨ ml' = 1) ∧ h' = js_up h a (js_ob true 17 [.ref vb, .int (jI 0), .int (jI ml'), .int (jI 0)])) := by
  refine js_body [(0, .ref a), (1, .int (jI 0))] rfl (by decide) (Nat.le_of_ble_eq_true rfl) rfl ?_
  refine js_iload_n 1 dJ4_setLength_0 rfl ?_
  refine js_if_ge (tgt := 13) dJ4_setLength_1 (by decide) (by omega) (fun c1 => ?_) (fun c1 => ?_)
  · refine js_aload_n 0 dJ4_setLength_13 rfl ?_
    refine js_iload_n 1 dJ4_setLength_14 rfl ?_
    refine eJ4_100 rfl dJ4_setLength_15 ha (con_sbensR hK ha hb (by omega) (by omega)) (Nat.le_of_ble_eq_true rfl) (Nat.le_of_ble_eq_true rfl) ?_
    refine js_aload_n 0 dJ4_setLength_18 rfl ?_
    refine gJ4_79 rfl dJ4_setLength_19 ha rfl ?_
    refine js_iload_n 1 dJ4_setLength_22 rfl ?_
    refine js_icmp_ge (tgt := 63) dJ4_setLength_23 (by decide) (by omega) (fun c2 => ?_) (fun c2 => ?_)
    · refine js_aload_n 0 dJ4_setLength_63 rfl ?_
      refine gJ4_79 rfl dJ4_setLength_64 ha rfl ?_
      refine js_iload_n 1 dJ4_setLength_67 rfl ?_
      refine js_icmp_le (tgt := 76) dJ4_setLength_68 (by decide) (by omega) (fun c3 => ?_) (fun c3 => ?_)
      · refine js_aload_n 0 dJ4_setLength_76 rfl ?_
        refine js_iload_n 1 dJ4_setLength_77 rfl ?_
        refine pJ4_79 rfl dJ4_setLength_78 ha (Nat.le_of_ble_eq_true rfl) rfl rfl ?_
        show js_ok ρ mJ4_setLength _ 5 0 0 81 [(0, .ref a), (1, .int (jI 0))] [] (js_up h a (js_ob true 17 [.ref vb, .int (jI 0), .int (jI ml), .int (jI 0)]))
        exact js_vret rfl dJ4_setLength_81 ⟨rfl, _, by first | exact Or.inr rfl | exact ml0, rfl⟩
      · refine js_aload_n 0 dJ4_setLength_71 rfl ?_
        refine js_iconst dJ4_setLength_72 ?_
        refine pJ4_73 rfl dJ4_setLength_73 ha (Nat.le_of_ble_eq_true rfl) (js_nar_boolean (by omega)) (js_fit_boolean (by omega)) ?_
        show js_ok ρ mJ4_setLength _ 5 0 0 76 [(0, .ref a), (1, .int (jI 0))] [] (js_up h a (js_ob true 17 [.ref vb, .int (jI 0), .int (jI 1), .int (jI n)]))
        refine js_aload_n 0 dJ4_setLength_76 rfl ?_
        refine js_iload_n 1 dJ4_setLength_77 rfl ?_
        refine pJ4_79 rfl dJ4_setLength_78 js_up_s (Nat.le_of_ble_eq_true rfl) rfl rfl ?_
        rw [js_up_up]
        show js_ok ρ mJ4_setLength _ 5 0 0 81 [(0, .ref a), (1, .int (jI 0))] [] (js_up h a (js_ob true 17 [.ref vb, .int (jI 0), .int (jI 1), .int (jI 0)]))
        exact js_vret rfl dJ4_setLength_81 ⟨rfl, _, by first | exact Or.inr rfl | exact ml0, rfl⟩
    · exfalso; omega
  · exfalso; first | omega | (revert c1; decide)
theorem con_set0 {ρ : js_R} {h : js_H} {a vb cap : Nat} {ml n : Int} {g : Int → Int}  (hK : js_sv ρ 0 = .int (jI 1)) (ha : h a = some (js_ob true 17 [.ref vb, .int (jI 0), .int (jI ml), .int (jI n)])) (hb : h vb = some (js_aI true 2 cap g)) (rc : 0 ≤ n ∧ n ≤ cap ∧ cap ≤ 1000) (ml0 : ml = 0 ∨ ml = 1)  : js_Con ρ mJ5_setLength 6 0 0 [.ref a, .int (jI 0)] h (fun r h' => r = .inl none ∧ ∃ ml' : Int, (ml' = 0 ∨ ml' = 1) ∧ h' = js_up h a (js_ob true 17 [.ref vb, .int (jI 0), .int (jI ml'), .int (jI 0)])) := by
  refine js_body [(0, .ref a), (1, .int (jI 0))] rfl (by decide) (Nat.le_of_ble_eq_true rfl) rfl ?_
  refine js_aload_n 0 dJ5_setLength_0 rfl ?_
  refine js_iload_n 1 dJ5_setLength_1 rfl ?_
  refine vJ5_333 (kc' := 0) (ks' := 0) rfl dJ5_setLength_2 ha (con_sb4set0 hK ha hb (by omega) ml0) (Nat.le_of_ble_eq_true rfl) (by omega) (by omega) (Nat.le_of_ble_eq_true rfl) (fun v1 g1 q1 => ?_) (fun E1 g1 q1 => by cases q1.1)
  obtain ⟨e1, rest⟩ := q1
  cases e1
  show js_ok ρ mJ5_setLength _ 6 0 0 5 [(0, .ref a), (1, .int (jI 0))] [] g1
  exact js_vret rfl dJ5_setLength_5 ⟨rfl, rest⟩
