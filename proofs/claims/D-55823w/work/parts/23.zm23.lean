set_option maxRecDepth 100000
/-! BalloonSpiresModel: lines -/
theorem con_ntz {ρ : js_R} {h : js_H} {n : Int} (hn : 1 ≤ n ∧ n ≤ 63) : js_Con ρ mJ24_numberOfTrailingZeros 0 0 0 [.int (jI n)] h (js_ret (some (.int (jI (zntz n)))) h) := by
  refine js_body [(0, .int (jI n))] rfl (by decide) (Nat.le_of_ble_eq_true rfl) rfl ?_
  refine js_iload_n 0 dJ24_numberOfTrailingZeros_0 rfl ?_
  refine js_iconst dJ24_numberOfTrailingZeros_1 ?_
  refine js_ixor dJ24_numberOfTrailingZeros_2 ?_
  refine js_iload_n 0 dJ24_numberOfTrailingZeros_3 rfl ?_
  refine js_iconst dJ24_numberOfTrailingZeros_4 ?_
  refine js_isub dJ24_numberOfTrailingZeros_5 ?_
  refine js_iand dJ24_numberOfTrailingZeros_6 ?_
  refine js_topR (zlo_e' hn) ?_
  generalize hz : zlo n = z
  have hc := zlo_c n
  rw [hz] at hc
  rcases hc with ⟨e, ez⟩ | ⟨e, ez⟩ | ⟨e, ez⟩ | ⟨e, ez⟩ | ⟨e, ez⟩ | ⟨e, ez⟩ <;> subst e
  · rw [ez]
    refine js_istore_n (L' := [(0, .int (jI 0))]) dJ24_numberOfTrailingZeros_7 (by decide) rfl ?_
    refine js_iload_n 0 dJ24_numberOfTrailingZeros_8 rfl ?_
    refine js_if_gt (tgt := 17) dJ24_numberOfTrailingZeros_9 (by decide) (by omega) (fun c1 => ?_) (fun c1 => ?_)
    · exfalso; revert c1; decide
    · refine js_iload_n 0 dJ24_numberOfTrailingZeros_12 rfl ?_
      refine js_bipush dJ24_numberOfTrailingZeros_13 rfl ?_
      refine js_iand dJ24_numberOfTrailingZeros_15 ?_
      refine js_topR (b := 0) (by decide) ?_
      exact js_iret rfl rfl dJ24_numberOfTrailingZeros_16 ⟨rfl, rfl⟩
  · rw [ez]
    refine js_istore_n (L' := [(0, .int (jI 1))]) dJ24_numberOfTrailingZeros_7 (by decide) rfl ?_
    refine js_iload_n 0 dJ24_numberOfTrailingZeros_8 rfl ?_
    refine js_if_gt (tgt := 17) dJ24_numberOfTrailingZeros_9 (by decide) (by omega) (fun c2 => ?_) (fun c2 => ?_)
    · refine js_iconst dJ24_numberOfTrailingZeros_17 ?_
      refine js_istore_n (L' := [(1, .int (jI 1)), (0, .int (jI 1))]) dJ24_numberOfTrailingZeros_18 (by decide) rfl ?_
      refine js_iload_n 1 dJ24_numberOfTrailingZeros_19 rfl ?_
      refine js_ldcwI q1806 dJ24_numberOfTrailingZeros_20 ?_
      refine js_topR (b := 65536) rfl ?_
      refine js_icmp_le (tgt := 34) dJ24_numberOfTrailingZeros_23 (by decide) (by omega) (fun c3 => ?_) (fun c3 => ?_)
      · refine js_iload_n 1 dJ24_numberOfTrailingZeros_34 rfl ?_
        refine js_sipush dJ24_numberOfTrailingZeros_35 rfl ?_
        refine js_icmp_le (tgt := 49) dJ24_numberOfTrailingZeros_38 (by decide) (by omega) (fun c4 => ?_) (fun c4 => ?_)
        · refine js_iload_n 1 dJ24_numberOfTrailingZeros_49 rfl ?_
          refine js_bipush dJ24_numberOfTrailingZeros_50 rfl ?_
          refine js_icmp_le (tgt := 62) dJ24_numberOfTrailingZeros_52 (by decide) (by omega) (fun c5 => ?_) (fun c5 => ?_)
          · refine js_iload_n 1 dJ24_numberOfTrailingZeros_62 rfl ?_
            refine js_iconst dJ24_numberOfTrailingZeros_63 ?_
            refine js_icmp_le (tgt := 74) dJ24_numberOfTrailingZeros_64 (by decide) (by omega) (fun c6 => ?_) (fun c6 => ?_)
            · refine js_iload_n 0 dJ24_numberOfTrailingZeros_74 rfl ?_
              refine js_iload_n 1 dJ24_numberOfTrailingZeros_75 rfl ?_
              refine js_iconst dJ24_numberOfTrailingZeros_76 ?_
              refine js_iushr dJ24_numberOfTrailingZeros_77 ?_
              refine js_topR (b := 0) (by decide) ?_
              refine js_iadd dJ24_numberOfTrailingZeros_78 ?_
              exact js_iret rfl rfl dJ24_numberOfTrailingZeros_79 ⟨rfl, rfl⟩
            · exfalso; revert c6; decide
          · exfalso; revert c5; decide
        · exfalso; revert c4; decide
      · exfalso; revert c3; decide
    · exfalso; revert c2; decide
  · rw [ez]
    refine js_istore_n (L' := [(0, .int (jI 3))]) dJ24_numberOfTrailingZeros_7 (by decide) rfl ?_
    refine js_iload_n 0 dJ24_numberOfTrailingZeros_8 rfl ?_
    refine js_if_gt (tgt := 17) dJ24_numberOfTrailingZeros_9 (by decide) (by omega) (fun c7 => ?_) (fun c7 => ?_)
    · refine js_iconst dJ24_numberOfTrailingZeros_17 ?_
      refine js_istore_n (L' := [(1, .int (jI 1)), (0, .int (jI 3))]) dJ24_numberOfTrailingZeros_18 (by decide) rfl ?_
      refine js_iload_n 1 dJ24_numberOfTrailingZeros_19 rfl ?_
      refine js_ldcwI q1806 dJ24_numberOfTrailingZeros_20 ?_
      refine js_topR (b := 65536) rfl ?_
      refine js_icmp_le (tgt := 34) dJ24_numberOfTrailingZeros_23 (by decide) (by omega) (fun c8 => ?_) (fun c8 => ?_)
      · refine js_iload_n 1 dJ24_numberOfTrailingZeros_34 rfl ?_
        refine js_sipush dJ24_numberOfTrailingZeros_35 rfl ?_
        refine js_icmp_le (tgt := 49) dJ24_numberOfTrailingZeros_38 (by decide) (by omega) (fun c9 => ?_) (fun c9 => ?_)
        · refine js_iload_n 1 dJ24_numberOfTrailingZeros_49 rfl ?_
          refine js_bipush dJ24_numberOfTrailingZeros_50 rfl ?_
          refine js_icmp_le (tgt := 62) dJ24_numberOfTrailingZeros_52 (by decide) (by omega) (fun c10 => ?_) (fun c10 => ?_)
          · refine js_iload_n 1 dJ24_numberOfTrailingZeros_62 rfl ?_
            refine js_iconst dJ24_numberOfTrailingZeros_63 ?_
            refine js_icmp_le (tgt := 74) dJ24_numberOfTrailingZeros_64 (by decide) (by omega) (fun c11 => ?_) (fun c11 => ?_)
            · refine js_iload_n 0 dJ24_numberOfTrailingZeros_74 rfl ?_
              refine js_iload_n 1 dJ24_numberOfTrailingZeros_75 rfl ?_
              refine js_iconst dJ24_numberOfTrailingZeros_76 ?_
              refine js_iushr dJ24_numberOfTrailingZeros_77 ?_
              refine js_topR (b := 1) (by decide) ?_
              refine js_iadd dJ24_numberOfTrailingZeros_78 ?_
              exact js_iret rfl rfl dJ24_numberOfTrailingZeros_79 ⟨rfl, rfl⟩
            · exfalso; revert c11; decide
          · exfalso; revert c10; decide
        · exfalso; revert c9; decide
      · exfalso; revert c8; decide
    · exfalso; revert c7; decide
  · rw [ez]
    refine js_istore_n (L' := [(0, .int (jI 7))]) dJ24_numberOfTrailingZeros_7 (by decide) rfl ?_
    refine js_iload_n 0 dJ24_numberOfTrailingZeros_8 rfl ?_
    refine js_if_gt (tgt := 17) dJ24_numberOfTrailingZeros_9 (by decide) (by omega) (fun c12 => ?_) (fun c12 => ?_)
    · refine js_iconst dJ24_numberOfTrailingZeros_17 ?_
      refine js_istore_n (L' := [(1, .int (jI 1)), (0, .int (jI 7))]) dJ24_numberOfTrailingZeros_18 (by decide) rfl ?_
      refine js_iload_n 1 dJ24_numberOfTrailingZeros_19 rfl ?_
      refine js_ldcwI q1806 dJ24_numberOfTrailingZeros_20 ?_
      refine js_topR (b := 65536) rfl ?_
      refine js_icmp_le (tgt := 34) dJ24_numberOfTrailingZeros_23 (by decide) (by omega) (fun c13 => ?_) (fun c13 => ?_)
      · refine js_iload_n 1 dJ24_numberOfTrailingZeros_34 rfl ?_
        refine js_sipush dJ24_numberOfTrailingZeros_35 rfl ?_
        refine js_icmp_le (tgt := 49) dJ24_numberOfTrailingZeros_38 (by decide) (by omega) (fun c14 => ?_) (fun c14 => ?_)
        · refine js_iload_n 1 dJ24_numberOfTrailingZeros_49 rfl ?_
          refine js_bipush dJ24_numberOfTrailingZeros_50 rfl ?_
          refine js_icmp_le (tgt := 62) dJ24_numberOfTrailingZeros_52 (by decide) (by omega) (fun c15 => ?_) (fun c15 => ?_)
          · refine js_iload_n 1 dJ24_numberOfTrailingZeros_62 rfl ?_
            refine js_iconst dJ24_numberOfTrailingZeros_63 ?_
            refine js_icmp_le (tgt := 74) dJ24_numberOfTrailingZeros_64 (by decide) (by omega) (fun c16 => ?_) (fun c16 => ?_)
            · exfalso; revert c16; decide
            · refine js_iinc (L' := [(1, .int (jI (1 + 2))), (0, .int (jI 7))]) 0 dJ24_numberOfTrailingZeros_67 rfl (by decide) rfl ?_
              refine js_iload_n 1 dJ24_numberOfTrailingZeros_70 rfl ?_
              refine js_iconst dJ24_numberOfTrailingZeros_71 ?_
              refine js_iushr dJ24_numberOfTrailingZeros_72 ?_
              refine js_topR (b := 1) (by decide) ?_
              refine js_istore_n (L' := [(0, .int (jI 1)), (1, .int (jI (1 + 2)))]) dJ24_numberOfTrailingZeros_73 (by decide) rfl ?_
              refine js_iload_n 1 dJ24_numberOfTrailingZeros_74 rfl ?_
              refine js_iload_n 0 dJ24_numberOfTrailingZeros_75 rfl ?_
              refine js_iconst dJ24_numberOfTrailingZeros_76 ?_
              refine js_iushr dJ24_numberOfTrailingZeros_77 ?_
              refine js_topR (b := 0) (by decide) ?_
              refine js_iadd dJ24_numberOfTrailingZeros_78 ?_
              exact js_iret rfl rfl dJ24_numberOfTrailingZeros_79 ⟨rfl, rfl⟩
          · exfalso; revert c15; decide
        · exfalso; revert c14; decide
      · exfalso; revert c13; decide
    · exfalso; revert c12; decide
  · rw [ez]
    refine js_istore_n (L' := [(0, .int (jI 15))]) dJ24_numberOfTrailingZeros_7 (by decide) rfl ?_
    refine js_iload_n 0 dJ24_numberOfTrailingZeros_8 rfl ?_
    refine js_if_gt (tgt := 17) dJ24_numberOfTrailingZeros_9 (by decide) (by omega) (fun c17 => ?_) (fun c17 => ?_)
    · refine js_iconst dJ24_numberOfTrailingZeros_17 ?_
      refine js_istore_n (L' := [(1, .int (jI 1)), (0, .int (jI 15))]) dJ24_numberOfTrailingZeros_18 (by decide) rfl ?_
      refine js_iload_n 1 dJ24_numberOfTrailingZeros_19 rfl ?_
      refine js_ldcwI q1806 dJ24_numberOfTrailingZeros_20 ?_
      refine js_topR (b := 65536) rfl ?_
      refine js_icmp_le (tgt := 34) dJ24_numberOfTrailingZeros_23 (by decide) (by omega) (fun c18 => ?_) (fun c18 => ?_)
      · refine js_iload_n 1 dJ24_numberOfTrailingZeros_34 rfl ?_
        refine js_sipush dJ24_numberOfTrailingZeros_35 rfl ?_
        refine js_icmp_le (tgt := 49) dJ24_numberOfTrailingZeros_38 (by decide) (by omega) (fun c19 => ?_) (fun c19 => ?_)
        · refine js_iload_n 1 dJ24_numberOfTrailingZeros_49 rfl ?_
          refine js_bipush dJ24_numberOfTrailingZeros_50 rfl ?_
          refine js_icmp_le (tgt := 62) dJ24_numberOfTrailingZeros_52 (by decide) (by omega) (fun c20 => ?_) (fun c20 => ?_)
          · refine js_iload_n 1 dJ24_numberOfTrailingZeros_62 rfl ?_
            refine js_iconst dJ24_numberOfTrailingZeros_63 ?_
            refine js_icmp_le (tgt := 74) dJ24_numberOfTrailingZeros_64 (by decide) (by omega) (fun c21 => ?_) (fun c21 => ?_)
            · exfalso; revert c21; decide
            · refine js_iinc (L' := [(1, .int (jI (1 + 2))), (0, .int (jI 15))]) 0 dJ24_numberOfTrailingZeros_67 rfl (by decide) rfl ?_
              refine js_iload_n 1 dJ24_numberOfTrailingZeros_70 rfl ?_
              refine js_iconst dJ24_numberOfTrailingZeros_71 ?_
              refine js_iushr dJ24_numberOfTrailingZeros_72 ?_
              refine js_topR (b := 3) (by decide) ?_
              refine js_istore_n (L' := [(0, .int (jI 3)), (1, .int (jI (1 + 2)))]) dJ24_numberOfTrailingZeros_73 (by decide) rfl ?_
              refine js_iload_n 1 dJ24_numberOfTrailingZeros_74 rfl ?_
              refine js_iload_n 0 dJ24_numberOfTrailingZeros_75 rfl ?_
              refine js_iconst dJ24_numberOfTrailingZeros_76 ?_
              refine js_iushr dJ24_numberOfTrailingZeros_77 ?_
              refine js_topR (b := 1) (by decide) ?_
              refine js_iadd dJ24_numberOfTrailingZeros_78 ?_
              exact js_iret rfl rfl dJ24_numberOfTrailingZeros_79 ⟨rfl, rfl⟩
          · exfalso; revert c20; decide
        · exfalso; revert c19; decide
      · exfalso; revert c18; decide
    · exfalso; revert c17; decide
  · rw [ez]
    refine js_istore_n (L' := [(0, .int (jI 31))]) dJ24_numberOfTrailingZeros_7 (by decide) rfl ?_
    refine js_iload_n 0 dJ24_numberOfTrailingZeros_8 rfl ?_
    refine js_if_gt (tgt := 17) dJ24_numberOfTrailingZeros_9 (by decide) (by omega) (fun c22 => ?_) (fun c22 => ?_)
    · refine js_iconst dJ24_numberOfTrailingZeros_17 ?_
      refine js_istore_n (L' := [(1, .int (jI 1)), (0, .int (jI 31))]) dJ24_numberOfTrailingZeros_18 (by decide) rfl ?_
      refine js_iload_n 1 dJ24_numberOfTrailingZeros_19 rfl ?_
      refine js_ldcwI q1806 dJ24_numberOfTrailingZeros_20 ?_
      refine js_topR (b := 65536) rfl ?_
      refine js_icmp_le (tgt := 34) dJ24_numberOfTrailingZeros_23 (by decide) (by omega) (fun c23 => ?_) (fun c23 => ?_)
      · refine js_iload_n 1 dJ24_numberOfTrailingZeros_34 rfl ?_
        refine js_sipush dJ24_numberOfTrailingZeros_35 rfl ?_
        refine js_icmp_le (tgt := 49) dJ24_numberOfTrailingZeros_38 (by decide) (by omega) (fun c24 => ?_) (fun c24 => ?_)
        · refine js_iload_n 1 dJ24_numberOfTrailingZeros_49 rfl ?_
          refine js_bipush dJ24_numberOfTrailingZeros_50 rfl ?_
          refine js_icmp_le (tgt := 62) dJ24_numberOfTrailingZeros_52 (by decide) (by omega) (fun c25 => ?_) (fun c25 => ?_)
          · exfalso; revert c25; decide
          · refine js_iinc (L' := [(1, .int (jI (1 + 4))), (0, .int (jI 31))]) 0 dJ24_numberOfTrailingZeros_55 rfl (by decide) rfl ?_
            refine js_iload_n 1 dJ24_numberOfTrailingZeros_58 rfl ?_
            refine js_iconst dJ24_numberOfTrailingZeros_59 ?_
            refine js_iushr dJ24_numberOfTrailingZeros_60 ?_
            refine js_topR (b := 1) (by decide) ?_
            refine js_istore_n (L' := [(0, .int (jI 1)), (1, .int (jI (1 + 4)))]) dJ24_numberOfTrailingZeros_61 (by decide) rfl ?_
            refine js_iload_n 0 dJ24_numberOfTrailingZeros_62 rfl ?_
            refine js_iconst dJ24_numberOfTrailingZeros_63 ?_
            refine js_icmp_le (tgt := 74) dJ24_numberOfTrailingZeros_64 (by decide) (by omega) (fun c26 => ?_) (fun c26 => ?_)
            · refine js_iload_n 1 dJ24_numberOfTrailingZeros_74 rfl ?_
              refine js_iload_n 0 dJ24_numberOfTrailingZeros_75 rfl ?_
              refine js_iconst dJ24_numberOfTrailingZeros_76 ?_
              refine js_iushr dJ24_numberOfTrailingZeros_77 ?_
              refine js_topR (b := 0) (by decide) ?_
              refine js_iadd dJ24_numberOfTrailingZeros_78 ?_
              exact js_iret rfl rfl dJ24_numberOfTrailingZeros_79 ⟨rfl, rfl⟩
            · exfalso; revert c26; decide
        · exfalso; revert c24; decide
      · exfalso; revert c23; decide
    · exfalso; revert c22; decide
theorem com_says {ρ : js_R} {h : js_H} {A : Nat → Nat} {f bef asd svd pas rf it wt tx od : Int → Int} {isS pm th len at_ wr fa om : Int} {g : Int → Int} {l : List Int} {c : Int} (hA : zA A) (hp : zMc A f bef asd svd pas rf it wt tx od (zwl g 0 l) isS pm th len at_ wr fa om ((l.length : Int)) h) (hc : 0 ≤ c ∧ c < 65536) (hl : (l.length : Int) < 40) : js_Con ρ mX3_says 0 0 0 [.ref (A 0), .int (jI c)] h (js_ret none (zH A f bef asd svd pas rf it wt tx od (zwl g 0 (l ++ [c])) isS pm th len at_ wr fa om (((l ++ [c]).length : Int)) h)) := by
  refine js_body [(0, .ref (A 0)), (1, .int (jI c))] rfl (by decide) (Nat.le_of_ble_eq_true rfl) rfl ?_
  obtain ⟨p0, p1, p2, p3, p4, p5, p6, p7, p8, p9, p10, p11⟩ := hp
  refine js_aload_n 0 dX3_says_0 rfl ?_
  refine gX3_46 rfl dX3_says_1 p0 rfl ?_
  refine js_aload_n 0 dX3_says_4 rfl ?_
  refine gX3_302 rfl dX3_says_5 p0 rfl ?_
  refine js_iload_n 1 dX3_says_8 rfl ?_
  refine js_castore dX3_says_9 p11 (by omega) (by omega) ?_
  show js_ok ρ mX3_says _ 0 0 0 10 [(0, .ref (A 0)), (1, .int (jI c))] [] (js_up h (A 11) (js_aI true 3 40 (js_uz (zwl g 0 l) ((l.length : Int)) c)))
  refine js_heq (h' := (js_up h (A 11) (js_aI true 3 40 (zwl g 0 (l ++ [c]))))) (by rw [show (zwl g 0 (l ++ [c])) = (js_uz (zwl g 0 l) ((l.length : Int)) c) from (zwl_1 g l c).symm]) ?_
  refine js_aload_n 0 dX3_says_10 rfl ?_
  refine js_dup dX3_says_11 rfl ?_
  refine gX3_302 rfl dX3_says_12 ((js_up_n (js_nek p0 p11 js_kOA)).trans p0) rfl ?_
  refine js_iconst dX3_says_15 ?_
  refine js_iadd dX3_says_16 ?_
  refine js_top (b := ((l ++ [c]).length : Int)) (by exact zlen1 l c) ?_
  refine pX3_302 rfl dX3_says_17 ((js_up_n (js_nek p0 p11 js_kOA)).trans p0) (Nat.le_of_ble_eq_true rfl) rfl rfl ?_
  show js_ok ρ mX3_says _ 0 0 0 20 [(0, .ref (A 0)), (1, .int (jI c))] [] (js_up (js_up h (A 11) (js_aI true 3 40 (zwl g 0 (l ++ [c])))) (A 0) (js_ob true 2 [.ref (A 1), .ref (A 2), .ref (A 3), .ref (A 4), .int (jI isS), .ref (A 5), .int (jI pm), .int (jI th), .ref (A 6), .ref (A 7), .ref (A 8), .ref (A 9), .int (jI len), .int (jI at_), .int (jI wr), .int (jI fa), .ref (A 10), .int (jI om), .ref (A 11), .int (jI (((l ++ [c]).length : Int)))]))
  exact js_vret rfl dX3_says_20 ⟨rfl, (zH_eq hA js_up_s ((js_up_n (Ne.symm (js_nek p0 p1 js_kOA))).trans ((js_up_n (hA 1 11 (by decide) (by decide) (by decide))).trans p1)) ((js_up_n (Ne.symm (js_nek p0 p2 js_kOA))).trans ((js_up_n (hA 2 11 (by decide) (by decide) (by decide))).trans p2)) ((js_up_n (Ne.symm (js_nek p0 p3 js_kOA))).trans ((js_up_n (hA 3 11 (by decide) (by decide) (by decide))).trans p3)) ((js_up_n (Ne.symm (js_nek p0 p4 js_kOA))).trans ((js_up_n (hA 4 11 (by decide) (by decide) (by decide))).trans p4)) ((js_up_n (Ne.symm (js_nek p0 p5 js_kOA))).trans ((js_up_n (hA 5 11 (by decide) (by decide) (by decide))).trans p5)) ((js_up_n (Ne.symm (js_nek p0 p6 js_kOA))).trans ((js_up_n (hA 6 11 (by decide) (by decide) (by decide))).trans p6)) ((js_up_n (Ne.symm (js_nek p0 p7 js_kOA))).trans ((js_up_n (hA 7 11 (by decide) (by decide) (by decide))).trans p7)) ((js_up_n (Ne.symm (js_nek p0 p8 js_kOA))).trans ((js_up_n (hA 8 11 (by decide) (by decide) (by decide))).trans p8)) ((js_up_n (Ne.symm (js_nek p0 p9 js_kOA))).trans ((js_up_n (hA 9 11 (by decide) (by decide) (by decide))).trans p9)) ((js_up_n (Ne.symm (js_nek p0 p10 js_kOA))).trans ((js_up_n (hA 10 11 (by decide) (by decide) (by decide))).trans p10)) ((js_up_n (Ne.symm (js_nek p0 p11 js_kOA))).trans js_up_s) (fun q hq => ((js_up_n (hq 0 (by decide))).trans ((js_up_n (hq 11 (by decide))).trans rfl))))⟩
theorem com_sn1 {ρ : js_R} {h : js_H} {A : Nat → Nat} {f bef asd svd pas rf it wt tx od : Int → Int} {isS pm th len at_ wr fa om : Int} {g : Int → Int} {l : List Int} {v : Int} (hA : zA A) (hp : zMc A f bef asd svd pas rf it wt tx od (zwl g 0 l) isS pm th len at_ wr fa om ((l.length : Int)) h) (hv : 0 ≤ v ∧ v ≤ 9) (hl : (l.length : Int) < 40) : js_Con ρ mX3_saysNumber 1 0 0 [.ref (A 0), .int (jI v)] h (js_ret none (zH A f bef asd svd pas rf it wt tx od (zwl g 0 (l ++ zdig v)) isS pm th len at_ wr fa om (((l ++ zdig v).length : Int)) h)) := by
  refine js_body [(0, .ref (A 0)), (1, .int (jI v))] rfl (by decide) (Nat.le_of_ble_eq_true rfl) rfl ?_
  obtain ⟨p0, p1, p2, p3, p4, p5, p6, p7, p8, p9, p10, p11⟩ := hp
  have ez : zdig v = [48 + v % 10] := if_neg (by omega)
  rw [ez]
  refine js_iload_n 1 dX3_saysNumber_0 rfl ?_
  refine js_bipush dX3_saysNumber_1 rfl ?_
  refine js_icmp_le (tgt := 14) dX3_saysNumber_3 (by decide) (by omega) (fun c1 => ?_) (fun c1 => ?_)
  · refine js_aload_n 0 dX3_saysNumber_14 rfl ?_
    refine js_bipush dX3_saysNumber_15 rfl ?_
    refine js_iload_n 1 dX3_saysNumber_17 rfl ?_
    refine js_bipush dX3_saysNumber_18 rfl ?_
    refine js_irem dX3_saysNumber_20 (by omega) ?_
    refine js_iadd dX3_saysNumber_21 ?_
    refine js_i2c dX3_saysNumber_22 (js_i2c0 (by omega)) ?_
    refine eX3_308 rfl dX3_saysNumber_23 p0 (com_says hA ⟨p0, p1, p2, p3, p4, p5, p6, p7, p8, p9, p10, p11⟩ (by omega) (by omega)) (Nat.le_of_ble_eq_true rfl) (Nat.le_of_ble_eq_true rfl) ?_
    rw [zH_fr (fun q hq => rfl)]
    obtain ⟨p2_0, p2_1, p2_2, p2_3, p2_4, p2_5, p2_6, p2_7, p2_8, p2_9, p2_10, p2_11⟩ := zH_Mc (h := h) (f := f) (bef := bef) (asd := asd) (svd := svd) (pas := pas) (rf := rf) (it := it) (wt := wt) (tx := tx) (od := od) (ln := zwl g 0 (l ++ [(48 + (v % 10))])) (isS := isS) (pm := pm) (th := th) (len := len) (at_ := at_) (wr := wr) (fa := fa) (om := om) (lm := ((l ++ [(48 + (v % 10))]).length : Int)) hA
    show js_ok ρ mX3_saysNumber _ 1 0 0 26 [(0, .ref (A 0)), (1, .int (jI v))] [] (zH A f bef asd svd pas rf it wt tx od (zwl g 0 (l ++ [(48 + (v % 10))])) isS pm th len at_ wr fa om (((l ++ [(48 + (v % 10))]).length : Int)) h)
    exact js_vret rfl dX3_saysNumber_26 ⟨rfl, (zH_eq hA p2_0 p2_1 p2_2 p2_3 p2_4 p2_5 p2_6 p2_7 p2_8 p2_9 p2_10 p2_11 (fun q hq => (zH_n hq)))⟩
  · exfalso; omega
theorem com_sn {ρ : js_R} {h : js_H} {A : Nat → Nat} {f bef asd svd pas rf it wt tx od : Int → Int} {isS pm th len at_ wr fa om : Int} {g : Int → Int} {l : List Int} {v : Int} (hA : zA A) (hp : zMc A f bef asd svd pas rf it wt tx od (zwl g 0 l) isS pm th len at_ wr fa om ((l.length : Int)) h) (hv : 0 ≤ v ∧ v ≤ 99) (hl : (l.length : Int) + 2 ≤ 40) : js_Con ρ mX3_saysNumber 2 0 0 [.ref (A 0), .int (jI v)] h (js_ret none (zH A f bef asd svd pas rf it wt tx od (zwl g 0 (l ++ zdig v)) isS pm th len at_ wr fa om (((l ++ zdig v).length : Int)) h)) := by
  refine js_body [(0, .ref (A 0)), (1, .int (jI v))] rfl (by decide) (Nat.le_of_ble_eq_true rfl) rfl ?_
  obtain ⟨p0, p1, p2, p3, p4, p5, p6, p7, p8, p9, p10, p11⟩ := hp
  refine js_iload_n 1 dX3_saysNumber_0 rfl ?_
  refine js_bipush dX3_saysNumber_1 rfl ?_
  refine js_icmp_le (tgt := 14) dX3_saysNumber_3 (by decide) (by omega) (fun c1 => ?_) (fun c1 => ?_)
  · have e2 : zdig v = [48 + v % 10] := if_neg (by omega)
    rw [e2]
    refine js_aload_n 0 dX3_saysNumber_14 rfl ?_
    refine js_bipush dX3_saysNumber_15 rfl ?_
    refine js_iload_n 1 dX3_saysNumber_17 rfl ?_
    refine js_bipush dX3_saysNumber_18 rfl ?_
    refine js_irem dX3_saysNumber_20 (by omega) ?_
    refine js_iadd dX3_saysNumber_21 ?_
    refine js_i2c dX3_saysNumber_22 (js_i2c0 (by omega)) ?_
    refine eX3_308 rfl dX3_saysNumber_23 p0 (com_says hA ⟨p0, p1, p2, p3, p4, p5, p6, p7, p8, p9, p10, p11⟩ (by omega) (by omega)) (Nat.le_of_ble_eq_true rfl) (Nat.le_of_ble_eq_true rfl) ?_
    rw [zH_fr (fun q hq => rfl)]
    obtain ⟨p2_0, p2_1, p2_2, p2_3, p2_4, p2_5, p2_6, p2_7, p2_8, p2_9, p2_10, p2_11⟩ := zH_Mc (h := h) (f := f) (bef := bef) (asd := asd) (svd := svd) (pas := pas) (rf := rf) (it := it) (wt := wt) (tx := tx) (od := od) (ln := zwl g 0 (l ++ [(48 + (v % 10))])) (isS := isS) (pm := pm) (th := th) (len := len) (at_ := at_) (wr := wr) (fa := fa) (om := om) (lm := ((l ++ [(48 + (v % 10))]).length : Int)) hA
    show js_ok ρ mX3_saysNumber _ 2 0 0 26 [(0, .ref (A 0)), (1, .int (jI v))] [] (zH A f bef asd svd pas rf it wt tx od (zwl g 0 (l ++ [(48 + (v % 10))])) isS pm th len at_ wr fa om (((l ++ [(48 + (v % 10))]).length : Int)) h)
    exact js_vret rfl dX3_saysNumber_26 ⟨rfl, (zH_eq hA p2_0 p2_1 p2_2 p2_3 p2_4 p2_5 p2_6 p2_7 p2_8 p2_9 p2_10 p2_11 (fun q hq => (zH_n hq)))⟩
  · refine js_aload_n 0 dX3_saysNumber_6 rfl ?_
    refine js_iload_n 1 dX3_saysNumber_7 rfl ?_
    refine js_bipush dX3_saysNumber_8 rfl ?_
    refine js_idiv dX3_saysNumber_10 (by omega) ?_
    refine eX3_305 rfl dX3_saysNumber_11 p0 (com_sn1 hA ⟨p0, p1, p2, p3, p4, p5, p6, p7, p8, p9, p10, p11⟩ (by omega) (by omega)) (Nat.le_of_ble_eq_true rfl) (Nat.le_of_ble_eq_true rfl) ?_
    rw [zH_fr (fun q hq => rfl)]
    obtain ⟨p3_0, p3_1, p3_2, p3_3, p3_4, p3_5, p3_6, p3_7, p3_8, p3_9, p3_10, p3_11⟩ := zH_Mc (h := h) (f := f) (bef := bef) (asd := asd) (svd := svd) (pas := pas) (rf := rf) (it := it) (wt := wt) (tx := tx) (od := od) (ln := zwl g 0 (l ++ zdig (v / 10))) (isS := isS) (pm := pm) (th := th) (len := len) (at_ := at_) (wr := wr) (fa := fa) (om := om) (lm := ((l ++ zdig (v / 10)).length : Int)) hA
    show js_ok ρ mX3_saysNumber _ 2 0 0 14 [(0, .ref (A 0)), (1, .int (jI v))] [] (zH A f bef asd svd pas rf it wt tx od (zwl g 0 (l ++ zdig (v / 10))) isS pm th len at_ wr fa om (((l ++ zdig (v / 10)).length : Int)) h)
    have e1 : zdig (v / 10) = [48 + v / 10] := by unfold zdig; rw [if_neg (by omega), show v / 10 % 10 = v / 10 by omega]
    have e2 : zdig v = [48 + v / 10] ++ [48 + v % 10] := if_pos (by omega)
    rw [e2, ← List.append_assoc]
    refine js_heq (h' := (zH A f bef asd svd pas rf it wt tx od (zwl g 0 (l ++ [48 + v / 10])) isS pm th len at_ wr fa om (((l ++ [48 + v / 10]).length : Int)) h)) (by rw [e1]) ?_
    obtain ⟨p4_0, p4_1, p4_2, p4_3, p4_4, p4_5, p4_6, p4_7, p4_8, p4_9, p4_10, p4_11⟩ := zH_Mc (h := h) (f := f) (bef := bef) (asd := asd) (svd := svd) (pas := pas) (rf := rf) (it := it) (wt := wt) (tx := tx) (od := od) (ln := zwl g 0 (l ++ [48 + v / 10])) (isS := isS) (pm := pm) (th := th) (len := len) (at_ := at_) (wr := wr) (fa := fa) (om := om) (lm := ((l ++ [48 + v / 10]).length : Int)) hA
    show js_ok ρ mX3_saysNumber _ 2 0 0 14 [(0, .ref (A 0)), (1, .int (jI v))] [] (zH A f bef asd svd pas rf it wt tx od (zwl g 0 (l ++ [48 + v / 10])) isS pm th len at_ wr fa om (((l ++ [48 + v / 10]).length : Int)) h)
    have hll : ((l ++ [48 + v / 10]).length : Int) = l.length + 1 := (zlen1 l _).symm
    refine js_aload_n 0 dX3_saysNumber_14 rfl ?_
    refine js_bipush dX3_saysNumber_15 rfl ?_
    refine js_iload_n 1 dX3_saysNumber_17 rfl ?_
    refine js_bipush dX3_saysNumber_18 rfl ?_
    refine js_irem dX3_saysNumber_20 (by omega) ?_
    refine js_iadd dX3_saysNumber_21 ?_
    refine js_i2c dX3_saysNumber_22 (js_i2c0 (by omega)) ?_
    refine eX3_308 rfl dX3_saysNumber_23 p4_0 (com_says hA ⟨p4_0, p4_1, p4_2, p4_3, p4_4, p4_5, p4_6, p4_7, p4_8, p4_9, p4_10, p4_11⟩ (by omega) (by omega)) (Nat.le_of_ble_eq_true rfl) (Nat.le_of_ble_eq_true rfl) ?_
    rw [zH_fr (fun q hq => (zH_n hq))]
    obtain ⟨p5_0, p5_1, p5_2, p5_3, p5_4, p5_5, p5_6, p5_7, p5_8, p5_9, p5_10, p5_11⟩ := zH_Mc (h := h) (f := f) (bef := bef) (asd := asd) (svd := svd) (pas := pas) (rf := rf) (it := it) (wt := wt) (tx := tx) (od := od) (ln := zwl g 0 ((l ++ [48 + v / 10]) ++ [(48 + (v % 10))])) (isS := isS) (pm := pm) (th := th) (len := len) (at_ := at_) (wr := wr) (fa := fa) (om := om) (lm := (((l ++ [48 + v / 10]) ++ [(48 + (v % 10))]).length : Int)) hA
    show js_ok ρ mX3_saysNumber _ 2 0 0 26 [(0, .ref (A 0)), (1, .int (jI v))] [] (zH A f bef asd svd pas rf it wt tx od (zwl g 0 ((l ++ [48 + v / 10]) ++ [(48 + (v % 10))])) isS pm th len at_ wr fa om ((((l ++ [48 + v / 10]) ++ [(48 + (v % 10))]).length : Int)) h)
    exact js_vret rfl dX3_saysNumber_26 ⟨rfl, (zH_eq hA p5_0 p5_1 p5_2 p5_3 p5_4 p5_5 p5_6 p5_7 p5_8 p5_9 p5_10 p5_11 (fun q hq => (zH_n hq)))⟩
/-- what is told of a balloon -/
def ztell (f : zF) (b : Int) : List Int := (((((((((([] ++ zdig b) ++ [64]) ++ zdig (f (13 + 9 * b + 0))) ++ zdig (f (13 + 9 * b + 1))) ++ [94]) ++ zdig (f (13 + 9 * b + 2))) ++ [42]) ++ zdig (f (13 + 9 * b + 3))) ++ [43]) ++ zdig (f (13 + 9 * b + 4)))
theorem zl_n {l : List Int} {v : Int} {n : Nat} (h : l.length ≤ n) : (l ++ zdig v).length ≤ n + 2 := by
  have := zdig_l v
  rw [List.length_append]
  omega
theorem zl_1 {l : List Int} {c : Int} {n : Nat} (h : l.length ≤ n) : (l ++ [c]).length ≤ n + 1 := by
  rw [List.length_append]
  exact Nat.succ_le_succ h
theorem pm_tell {ρ : js_R} {h : js_H} {A : Nat → Nat} {f bef asd svd pas rf it wt tx od ln : Int → Int} {isS pm th len at_ wr fa om lm : Int} {T b : Int} (hA : zA A) (hp : zMc A f bef asd svd pas rf it wt tx od ln isS pm th len at_ wr fa om lm h) (hI : zI T f) (rb : -2147483648 ≤ b ∧ b < 2147483648) : js_Con ρ mX3_tell 3 0 0 [.ref (A 0), .int (jI b)] h (js_ret (some (.int (jI (zv (zt1 (0 ≤ b ∧ b ≤ f 0 - 1)) ((ztell f b).length : Int))))) (zH A f bef asd svd pas rf it wt tx od (zif (zt1 (0 ≤ b ∧ b ≤ f 0 - 1)) ln (zwl ln 0 (ztell f b))) isS pm (zt1 (0 ≤ b ∧ b ≤ f 0 - 1)) len at_ wr fa om (zif (zt1 (0 ≤ b ∧ b ≤ f 0 - 1)) lm ((ztell f b).length : Int)) h)) := by
  refine js_body [(0, .ref (A 0)), (1, .int (jI b))] rfl (by decide) (Nat.le_of_ble_eq_true rfl) rfl ?_
  obtain ⟨p0, p1, p2, p3, p4, p5, p6, p7, p8, p9, p10, p11⟩ := hp
  have h01 := zI_01 hI
  have z0 := zt1_c (0 ≤ b ∧ b ≤ f 0 - 1)
  refine js_aload_n 0 dX3_tell_0 rfl ?_
  refine js_join 14 [(0, .ref (A 0)), (1, .int (jI b))] [.ref (A 0)] h (zt1 (0 ≤ b ∧ b ≤ f 0 - 1)) (fun z hz => ?_) (fun J1 => ?_)
  · subst hz
    refine pX3_49 rfl dX3_tell_14 p0 (Nat.le_of_ble_eq_true rfl) rfl rfl ?_
    show js_ok ρ mX3_tell _ 3 0 0 17 [(0, .ref (A 0)), (1, .int (jI b))] [] (js_up h (A 0) (js_ob true 2 [.ref (A 1), .ref (A 2), .ref (A 3), .ref (A 4), .int (jI isS), .ref (A 5), .int (jI pm), .int (jI (zt1 (0 ≤ b ∧ b ≤ f 0 - 1))), .ref (A 6), .ref (A 7), .ref (A 8), .ref (A 9), .int (jI len), .int (jI at_), .int (jI wr), .int (jI fa), .ref (A 10), .int (jI om), .ref (A 11), .int (jI lm)]))
    refine js_aload_n 0 dX3_tell_17 rfl ?_
    refine gX3_49 rfl dX3_tell_18 js_up_s rfl ?_
    refine js_if_le (tgt := 26) dX3_tell_21 (by decide) (by omega) (fun c2 => ?_) (fun c2 => ?_)
    · have hb : 0 ≤ b ∧ b < f 0 := by omega
      have hB := zI_B hI hb.1 hb.2
      unfold zIB at hB
      refine js_aload_n 0 dX3_tell_26 rfl ?_
      refine js_iconst dX3_tell_27 ?_
      refine pX3_302 rfl dX3_tell_28 js_up_s (Nat.le_of_ble_eq_true rfl) rfl rfl ?_
      rw [js_up_up]
      show js_ok ρ mX3_tell _ 3 0 0 31 [(0, .ref (A 0)), (1, .int (jI b))] [] (js_up h (A 0) (js_ob true 2 [.ref (A 1), .ref (A 2), .ref (A 3), .ref (A 4), .int (jI isS), .ref (A 5), .int (jI pm), .int (jI (zt1 (0 ≤ b ∧ b ≤ f 0 - 1))), .ref (A 6), .ref (A 7), .ref (A 8), .ref (A 9), .int (jI len), .int (jI at_), .int (jI wr), .int (jI fa), .ref (A 10), .int (jI om), .ref (A 11), .int (jI 0)]))
      refine js_heq (h' := (zH A f bef asd svd pas rf it wt tx od (zwl ln 0 []) isS pm (zt1 (0 ≤ b ∧ b ≤ f 0 - 1)) len at_ wr fa om ((([] : List Int).length : Int)) h)) (zH_eq hA js_up_s ((js_up_n (Ne.symm (js_nek p0 p1 js_kOA))).trans p1) ((js_up_n (Ne.symm (js_nek p0 p2 js_kOA))).trans p2) ((js_up_n (Ne.symm (js_nek p0 p3 js_kOA))).trans p3) ((js_up_n (Ne.symm (js_nek p0 p4 js_kOA))).trans p4) ((js_up_n (Ne.symm (js_nek p0 p5 js_kOA))).trans p5) ((js_up_n (Ne.symm (js_nek p0 p6 js_kOA))).trans p6) ((js_up_n (Ne.symm (js_nek p0 p7 js_kOA))).trans p7) ((js_up_n (Ne.symm (js_nek p0 p8 js_kOA))).trans p8) ((js_up_n (Ne.symm (js_nek p0 p9 js_kOA))).trans p9) ((js_up_n (Ne.symm (js_nek p0 p10 js_kOA))).trans p10) ((js_up_n (Ne.symm (js_nek p0 p11 js_kOA))).trans p11) (fun q hq => ((js_up_n (hq 0 (by decide))).trans rfl))).symm ?_
      obtain ⟨p3_0, p3_1, p3_2, p3_3, p3_4, p3_5, p3_6, p3_7, p3_8, p3_9, p3_10, p3_11⟩ := zH_Mc (h := h) (f := f) (bef := bef) (asd := asd) (svd := svd) (pas := pas) (rf := rf) (it := it) (wt := wt) (tx := tx) (od := od) (ln := zwl ln 0 []) (isS := isS) (pm := pm) (th := zt1 (0 ≤ b ∧ b ≤ f 0 - 1)) (len := len) (at_ := at_) (wr := wr) (fa := fa) (om := om) (lm := (([] : List Int).length : Int)) hA
      show js_ok ρ mX3_tell _ 3 0 0 31 [(0, .ref (A 0)), (1, .int (jI b))] [] (zH A f bef asd svd pas rf it wt tx od (zwl ln 0 []) isS pm (zt1 (0 ≤ b ∧ b ≤ f 0 - 1)) len at_ wr fa om ((([] : List Int).length : Int)) h)
      have q0 : ([] : List Int).length ≤ 0 := Nat.le_refl 0
      refine js_aload_n 0 dX3_tell_31 rfl ?_
      refine js_iload_n 1 dX3_tell_32 rfl ?_
      refine eX3_305 rfl dX3_tell_33 p3_0 (com_sn hA ⟨p3_0, p3_1, p3_2, p3_3, p3_4, p3_5, p3_6, p3_7, p3_8, p3_9, p3_10, p3_11⟩ (by omega) (by omega)) (Nat.le_of_ble_eq_true rfl) (Nat.le_of_ble_eq_true rfl) ?_
      rw [zH_fr (fun q hq => (zH_n hq))]
      obtain ⟨p5_0, p5_1, p5_2, p5_3, p5_4, p5_5, p5_6, p5_7, p5_8, p5_9, p5_10, p5_11⟩ := zH_Mc (h := h) (f := f) (bef := bef) (asd := asd) (svd := svd) (pas := pas) (rf := rf) (it := it) (wt := wt) (tx := tx) (od := od) (ln := zwl ln 0 ([] ++ zdig b)) (isS := isS) (pm := pm) (th := zt1 (0 ≤ b ∧ b ≤ f 0 - 1)) (len := len) (at_ := at_) (wr := wr) (fa := fa) (om := om) (lm := (([] ++ zdig b).length : Int)) hA
      show js_ok ρ mX3_tell _ 3 0 0 36 [(0, .ref (A 0)), (1, .int (jI b))] [] (zH A f bef asd svd pas rf it wt tx od (zwl ln 0 ([] ++ zdig b)) isS pm (zt1 (0 ≤ b ∧ b ≤ f 0 - 1)) len at_ wr fa om ((([] ++ zdig b).length : Int)) h)
      have ql4 := zl_n (v := b) q0
      refine js_aload_n 0 dX3_tell_36 rfl ?_
      refine js_bipush dX3_tell_37 rfl ?_
      refine eX3_308 rfl dX3_tell_39 p5_0 (com_says hA ⟨p5_0, p5_1, p5_2, p5_3, p5_4, p5_5, p5_6, p5_7, p5_8, p5_9, p5_10, p5_11⟩ (by omega) (by omega)) (Nat.le_of_ble_eq_true rfl) (Nat.le_of_ble_eq_true rfl) ?_
      rw [zH_fr (fun q hq => (zH_n hq))]
      obtain ⟨p7_0, p7_1, p7_2, p7_3, p7_4, p7_5, p7_6, p7_7, p7_8, p7_9, p7_10, p7_11⟩ := zH_Mc (h := h) (f := f) (bef := bef) (asd := asd) (svd := svd) (pas := pas) (rf := rf) (it := it) (wt := wt) (tx := tx) (od := od) (ln := zwl ln 0 (([] ++ zdig b) ++ [64])) (isS := isS) (pm := pm) (th := zt1 (0 ≤ b ∧ b ≤ f 0 - 1)) (len := len) (at_ := at_) (wr := wr) (fa := fa) (om := om) (lm := ((([] ++ zdig b) ++ [64]).length : Int)) hA
      show js_ok ρ mX3_tell _ 3 0 0 42 [(0, .ref (A 0)), (1, .int (jI b))] [] (zH A f bef asd svd pas rf it wt tx od (zwl ln 0 (([] ++ zdig b) ++ [64])) isS pm (zt1 (0 ≤ b ∧ b ≤ f 0 - 1)) len at_ wr fa om (((([] ++ zdig b) ++ [64]).length : Int)) h)
      have ql6 := zl_1 (c := 64) ql4
      refine js_aload_n 0 dX3_tell_42 rfl ?_
      refine js_aload_n 0 dX3_tell_43 rfl ?_
      refine js_iload_n 1 dX3_tell_44 rfl ?_
      refine js_iconst dX3_tell_45 ?_
      refine eX3_76 rfl dX3_tell_46 p7_0 (com_of p7_0 p7_1 (by omega) (by omega)) (Nat.le_of_ble_eq_true rfl) (Nat.le_of_ble_eq_true rfl) ?_
      refine eX3_305 rfl dX3_tell_49 p7_0 (com_sn hA ⟨p7_0, p7_1, p7_2, p7_3, p7_4, p7_5, p7_6, p7_7, p7_8, p7_9, p7_10, p7_11⟩ (by omega) (by omega)) (Nat.le_of_ble_eq_true rfl) (Nat.le_of_ble_eq_true rfl) ?_
      rw [zH_fr (fun q hq => (zH_n hq))]
      obtain ⟨p9_0, p9_1, p9_2, p9_3, p9_4, p9_5, p9_6, p9_7, p9_8, p9_9, p9_10, p9_11⟩ := zH_Mc (h := h) (f := f) (bef := bef) (asd := asd) (svd := svd) (pas := pas) (rf := rf) (it := it) (wt := wt) (tx := tx) (od := od) (ln := zwl ln 0 ((([] ++ zdig b) ++ [64]) ++ zdig (f (13 + 9 * b + 0)))) (isS := isS) (pm := pm) (th := zt1 (0 ≤ b ∧ b ≤ f 0 - 1)) (len := len) (at_ := at_) (wr := wr) (fa := fa) (om := om) (lm := (((([] ++ zdig b) ++ [64]) ++ zdig (f (13 + 9 * b + 0))).length : Int)) hA
      show js_ok ρ mX3_tell _ 3 0 0 52 [(0, .ref (A 0)), (1, .int (jI b))] [] (zH A f bef asd svd pas rf it wt tx od (zwl ln 0 ((([] ++ zdig b) ++ [64]) ++ zdig (f (13 + 9 * b + 0)))) isS pm (zt1 (0 ≤ b ∧ b ≤ f 0 - 1)) len at_ wr fa om ((((([] ++ zdig b) ++ [64]) ++ zdig (f (13 + 9 * b + 0))).length : Int)) h)
      have ql8 := zl_n (v := (f (13 + 9 * b + 0))) ql6
      refine js_aload_n 0 dX3_tell_52 rfl ?_
      refine js_aload_n 0 dX3_tell_53 rfl ?_
      refine js_iload_n 1 dX3_tell_54 rfl ?_
      refine js_iconst dX3_tell_55 ?_
      refine eX3_76 rfl dX3_tell_56 p9_0 (com_of p9_0 p9_1 (by omega) (by omega)) (Nat.le_of_ble_eq_true rfl) (Nat.le_of_ble_eq_true rfl) ?_
      refine eX3_305 rfl dX3_tell_59 p9_0 (com_sn hA ⟨p9_0, p9_1, p9_2, p9_3, p9_4, p9_5, p9_6, p9_7, p9_8, p9_9, p9_10, p9_11⟩ (by omega) (by omega)) (Nat.le_of_ble_eq_true rfl) (Nat.le_of_ble_eq_true rfl) ?_
      rw [zH_fr (fun q hq => (zH_n hq))]
      obtain ⟨p11_0, p11_1, p11_2, p11_3, p11_4, p11_5, p11_6, p11_7, p11_8, p11_9, p11_10, p11_11⟩ := zH_Mc (h := h) (f := f) (bef := bef) (asd := asd) (svd := svd) (pas := pas) (rf := rf) (it := it) (wt := wt) (tx := tx) (od := od) (ln := zwl ln 0 (((([] ++ zdig b) ++ [64]) ++ zdig (f (13 + 9 * b + 0))) ++ zdig (f (13 + 9 * b + 1)))) (isS := isS) (pm := pm) (th := zt1 (0 ≤ b ∧ b ≤ f 0 - 1)) (len := len) (at_ := at_) (wr := wr) (fa := fa) (om := om) (lm := ((((([] ++ zdig b) ++ [64]) ++ zdig (f (13 + 9 * b + 0))) ++ zdig (f (13 + 9 * b + 1))).length : Int)) hA
      show js_ok ρ mX3_tell _ 3 0 0 62 [(0, .ref (A 0)), (1, .int (jI b))] [] (zH A f bef asd svd pas rf it wt tx od (zwl ln 0 (((([] ++ zdig b) ++ [64]) ++ zdig (f (13 + 9 * b + 0))) ++ zdig (f (13 + 9 * b + 1)))) isS pm (zt1 (0 ≤ b ∧ b ≤ f 0 - 1)) len at_ wr fa om (((((([] ++ zdig b) ++ [64]) ++ zdig (f (13 + 9 * b + 0))) ++ zdig (f (13 + 9 * b + 1))).length : Int)) h)
      have ql10 := zl_n (v := (f (13 + 9 * b + 1))) ql8
      refine js_aload_n 0 dX3_tell_62 rfl ?_
      refine js_bipush dX3_tell_63 rfl ?_
      refine eX3_308 rfl dX3_tell_65 p11_0 (com_says hA ⟨p11_0, p11_1, p11_2, p11_3, p11_4, p11_5, p11_6, p11_7, p11_8, p11_9, p11_10, p11_11⟩ (by omega) (by omega)) (Nat.le_of_ble_eq_true rfl) (Nat.le_of_ble_eq_true rfl) ?_
      rw [zH_fr (fun q hq => (zH_n hq))]
      obtain ⟨p13_0, p13_1, p13_2, p13_3, p13_4, p13_5, p13_6, p13_7, p13_8, p13_9, p13_10, p13_11⟩ := zH_Mc (h := h) (f := f) (bef := bef) (asd := asd) (svd := svd) (pas := pas) (rf := rf) (it := it) (wt := wt) (tx := tx) (od := od) (ln := zwl ln 0 ((((([] ++ zdig b) ++ [64]) ++ zdig (f (13 + 9 * b + 0))) ++ zdig (f (13 + 9 * b + 1))) ++ [94])) (isS := isS) (pm := pm) (th := zt1 (0 ≤ b ∧ b ≤ f 0 - 1)) (len := len) (at_ := at_) (wr := wr) (fa := fa) (om := om) (lm := (((((([] ++ zdig b) ++ [64]) ++ zdig (f (13 + 9 * b + 0))) ++ zdig (f (13 + 9 * b + 1))) ++ [94]).length : Int)) hA
      show js_ok ρ mX3_tell _ 3 0 0 68 [(0, .ref (A 0)), (1, .int (jI b))] [] (zH A f bef asd svd pas rf it wt tx od (zwl ln 0 ((((([] ++ zdig b) ++ [64]) ++ zdig (f (13 + 9 * b + 0))) ++ zdig (f (13 + 9 * b + 1))) ++ [94])) isS pm (zt1 (0 ≤ b ∧ b ≤ f 0 - 1)) len at_ wr fa om ((((((([] ++ zdig b) ++ [64]) ++ zdig (f (13 + 9 * b + 0))) ++ zdig (f (13 + 9 * b + 1))) ++ [94]).length : Int)) h)
      have ql12 := zl_1 (c := 94) ql10
      refine js_aload_n 0 dX3_tell_68 rfl ?_
      refine js_aload_n 0 dX3_tell_69 rfl ?_
      refine js_iload_n 1 dX3_tell_70 rfl ?_
      refine js_iconst dX3_tell_71 ?_
      refine eX3_76 rfl dX3_tell_72 p13_0 (com_of p13_0 p13_1 (by omega) (by omega)) (Nat.le_of_ble_eq_true rfl) (Nat.le_of_ble_eq_true rfl) ?_
      refine eX3_305 rfl dX3_tell_75 p13_0 (com_sn hA ⟨p13_0, p13_1, p13_2, p13_3, p13_4, p13_5, p13_6, p13_7, p13_8, p13_9, p13_10, p13_11⟩ (by omega) (by omega)) (Nat.le_of_ble_eq_true rfl) (Nat.le_of_ble_eq_true rfl) ?_
      rw [zH_fr (fun q hq => (zH_n hq))]
      obtain ⟨p15_0, p15_1, p15_2, p15_3, p15_4, p15_5, p15_6, p15_7, p15_8, p15_9, p15_10, p15_11⟩ := zH_Mc (h := h) (f := f) (bef := bef) (asd := asd) (svd := svd) (pas := pas) (rf := rf) (it := it) (wt := wt) (tx := tx) (od := od) (ln := zwl ln 0 (((((([] ++ zdig b) ++ [64]) ++ zdig (f (13 + 9 * b + 0))) ++ zdig (f (13 + 9 * b + 1))) ++ [94]) ++ zdig (f (13 + 9 * b + 2)))) (isS := isS) (pm := pm) (th := zt1 (0 ≤ b ∧ b ≤ f 0 - 1)) (len := len) (at_ := at_) (wr := wr) (fa := fa) (om := om) (lm := ((((((([] ++ zdig b) ++ [64]) ++ zdig (f (13 + 9 * b + 0))) ++ zdig (f (13 + 9 * b + 1))) ++ [94]) ++ zdig (f (13 + 9 * b + 2))).length : Int)) hA
      show js_ok ρ mX3_tell _ 3 0 0 78 [(0, .ref (A 0)), (1, .int (jI b))] [] (zH A f bef asd svd pas rf it wt tx od (zwl ln 0 (((((([] ++ zdig b) ++ [64]) ++ zdig (f (13 + 9 * b + 0))) ++ zdig (f (13 + 9 * b + 1))) ++ [94]) ++ zdig (f (13 + 9 * b + 2)))) isS pm (zt1 (0 ≤ b ∧ b ≤ f 0 - 1)) len at_ wr fa om (((((((([] ++ zdig b) ++ [64]) ++ zdig (f (13 + 9 * b + 0))) ++ zdig (f (13 + 9 * b + 1))) ++ [94]) ++ zdig (f (13 + 9 * b + 2))).length : Int)) h)
      have ql14 := zl_n (v := (f (13 + 9 * b + 2))) ql12
      refine js_aload_n 0 dX3_tell_78 rfl ?_
      refine js_bipush dX3_tell_79 rfl ?_
      refine eX3_308 rfl dX3_tell_81 p15_0 (com_says hA ⟨p15_0, p15_1, p15_2, p15_3, p15_4, p15_5, p15_6, p15_7, p15_8, p15_9, p15_10, p15_11⟩ (by omega) (by omega)) (Nat.le_of_ble_eq_true rfl) (Nat.le_of_ble_eq_true rfl) ?_
      rw [zH_fr (fun q hq => (zH_n hq))]
      obtain ⟨p17_0, p17_1, p17_2, p17_3, p17_4, p17_5, p17_6, p17_7, p17_8, p17_9, p17_10, p17_11⟩ := zH_Mc (h := h) (f := f) (bef := bef) (asd := asd) (svd := svd) (pas := pas) (rf := rf) (it := it) (wt := wt) (tx := tx) (od := od) (ln := zwl ln 0 ((((((([] ++ zdig b) ++ [64]) ++ zdig (f (13 + 9 * b + 0))) ++ zdig (f (13 + 9 * b + 1))) ++ [94]) ++ zdig (f (13 + 9 * b + 2))) ++ [42])) (isS := isS) (pm := pm) (th := zt1 (0 ≤ b ∧ b ≤ f 0 - 1)) (len := len) (at_ := at_) (wr := wr) (fa := fa) (om := om) (lm := (((((((([] ++ zdig b) ++ [64]) ++ zdig (f (13 + 9 * b + 0))) ++ zdig (f (13 + 9 * b + 1))) ++ [94]) ++ zdig (f (13 + 9 * b + 2))) ++ [42]).length : Int)) hA
      show js_ok ρ mX3_tell _ 3 0 0 84 [(0, .ref (A 0)), (1, .int (jI b))] [] (zH A f bef asd svd pas rf it wt tx od (zwl ln 0 ((((((([] ++ zdig b) ++ [64]) ++ zdig (f (13 + 9 * b + 0))) ++ zdig (f (13 + 9 * b + 1))) ++ [94]) ++ zdig (f (13 + 9 * b + 2))) ++ [42])) isS pm (zt1 (0 ≤ b ∧ b ≤ f 0 - 1)) len at_ wr fa om ((((((((([] ++ zdig b) ++ [64]) ++ zdig (f (13 + 9 * b + 0))) ++ zdig (f (13 + 9 * b + 1))) ++ [94]) ++ zdig (f (13 + 9 * b + 2))) ++ [42]).length : Int)) h)
      have ql16 := zl_1 (c := 42) ql14
      refine js_aload_n 0 dX3_tell_84 rfl ?_
      refine js_aload_n 0 dX3_tell_85 rfl ?_
      refine js_iload_n 1 dX3_tell_86 rfl ?_
      refine js_iconst dX3_tell_87 ?_
      refine eX3_76 rfl dX3_tell_88 p17_0 (com_of p17_0 p17_1 (by omega) (by omega)) (Nat.le_of_ble_eq_true rfl) (Nat.le_of_ble_eq_true rfl) ?_
      refine eX3_305 rfl dX3_tell_91 p17_0 (com_sn hA ⟨p17_0, p17_1, p17_2, p17_3, p17_4, p17_5, p17_6, p17_7, p17_8, p17_9, p17_10, p17_11⟩ (by omega) (by omega)) (Nat.le_of_ble_eq_true rfl) (Nat.le_of_ble_eq_true rfl) ?_
      rw [zH_fr (fun q hq => (zH_n hq))]
      obtain ⟨p19_0, p19_1, p19_2, p19_3, p19_4, p19_5, p19_6, p19_7, p19_8, p19_9, p19_10, p19_11⟩ := zH_Mc (h := h) (f := f) (bef := bef) (asd := asd) (svd := svd) (pas := pas) (rf := rf) (it := it) (wt := wt) (tx := tx) (od := od) (ln := zwl ln 0 (((((((([] ++ zdig b) ++ [64]) ++ zdig (f (13 + 9 * b + 0))) ++ zdig (f (13 + 9 * b + 1))) ++ [94]) ++ zdig (f (13 + 9 * b + 2))) ++ [42]) ++ zdig (f (13 + 9 * b + 3)))) (isS := isS) (pm := pm) (th := zt1 (0 ≤ b ∧ b ≤ f 0 - 1)) (len := len) (at_ := at_) (wr := wr) (fa := fa) (om := om) (lm := ((((((((([] ++ zdig b) ++ [64]) ++ zdig (f (13 + 9 * b + 0))) ++ zdig (f (13 + 9 * b + 1))) ++ [94]) ++ zdig (f (13 + 9 * b + 2))) ++ [42]) ++ zdig (f (13 + 9 * b + 3))).length : Int)) hA
      show js_ok ρ mX3_tell _ 3 0 0 94 [(0, .ref (A 0)), (1, .int (jI b))] [] (zH A f bef asd svd pas rf it wt tx od (zwl ln 0 (((((((([] ++ zdig b) ++ [64]) ++ zdig (f (13 + 9 * b + 0))) ++ zdig (f (13 + 9 * b + 1))) ++ [94]) ++ zdig (f (13 + 9 * b + 2))) ++ [42]) ++ zdig (f (13 + 9 * b + 3)))) isS pm (zt1 (0 ≤ b ∧ b ≤ f 0 - 1)) len at_ wr fa om (((((((((([] ++ zdig b) ++ [64]) ++ zdig (f (13 + 9 * b + 0))) ++ zdig (f (13 + 9 * b + 1))) ++ [94]) ++ zdig (f (13 + 9 * b + 2))) ++ [42]) ++ zdig (f (13 + 9 * b + 3))).length : Int)) h)
      have ql18 := zl_n (v := (f (13 + 9 * b + 3))) ql16
      refine js_aload_n 0 dX3_tell_94 rfl ?_
      refine js_bipush dX3_tell_95 rfl ?_
      refine eX3_308 rfl dX3_tell_97 p19_0 (com_says hA ⟨p19_0, p19_1, p19_2, p19_3, p19_4, p19_5, p19_6, p19_7, p19_8, p19_9, p19_10, p19_11⟩ (by omega) (by omega)) (Nat.le_of_ble_eq_true rfl) (Nat.le_of_ble_eq_true rfl) ?_
      rw [zH_fr (fun q hq => (zH_n hq))]
      obtain ⟨p21_0, p21_1, p21_2, p21_3, p21_4, p21_5, p21_6, p21_7, p21_8, p21_9, p21_10, p21_11⟩ := zH_Mc (h := h) (f := f) (bef := bef) (asd := asd) (svd := svd) (pas := pas) (rf := rf) (it := it) (wt := wt) (tx := tx) (od := od) (ln := zwl ln 0 ((((((((([] ++ zdig b) ++ [64]) ++ zdig (f (13 + 9 * b + 0))) ++ zdig (f (13 + 9 * b + 1))) ++ [94]) ++ zdig (f (13 + 9 * b + 2))) ++ [42]) ++ zdig (f (13 + 9 * b + 3))) ++ [43])) (isS := isS) (pm := pm) (th := zt1 (0 ≤ b ∧ b ≤ f 0 - 1)) (len := len) (at_ := at_) (wr := wr) (fa := fa) (om := om) (lm := (((((((((([] ++ zdig b) ++ [64]) ++ zdig (f (13 + 9 * b + 0))) ++ zdig (f (13 + 9 * b + 1))) ++ [94]) ++ zdig (f (13 + 9 * b + 2))) ++ [42]) ++ zdig (f (13 + 9 * b + 3))) ++ [43]).length : Int)) hA
      show js_ok ρ mX3_tell _ 3 0 0 100 [(0, .ref (A 0)), (1, .int (jI b))] [] (zH A f bef asd svd pas rf it wt tx od (zwl ln 0 ((((((((([] ++ zdig b) ++ [64]) ++ zdig (f (13 + 9 * b + 0))) ++ zdig (f (13 + 9 * b + 1))) ++ [94]) ++ zdig (f (13 + 9 * b + 2))) ++ [42]) ++ zdig (f (13 + 9 * b + 3))) ++ [43])) isS pm (zt1 (0 ≤ b ∧ b ≤ f 0 - 1)) len at_ wr fa om ((((((((((([] ++ zdig b) ++ [64]) ++ zdig (f (13 + 9 * b + 0))) ++ zdig (f (13 + 9 * b + 1))) ++ [94]) ++ zdig (f (13 + 9 * b + 2))) ++ [42]) ++ zdig (f (13 + 9 * b + 3))) ++ [43]).length : Int)) h)
      have ql20 := zl_1 (c := 43) ql18
      refine js_aload_n 0 dX3_tell_100 rfl ?_
      refine js_aload_n 0 dX3_tell_101 rfl ?_
      refine js_iload_n 1 dX3_tell_102 rfl ?_
      refine js_iconst dX3_tell_103 ?_
      refine eX3_76 rfl dX3_tell_104 p21_0 (com_of p21_0 p21_1 (by omega) (by omega)) (Nat.le_of_ble_eq_true rfl) (Nat.le_of_ble_eq_true rfl) ?_
      refine eX3_305 rfl dX3_tell_107 p21_0 (com_sn hA ⟨p21_0, p21_1, p21_2, p21_3, p21_4, p21_5, p21_6, p21_7, p21_8, p21_9, p21_10, p21_11⟩ (by omega) (by omega)) (Nat.le_of_ble_eq_true rfl) (Nat.le_of_ble_eq_true rfl) ?_
      rw [zH_fr (fun q hq => (zH_n hq))]
      obtain ⟨p23_0, p23_1, p23_2, p23_3, p23_4, p23_5, p23_6, p23_7, p23_8, p23_9, p23_10, p23_11⟩ := zH_Mc (h := h) (f := f) (bef := bef) (asd := asd) (svd := svd) (pas := pas) (rf := rf) (it := it) (wt := wt) (tx := tx) (od := od) (ln := zwl ln 0 (((((((((([] ++ zdig b) ++ [64]) ++ zdig (f (13 + 9 * b + 0))) ++ zdig (f (13 + 9 * b + 1))) ++ [94]) ++ zdig (f (13 + 9 * b + 2))) ++ [42]) ++ zdig (f (13 + 9 * b + 3))) ++ [43]) ++ zdig (f (13 + 9 * b + 4)))) (isS := isS) (pm := pm) (th := zt1 (0 ≤ b ∧ b ≤ f 0 - 1)) (len := len) (at_ := at_) (wr := wr) (fa := fa) (om := om) (lm := ((((((((((([] ++ zdig b) ++ [64]) ++ zdig (f (13 + 9 * b + 0))) ++ zdig (f (13 + 9 * b + 1))) ++ [94]) ++ zdig (f (13 + 9 * b + 2))) ++ [42]) ++ zdig (f (13 + 9 * b + 3))) ++ [43]) ++ zdig (f (13 + 9 * b + 4))).length : Int)) hA
      show js_ok ρ mX3_tell _ 3 0 0 110 [(0, .ref (A 0)), (1, .int (jI b))] [] (zH A f bef asd svd pas rf it wt tx od (zwl ln 0 (((((((((([] ++ zdig b) ++ [64]) ++ zdig (f (13 + 9 * b + 0))) ++ zdig (f (13 + 9 * b + 1))) ++ [94]) ++ zdig (f (13 + 9 * b + 2))) ++ [42]) ++ zdig (f (13 + 9 * b + 3))) ++ [43]) ++ zdig (f (13 + 9 * b + 4)))) isS pm (zt1 (0 ≤ b ∧ b ≤ f 0 - 1)) len at_ wr fa om (((((((((((([] ++ zdig b) ++ [64]) ++ zdig (f (13 + 9 * b + 0))) ++ zdig (f (13 + 9 * b + 1))) ++ [94]) ++ zdig (f (13 + 9 * b + 2))) ++ [42]) ++ zdig (f (13 + 9 * b + 3))) ++ [43]) ++ zdig (f (13 + 9 * b + 4))).length : Int)) h)
      have ql22 := zl_n (v := (f (13 + 9 * b + 4))) ql20
      refine js_aload_n 0 dX3_tell_110 rfl ?_
      refine gX3_302 rfl dX3_tell_111 p23_0 rfl ?_
      exact js_iret rfl rfl dX3_tell_114 ⟨js_reti (by first | (rw [zv_p (by omega)]; done) | (rw [zv_n (by omega)]; done) | (rw [zv_n (by omega)]; rfl)), (by first | (simp only [zif_p (show 0 < (zt1 (0 ≤ b ∧ b ≤ f 0 - 1)) from by omega)]; exact (zH_eq hA p23_0 p23_1 p23_2 p23_3 p23_4 p23_5 p23_6 p23_7 p23_8 p23_9 p23_10 p23_11 (fun q hq => (zH_n hq)))) | (simp only [zif_n (show ¬ 0 < (zt1 (0 ≤ b ∧ b ≤ f 0 - 1)) from by omega)]; exact (zH_eq hA p23_0 p23_1 p23_2 p23_3 p23_4 p23_5 p23_6 p23_7 p23_8 p23_9 p23_10 p23_11 (fun q hq => (zH_n hq)))))⟩
    · refine js_iconst dX3_tell_24 ?_
      exact js_iret rfl rfl dX3_tell_25 ⟨js_reti (by first | (rw [zv_p (by omega)]; done) | (rw [zv_n (by omega)]; done) | (rw [zv_n (by omega)]; rfl)), (by first | (simp only [zif_p (show 0 < (zt1 (0 ≤ b ∧ b ≤ f 0 - 1)) from by omega)]; exact (zH_eq hA js_up_s ((js_up_n (js_nek p1 p0 js_kAO)).trans p1) ((js_up_n (js_nek p2 p0 js_kAO)).trans p2) ((js_up_n (js_nek p3 p0 js_kAO)).trans p3) ((js_up_n (js_nek p4 p0 js_kAO)).trans p4) ((js_up_n (js_nek p5 p0 js_kAO)).trans p5) ((js_up_n (js_nek p6 p0 js_kAO)).trans p6) ((js_up_n (js_nek p7 p0 js_kAO)).trans p7) ((js_up_n (js_nek p8 p0 js_kAO)).trans p8) ((js_up_n (js_nek p9 p0 js_kAO)).trans p9) ((js_up_n (js_nek p10 p0 js_kAO)).trans p10) ((js_up_n (js_nek p11 p0 js_kAO)).trans p11) (fun q hq => ((js_up_n (hq 0 (by decide))).trans rfl)))) | (simp only [zif_n (show ¬ 0 < (zt1 (0 ≤ b ∧ b ≤ f 0 - 1)) from by omega)]; exact (zH_eq hA js_up_s ((js_up_n (js_nek p1 p0 js_kAO)).trans p1) ((js_up_n (js_nek p2 p0 js_kAO)).trans p2) ((js_up_n (js_nek p3 p0 js_kAO)).trans p3) ((js_up_n (js_nek p4 p0 js_kAO)).trans p4) ((js_up_n (js_nek p5 p0 js_kAO)).trans p5) ((js_up_n (js_nek p6 p0 js_kAO)).trans p6) ((js_up_n (js_nek p7 p0 js_kAO)).trans p7) ((js_up_n (js_nek p8 p0 js_kAO)).trans p8) ((js_up_n (js_nek p9 p0 js_kAO)).trans p9) ((js_up_n (js_nek p10 p0 js_kAO)).trans p10) ((js_up_n (js_nek p11 p0 js_kAO)).trans p11) (fun q hq => ((js_up_n (hq 0 (by decide))).trans rfl)))))⟩
  · refine js_aload_n 0 dX3_tell_1 rfl ?_
    refine js_iload_n 1 dX3_tell_2 rfl ?_
    refine eX3_113 rfl dX3_tell_3 p0 (com_isBalloon p0 p1 (by omega) (by omega)) (Nat.le_of_ble_eq_true rfl) (Nat.le_of_ble_eq_true rfl) ?_
    refine js_if_eqB (tgt := 13) dX3_tell_6 (by decide) (fun c24 => ?_) (fun c24 => ?_)
    · refine js_iconst dX3_tell_13 ?_
      exact J1 _ (by omega)
    · refine js_iconst dX3_tell_9 ?_
      refine js_goto (tgt := 14) dX3_tell_10 (by decide) ?_
      exact J1 _ (by omega)
def zrc (f : zF) (p : Int) : Int := if 0 ≤ zspon f p then 35 else if zbi f p (f 0).toNat = 0 then 46 else 48 + zntz (zbi f p (f 0).toNat)
theorem zntz_r (n : Int) : 0 ≤ zntz n ∧ zntz n ≤ 5 := by have := zlo_c n; omega
theorem zrc_r (f : zF) (p : Int) : 35 ≤ zrc f p ∧ zrc f p ≤ 53 := by
  have := zntz_r (zbi f p (f 0).toNat)
  unfold zrc
  (repeat' split) <;> omega
def ztr (f : zF) (y : Int) : Nat → List Int
  | 0 => []
  | k + 1 => ztr f y k ++ [zrc f (10 * y + (k : Int))]
theorem ztr_l (f : zF) (y : Int) (k : Nat) : (ztr f y k).length = k := by
  induction k with
  | zero => rfl
  | succ k ih => show (ztr f y k ++ [zrc f (10 * y + (k : Int))]).length = k + 1; rw [List.length_append, ih]; rfl
