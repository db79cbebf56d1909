set_option maxRecDepth 100000
/-! DECODE ROWS BY BYTES: one lemma an opcode; a method's code is cut into short pieces once, and a row reads its own piece alone. -/
set_option maxRecDepth 100000
/-- the code has just these bytes from pc on -/
def DkAt (code : ByteArray) (pc : Nat) (bs : List UInt8) : Prop := ∀ (j : Nat) (b : UInt8), bs[j]? = some b → code.data.toList[pc + j]? = some b
/-- the piece W has the bytes bs from its place j on -/
def dkIn (W : List UInt8) (j : Nat) (bs : List UInt8) : Bool := decide ((W.drop j).take bs.length = bs)
theorem dk_seg {l W T : List UInt8} {o o2 : Nat} (h : l.drop o = W ++ T) (n : Nat) (hn : W.length = n) (ho : o + n = o2) : l.drop o2 = T := by
  subst ho
  rw [← List.drop_drop, h, List.drop_left' hn]
theorem dk_at {code : ByteArray} {W T bs : List UInt8} {o pc : Nat} (h : code.data.toList.drop o = W ++ T) (j : Nat) (hp : o + j = pc) (hw : dkIn W j bs = true) : DkAt code pc bs := by
  subst hp
  intro i b e
  have h1 := of_decide_eq_true hw
  have h2 : i < bs.length := (List.getElem?_eq_some_iff.mp e).1
  have h3 : W[j + i]? = some b := by
    rw [← h1, List.getElem?_take, if_pos h2, List.getElem?_drop] at e
    exact e
  have h4 : j + i < W.length := (List.getElem?_eq_some_iff.mp h3).1
  have h5 : (code.data.toList.drop o)[j + i]? = some b := by
    rw [h, List.getElem?_append_left h4]
    exact h3
  rw [List.getElem?_drop, ← Nat.add_assoc] at h5
  exact h5
theorem dk_u1 {A : ByteArray} {p : Nat} {b : UInt8} (h : A.data.toList[p]? = some b) : (Reader.u1 : Reader DecodeError Nat) A p = .ok (b.toNat, p + 1) := by
  obtain ⟨h1, h2⟩ := List.getElem?_eq_some_iff.mp h
  have h3 : p < A.size := by simpa using h1
  have h4 : A[p]'h3 = b := h2
  have e : (Reader.u1 : Reader DecodeError Nat) A p = (if h : p < A.size then .ok (A[p].toNat, p + 1) else .error (HasTruncated.truncated p)) := by
    show (do if h : p < A.size then do set (p + 1); Pure.pure A[p].toNat else MonadExcept.throw (HasTruncated.truncated p) : Reader DecodeError Nat) A p = _
    by_cases hi : p < A.size
    · rw [dif_pos hi, dif_pos hi]; rfl
    · rw [dif_neg hi, dif_neg hi]; rfl
  rw [e, dif_pos h3, h4]
theorem dk_bind {α β : Type} {r : Reader DecodeError α} {f : α → Reader DecodeError β} {A : ByteArray} {p s : Nat} {a : α} (h : r A p = .ok (a, s)) : (r >>= f) A p = f a A s := by
  show (do let (a, s) ← r A p; f a A s : Except DecodeError (β × Nat)) = _
  rw [h]
  rfl
theorem dk_map {α β : Type} {r : Reader DecodeError α} {g : α → β} {A : ByteArray} {p s : Nat} {a : α} (h : r A p = .ok (a, s)) : (g <$> r) A p = .ok (g a, s) := by
  show (do let (a, s) ← r A p; .ok (g a, s) : Except DecodeError (β × Nat)) = _
  rw [h]
  rfl
theorem dk_u2 {A : ByteArray} {p : Nat} {a b : UInt8} (h : A.data.toList[p]? = some a) (h2 : A.data.toList[p + 1]? = some b) : (Reader.u2 : Reader DecodeError Nat) A p = .ok (a.toNat * 256 + b.toNat, p + 2) := by
  show (Reader.u1 >>= fun hi => Reader.u1 >>= fun lo => Pure.pure (hi * 256 + lo) : Reader DecodeError Nat) A p = _
  rw [dk_bind (dk_u1 h), dk_bind (dk_u1 h2)]
  rfl
theorem dk_of {code : ByteArray} {pc n : Nat} {i : Instr} (h : Decoder.instr pc code pc = .ok (i, pc + n)) : decode code pc = .ok (i, n) := by
  have e : decode code pc = (match Decoder.instr pc code pc with | .error x => .error x | .ok (j, s) => .ok (j, s - pc)) := by
    show (do let (j, s) ← Decoder.instr pc code pc; Pure.pure (j, s - pc) : Except DecodeError (Instr × Nat)) = _
    cases Decoder.instr pc code pc <;> rfl
  rw [e, h]
  show Except.ok (i, pc + n - pc) = _
  rw [Nat.add_sub_cancel_left]
theorem dk_1 {code : ByteArray} {pc : Nat} (h : DkAt code pc [1]) : decode code pc = .ok (.aconst_null, 1) := dk_of ((dk_bind (dk_u1 (h 0 _ rfl))).trans rfl)
theorem dk_2 {code : ByteArray} {pc : Nat} (h : DkAt code pc [2]) : decode code pc = .ok (.iconst (-1), 1) := dk_of ((dk_bind (dk_u1 (h 0 _ rfl))).trans rfl)
theorem dk_3 {code : ByteArray} {pc : Nat} (h : DkAt code pc [3]) : decode code pc = .ok (.iconst 0, 1) := dk_of ((dk_bind (dk_u1 (h 0 _ rfl))).trans rfl)
theorem dk_4 {code : ByteArray} {pc : Nat} (h : DkAt code pc [4]) : decode code pc = .ok (.iconst 1, 1) := dk_of ((dk_bind (dk_u1 (h 0 _ rfl))).trans rfl)
theorem dk_5 {code : ByteArray} {pc : Nat} (h : DkAt code pc [5]) : decode code pc = .ok (.iconst 2, 1) := dk_of ((dk_bind (dk_u1 (h 0 _ rfl))).trans rfl)
theorem dk_6 {code : ByteArray} {pc : Nat} (h : DkAt code pc [6]) : decode code pc = .ok (.iconst 3, 1) := dk_of ((dk_bind (dk_u1 (h 0 _ rfl))).trans rfl)
theorem dk_7 {code : ByteArray} {pc : Nat} (h : DkAt code pc [7]) : decode code pc = .ok (.iconst 4, 1) := dk_of ((dk_bind (dk_u1 (h 0 _ rfl))).trans rfl)
theorem dk_8 {code : ByteArray} {pc : Nat} (h : DkAt code pc [8]) : decode code pc = .ok (.iconst 5, 1) := dk_of ((dk_bind (dk_u1 (h 0 _ rfl))).trans rfl)
theorem dk_9 {code : ByteArray} {pc : Nat} (h : DkAt code pc [9]) : decode code pc = .ok (.lconst 0, 1) := dk_of ((dk_bind (dk_u1 (h 0 _ rfl))).trans rfl)
theorem dk_10 {code : ByteArray} {pc : Nat} (h : DkAt code pc [10]) : decode code pc = .ok (.lconst 1, 1) := dk_of ((dk_bind (dk_u1 (h 0 _ rfl))).trans rfl)
theorem dk_11 {code : ByteArray} {pc : Nat} (h : DkAt code pc [11]) : decode code pc = .ok (.fconst 0, 1) := dk_of ((dk_bind (dk_u1 (h 0 _ rfl))).trans rfl)
theorem dk_14 {code : ByteArray} {pc : Nat} (h : DkAt code pc [14]) : decode code pc = .ok (.dconst 0, 1) := dk_of ((dk_bind (dk_u1 (h 0 _ rfl))).trans rfl)
theorem dk_16 {code : ByteArray} {pc : Nat} (a : UInt8) (h : DkAt code pc [16, a]) : decode code pc = .ok (.bipush (Reader.signed 8 a.toNat), 2) := dk_of ((dk_bind (dk_u1 (h 0 _ rfl))).trans ((dk_bind (dk_map (dk_u1 (h 1 _ rfl)))).trans rfl))
theorem dk_17 {code : ByteArray} {pc : Nat} (a b : UInt8) (h : DkAt code pc [17, a, b]) : decode code pc = .ok (.sipush (Reader.signed 16 (a.toNat * 256 + b.toNat)), 3) := dk_of ((dk_bind (dk_u1 (h 0 _ rfl))).trans ((dk_bind (dk_map (dk_u2 (h 1 _ rfl) (h 2 _ rfl)))).trans rfl))
theorem dk_18 {code : ByteArray} {pc : Nat} (a : UInt8) (h : DkAt code pc [18, a]) : decode code pc = .ok (.ldc a.toNat, 2) := dk_of ((dk_bind (dk_u1 (h 0 _ rfl))).trans ((dk_bind (dk_u1 (h 1 _ rfl))).trans rfl))
theorem dk_19 {code : ByteArray} {pc : Nat} (a b : UInt8) (h : DkAt code pc [19, a, b]) : decode code pc = .ok (.ldc_w (a.toNat * 256 + b.toNat), 3) := dk_of ((dk_bind (dk_u1 (h 0 _ rfl))).trans ((dk_bind (dk_u2 (h 1 _ rfl) (h 2 _ rfl))).trans rfl))
theorem dk_20 {code : ByteArray} {pc : Nat} (a b : UInt8) (h : DkAt code pc [20, a, b]) : decode code pc = .ok (.ldc2_w (a.toNat * 256 + b.toNat), 3) := dk_of ((dk_bind (dk_u1 (h 0 _ rfl))).trans ((dk_bind (dk_u2 (h 1 _ rfl) (h 2 _ rfl))).trans rfl))
theorem dk_21 {code : ByteArray} {pc : Nat} (a : UInt8) (h : DkAt code pc [21, a]) : decode code pc = .ok (.iload a.toNat, 2) := dk_of ((dk_bind (dk_u1 (h 0 _ rfl))).trans ((dk_bind (dk_u1 (h 1 _ rfl))).trans rfl))
theorem dk_22 {code : ByteArray} {pc : Nat} (a : UInt8) (h : DkAt code pc [22, a]) : decode code pc = .ok (.lload a.toNat, 2) := dk_of ((dk_bind (dk_u1 (h 0 _ rfl))).trans ((dk_bind (dk_u1 (h 1 _ rfl))).trans rfl))
theorem dk_23 {code : ByteArray} {pc : Nat} (a : UInt8) (h : DkAt code pc [23, a]) : decode code pc = .ok (.fload a.toNat, 2) := dk_of ((dk_bind (dk_u1 (h 0 _ rfl))).trans ((dk_bind (dk_u1 (h 1 _ rfl))).trans rfl))
theorem dk_24 {code : ByteArray} {pc : Nat} (a : UInt8) (h : DkAt code pc [24, a]) : decode code pc = .ok (.dload a.toNat, 2) := dk_of ((dk_bind (dk_u1 (h 0 _ rfl))).trans ((dk_bind (dk_u1 (h 1 _ rfl))).trans rfl))
theorem dk_25 {code : ByteArray} {pc : Nat} (a : UInt8) (h : DkAt code pc [25, a]) : decode code pc = .ok (.aload a.toNat, 2) := dk_of ((dk_bind (dk_u1 (h 0 _ rfl))).trans ((dk_bind (dk_u1 (h 1 _ rfl))).trans rfl))
theorem dk_26 {code : ByteArray} {pc : Nat} (h : DkAt code pc [26]) : decode code pc = .ok (.iload_n 0, 1) := dk_of ((dk_bind (dk_u1 (h 0 _ rfl))).trans rfl)
theorem dk_27 {code : ByteArray} {pc : Nat} (h : DkAt code pc [27]) : decode code pc = .ok (.iload_n 1, 1) := dk_of ((dk_bind (dk_u1 (h 0 _ rfl))).trans rfl)
theorem dk_28 {code : ByteArray} {pc : Nat} (h : DkAt code pc [28]) : decode code pc = .ok (.iload_n 2, 1) := dk_of ((dk_bind (dk_u1 (h 0 _ rfl))).trans rfl)
theorem dk_29 {code : ByteArray} {pc : Nat} (h : DkAt code pc [29]) : decode code pc = .ok (.iload_n 3, 1) := dk_of ((dk_bind (dk_u1 (h 0 _ rfl))).trans rfl)
theorem dk_30 {code : ByteArray} {pc : Nat} (h : DkAt code pc [30]) : decode code pc = .ok (.lload_n 0, 1) := dk_of ((dk_bind (dk_u1 (h 0 _ rfl))).trans rfl)
theorem dk_31 {code : ByteArray} {pc : Nat} (h : DkAt code pc [31]) : decode code pc = .ok (.lload_n 1, 1) := dk_of ((dk_bind (dk_u1 (h 0 _ rfl))).trans rfl)
theorem dk_32 {code : ByteArray} {pc : Nat} (h : DkAt code pc [32]) : decode code pc = .ok (.lload_n 2, 1) := dk_of ((dk_bind (dk_u1 (h 0 _ rfl))).trans rfl)
theorem dk_42 {code : ByteArray} {pc : Nat} (h : DkAt code pc [42]) : decode code pc = .ok (.aload_n 0, 1) := dk_of ((dk_bind (dk_u1 (h 0 _ rfl))).trans rfl)
theorem dk_43 {code : ByteArray} {pc : Nat} (h : DkAt code pc [43]) : decode code pc = .ok (.aload_n 1, 1) := dk_of ((dk_bind (dk_u1 (h 0 _ rfl))).trans rfl)
theorem dk_44 {code : ByteArray} {pc : Nat} (h : DkAt code pc [44]) : decode code pc = .ok (.aload_n 2, 1) := dk_of ((dk_bind (dk_u1 (h 0 _ rfl))).trans rfl)
theorem dk_45 {code : ByteArray} {pc : Nat} (h : DkAt code pc [45]) : decode code pc = .ok (.aload_n 3, 1) := dk_of ((dk_bind (dk_u1 (h 0 _ rfl))).trans rfl)
theorem dk_46 {code : ByteArray} {pc : Nat} (h : DkAt code pc [46]) : decode code pc = .ok (.iaload, 1) := dk_of ((dk_bind (dk_u1 (h 0 _ rfl))).trans rfl)
theorem dk_47 {code : ByteArray} {pc : Nat} (h : DkAt code pc [47]) : decode code pc = .ok (.laload, 1) := dk_of ((dk_bind (dk_u1 (h 0 _ rfl))).trans rfl)
theorem dk_49 {code : ByteArray} {pc : Nat} (h : DkAt code pc [49]) : decode code pc = .ok (.daload, 1) := dk_of ((dk_bind (dk_u1 (h 0 _ rfl))).trans rfl)
theorem dk_50 {code : ByteArray} {pc : Nat} (h : DkAt code pc [50]) : decode code pc = .ok (.aaload, 1) := dk_of ((dk_bind (dk_u1 (h 0 _ rfl))).trans rfl)
theorem dk_51 {code : ByteArray} {pc : Nat} (h : DkAt code pc [51]) : decode code pc = .ok (.baload, 1) := dk_of ((dk_bind (dk_u1 (h 0 _ rfl))).trans rfl)
theorem dk_52 {code : ByteArray} {pc : Nat} (h : DkAt code pc [52]) : decode code pc = .ok (.caload, 1) := dk_of ((dk_bind (dk_u1 (h 0 _ rfl))).trans rfl)
theorem dk_53 {code : ByteArray} {pc : Nat} (h : DkAt code pc [53]) : decode code pc = .ok (.saload, 1) := dk_of ((dk_bind (dk_u1 (h 0 _ rfl))).trans rfl)
theorem dk_54 {code : ByteArray} {pc : Nat} (a : UInt8) (h : DkAt code pc [54, a]) : decode code pc = .ok (.istore a.toNat, 2) := dk_of ((dk_bind (dk_u1 (h 0 _ rfl))).trans ((dk_bind (dk_u1 (h 1 _ rfl))).trans rfl))
theorem dk_55 {code : ByteArray} {pc : Nat} (a : UInt8) (h : DkAt code pc [55, a]) : decode code pc = .ok (.lstore a.toNat, 2) := dk_of ((dk_bind (dk_u1 (h 0 _ rfl))).trans ((dk_bind (dk_u1 (h 1 _ rfl))).trans rfl))
theorem dk_56 {code : ByteArray} {pc : Nat} (a : UInt8) (h : DkAt code pc [56, a]) : decode code pc = .ok (.fstore a.toNat, 2) := dk_of ((dk_bind (dk_u1 (h 0 _ rfl))).trans ((dk_bind (dk_u1 (h 1 _ rfl))).trans rfl))
theorem dk_57 {code : ByteArray} {pc : Nat} (a : UInt8) (h : DkAt code pc [57, a]) : decode code pc = .ok (.dstore a.toNat, 2) := dk_of ((dk_bind (dk_u1 (h 0 _ rfl))).trans ((dk_bind (dk_u1 (h 1 _ rfl))).trans rfl))
theorem dk_58 {code : ByteArray} {pc : Nat} (a : UInt8) (h : DkAt code pc [58, a]) : decode code pc = .ok (.astore a.toNat, 2) := dk_of ((dk_bind (dk_u1 (h 0 _ rfl))).trans ((dk_bind (dk_u1 (h 1 _ rfl))).trans rfl))
theorem dk_59 {code : ByteArray} {pc : Nat} (h : DkAt code pc [59]) : decode code pc = .ok (.istore_n 0, 1) := dk_of ((dk_bind (dk_u1 (h 0 _ rfl))).trans rfl)
theorem dk_60 {code : ByteArray} {pc : Nat} (h : DkAt code pc [60]) : decode code pc = .ok (.istore_n 1, 1) := dk_of ((dk_bind (dk_u1 (h 0 _ rfl))).trans rfl)
theorem dk_61 {code : ByteArray} {pc : Nat} (h : DkAt code pc [61]) : decode code pc = .ok (.istore_n 2, 1) := dk_of ((dk_bind (dk_u1 (h 0 _ rfl))).trans rfl)
theorem dk_62 {code : ByteArray} {pc : Nat} (h : DkAt code pc [62]) : decode code pc = .ok (.istore_n 3, 1) := dk_of ((dk_bind (dk_u1 (h 0 _ rfl))).trans rfl)
theorem dk_76 {code : ByteArray} {pc : Nat} (h : DkAt code pc [76]) : decode code pc = .ok (.astore_n 1, 1) := dk_of ((dk_bind (dk_u1 (h 0 _ rfl))).trans rfl)
theorem dk_77 {code : ByteArray} {pc : Nat} (h : DkAt code pc [77]) : decode code pc = .ok (.astore_n 2, 1) := dk_of ((dk_bind (dk_u1 (h 0 _ rfl))).trans rfl)
theorem dk_78 {code : ByteArray} {pc : Nat} (h : DkAt code pc [78]) : decode code pc = .ok (.astore_n 3, 1) := dk_of ((dk_bind (dk_u1 (h 0 _ rfl))).trans rfl)
theorem dk_79 {code : ByteArray} {pc : Nat} (h : DkAt code pc [79]) : decode code pc = .ok (.iastore, 1) := dk_of ((dk_bind (dk_u1 (h 0 _ rfl))).trans rfl)
theorem dk_80 {code : ByteArray} {pc : Nat} (h : DkAt code pc [80]) : decode code pc = .ok (.lastore, 1) := dk_of ((dk_bind (dk_u1 (h 0 _ rfl))).trans rfl)
theorem dk_82 {code : ByteArray} {pc : Nat} (h : DkAt code pc [82]) : decode code pc = .ok (.dastore, 1) := dk_of ((dk_bind (dk_u1 (h 0 _ rfl))).trans rfl)
theorem dk_83 {code : ByteArray} {pc : Nat} (h : DkAt code pc [83]) : decode code pc = .ok (.aastore, 1) := dk_of ((dk_bind (dk_u1 (h 0 _ rfl))).trans rfl)
theorem dk_84 {code : ByteArray} {pc : Nat} (h : DkAt code pc [84]) : decode code pc = .ok (.bastore, 1) := dk_of ((dk_bind (dk_u1 (h 0 _ rfl))).trans rfl)
theorem dk_85 {code : ByteArray} {pc : Nat} (h : DkAt code pc [85]) : decode code pc = .ok (.castore, 1) := dk_of ((dk_bind (dk_u1 (h 0 _ rfl))).trans rfl)
theorem dk_87 {code : ByteArray} {pc : Nat} (h : DkAt code pc [87]) : decode code pc = .ok (.pop, 1) := dk_of ((dk_bind (dk_u1 (h 0 _ rfl))).trans rfl)
theorem dk_89 {code : ByteArray} {pc : Nat} (h : DkAt code pc [89]) : decode code pc = .ok (.dup, 1) := dk_of ((dk_bind (dk_u1 (h 0 _ rfl))).trans rfl)
theorem dk_90 {code : ByteArray} {pc : Nat} (h : DkAt code pc [90]) : decode code pc = .ok (.dup_x1, 1) := dk_of ((dk_bind (dk_u1 (h 0 _ rfl))).trans rfl)
theorem dk_92 {code : ByteArray} {pc : Nat} (h : DkAt code pc [92]) : decode code pc = .ok (.dup2, 1) := dk_of ((dk_bind (dk_u1 (h 0 _ rfl))).trans rfl)
theorem dk_96 {code : ByteArray} {pc : Nat} (h : DkAt code pc [96]) : decode code pc = .ok (.iadd, 1) := dk_of ((dk_bind (dk_u1 (h 0 _ rfl))).trans rfl)
theorem dk_97 {code : ByteArray} {pc : Nat} (h : DkAt code pc [97]) : decode code pc = .ok (.ladd, 1) := dk_of ((dk_bind (dk_u1 (h 0 _ rfl))).trans rfl)
theorem dk_100 {code : ByteArray} {pc : Nat} (h : DkAt code pc [100]) : decode code pc = .ok (.isub, 1) := dk_of ((dk_bind (dk_u1 (h 0 _ rfl))).trans rfl)
theorem dk_104 {code : ByteArray} {pc : Nat} (h : DkAt code pc [104]) : decode code pc = .ok (.imul, 1) := dk_of ((dk_bind (dk_u1 (h 0 _ rfl))).trans rfl)
theorem dk_108 {code : ByteArray} {pc : Nat} (h : DkAt code pc [108]) : decode code pc = .ok (.idiv, 1) := dk_of ((dk_bind (dk_u1 (h 0 _ rfl))).trans rfl)
theorem dk_110 {code : ByteArray} {pc : Nat} (h : DkAt code pc [110]) : decode code pc = .ok (.fdiv, 1) := dk_of ((dk_bind (dk_u1 (h 0 _ rfl))).trans rfl)
theorem dk_111 {code : ByteArray} {pc : Nat} (h : DkAt code pc [111]) : decode code pc = .ok (.ddiv, 1) := dk_of ((dk_bind (dk_u1 (h 0 _ rfl))).trans rfl)
theorem dk_112 {code : ByteArray} {pc : Nat} (h : DkAt code pc [112]) : decode code pc = .ok (.irem, 1) := dk_of ((dk_bind (dk_u1 (h 0 _ rfl))).trans rfl)
theorem dk_116 {code : ByteArray} {pc : Nat} (h : DkAt code pc [116]) : decode code pc = .ok (.ineg, 1) := dk_of ((dk_bind (dk_u1 (h 0 _ rfl))).trans rfl)
theorem dk_120 {code : ByteArray} {pc : Nat} (h : DkAt code pc [120]) : decode code pc = .ok (.ishl, 1) := dk_of ((dk_bind (dk_u1 (h 0 _ rfl))).trans rfl)
theorem dk_121 {code : ByteArray} {pc : Nat} (h : DkAt code pc [121]) : decode code pc = .ok (.lshl, 1) := dk_of ((dk_bind (dk_u1 (h 0 _ rfl))).trans rfl)
theorem dk_122 {code : ByteArray} {pc : Nat} (h : DkAt code pc [122]) : decode code pc = .ok (.ishr, 1) := dk_of ((dk_bind (dk_u1 (h 0 _ rfl))).trans rfl)
theorem dk_124 {code : ByteArray} {pc : Nat} (h : DkAt code pc [124]) : decode code pc = .ok (.iushr, 1) := dk_of ((dk_bind (dk_u1 (h 0 _ rfl))).trans rfl)
theorem dk_125 {code : ByteArray} {pc : Nat} (h : DkAt code pc [125]) : decode code pc = .ok (.lushr, 1) := dk_of ((dk_bind (dk_u1 (h 0 _ rfl))).trans rfl)
theorem dk_126 {code : ByteArray} {pc : Nat} (h : DkAt code pc [126]) : decode code pc = .ok (.iand, 1) := dk_of ((dk_bind (dk_u1 (h 0 _ rfl))).trans rfl)
theorem dk_127 {code : ByteArray} {pc : Nat} (h : DkAt code pc [127]) : decode code pc = .ok (.land, 1) := dk_of ((dk_bind (dk_u1 (h 0 _ rfl))).trans rfl)
theorem dk_128 {code : ByteArray} {pc : Nat} (h : DkAt code pc [128]) : decode code pc = .ok (.ior, 1) := dk_of ((dk_bind (dk_u1 (h 0 _ rfl))).trans rfl)
theorem dk_129 {code : ByteArray} {pc : Nat} (h : DkAt code pc [129]) : decode code pc = .ok (.lor, 1) := dk_of ((dk_bind (dk_u1 (h 0 _ rfl))).trans rfl)
theorem dk_130 {code : ByteArray} {pc : Nat} (h : DkAt code pc [130]) : decode code pc = .ok (.ixor, 1) := dk_of ((dk_bind (dk_u1 (h 0 _ rfl))).trans rfl)
theorem dk_131 {code : ByteArray} {pc : Nat} (h : DkAt code pc [131]) : decode code pc = .ok (.lxor, 1) := dk_of ((dk_bind (dk_u1 (h 0 _ rfl))).trans rfl)
theorem dk_132 {code : ByteArray} {pc : Nat} (a b : UInt8) (h : DkAt code pc [132, a, b]) : decode code pc = .ok (.iinc a.toNat (Reader.signed 8 b.toNat), 3) := dk_of ((dk_bind (dk_u1 (h 0 _ rfl))).trans ((dk_bind (dk_u1 (h 1 _ rfl))).trans ((dk_bind (dk_map (dk_u1 (h 2 _ rfl)))).trans rfl)))
theorem dk_133 {code : ByteArray} {pc : Nat} (h : DkAt code pc [133]) : decode code pc = .ok (.i2l, 1) := dk_of ((dk_bind (dk_u1 (h 0 _ rfl))).trans rfl)
theorem dk_134 {code : ByteArray} {pc : Nat} (h : DkAt code pc [134]) : decode code pc = .ok (.i2f, 1) := dk_of ((dk_bind (dk_u1 (h 0 _ rfl))).trans rfl)
theorem dk_135 {code : ByteArray} {pc : Nat} (h : DkAt code pc [135]) : decode code pc = .ok (.i2d, 1) := dk_of ((dk_bind (dk_u1 (h 0 _ rfl))).trans rfl)
theorem dk_136 {code : ByteArray} {pc : Nat} (h : DkAt code pc [136]) : decode code pc = .ok (.l2i, 1) := dk_of ((dk_bind (dk_u1 (h 0 _ rfl))).trans rfl)
theorem dk_141 {code : ByteArray} {pc : Nat} (h : DkAt code pc [141]) : decode code pc = .ok (.f2d, 1) := dk_of ((dk_bind (dk_u1 (h 0 _ rfl))).trans rfl)
theorem dk_145 {code : ByteArray} {pc : Nat} (h : DkAt code pc [145]) : decode code pc = .ok (.i2b, 1) := dk_of ((dk_bind (dk_u1 (h 0 _ rfl))).trans rfl)
theorem dk_146 {code : ByteArray} {pc : Nat} (h : DkAt code pc [146]) : decode code pc = .ok (.i2c, 1) := dk_of ((dk_bind (dk_u1 (h 0 _ rfl))).trans rfl)
theorem dk_148 {code : ByteArray} {pc : Nat} (h : DkAt code pc [148]) : decode code pc = .ok (.lcmp, 1) := dk_of ((dk_bind (dk_u1 (h 0 _ rfl))).trans rfl)
theorem dk_149 {code : ByteArray} {pc : Nat} (h : DkAt code pc [149]) : decode code pc = .ok (.fcmp .l, 1) := dk_of ((dk_bind (dk_u1 (h 0 _ rfl))).trans rfl)
theorem dk_151 {code : ByteArray} {pc : Nat} (h : DkAt code pc [151]) : decode code pc = .ok (.dcmp .l, 1) := dk_of ((dk_bind (dk_u1 (h 0 _ rfl))).trans rfl)
theorem dk_153 {code : ByteArray} {pc : Nat} (a b : UInt8) (h : DkAt code pc [153, a, b]) : decode code pc = .ok (.ifCond .eq (Reader.signed 16 (a.toNat * 256 + b.toNat)), 3) := dk_of ((dk_bind (dk_u1 (h 0 _ rfl))).trans ((dk_bind (dk_map (dk_u2 (h 1 _ rfl) (h 2 _ rfl)))).trans rfl))
theorem dk_154 {code : ByteArray} {pc : Nat} (a b : UInt8) (h : DkAt code pc [154, a, b]) : decode code pc = .ok (.ifCond .ne (Reader.signed 16 (a.toNat * 256 + b.toNat)), 3) := dk_of ((dk_bind (dk_u1 (h 0 _ rfl))).trans ((dk_bind (dk_map (dk_u2 (h 1 _ rfl) (h 2 _ rfl)))).trans rfl))
theorem dk_155 {code : ByteArray} {pc : Nat} (a b : UInt8) (h : DkAt code pc [155, a, b]) : decode code pc = .ok (.ifCond .lt (Reader.signed 16 (a.toNat * 256 + b.toNat)), 3) := dk_of ((dk_bind (dk_u1 (h 0 _ rfl))).trans ((dk_bind (dk_map (dk_u2 (h 1 _ rfl) (h 2 _ rfl)))).trans rfl))
theorem dk_156 {code : ByteArray} {pc : Nat} (a b : UInt8) (h : DkAt code pc [156, a, b]) : decode code pc = .ok (.ifCond .ge (Reader.signed 16 (a.toNat * 256 + b.toNat)), 3) := dk_of ((dk_bind (dk_u1 (h 0 _ rfl))).trans ((dk_bind (dk_map (dk_u2 (h 1 _ rfl) (h 2 _ rfl)))).trans rfl))
theorem dk_157 {code : ByteArray} {pc : Nat} (a b : UInt8) (h : DkAt code pc [157, a, b]) : decode code pc = .ok (.ifCond .gt (Reader.signed 16 (a.toNat * 256 + b.toNat)), 3) := dk_of ((dk_bind (dk_u1 (h 0 _ rfl))).trans ((dk_bind (dk_map (dk_u2 (h 1 _ rfl) (h 2 _ rfl)))).trans rfl))
theorem dk_158 {code : ByteArray} {pc : Nat} (a b : UInt8) (h : DkAt code pc [158, a, b]) : decode code pc = .ok (.ifCond .le (Reader.signed 16 (a.toNat * 256 + b.toNat)), 3) := dk_of ((dk_bind (dk_u1 (h 0 _ rfl))).trans ((dk_bind (dk_map (dk_u2 (h 1 _ rfl) (h 2 _ rfl)))).trans rfl))
theorem dk_159 {code : ByteArray} {pc : Nat} (a b : UInt8) (h : DkAt code pc [159, a, b]) : decode code pc = .ok (.if_icmp .eq (Reader.signed 16 (a.toNat * 256 + b.toNat)), 3) := dk_of ((dk_bind (dk_u1 (h 0 _ rfl))).trans ((dk_bind (dk_map (dk_u2 (h 1 _ rfl) (h 2 _ rfl)))).trans rfl))
theorem dk_160 {code : ByteArray} {pc : Nat} (a b : UInt8) (h : DkAt code pc [160, a, b]) : decode code pc = .ok (.if_icmp .ne (Reader.signed 16 (a.toNat * 256 + b.toNat)), 3) := dk_of ((dk_bind (dk_u1 (h 0 _ rfl))).trans ((dk_bind (dk_map (dk_u2 (h 1 _ rfl) (h 2 _ rfl)))).trans rfl))
theorem dk_161 {code : ByteArray} {pc : Nat} (a b : UInt8) (h : DkAt code pc [161, a, b]) : decode code pc = .ok (.if_icmp .lt (Reader.signed 16 (a.toNat * 256 + b.toNat)), 3) := dk_of ((dk_bind (dk_u1 (h 0 _ rfl))).trans ((dk_bind (dk_map (dk_u2 (h 1 _ rfl) (h 2 _ rfl)))).trans rfl))
theorem dk_162 {code : ByteArray} {pc : Nat} (a b : UInt8) (h : DkAt code pc [162, a, b]) : decode code pc = .ok (.if_icmp .ge (Reader.signed 16 (a.toNat * 256 + b.toNat)), 3) := dk_of ((dk_bind (dk_u1 (h 0 _ rfl))).trans ((dk_bind (dk_map (dk_u2 (h 1 _ rfl) (h 2 _ rfl)))).trans rfl))
theorem dk_163 {code : ByteArray} {pc : Nat} (a b : UInt8) (h : DkAt code pc [163, a, b]) : decode code pc = .ok (.if_icmp .gt (Reader.signed 16 (a.toNat * 256 + b.toNat)), 3) := dk_of ((dk_bind (dk_u1 (h 0 _ rfl))).trans ((dk_bind (dk_map (dk_u2 (h 1 _ rfl) (h 2 _ rfl)))).trans rfl))
theorem dk_164 {code : ByteArray} {pc : Nat} (a b : UInt8) (h : DkAt code pc [164, a, b]) : decode code pc = .ok (.if_icmp .le (Reader.signed 16 (a.toNat * 256 + b.toNat)), 3) := dk_of ((dk_bind (dk_u1 (h 0 _ rfl))).trans ((dk_bind (dk_map (dk_u2 (h 1 _ rfl) (h 2 _ rfl)))).trans rfl))
theorem dk_165 {code : ByteArray} {pc : Nat} (a b : UInt8) (h : DkAt code pc [165, a, b]) : decode code pc = .ok (.if_acmp .eq (Reader.signed 16 (a.toNat * 256 + b.toNat)), 3) := dk_of ((dk_bind (dk_u1 (h 0 _ rfl))).trans ((dk_bind (dk_map (dk_u2 (h 1 _ rfl) (h 2 _ rfl)))).trans rfl))
theorem dk_166 {code : ByteArray} {pc : Nat} (a b : UInt8) (h : DkAt code pc [166, a, b]) : decode code pc = .ok (.if_acmp .ne (Reader.signed 16 (a.toNat * 256 + b.toNat)), 3) := dk_of ((dk_bind (dk_u1 (h 0 _ rfl))).trans ((dk_bind (dk_map (dk_u2 (h 1 _ rfl) (h 2 _ rfl)))).trans rfl))
theorem dk_167 {code : ByteArray} {pc : Nat} (a b : UInt8) (h : DkAt code pc [167, a, b]) : decode code pc = .ok (.goto (Reader.signed 16 (a.toNat * 256 + b.toNat)), 3) := dk_of ((dk_bind (dk_u1 (h 0 _ rfl))).trans ((dk_bind (dk_map (dk_u2 (h 1 _ rfl) (h 2 _ rfl)))).trans rfl))
theorem dk_172 {code : ByteArray} {pc : Nat} (h : DkAt code pc [172]) : decode code pc = .ok (.ireturn, 1) := dk_of ((dk_bind (dk_u1 (h 0 _ rfl))).trans rfl)
theorem dk_173 {code : ByteArray} {pc : Nat} (h : DkAt code pc [173]) : decode code pc = .ok (.lreturn, 1) := dk_of ((dk_bind (dk_u1 (h 0 _ rfl))).trans rfl)
theorem dk_174 {code : ByteArray} {pc : Nat} (h : DkAt code pc [174]) : decode code pc = .ok (.freturn, 1) := dk_of ((dk_bind (dk_u1 (h 0 _ rfl))).trans rfl)
theorem dk_175 {code : ByteArray} {pc : Nat} (h : DkAt code pc [175]) : decode code pc = .ok (.dreturn, 1) := dk_of ((dk_bind (dk_u1 (h 0 _ rfl))).trans rfl)
theorem dk_176 {code : ByteArray} {pc : Nat} (h : DkAt code pc [176]) : decode code pc = .ok (.areturn, 1) := dk_of ((dk_bind (dk_u1 (h 0 _ rfl))).trans rfl)
theorem dk_177 {code : ByteArray} {pc : Nat} (h : DkAt code pc [177]) : decode code pc = .ok (.return_, 1) := dk_of ((dk_bind (dk_u1 (h 0 _ rfl))).trans rfl)
theorem dk_178 {code : ByteArray} {pc : Nat} (a b : UInt8) (h : DkAt code pc [178, a, b]) : decode code pc = .ok (.getstatic (a.toNat * 256 + b.toNat), 3) := dk_of ((dk_bind (dk_u1 (h 0 _ rfl))).trans ((dk_bind (dk_u2 (h 1 _ rfl) (h 2 _ rfl))).trans rfl))
theorem dk_180 {code : ByteArray} {pc : Nat} (a b : UInt8) (h : DkAt code pc [180, a, b]) : decode code pc = .ok (.getfield (a.toNat * 256 + b.toNat), 3) := dk_of ((dk_bind (dk_u1 (h 0 _ rfl))).trans ((dk_bind (dk_u2 (h 1 _ rfl) (h 2 _ rfl))).trans rfl))
theorem dk_181 {code : ByteArray} {pc : Nat} (a b : UInt8) (h : DkAt code pc [181, a, b]) : decode code pc = .ok (.putfield (a.toNat * 256 + b.toNat), 3) := dk_of ((dk_bind (dk_u1 (h 0 _ rfl))).trans ((dk_bind (dk_u2 (h 1 _ rfl) (h 2 _ rfl))).trans rfl))
theorem dk_182 {code : ByteArray} {pc : Nat} (a b : UInt8) (h : DkAt code pc [182, a, b]) : decode code pc = .ok (.invokevirtual (a.toNat * 256 + b.toNat), 3) := dk_of ((dk_bind (dk_u1 (h 0 _ rfl))).trans ((dk_bind (dk_u2 (h 1 _ rfl) (h 2 _ rfl))).trans rfl))
theorem dk_183 {code : ByteArray} {pc : Nat} (a b : UInt8) (h : DkAt code pc [183, a, b]) : decode code pc = .ok (.invokespecial (a.toNat * 256 + b.toNat), 3) := dk_of ((dk_bind (dk_u1 (h 0 _ rfl))).trans ((dk_bind (dk_u2 (h 1 _ rfl) (h 2 _ rfl))).trans rfl))
theorem dk_184 {code : ByteArray} {pc : Nat} (a b : UInt8) (h : DkAt code pc [184, a, b]) : decode code pc = .ok (.invokestatic (a.toNat * 256 + b.toNat), 3) := dk_of ((dk_bind (dk_u1 (h 0 _ rfl))).trans ((dk_bind (dk_u2 (h 1 _ rfl) (h 2 _ rfl))).trans rfl))
theorem dk_187 {code : ByteArray} {pc : Nat} (a b : UInt8) (h : DkAt code pc [187, a, b]) : decode code pc = .ok (.new (a.toNat * 256 + b.toNat), 3) := dk_of ((dk_bind (dk_u1 (h 0 _ rfl))).trans ((dk_bind (dk_u2 (h 1 _ rfl) (h 2 _ rfl))).trans rfl))
theorem dk_188_4 {code : ByteArray} {pc : Nat} (h : DkAt code pc [188, 4]) : decode code pc = .ok (.newarray .boolean, 2) := dk_of ((dk_bind (dk_u1 (h 0 _ rfl))).trans ((dk_bind (dk_u1 (h 1 _ rfl))).trans rfl))
theorem dk_188_5 {code : ByteArray} {pc : Nat} (h : DkAt code pc [188, 5]) : decode code pc = .ok (.newarray .char, 2) := dk_of ((dk_bind (dk_u1 (h 0 _ rfl))).trans ((dk_bind (dk_u1 (h 1 _ rfl))).trans rfl))
theorem dk_188_7 {code : ByteArray} {pc : Nat} (h : DkAt code pc [188, 7]) : decode code pc = .ok (.newarray .double, 2) := dk_of ((dk_bind (dk_u1 (h 0 _ rfl))).trans ((dk_bind (dk_u1 (h 1 _ rfl))).trans rfl))
theorem dk_188_8 {code : ByteArray} {pc : Nat} (h : DkAt code pc [188, 8]) : decode code pc = .ok (.newarray .byte, 2) := dk_of ((dk_bind (dk_u1 (h 0 _ rfl))).trans ((dk_bind (dk_u1 (h 1 _ rfl))).trans rfl))
theorem dk_188_10 {code : ByteArray} {pc : Nat} (h : DkAt code pc [188, 10]) : decode code pc = .ok (.newarray .int, 2) := dk_of ((dk_bind (dk_u1 (h 0 _ rfl))).trans ((dk_bind (dk_u1 (h 1 _ rfl))).trans rfl))
theorem dk_188_11 {code : ByteArray} {pc : Nat} (h : DkAt code pc [188, 11]) : decode code pc = .ok (.newarray .long, 2) := dk_of ((dk_bind (dk_u1 (h 0 _ rfl))).trans ((dk_bind (dk_u1 (h 1 _ rfl))).trans rfl))
theorem dk_189 {code : ByteArray} {pc : Nat} (a b : UInt8) (h : DkAt code pc [189, a, b]) : decode code pc = .ok (.anewarray (a.toNat * 256 + b.toNat), 3) := dk_of ((dk_bind (dk_u1 (h 0 _ rfl))).trans ((dk_bind (dk_u2 (h 1 _ rfl) (h 2 _ rfl))).trans rfl))
theorem dk_190 {code : ByteArray} {pc : Nat} (h : DkAt code pc [190]) : decode code pc = .ok (.arraylength, 1) := dk_of ((dk_bind (dk_u1 (h 0 _ rfl))).trans rfl)
theorem dk_191 {code : ByteArray} {pc : Nat} (h : DkAt code pc [191]) : decode code pc = .ok (.athrow, 1) := dk_of ((dk_bind (dk_u1 (h 0 _ rfl))).trans rfl)
theorem dk_192 {code : ByteArray} {pc : Nat} (a b : UInt8) (h : DkAt code pc [192, a, b]) : decode code pc = .ok (.checkcast (a.toNat * 256 + b.toNat), 3) := dk_of ((dk_bind (dk_u1 (h 0 _ rfl))).trans ((dk_bind (dk_u2 (h 1 _ rfl) (h 2 _ rfl))).trans rfl))
theorem dk_193 {code : ByteArray} {pc : Nat} (a b : UInt8) (h : DkAt code pc [193, a, b]) : decode code pc = .ok (.instanceof (a.toNat * 256 + b.toNat), 3) := dk_of ((dk_bind (dk_u1 (h 0 _ rfl))).trans ((dk_bind (dk_u2 (h 1 _ rfl) (h 2 _ rfl))).trans rfl))
theorem dk_198 {code : ByteArray} {pc : Nat} (a b : UInt8) (h : DkAt code pc [198, a, b]) : decode code pc = .ok (.ifnull (Reader.signed 16 (a.toNat * 256 + b.toNat)), 3) := dk_of ((dk_bind (dk_u1 (h 0 _ rfl))).trans ((dk_bind (dk_map (dk_u2 (h 1 _ rfl) (h 2 _ rfl)))).trans rfl))
theorem dk_199 {code : ByteArray} {pc : Nat} (a b : UInt8) (h : DkAt code pc [199, a, b]) : decode code pc = .ok (.ifnonnull (Reader.signed 16 (a.toNat * 256 + b.toNat)), 3) := dk_of ((dk_bind (dk_u1 (h 0 _ rfl))).trans ((dk_bind (dk_map (dk_u2 (h 1 _ rfl) (h 2 _ rfl)))).trans rfl))

def dkwX4_init_0 : List UInt8 := [42, 183, 0, 1, 42, 27, 181, 0, 7, 42, 28, 181, 0, 13, 42, 45, 181, 0, 16, 177]
abbrev dktX4_init_0 : List UInt8 := dkwX4_init_0 ++ []
theorem dksX4_init_0 : cX4_init.data.toList.drop 0 = dktX4_init_0 := by decide +kernel
theorem dX4_init_0 : decode cX4_init 0 = .ok (.aload_n 0, 1) := dk_42 (dk_at dksX4_init_0 0 rfl rfl)
theorem dX4_init_1 : decode cX4_init 1 = .ok (.invokespecial 1, 3) := dk_183 0 1 (dk_at dksX4_init_0 1 rfl rfl)
theorem dX4_init_4 : decode cX4_init 4 = .ok (.aload_n 0, 1) := dk_42 (dk_at dksX4_init_0 4 rfl rfl)
theorem dX4_init_5 : decode cX4_init 5 = .ok (.iload_n 1, 1) := dk_27 (dk_at dksX4_init_0 5 rfl rfl)
theorem dX4_init_6 : decode cX4_init 6 = .ok (.putfield 7, 3) := dk_181 0 7 (dk_at dksX4_init_0 6 rfl rfl)
theorem dX4_init_9 : decode cX4_init 9 = .ok (.aload_n 0, 1) := dk_42 (dk_at dksX4_init_0 9 rfl rfl)
theorem dX4_init_10 : decode cX4_init 10 = .ok (.iload_n 2, 1) := dk_28 (dk_at dksX4_init_0 10 rfl rfl)
theorem dX4_init_11 : decode cX4_init 11 = .ok (.putfield 13, 3) := dk_181 0 13 (dk_at dksX4_init_0 11 rfl rfl)
theorem dX4_init_14 : decode cX4_init 14 = .ok (.aload_n 0, 1) := dk_42 (dk_at dksX4_init_0 14 rfl rfl)
theorem dX4_init_15 : decode cX4_init 15 = .ok (.aload_n 3, 1) := dk_45 (dk_at dksX4_init_0 15 rfl rfl)
theorem dX4_init_16 : decode cX4_init 16 = .ok (.putfield 16, 3) := dk_181 0 16 (dk_at dksX4_init_0 16 rfl rfl)
theorem dX4_init_19 : decode cX4_init 19 = .ok (.return_, 1) := dk_177 (dk_at dksX4_init_0 19 rfl rfl)
def dkwX5_flies_0 : List UInt8 := [42, 180, 0, 19, 158, 0, 7, 4, 167, 0, 4, 3, 172]
abbrev dktX5_flies_0 : List UInt8 := dkwX5_flies_0 ++ []
theorem dksX5_flies_0 : cX5_flies.data.toList.drop 0 = dktX5_flies_0 := by decide +kernel
theorem dX5_flies_0 : decode cX5_flies 0 = .ok (.aload_n 0, 1) := dk_42 (dk_at dksX5_flies_0 0 rfl rfl)
theorem dX5_flies_1 : decode cX5_flies 1 = .ok (.getfield 19, 3) := dk_180 0 19 (dk_at dksX5_flies_0 1 rfl rfl)
theorem dX5_flies_4 : decode cX5_flies 4 = .ok (.ifCond .le 7, 3) := dk_158 0 7 (dk_at dksX5_flies_0 4 rfl rfl)
theorem dX5_flies_7 : decode cX5_flies 7 = .ok (.iconst 1, 1) := dk_4 (dk_at dksX5_flies_0 7 rfl rfl)
theorem dX5_flies_8 : decode cX5_flies 8 = .ok (.goto 4, 3) := dk_167 0 4 (dk_at dksX5_flies_0 8 rfl rfl)
theorem dX5_flies_11 : decode cX5_flies 11 = .ok (.iconst 0, 1) := dk_3 (dk_at dksX5_flies_0 11 rfl rfl)
theorem dX5_flies_12 : decode cX5_flies 12 = .ok (.ireturn, 1) := dk_172 (dk_at dksX5_flies_0 12 rfl rfl)
def dkwX5_copy_2 : List UInt8 := [180, 0, 44, 181, 0, 44, 43, 42, 180, 0, 28, 181, 0, 28, 43, 176]
abbrev dktX5_copy_2 : List UInt8 := dkwX5_copy_2 ++ []
def dkwX5_copy_1 : List UInt8 := [180, 0, 19, 181, 0, 19, 43, 42, 180, 0, 22, 181, 0, 22, 43, 42, 180, 0, 25, 181, 0, 25, 43, 42]
abbrev dktX5_copy_1 : List UInt8 := dkwX5_copy_1 ++ dktX5_copy_2
def dkwX5_copy_0 : List UInt8 := [187, 0, 8, 89, 42, 180, 0, 7, 42, 180, 0, 13, 42, 180, 0, 16, 183, 0, 47, 76, 43, 42]
abbrev dktX5_copy_0 : List UInt8 := dkwX5_copy_0 ++ dktX5_copy_1
theorem dksX5_copy_0 : cX5_copy.data.toList.drop 0 = dktX5_copy_0 := by decide +kernel
theorem dksX5_copy_1 : cX5_copy.data.toList.drop 22 = dktX5_copy_1 := dk_seg dksX5_copy_0 22 rfl rfl
theorem dksX5_copy_2 : cX5_copy.data.toList.drop 46 = dktX5_copy_2 := dk_seg dksX5_copy_1 24 rfl rfl
theorem dX5_copy_0 : decode cX5_copy 0 = .ok (.new 8, 3) := dk_187 0 8 (dk_at dksX5_copy_0 0 rfl rfl)
theorem dX5_copy_3 : decode cX5_copy 3 = .ok (.dup, 1) := dk_89 (dk_at dksX5_copy_0 3 rfl rfl)
theorem dX5_copy_4 : decode cX5_copy 4 = .ok (.aload_n 0, 1) := dk_42 (dk_at dksX5_copy_0 4 rfl rfl)
theorem dX5_copy_5 : decode cX5_copy 5 = .ok (.getfield 7, 3) := dk_180 0 7 (dk_at dksX5_copy_0 5 rfl rfl)
theorem dX5_copy_8 : decode cX5_copy 8 = .ok (.aload_n 0, 1) := dk_42 (dk_at dksX5_copy_0 8 rfl rfl)
theorem dX5_copy_9 : decode cX5_copy 9 = .ok (.getfield 13, 3) := dk_180 0 13 (dk_at dksX5_copy_0 9 rfl rfl)
theorem dX5_copy_12 : decode cX5_copy 12 = .ok (.aload_n 0, 1) := dk_42 (dk_at dksX5_copy_0 12 rfl rfl)
theorem dX5_copy_13 : decode cX5_copy 13 = .ok (.getfield 16, 3) := dk_180 0 16 (dk_at dksX5_copy_0 13 rfl rfl)
theorem dX5_copy_16 : decode cX5_copy 16 = .ok (.invokespecial 47, 3) := dk_183 0 47 (dk_at dksX5_copy_0 16 rfl rfl)
theorem dX5_copy_19 : decode cX5_copy 19 = .ok (.astore_n 1, 1) := dk_76 (dk_at dksX5_copy_0 19 rfl rfl)
theorem dX5_copy_20 : decode cX5_copy 20 = .ok (.aload_n 1, 1) := dk_43 (dk_at dksX5_copy_0 20 rfl rfl)
theorem dX5_copy_21 : decode cX5_copy 21 = .ok (.aload_n 0, 1) := dk_42 (dk_at dksX5_copy_0 21 rfl rfl)
theorem dX5_copy_22 : decode cX5_copy 22 = .ok (.getfield 19, 3) := dk_180 0 19 (dk_at dksX5_copy_1 0 rfl rfl)
theorem dX5_copy_25 : decode cX5_copy 25 = .ok (.putfield 19, 3) := dk_181 0 19 (dk_at dksX5_copy_1 3 rfl rfl)
theorem dX5_copy_28 : decode cX5_copy 28 = .ok (.aload_n 1, 1) := dk_43 (dk_at dksX5_copy_1 6 rfl rfl)
theorem dX5_copy_29 : decode cX5_copy 29 = .ok (.aload_n 0, 1) := dk_42 (dk_at dksX5_copy_1 7 rfl rfl)
theorem dX5_copy_30 : decode cX5_copy 30 = .ok (.getfield 22, 3) := dk_180 0 22 (dk_at dksX5_copy_1 8 rfl rfl)
theorem dX5_copy_33 : decode cX5_copy 33 = .ok (.putfield 22, 3) := dk_181 0 22 (dk_at dksX5_copy_1 11 rfl rfl)
theorem dX5_copy_36 : decode cX5_copy 36 = .ok (.aload_n 1, 1) := dk_43 (dk_at dksX5_copy_1 14 rfl rfl)
theorem dX5_copy_37 : decode cX5_copy 37 = .ok (.aload_n 0, 1) := dk_42 (dk_at dksX5_copy_1 15 rfl rfl)
theorem dX5_copy_38 : decode cX5_copy 38 = .ok (.getfield 25, 3) := dk_180 0 25 (dk_at dksX5_copy_1 16 rfl rfl)
theorem dX5_copy_41 : decode cX5_copy 41 = .ok (.putfield 25, 3) := dk_181 0 25 (dk_at dksX5_copy_1 19 rfl rfl)
theorem dX5_copy_44 : decode cX5_copy 44 = .ok (.aload_n 1, 1) := dk_43 (dk_at dksX5_copy_1 22 rfl rfl)
theorem dX5_copy_45 : decode cX5_copy 45 = .ok (.aload_n 0, 1) := dk_42 (dk_at dksX5_copy_1 23 rfl rfl)
theorem dX5_copy_46 : decode cX5_copy 46 = .ok (.getfield 44, 3) := dk_180 0 44 (dk_at dksX5_copy_2 0 rfl rfl)
theorem dX5_copy_49 : decode cX5_copy 49 = .ok (.putfield 44, 3) := dk_181 0 44 (dk_at dksX5_copy_2 3 rfl rfl)
theorem dX5_copy_52 : decode cX5_copy 52 = .ok (.aload_n 1, 1) := dk_43 (dk_at dksX5_copy_2 6 rfl rfl)
theorem dX5_copy_53 : decode cX5_copy 53 = .ok (.aload_n 0, 1) := dk_42 (dk_at dksX5_copy_2 7 rfl rfl)
theorem dX5_copy_54 : decode cX5_copy 54 = .ok (.getfield 28, 3) := dk_180 0 28 (dk_at dksX5_copy_2 8 rfl rfl)
theorem dX5_copy_57 : decode cX5_copy 57 = .ok (.putfield 28, 3) := dk_181 0 28 (dk_at dksX5_copy_2 11 rfl rfl)
theorem dX5_copy_60 : decode cX5_copy 60 = .ok (.aload_n 1, 1) := dk_43 (dk_at dksX5_copy_2 14 rfl rfl)
theorem dX5_copy_61 : decode cX5_copy 61 = .ok (.areturn, 1) := dk_176 (dk_at dksX5_copy_2 15 rfl rfl)
def dkwX5_init_0 : List UInt8 := [42, 183, 0, 1, 42, 27, 181, 0, 7, 42, 28, 181, 0, 13, 42, 29, 181, 0, 16, 177]
abbrev dktX5_init_0 : List UInt8 := dkwX5_init_0 ++ []
theorem dksX5_init_0 : cX5_init.data.toList.drop 0 = dktX5_init_0 := by decide +kernel
theorem dX5_init_0 : decode cX5_init 0 = .ok (.aload_n 0, 1) := dk_42 (dk_at dksX5_init_0 0 rfl rfl)
theorem dX5_init_1 : decode cX5_init 1 = .ok (.invokespecial 1, 3) := dk_183 0 1 (dk_at dksX5_init_0 1 rfl rfl)
theorem dX5_init_4 : decode cX5_init 4 = .ok (.aload_n 0, 1) := dk_42 (dk_at dksX5_init_0 4 rfl rfl)
theorem dX5_init_5 : decode cX5_init 5 = .ok (.iload_n 1, 1) := dk_27 (dk_at dksX5_init_0 5 rfl rfl)
theorem dX5_init_6 : decode cX5_init 6 = .ok (.putfield 7, 3) := dk_181 0 7 (dk_at dksX5_init_0 6 rfl rfl)
theorem dX5_init_9 : decode cX5_init 9 = .ok (.aload_n 0, 1) := dk_42 (dk_at dksX5_init_0 9 rfl rfl)
theorem dX5_init_10 : decode cX5_init 10 = .ok (.iload_n 2, 1) := dk_28 (dk_at dksX5_init_0 10 rfl rfl)
theorem dX5_init_11 : decode cX5_init 11 = .ok (.putfield 13, 3) := dk_181 0 13 (dk_at dksX5_init_0 11 rfl rfl)
theorem dX5_init_14 : decode cX5_init 14 = .ok (.aload_n 0, 1) := dk_42 (dk_at dksX5_init_0 14 rfl rfl)
theorem dX5_init_15 : decode cX5_init 15 = .ok (.iload_n 3, 1) := dk_29 (dk_at dksX5_init_0 15 rfl rfl)
theorem dX5_init_16 : decode cX5_init 16 = .ok (.putfield 16, 3) := dk_181 0 16 (dk_at dksX5_init_0 16 rfl rfl)
theorem dX5_init_19 : decode cX5_init 19 = .ok (.return_, 1) := dk_177 (dk_at dksX5_init_0 19 rfl rfl)
def dkwX5_isBeside_0 : List UInt8 := [42, 43, 182, 0, 31, 4, 163, 0, 7, 4, 167, 0, 4, 3, 172]
abbrev dktX5_isBeside_0 : List UInt8 := dkwX5_isBeside_0 ++ []
theorem dksX5_isBeside_0 : cX5_isBeside.data.toList.drop 0 = dktX5_isBeside_0 := by decide +kernel
theorem dX5_isBeside_0 : decode cX5_isBeside 0 = .ok (.aload_n 0, 1) := dk_42 (dk_at dksX5_isBeside_0 0 rfl rfl)
theorem dX5_isBeside_1 : decode cX5_isBeside 1 = .ok (.aload_n 1, 1) := dk_43 (dk_at dksX5_isBeside_0 1 rfl rfl)
theorem dX5_isBeside_2 : decode cX5_isBeside 2 = .ok (.invokevirtual 31, 3) := dk_182 0 31 (dk_at dksX5_isBeside_0 2 rfl rfl)
theorem dX5_isBeside_5 : decode cX5_isBeside 5 = .ok (.iconst 1, 1) := dk_4 (dk_at dksX5_isBeside_0 5 rfl rfl)
theorem dX5_isBeside_6 : decode cX5_isBeside 6 = .ok (.if_icmp .gt 7, 3) := dk_163 0 7 (dk_at dksX5_isBeside_0 6 rfl rfl)
theorem dX5_isBeside_9 : decode cX5_isBeside 9 = .ok (.iconst 1, 1) := dk_4 (dk_at dksX5_isBeside_0 9 rfl rfl)
theorem dX5_isBeside_10 : decode cX5_isBeside 10 = .ok (.goto 4, 3) := dk_167 0 4 (dk_at dksX5_isBeside_0 10 rfl rfl)
theorem dX5_isBeside_13 : decode cX5_isBeside 13 = .ok (.iconst 0, 1) := dk_3 (dk_at dksX5_isBeside_0 13 rfl rfl)
theorem dX5_isBeside_14 : decode cX5_isBeside 14 = .ok (.ireturn, 1) := dk_172 (dk_at dksX5_isBeside_0 14 rfl rfl)
def dkwX5_apart_1 : List UInt8 := [180, 0, 19, 43, 180, 0, 19, 184, 0, 41, 100, 167, 0, 5, 16, 9, 172]
abbrev dktX5_apart_1 : List UInt8 := dkwX5_apart_1 ++ []
def dkwX5_apart_0 : List UInt8 := [42, 180, 0, 7, 43, 180, 0, 7, 160, 0, 29, 42, 180, 0, 19, 43, 180, 0, 19, 184, 0, 35, 42]
abbrev dktX5_apart_0 : List UInt8 := dkwX5_apart_0 ++ dktX5_apart_1
theorem dksX5_apart_0 : cX5_apart.data.toList.drop 0 = dktX5_apart_0 := by decide +kernel
theorem dksX5_apart_1 : cX5_apart.data.toList.drop 23 = dktX5_apart_1 := dk_seg dksX5_apart_0 23 rfl rfl
theorem dX5_apart_0 : decode cX5_apart 0 = .ok (.aload_n 0, 1) := dk_42 (dk_at dksX5_apart_0 0 rfl rfl)
theorem dX5_apart_1 : decode cX5_apart 1 = .ok (.getfield 7, 3) := dk_180 0 7 (dk_at dksX5_apart_0 1 rfl rfl)
theorem dX5_apart_4 : decode cX5_apart 4 = .ok (.aload_n 1, 1) := dk_43 (dk_at dksX5_apart_0 4 rfl rfl)
theorem dX5_apart_5 : decode cX5_apart 5 = .ok (.getfield 7, 3) := dk_180 0 7 (dk_at dksX5_apart_0 5 rfl rfl)
theorem dX5_apart_8 : decode cX5_apart 8 = .ok (.if_icmp .ne 29, 3) := dk_160 0 29 (dk_at dksX5_apart_0 8 rfl rfl)
theorem dX5_apart_11 : decode cX5_apart 11 = .ok (.aload_n 0, 1) := dk_42 (dk_at dksX5_apart_0 11 rfl rfl)
theorem dX5_apart_12 : decode cX5_apart 12 = .ok (.getfield 19, 3) := dk_180 0 19 (dk_at dksX5_apart_0 12 rfl rfl)
theorem dX5_apart_15 : decode cX5_apart 15 = .ok (.aload_n 1, 1) := dk_43 (dk_at dksX5_apart_0 15 rfl rfl)
theorem dX5_apart_16 : decode cX5_apart 16 = .ok (.getfield 19, 3) := dk_180 0 19 (dk_at dksX5_apart_0 16 rfl rfl)
theorem dX5_apart_19 : decode cX5_apart 19 = .ok (.invokestatic 35, 3) := dk_184 0 35 (dk_at dksX5_apart_0 19 rfl rfl)
theorem dX5_apart_22 : decode cX5_apart 22 = .ok (.aload_n 0, 1) := dk_42 (dk_at dksX5_apart_0 22 rfl rfl)
theorem dX5_apart_23 : decode cX5_apart 23 = .ok (.getfield 19, 3) := dk_180 0 19 (dk_at dksX5_apart_1 0 rfl rfl)
theorem dX5_apart_26 : decode cX5_apart 26 = .ok (.aload_n 1, 1) := dk_43 (dk_at dksX5_apart_1 3 rfl rfl)
theorem dX5_apart_27 : decode cX5_apart 27 = .ok (.getfield 19, 3) := dk_180 0 19 (dk_at dksX5_apart_1 4 rfl rfl)
theorem dX5_apart_30 : decode cX5_apart 30 = .ok (.invokestatic 41, 3) := dk_184 0 41 (dk_at dksX5_apart_1 7 rfl rfl)
theorem dX5_apart_33 : decode cX5_apart 33 = .ok (.isub, 1) := dk_100 (dk_at dksX5_apart_1 10 rfl rfl)
theorem dX5_apart_34 : decode cX5_apart 34 = .ok (.goto 5, 3) := dk_167 0 5 (dk_at dksX5_apart_1 11 rfl rfl)
theorem dX5_apart_37 : decode cX5_apart 37 = .ok (.bipush 9, 2) := dk_16 9 (dk_at dksX5_apart_1 14 rfl rfl)
theorem dX5_apart_39 : decode cX5_apart 39 = .ok (.ireturn, 1) := dk_172 (dk_at dksX5_apart_1 16 rfl rfl)
def dkwX5_rounds_2 : List UInt8 := [181, 0, 28, 177]
abbrev dktX5_rounds_2 : List UInt8 := dkwX5_rounds_2 ++ []
def dkwX5_rounds_1 : List UInt8 := [180, 0, 28, 42, 180, 0, 19, 160, 0, 18, 42, 89, 180, 0, 25, 8, 96, 181, 0, 25, 42, 3]
abbrev dktX5_rounds_1 : List UInt8 := dkwX5_rounds_1 ++ dktX5_rounds_2
def dkwX5_rounds_0 : List UInt8 := [42, 89, 180, 0, 22, 4, 96, 181, 0, 22, 42, 89, 180, 0, 25, 16, 10, 96, 181, 0, 25, 42]
abbrev dktX5_rounds_0 : List UInt8 := dkwX5_rounds_0 ++ dktX5_rounds_1
theorem dksX5_rounds_0 : cX5_rounds.data.toList.drop 0 = dktX5_rounds_0 := by decide +kernel
theorem dksX5_rounds_1 : cX5_rounds.data.toList.drop 22 = dktX5_rounds_1 := dk_seg dksX5_rounds_0 22 rfl rfl
theorem dksX5_rounds_2 : cX5_rounds.data.toList.drop 44 = dktX5_rounds_2 := dk_seg dksX5_rounds_1 22 rfl rfl
theorem dX5_rounds_0 : decode cX5_rounds 0 = .ok (.aload_n 0, 1) := dk_42 (dk_at dksX5_rounds_0 0 rfl rfl)
theorem dX5_rounds_1 : decode cX5_rounds 1 = .ok (.dup, 1) := dk_89 (dk_at dksX5_rounds_0 1 rfl rfl)
theorem dX5_rounds_2 : decode cX5_rounds 2 = .ok (.getfield 22, 3) := dk_180 0 22 (dk_at dksX5_rounds_0 2 rfl rfl)
theorem dX5_rounds_5 : decode cX5_rounds 5 = .ok (.iconst 1, 1) := dk_4 (dk_at dksX5_rounds_0 5 rfl rfl)
theorem dX5_rounds_6 : decode cX5_rounds 6 = .ok (.iadd, 1) := dk_96 (dk_at dksX5_rounds_0 6 rfl rfl)
theorem dX5_rounds_7 : decode cX5_rounds 7 = .ok (.putfield 22, 3) := dk_181 0 22 (dk_at dksX5_rounds_0 7 rfl rfl)
theorem dX5_rounds_10 : decode cX5_rounds 10 = .ok (.aload_n 0, 1) := dk_42 (dk_at dksX5_rounds_0 10 rfl rfl)
theorem dX5_rounds_11 : decode cX5_rounds 11 = .ok (.dup, 1) := dk_89 (dk_at dksX5_rounds_0 11 rfl rfl)
theorem dX5_rounds_12 : decode cX5_rounds 12 = .ok (.getfield 25, 3) := dk_180 0 25 (dk_at dksX5_rounds_0 12 rfl rfl)
theorem dX5_rounds_15 : decode cX5_rounds 15 = .ok (.bipush 10, 2) := dk_16 10 (dk_at dksX5_rounds_0 15 rfl rfl)
theorem dX5_rounds_17 : decode cX5_rounds 17 = .ok (.iadd, 1) := dk_96 (dk_at dksX5_rounds_0 17 rfl rfl)
theorem dX5_rounds_18 : decode cX5_rounds 18 = .ok (.putfield 25, 3) := dk_181 0 25 (dk_at dksX5_rounds_0 18 rfl rfl)
theorem dX5_rounds_21 : decode cX5_rounds 21 = .ok (.aload_n 0, 1) := dk_42 (dk_at dksX5_rounds_0 21 rfl rfl)
theorem dX5_rounds_22 : decode cX5_rounds 22 = .ok (.getfield 28, 3) := dk_180 0 28 (dk_at dksX5_rounds_1 0 rfl rfl)
theorem dX5_rounds_25 : decode cX5_rounds 25 = .ok (.aload_n 0, 1) := dk_42 (dk_at dksX5_rounds_1 3 rfl rfl)
theorem dX5_rounds_26 : decode cX5_rounds 26 = .ok (.getfield 19, 3) := dk_180 0 19 (dk_at dksX5_rounds_1 4 rfl rfl)
theorem dX5_rounds_29 : decode cX5_rounds 29 = .ok (.if_icmp .ne 18, 3) := dk_160 0 18 (dk_at dksX5_rounds_1 7 rfl rfl)
theorem dX5_rounds_32 : decode cX5_rounds 32 = .ok (.aload_n 0, 1) := dk_42 (dk_at dksX5_rounds_1 10 rfl rfl)
theorem dX5_rounds_33 : decode cX5_rounds 33 = .ok (.dup, 1) := dk_89 (dk_at dksX5_rounds_1 11 rfl rfl)
theorem dX5_rounds_34 : decode cX5_rounds 34 = .ok (.getfield 25, 3) := dk_180 0 25 (dk_at dksX5_rounds_1 12 rfl rfl)
theorem dX5_rounds_37 : decode cX5_rounds 37 = .ok (.iconst 5, 1) := dk_8 (dk_at dksX5_rounds_1 15 rfl rfl)
theorem dX5_rounds_38 : decode cX5_rounds 38 = .ok (.iadd, 1) := dk_96 (dk_at dksX5_rounds_1 16 rfl rfl)
theorem dX5_rounds_39 : decode cX5_rounds 39 = .ok (.putfield 25, 3) := dk_181 0 25 (dk_at dksX5_rounds_1 17 rfl rfl)
theorem dX5_rounds_42 : decode cX5_rounds 42 = .ok (.aload_n 0, 1) := dk_42 (dk_at dksX5_rounds_1 20 rfl rfl)
theorem dX5_rounds_43 : decode cX5_rounds 43 = .ok (.iconst 0, 1) := dk_3 (dk_at dksX5_rounds_1 21 rfl rfl)
theorem dX5_rounds_44 : decode cX5_rounds 44 = .ok (.putfield 28, 3) := dk_181 0 28 (dk_at dksX5_rounds_2 0 rfl rfl)
theorem dX5_rounds_47 : decode cX5_rounds 47 = .ok (.return_, 1) := dk_177 (dk_at dksX5_rounds_2 3 rfl rfl)
def dkwX5_isAhead_3 : List UInt8 := [167, 0, 4, 3, 172]
abbrev dktX5_isAhead_3 : List UInt8 := dkwX5_isAhead_3 ++ []
def dkwX5_isAhead_2 : List UInt8 := [164, 0, 7, 4, 167, 0, 23, 3, 167, 0, 19, 42, 180, 0, 44, 43, 180, 0, 44, 162, 0, 7, 4]
abbrev dktX5_isAhead_2 : List UInt8 := dkwX5_isAhead_2 ++ dktX5_isAhead_3
def dkwX5_isAhead_1 : List UInt8 := [167, 0, 4, 3, 172, 42, 180, 0, 22, 43, 180, 0, 22, 159, 0, 22, 42, 180, 0, 22, 43, 180, 0, 22]
abbrev dktX5_isAhead_1 : List UInt8 := dkwX5_isAhead_1 ++ dktX5_isAhead_2
def dkwX5_isAhead_0 : List UInt8 := [42, 180, 0, 25, 43, 180, 0, 25, 159, 0, 20, 42, 180, 0, 25, 43, 180, 0, 25, 164, 0, 7, 4]
abbrev dktX5_isAhead_0 : List UInt8 := dkwX5_isAhead_0 ++ dktX5_isAhead_1
theorem dksX5_isAhead_0 : cX5_isAhead.data.toList.drop 0 = dktX5_isAhead_0 := by decide +kernel
theorem dksX5_isAhead_1 : cX5_isAhead.data.toList.drop 23 = dktX5_isAhead_1 := dk_seg dksX5_isAhead_0 23 rfl rfl
theorem dksX5_isAhead_2 : cX5_isAhead.data.toList.drop 47 = dktX5_isAhead_2 := dk_seg dksX5_isAhead_1 24 rfl rfl
theorem dksX5_isAhead_3 : cX5_isAhead.data.toList.drop 70 = dktX5_isAhead_3 := dk_seg dksX5_isAhead_2 23 rfl rfl
theorem dX5_isAhead_0 : decode cX5_isAhead 0 = .ok (.aload_n 0, 1) := dk_42 (dk_at dksX5_isAhead_0 0 rfl rfl)
theorem dX5_isAhead_1 : decode cX5_isAhead 1 = .ok (.getfield 25, 3) := dk_180 0 25 (dk_at dksX5_isAhead_0 1 rfl rfl)
theorem dX5_isAhead_4 : decode cX5_isAhead 4 = .ok (.aload_n 1, 1) := dk_43 (dk_at dksX5_isAhead_0 4 rfl rfl)
theorem dX5_isAhead_5 : decode cX5_isAhead 5 = .ok (.getfield 25, 3) := dk_180 0 25 (dk_at dksX5_isAhead_0 5 rfl rfl)
theorem dX5_isAhead_8 : decode cX5_isAhead 8 = .ok (.if_icmp .eq 20, 3) := dk_159 0 20 (dk_at dksX5_isAhead_0 8 rfl rfl)
theorem dX5_isAhead_11 : decode cX5_isAhead 11 = .ok (.aload_n 0, 1) := dk_42 (dk_at dksX5_isAhead_0 11 rfl rfl)
theorem dX5_isAhead_12 : decode cX5_isAhead 12 = .ok (.getfield 25, 3) := dk_180 0 25 (dk_at dksX5_isAhead_0 12 rfl rfl)
theorem dX5_isAhead_15 : decode cX5_isAhead 15 = .ok (.aload_n 1, 1) := dk_43 (dk_at dksX5_isAhead_0 15 rfl rfl)
theorem dX5_isAhead_16 : decode cX5_isAhead 16 = .ok (.getfield 25, 3) := dk_180 0 25 (dk_at dksX5_isAhead_0 16 rfl rfl)
theorem dX5_isAhead_19 : decode cX5_isAhead 19 = .ok (.if_icmp .le 7, 3) := dk_164 0 7 (dk_at dksX5_isAhead_0 19 rfl rfl)
theorem dX5_isAhead_22 : decode cX5_isAhead 22 = .ok (.iconst 1, 1) := dk_4 (dk_at dksX5_isAhead_0 22 rfl rfl)
theorem dX5_isAhead_23 : decode cX5_isAhead 23 = .ok (.goto 4, 3) := dk_167 0 4 (dk_at dksX5_isAhead_1 0 rfl rfl)
theorem dX5_isAhead_26 : decode cX5_isAhead 26 = .ok (.iconst 0, 1) := dk_3 (dk_at dksX5_isAhead_1 3 rfl rfl)
theorem dX5_isAhead_27 : decode cX5_isAhead 27 = .ok (.ireturn, 1) := dk_172 (dk_at dksX5_isAhead_1 4 rfl rfl)
theorem dX5_isAhead_28 : decode cX5_isAhead 28 = .ok (.aload_n 0, 1) := dk_42 (dk_at dksX5_isAhead_1 5 rfl rfl)
theorem dX5_isAhead_29 : decode cX5_isAhead 29 = .ok (.getfield 22, 3) := dk_180 0 22 (dk_at dksX5_isAhead_1 6 rfl rfl)
theorem dX5_isAhead_32 : decode cX5_isAhead 32 = .ok (.aload_n 1, 1) := dk_43 (dk_at dksX5_isAhead_1 9 rfl rfl)
theorem dX5_isAhead_33 : decode cX5_isAhead 33 = .ok (.getfield 22, 3) := dk_180 0 22 (dk_at dksX5_isAhead_1 10 rfl rfl)
theorem dX5_isAhead_36 : decode cX5_isAhead 36 = .ok (.if_icmp .eq 22, 3) := dk_159 0 22 (dk_at dksX5_isAhead_1 13 rfl rfl)
theorem dX5_isAhead_39 : decode cX5_isAhead 39 = .ok (.aload_n 0, 1) := dk_42 (dk_at dksX5_isAhead_1 16 rfl rfl)
theorem dX5_isAhead_40 : decode cX5_isAhead 40 = .ok (.getfield 22, 3) := dk_180 0 22 (dk_at dksX5_isAhead_1 17 rfl rfl)
theorem dX5_isAhead_43 : decode cX5_isAhead 43 = .ok (.aload_n 1, 1) := dk_43 (dk_at dksX5_isAhead_1 20 rfl rfl)
theorem dX5_isAhead_44 : decode cX5_isAhead 44 = .ok (.getfield 22, 3) := dk_180 0 22 (dk_at dksX5_isAhead_1 21 rfl rfl)
theorem dX5_isAhead_47 : decode cX5_isAhead 47 = .ok (.if_icmp .le 7, 3) := dk_164 0 7 (dk_at dksX5_isAhead_2 0 rfl rfl)
theorem dX5_isAhead_50 : decode cX5_isAhead 50 = .ok (.iconst 1, 1) := dk_4 (dk_at dksX5_isAhead_2 3 rfl rfl)
theorem dX5_isAhead_51 : decode cX5_isAhead 51 = .ok (.goto 23, 3) := dk_167 0 23 (dk_at dksX5_isAhead_2 4 rfl rfl)
theorem dX5_isAhead_54 : decode cX5_isAhead 54 = .ok (.iconst 0, 1) := dk_3 (dk_at dksX5_isAhead_2 7 rfl rfl)
theorem dX5_isAhead_55 : decode cX5_isAhead 55 = .ok (.goto 19, 3) := dk_167 0 19 (dk_at dksX5_isAhead_2 8 rfl rfl)
theorem dX5_isAhead_58 : decode cX5_isAhead 58 = .ok (.aload_n 0, 1) := dk_42 (dk_at dksX5_isAhead_2 11 rfl rfl)
theorem dX5_isAhead_59 : decode cX5_isAhead 59 = .ok (.getfield 44, 3) := dk_180 0 44 (dk_at dksX5_isAhead_2 12 rfl rfl)
theorem dX5_isAhead_62 : decode cX5_isAhead 62 = .ok (.aload_n 1, 1) := dk_43 (dk_at dksX5_isAhead_2 15 rfl rfl)
theorem dX5_isAhead_63 : decode cX5_isAhead 63 = .ok (.getfield 44, 3) := dk_180 0 44 (dk_at dksX5_isAhead_2 16 rfl rfl)
theorem dX5_isAhead_66 : decode cX5_isAhead 66 = .ok (.if_icmp .ge 7, 3) := dk_162 0 7 (dk_at dksX5_isAhead_2 19 rfl rfl)
theorem dX5_isAhead_69 : decode cX5_isAhead 69 = .ok (.iconst 1, 1) := dk_4 (dk_at dksX5_isAhead_2 22 rfl rfl)
theorem dX5_isAhead_70 : decode cX5_isAhead 70 = .ok (.goto 4, 3) := dk_167 0 4 (dk_at dksX5_isAhead_3 0 rfl rfl)
theorem dX5_isAhead_73 : decode cX5_isAhead 73 = .ok (.iconst 0, 1) := dk_3 (dk_at dksX5_isAhead_3 3 rfl rfl)
theorem dX5_isAhead_74 : decode cX5_isAhead 74 = .ok (.ireturn, 1) := dk_172 (dk_at dksX5_isAhead_3 4 rfl rfl)
def dkwX6_gate_0 : List UInt8 := [42, 180, 0, 7, 42, 180, 0, 13, 184, 0, 16, 172]
abbrev dktX6_gate_0 : List UInt8 := dkwX6_gate_0 ++ []
theorem dksX6_gate_0 : cX6_gate.data.toList.drop 0 = dktX6_gate_0 := by decide +kernel
theorem dX6_gate_0 : decode cX6_gate 0 = .ok (.aload_n 0, 1) := dk_42 (dk_at dksX6_gate_0 0 rfl rfl)
theorem dX6_gate_1 : decode cX6_gate 1 = .ok (.getfield 7, 3) := dk_180 0 7 (dk_at dksX6_gate_0 1 rfl rfl)
theorem dX6_gate_4 : decode cX6_gate 4 = .ok (.aload_n 0, 1) := dk_42 (dk_at dksX6_gate_0 4 rfl rfl)
theorem dX6_gate_5 : decode cX6_gate 5 = .ok (.getfield 13, 3) := dk_180 0 13 (dk_at dksX6_gate_0 5 rfl rfl)
theorem dX6_gate_8 : decode cX6_gate 8 = .ok (.invokestatic 16, 3) := dk_184 0 16 (dk_at dksX6_gate_0 8 rfl rfl)
theorem dX6_gate_11 : decode cX6_gate 11 = .ok (.ireturn, 1) := dk_172 (dk_at dksX6_gate_0 11 rfl rfl)
def dkwX6_copy_1 : List UInt8 := [43, 176]
abbrev dktX6_copy_1 : List UInt8 := dkwX6_copy_1 ++ []
def dkwX6_copy_0 : List UInt8 := [187, 0, 8, 89, 42, 180, 0, 7, 42, 180, 0, 13, 183, 0, 22, 76, 43, 42, 180, 0, 25, 181, 0, 25]
abbrev dktX6_copy_0 : List UInt8 := dkwX6_copy_0 ++ dktX6_copy_1
theorem dksX6_copy_0 : cX6_copy.data.toList.drop 0 = dktX6_copy_0 := by decide +kernel
theorem dksX6_copy_1 : cX6_copy.data.toList.drop 24 = dktX6_copy_1 := dk_seg dksX6_copy_0 24 rfl rfl
theorem dX6_copy_0 : decode cX6_copy 0 = .ok (.new 8, 3) := dk_187 0 8 (dk_at dksX6_copy_0 0 rfl rfl)
theorem dX6_copy_3 : decode cX6_copy 3 = .ok (.dup, 1) := dk_89 (dk_at dksX6_copy_0 3 rfl rfl)
theorem dX6_copy_4 : decode cX6_copy 4 = .ok (.aload_n 0, 1) := dk_42 (dk_at dksX6_copy_0 4 rfl rfl)
theorem dX6_copy_5 : decode cX6_copy 5 = .ok (.getfield 7, 3) := dk_180 0 7 (dk_at dksX6_copy_0 5 rfl rfl)
theorem dX6_copy_8 : decode cX6_copy 8 = .ok (.aload_n 0, 1) := dk_42 (dk_at dksX6_copy_0 8 rfl rfl)
theorem dX6_copy_9 : decode cX6_copy 9 = .ok (.getfield 13, 3) := dk_180 0 13 (dk_at dksX6_copy_0 9 rfl rfl)
theorem dX6_copy_12 : decode cX6_copy 12 = .ok (.invokespecial 22, 3) := dk_183 0 22 (dk_at dksX6_copy_0 12 rfl rfl)
theorem dX6_copy_15 : decode cX6_copy 15 = .ok (.astore_n 1, 1) := dk_76 (dk_at dksX6_copy_0 15 rfl rfl)
theorem dX6_copy_16 : decode cX6_copy 16 = .ok (.aload_n 1, 1) := dk_43 (dk_at dksX6_copy_0 16 rfl rfl)
theorem dX6_copy_17 : decode cX6_copy 17 = .ok (.aload_n 0, 1) := dk_42 (dk_at dksX6_copy_0 17 rfl rfl)
theorem dX6_copy_18 : decode cX6_copy 18 = .ok (.getfield 25, 3) := dk_180 0 25 (dk_at dksX6_copy_0 18 rfl rfl)
theorem dX6_copy_21 : decode cX6_copy 21 = .ok (.putfield 25, 3) := dk_181 0 25 (dk_at dksX6_copy_0 21 rfl rfl)
theorem dX6_copy_24 : decode cX6_copy 24 = .ok (.aload_n 1, 1) := dk_43 (dk_at dksX6_copy_1 0 rfl rfl)
theorem dX6_copy_25 : decode cX6_copy 25 = .ok (.areturn, 1) := dk_176 (dk_at dksX6_copy_1 1 rfl rfl)
def dkwX6_init_0 : List UInt8 := [42, 183, 0, 1, 42, 27, 181, 0, 7, 42, 28, 181, 0, 13, 177]
abbrev dktX6_init_0 : List UInt8 := dkwX6_init_0 ++ []
theorem dksX6_init_0 : cX6_init.data.toList.drop 0 = dktX6_init_0 := by decide +kernel
theorem dX6_init_0 : decode cX6_init 0 = .ok (.aload_n 0, 1) := dk_42 (dk_at dksX6_init_0 0 rfl rfl)
theorem dX6_init_1 : decode cX6_init 1 = .ok (.invokespecial 1, 3) := dk_183 0 1 (dk_at dksX6_init_0 1 rfl rfl)
theorem dX6_init_4 : decode cX6_init 4 = .ok (.aload_n 0, 1) := dk_42 (dk_at dksX6_init_0 4 rfl rfl)
theorem dX6_init_5 : decode cX6_init 5 = .ok (.iload_n 1, 1) := dk_27 (dk_at dksX6_init_0 5 rfl rfl)
theorem dX6_init_6 : decode cX6_init 6 = .ok (.putfield 7, 3) := dk_181 0 7 (dk_at dksX6_init_0 6 rfl rfl)
theorem dX6_init_9 : decode cX6_init 9 = .ok (.aload_n 0, 1) := dk_42 (dk_at dksX6_init_0 9 rfl rfl)
theorem dX6_init_10 : decode cX6_init 10 = .ok (.iload_n 2, 1) := dk_28 (dk_at dksX6_init_0 10 rfl rfl)
theorem dX6_init_11 : decode cX6_init 11 = .ok (.putfield 13, 3) := dk_181 0 13 (dk_at dksX6_init_0 11 rfl rfl)
theorem dX6_init_14 : decode cX6_init 14 = .ok (.return_, 1) := dk_177 (dk_at dksX6_init_0 14 rfl rfl)
def dkwX7_init_0 : List UInt8 := [42, 43, 181, 0, 1, 42, 183, 0, 7, 177]
abbrev dktX7_init_0 : List UInt8 := dkwX7_init_0 ++ []
theorem dksX7_init_0 : cX7_init.data.toList.drop 0 = dktX7_init_0 := by decide +kernel
theorem dX7_init_0 : decode cX7_init 0 = .ok (.aload_n 0, 1) := dk_42 (dk_at dksX7_init_0 0 rfl rfl)
theorem dX7_init_1 : decode cX7_init 1 = .ok (.aload_n 1, 1) := dk_43 (dk_at dksX7_init_0 1 rfl rfl)
theorem dX7_init_2 : decode cX7_init 2 = .ok (.putfield 1, 3) := dk_181 0 1 (dk_at dksX7_init_0 2 rfl rfl)
theorem dX7_init_5 : decode cX7_init 5 = .ok (.aload_n 0, 1) := dk_42 (dk_at dksX7_init_0 5 rfl rfl)
theorem dX7_init_6 : decode cX7_init 6 = .ok (.invokespecial 7, 3) := dk_183 0 7 (dk_at dksX7_init_0 6 rfl rfl)
theorem dX7_init_9 : decode cX7_init 9 = .ok (.return_, 1) := dk_177 (dk_at dksX7_init_0 9 rfl rfl)
def dkwX7_iterator_0 : List UInt8 := [187, 0, 13, 89, 42, 183, 0, 15, 176]
abbrev dktX7_iterator_0 : List UInt8 := dkwX7_iterator_0 ++ []
theorem dksX7_iterator_0 : cX7_iterator.data.toList.drop 0 = dktX7_iterator_0 := by decide +kernel
theorem dX7_iterator_0 : decode cX7_iterator 0 = .ok (.new 13, 3) := dk_187 0 13 (dk_at dksX7_iterator_0 0 rfl rfl)
theorem dX7_iterator_3 : decode cX7_iterator 3 = .ok (.dup, 1) := dk_89 (dk_at dksX7_iterator_0 3 rfl rfl)
theorem dX7_iterator_4 : decode cX7_iterator 4 = .ok (.aload_n 0, 1) := dk_42 (dk_at dksX7_iterator_0 4 rfl rfl)
theorem dX7_iterator_5 : decode cX7_iterator 5 = .ok (.invokespecial 15, 3) := dk_183 0 15 (dk_at dksX7_iterator_0 5 rfl rfl)
theorem dX7_iterator_8 : decode cX7_iterator 8 = .ok (.areturn, 1) := dk_176 (dk_at dksX7_iterator_0 8 rfl rfl)
def dkwX8_hasNext_1 : List UInt8 := [3, 172]
abbrev dktX8_hasNext_1 : List UInt8 := dkwX8_hasNext_1 ++ []
def dkwX8_hasNext_0 : List UInt8 := [42, 180, 0, 17, 42, 180, 0, 1, 180, 0, 21, 180, 0, 27, 182, 0, 33, 162, 0, 7, 4, 167, 0, 4]
abbrev dktX8_hasNext_0 : List UInt8 := dkwX8_hasNext_0 ++ dktX8_hasNext_1
theorem dksX8_hasNext_0 : cX8_hasNext.data.toList.drop 0 = dktX8_hasNext_0 := by decide +kernel
theorem dksX8_hasNext_1 : cX8_hasNext.data.toList.drop 24 = dktX8_hasNext_1 := dk_seg dksX8_hasNext_0 24 rfl rfl
theorem dX8_hasNext_0 : decode cX8_hasNext 0 = .ok (.aload_n 0, 1) := dk_42 (dk_at dksX8_hasNext_0 0 rfl rfl)
theorem dX8_hasNext_1 : decode cX8_hasNext 1 = .ok (.getfield 17, 3) := dk_180 0 17 (dk_at dksX8_hasNext_0 1 rfl rfl)
theorem dX8_hasNext_4 : decode cX8_hasNext 4 = .ok (.aload_n 0, 1) := dk_42 (dk_at dksX8_hasNext_0 4 rfl rfl)
theorem dX8_hasNext_5 : decode cX8_hasNext 5 = .ok (.getfield 1, 3) := dk_180 0 1 (dk_at dksX8_hasNext_0 5 rfl rfl)
theorem dX8_hasNext_8 : decode cX8_hasNext 8 = .ok (.getfield 21, 3) := dk_180 0 21 (dk_at dksX8_hasNext_0 8 rfl rfl)
theorem dX8_hasNext_11 : decode cX8_hasNext 11 = .ok (.getfield 27, 3) := dk_180 0 27 (dk_at dksX8_hasNext_0 11 rfl rfl)
theorem dX8_hasNext_14 : decode cX8_hasNext 14 = .ok (.invokevirtual 33, 3) := dk_182 0 33 (dk_at dksX8_hasNext_0 14 rfl rfl)
theorem dX8_hasNext_17 : decode cX8_hasNext 17 = .ok (.if_icmp .ge 7, 3) := dk_162 0 7 (dk_at dksX8_hasNext_0 17 rfl rfl)
theorem dX8_hasNext_20 : decode cX8_hasNext 20 = .ok (.iconst 1, 1) := dk_4 (dk_at dksX8_hasNext_0 20 rfl rfl)
theorem dX8_hasNext_21 : decode cX8_hasNext 21 = .ok (.goto 4, 3) := dk_167 0 4 (dk_at dksX8_hasNext_0 21 rfl rfl)
theorem dX8_hasNext_24 : decode cX8_hasNext 24 = .ok (.iconst 0, 1) := dk_3 (dk_at dksX8_hasNext_1 0 rfl rfl)
theorem dX8_hasNext_25 : decode cX8_hasNext 25 = .ok (.ireturn, 1) := dk_172 (dk_at dksX8_hasNext_1 1 rfl rfl)
theorem dX8_next_0 : decode cX8_next 0 = .ok (.aload_n 0, 1) := by decide +kernel
theorem dX8_next_1 : decode cX8_next 1 = .ok (.invokevirtual 55, 3) := by decide +kernel
theorem dX8_next_4 : decode cX8_next 4 = .ok (.areturn, 1) := by decide +kernel
def dkwX8_next_2_2 : List UInt8 := [182, 0, 13, 181, 0, 17, 43, 176]
abbrev dktX8_next_2_2 : List UInt8 := dkwX8_next_2_2 ++ []
def dkwX8_next_2_1 : List UInt8 := [180, 0, 27, 42, 180, 0, 17, 182, 0, 39, 192, 0, 43, 76, 42, 42, 42, 180, 0, 17, 4, 96]
abbrev dktX8_next_2_1 : List UInt8 := dkwX8_next_2_1 ++ dktX8_next_2_2
def dkwX8_next_2_0 : List UInt8 := [42, 182, 0, 49, 154, 0, 11, 187, 0, 52, 89, 183, 0, 54, 191, 42, 180, 0, 1, 180, 0, 21]
abbrev dktX8_next_2_0 : List UInt8 := dkwX8_next_2_0 ++ dktX8_next_2_1
theorem dksX8_next_2_0 : cX8_next_2.data.toList.drop 0 = dktX8_next_2_0 := by decide +kernel
theorem dksX8_next_2_1 : cX8_next_2.data.toList.drop 22 = dktX8_next_2_1 := dk_seg dksX8_next_2_0 22 rfl rfl
theorem dksX8_next_2_2 : cX8_next_2.data.toList.drop 44 = dktX8_next_2_2 := dk_seg dksX8_next_2_1 22 rfl rfl
theorem dX8_next_2_0 : decode cX8_next_2 0 = .ok (.aload_n 0, 1) := dk_42 (dk_at dksX8_next_2_0 0 rfl rfl)
theorem dX8_next_2_1 : decode cX8_next_2 1 = .ok (.invokevirtual 49, 3) := dk_182 0 49 (dk_at dksX8_next_2_0 1 rfl rfl)
theorem dX8_next_2_4 : decode cX8_next_2 4 = .ok (.ifCond .ne 11, 3) := dk_154 0 11 (dk_at dksX8_next_2_0 4 rfl rfl)
theorem dX8_next_2_7 : decode cX8_next_2 7 = .ok (.new 52, 3) := dk_187 0 52 (dk_at dksX8_next_2_0 7 rfl rfl)
theorem dX8_next_2_10 : decode cX8_next_2 10 = .ok (.dup, 1) := dk_89 (dk_at dksX8_next_2_0 10 rfl rfl)
theorem dX8_next_2_11 : decode cX8_next_2 11 = .ok (.invokespecial 54, 3) := dk_183 0 54 (dk_at dksX8_next_2_0 11 rfl rfl)
theorem dX8_next_2_14 : decode cX8_next_2 14 = .ok (.athrow, 1) := dk_191 (dk_at dksX8_next_2_0 14 rfl rfl)
theorem dX8_next_2_15 : decode cX8_next_2 15 = .ok (.aload_n 0, 1) := dk_42 (dk_at dksX8_next_2_0 15 rfl rfl)
theorem dX8_next_2_16 : decode cX8_next_2 16 = .ok (.getfield 1, 3) := dk_180 0 1 (dk_at dksX8_next_2_0 16 rfl rfl)
theorem dX8_next_2_19 : decode cX8_next_2 19 = .ok (.getfield 21, 3) := dk_180 0 21 (dk_at dksX8_next_2_0 19 rfl rfl)
theorem dX8_next_2_22 : decode cX8_next_2 22 = .ok (.getfield 27, 3) := dk_180 0 27 (dk_at dksX8_next_2_1 0 rfl rfl)
theorem dX8_next_2_25 : decode cX8_next_2 25 = .ok (.aload_n 0, 1) := dk_42 (dk_at dksX8_next_2_1 3 rfl rfl)
theorem dX8_next_2_26 : decode cX8_next_2 26 = .ok (.getfield 17, 3) := dk_180 0 17 (dk_at dksX8_next_2_1 4 rfl rfl)
theorem dX8_next_2_29 : decode cX8_next_2 29 = .ok (.invokevirtual 39, 3) := dk_182 0 39 (dk_at dksX8_next_2_1 7 rfl rfl)
theorem dX8_next_2_32 : decode cX8_next_2 32 = .ok (.checkcast 43, 3) := dk_192 0 43 (dk_at dksX8_next_2_1 10 rfl rfl)
theorem dX8_next_2_35 : decode cX8_next_2 35 = .ok (.astore_n 1, 1) := dk_76 (dk_at dksX8_next_2_1 13 rfl rfl)
theorem dX8_next_2_36 : decode cX8_next_2 36 = .ok (.aload_n 0, 1) := dk_42 (dk_at dksX8_next_2_1 14 rfl rfl)
theorem dX8_next_2_37 : decode cX8_next_2 37 = .ok (.aload_n 0, 1) := dk_42 (dk_at dksX8_next_2_1 15 rfl rfl)
theorem dX8_next_2_38 : decode cX8_next_2 38 = .ok (.aload_n 0, 1) := dk_42 (dk_at dksX8_next_2_1 16 rfl rfl)
theorem dX8_next_2_39 : decode cX8_next_2 39 = .ok (.getfield 17, 3) := dk_180 0 17 (dk_at dksX8_next_2_1 17 rfl rfl)
theorem dX8_next_2_42 : decode cX8_next_2 42 = .ok (.iconst 1, 1) := dk_4 (dk_at dksX8_next_2_1 20 rfl rfl)
theorem dX8_next_2_43 : decode cX8_next_2 43 = .ok (.iadd, 1) := dk_96 (dk_at dksX8_next_2_1 21 rfl rfl)
theorem dX8_next_2_44 : decode cX8_next_2 44 = .ok (.invokevirtual 13, 3) := dk_182 0 13 (dk_at dksX8_next_2_2 0 rfl rfl)
theorem dX8_next_2_47 : decode cX8_next_2 47 = .ok (.putfield 17, 3) := dk_181 0 17 (dk_at dksX8_next_2_2 3 rfl rfl)
theorem dX8_next_2_50 : decode cX8_next_2 50 = .ok (.aload_n 1, 1) := dk_43 (dk_at dksX8_next_2_2 6 rfl rfl)
theorem dX8_next_2_51 : decode cX8_next_2 51 = .ok (.areturn, 1) := dk_176 (dk_at dksX8_next_2_2 7 rfl rfl)
def dkwX8_from_2 : List UInt8 := [167, 255, 213, 28, 172]
abbrev dktX8_from_2 : List UInt8 := dkwX8_from_2 ++ []
def dkwX8_from_1 : List UInt8 := [180, 0, 21, 180, 0, 27, 28, 182, 0, 39, 192, 0, 43, 182, 0, 45, 154, 0, 9, 132, 2, 1]
abbrev dktX8_from_1 : List UInt8 := dkwX8_from_1 ++ dktX8_from_2
def dkwX8_from_0 : List UInt8 := [27, 61, 28, 42, 180, 0, 1, 180, 0, 21, 180, 0, 27, 182, 0, 33, 162, 0, 32, 42, 180, 0, 1]
abbrev dktX8_from_0 : List UInt8 := dkwX8_from_0 ++ dktX8_from_1
theorem dksX8_from_0 : cX8_from.data.toList.drop 0 = dktX8_from_0 := by decide +kernel
theorem dksX8_from_1 : cX8_from.data.toList.drop 23 = dktX8_from_1 := dk_seg dksX8_from_0 23 rfl rfl
theorem dksX8_from_2 : cX8_from.data.toList.drop 45 = dktX8_from_2 := dk_seg dksX8_from_1 22 rfl rfl
theorem dX8_from_0 : decode cX8_from 0 = .ok (.iload_n 1, 1) := dk_27 (dk_at dksX8_from_0 0 rfl rfl)
theorem dX8_from_1 : decode cX8_from 1 = .ok (.istore_n 2, 1) := dk_61 (dk_at dksX8_from_0 1 rfl rfl)
theorem dX8_from_2 : decode cX8_from 2 = .ok (.iload_n 2, 1) := dk_28 (dk_at dksX8_from_0 2 rfl rfl)
theorem dX8_from_3 : decode cX8_from 3 = .ok (.aload_n 0, 1) := dk_42 (dk_at dksX8_from_0 3 rfl rfl)
theorem dX8_from_4 : decode cX8_from 4 = .ok (.getfield 1, 3) := dk_180 0 1 (dk_at dksX8_from_0 4 rfl rfl)
theorem dX8_from_7 : decode cX8_from 7 = .ok (.getfield 21, 3) := dk_180 0 21 (dk_at dksX8_from_0 7 rfl rfl)
theorem dX8_from_10 : decode cX8_from 10 = .ok (.getfield 27, 3) := dk_180 0 27 (dk_at dksX8_from_0 10 rfl rfl)
theorem dX8_from_13 : decode cX8_from 13 = .ok (.invokevirtual 33, 3) := dk_182 0 33 (dk_at dksX8_from_0 13 rfl rfl)
theorem dX8_from_16 : decode cX8_from 16 = .ok (.if_icmp .ge 32, 3) := dk_162 0 32 (dk_at dksX8_from_0 16 rfl rfl)
theorem dX8_from_19 : decode cX8_from 19 = .ok (.aload_n 0, 1) := dk_42 (dk_at dksX8_from_0 19 rfl rfl)
theorem dX8_from_20 : decode cX8_from 20 = .ok (.getfield 1, 3) := dk_180 0 1 (dk_at dksX8_from_0 20 rfl rfl)
theorem dX8_from_23 : decode cX8_from 23 = .ok (.getfield 21, 3) := dk_180 0 21 (dk_at dksX8_from_1 0 rfl rfl)
theorem dX8_from_26 : decode cX8_from 26 = .ok (.getfield 27, 3) := dk_180 0 27 (dk_at dksX8_from_1 3 rfl rfl)
theorem dX8_from_29 : decode cX8_from 29 = .ok (.iload_n 2, 1) := dk_28 (dk_at dksX8_from_1 6 rfl rfl)
theorem dX8_from_30 : decode cX8_from 30 = .ok (.invokevirtual 39, 3) := dk_182 0 39 (dk_at dksX8_from_1 7 rfl rfl)
theorem dX8_from_33 : decode cX8_from 33 = .ok (.checkcast 43, 3) := dk_192 0 43 (dk_at dksX8_from_1 10 rfl rfl)
theorem dX8_from_36 : decode cX8_from 36 = .ok (.invokevirtual 45, 3) := dk_182 0 45 (dk_at dksX8_from_1 13 rfl rfl)
theorem dX8_from_39 : decode cX8_from 39 = .ok (.ifCond .ne 9, 3) := dk_154 0 9 (dk_at dksX8_from_1 16 rfl rfl)
theorem dX8_from_42 : decode cX8_from 42 = .ok (.iinc 2 1, 3) := dk_132 2 1 (dk_at dksX8_from_1 19 rfl rfl)
theorem dX8_from_45 : decode cX8_from 45 = .ok (.goto (-43), 3) := dk_167 255 213 (dk_at dksX8_from_2 0 rfl rfl)
theorem dX8_from_48 : decode cX8_from 48 = .ok (.iload_n 2, 1) := dk_28 (dk_at dksX8_from_2 3 rfl rfl)
theorem dX8_from_49 : decode cX8_from 49 = .ok (.ireturn, 1) := dk_172 (dk_at dksX8_from_2 4 rfl rfl)
def dkwX8_init_0 : List UInt8 := [42, 43, 181, 0, 1, 42, 183, 0, 7, 42, 42, 3, 182, 0, 13, 181, 0, 17, 177]
abbrev dktX8_init_0 : List UInt8 := dkwX8_init_0 ++ []
theorem dksX8_init_0 : cX8_init.data.toList.drop 0 = dktX8_init_0 := by decide +kernel
theorem dX8_init_0 : decode cX8_init 0 = .ok (.aload_n 0, 1) := dk_42 (dk_at dksX8_init_0 0 rfl rfl)
theorem dX8_init_1 : decode cX8_init 1 = .ok (.aload_n 1, 1) := dk_43 (dk_at dksX8_init_0 1 rfl rfl)
theorem dX8_init_2 : decode cX8_init 2 = .ok (.putfield 1, 3) := dk_181 0 1 (dk_at dksX8_init_0 2 rfl rfl)
theorem dX8_init_5 : decode cX8_init 5 = .ok (.aload_n 0, 1) := dk_42 (dk_at dksX8_init_0 5 rfl rfl)
theorem dX8_init_6 : decode cX8_init 6 = .ok (.invokespecial 7, 3) := dk_183 0 7 (dk_at dksX8_init_0 6 rfl rfl)
theorem dX8_init_9 : decode cX8_init 9 = .ok (.aload_n 0, 1) := dk_42 (dk_at dksX8_init_0 9 rfl rfl)
theorem dX8_init_10 : decode cX8_init 10 = .ok (.aload_n 0, 1) := dk_42 (dk_at dksX8_init_0 10 rfl rfl)
theorem dX8_init_11 : decode cX8_init 11 = .ok (.iconst 0, 1) := dk_3 (dk_at dksX8_init_0 11 rfl rfl)
theorem dX8_init_12 : decode cX8_init 12 = .ok (.invokevirtual 13, 3) := dk_182 0 13 (dk_at dksX8_init_0 12 rfl rfl)
theorem dX8_init_15 : decode cX8_init 15 = .ok (.putfield 17, 3) := dk_181 0 17 (dk_at dksX8_init_0 15 rfl rfl)
theorem dX8_init_18 : decode cX8_init 18 = .ok (.return_, 1) := dk_177 (dk_at dksX8_init_0 18 rfl rfl)
def dkwX9_init_1 : List UInt8 := [182, 0, 33, 181, 0, 37, 177]
abbrev dktX9_init_1 : List UInt8 := dkwX9_init_1 ++ []
def dkwX9_init_0 : List UInt8 := [42, 43, 181, 0, 1, 42, 183, 0, 7, 42, 43, 180, 0, 13, 180, 0, 19, 28, 182, 0, 25, 192, 0, 31]
abbrev dktX9_init_0 : List UInt8 := dkwX9_init_0 ++ dktX9_init_1
theorem dksX9_init_0 : cX9_init.data.toList.drop 0 = dktX9_init_0 := by decide +kernel
theorem dksX9_init_1 : cX9_init.data.toList.drop 24 = dktX9_init_1 := dk_seg dksX9_init_0 24 rfl rfl
theorem dX9_init_0 : decode cX9_init 0 = .ok (.aload_n 0, 1) := dk_42 (dk_at dksX9_init_0 0 rfl rfl)
theorem dX9_init_1 : decode cX9_init 1 = .ok (.aload_n 1, 1) := dk_43 (dk_at dksX9_init_0 1 rfl rfl)
theorem dX9_init_2 : decode cX9_init 2 = .ok (.putfield 1, 3) := dk_181 0 1 (dk_at dksX9_init_0 2 rfl rfl)
theorem dX9_init_5 : decode cX9_init 5 = .ok (.aload_n 0, 1) := dk_42 (dk_at dksX9_init_0 5 rfl rfl)
theorem dX9_init_6 : decode cX9_init 6 = .ok (.invokespecial 7, 3) := dk_183 0 7 (dk_at dksX9_init_0 6 rfl rfl)
theorem dX9_init_9 : decode cX9_init 9 = .ok (.aload_n 0, 1) := dk_42 (dk_at dksX9_init_0 9 rfl rfl)
theorem dX9_init_10 : decode cX9_init 10 = .ok (.aload_n 1, 1) := dk_43 (dk_at dksX9_init_0 10 rfl rfl)
theorem dX9_init_11 : decode cX9_init 11 = .ok (.getfield 13, 3) := dk_180 0 13 (dk_at dksX9_init_0 11 rfl rfl)
theorem dX9_init_14 : decode cX9_init 14 = .ok (.getfield 19, 3) := dk_180 0 19 (dk_at dksX9_init_0 14 rfl rfl)
theorem dX9_init_17 : decode cX9_init 17 = .ok (.iload_n 2, 1) := dk_28 (dk_at dksX9_init_0 17 rfl rfl)
theorem dX9_init_18 : decode cX9_init 18 = .ok (.invokevirtual 25, 3) := dk_182 0 25 (dk_at dksX9_init_0 18 rfl rfl)
theorem dX9_init_21 : decode cX9_init 21 = .ok (.checkcast 31, 3) := dk_192 0 31 (dk_at dksX9_init_0 21 rfl rfl)
theorem dX9_init_24 : decode cX9_init 24 = .ok (.invokevirtual 33, 3) := dk_182 0 33 (dk_at dksX9_init_1 0 rfl rfl)
theorem dX9_init_27 : decode cX9_init 27 = .ok (.putfield 37, 3) := dk_181 0 37 (dk_at dksX9_init_1 3 rfl rfl)
theorem dX9_init_30 : decode cX9_init 30 = .ok (.return_, 1) := dk_177 (dk_at dksX9_init_1 6 rfl rfl)
def dkwX9_in_0 : List UInt8 := [42, 180, 0, 49, 27, 162, 0, 10, 42, 182, 0, 53, 167, 255, 244, 42, 176]
abbrev dktX9_in_0 : List UInt8 := dkwX9_in_0 ++ []
theorem dksX9_in_0 : cX9_in.data.toList.drop 0 = dktX9_in_0 := by decide +kernel
theorem dX9_in_0 : decode cX9_in 0 = .ok (.aload_n 0, 1) := dk_42 (dk_at dksX9_in_0 0 rfl rfl)
theorem dX9_in_1 : decode cX9_in 1 = .ok (.getfield 49, 3) := dk_180 0 49 (dk_at dksX9_in_0 1 rfl rfl)
theorem dX9_in_4 : decode cX9_in 4 = .ok (.iload_n 1, 1) := dk_27 (dk_at dksX9_in_0 4 rfl rfl)
theorem dX9_in_5 : decode cX9_in 5 = .ok (.if_icmp .ge 10, 3) := dk_162 0 10 (dk_at dksX9_in_0 5 rfl rfl)
theorem dX9_in_8 : decode cX9_in 8 = .ok (.aload_n 0, 1) := dk_42 (dk_at dksX9_in_0 8 rfl rfl)
theorem dX9_in_9 : decode cX9_in 9 = .ok (.invokevirtual 53, 3) := dk_182 0 53 (dk_at dksX9_in_0 9 rfl rfl)
theorem dX9_in_12 : decode cX9_in 12 = .ok (.goto (-12), 3) := dk_167 255 244 (dk_at dksX9_in_0 12 rfl rfl)
theorem dX9_in_15 : decode cX9_in 15 = .ok (.aload_n 0, 1) := dk_42 (dk_at dksX9_in_0 15 rfl rfl)
theorem dX9_in_16 : decode cX9_in 16 = .ok (.areturn, 1) := dk_176 (dk_at dksX9_in_0 16 rfl rfl)
def dkwX9_goesOn_1 : List UInt8 := [42, 89, 180, 0, 49, 4, 96, 181, 0, 49, 177]
abbrev dktX9_goesOn_1 : List UInt8 := dkwX9_goesOn_1 ++ []
def dkwX9_goesOn_0 : List UInt8 := [42, 180, 0, 37, 182, 0, 41, 153, 0, 17, 42, 180, 0, 1, 180, 0, 13, 42, 180, 0, 37, 182, 0, 45]
abbrev dktX9_goesOn_0 : List UInt8 := dkwX9_goesOn_0 ++ dktX9_goesOn_1
theorem dksX9_goesOn_0 : cX9_goesOn.data.toList.drop 0 = dktX9_goesOn_0 := by decide +kernel
theorem dksX9_goesOn_1 : cX9_goesOn.data.toList.drop 24 = dktX9_goesOn_1 := dk_seg dksX9_goesOn_0 24 rfl rfl
theorem dX9_goesOn_0 : decode cX9_goesOn 0 = .ok (.aload_n 0, 1) := dk_42 (dk_at dksX9_goesOn_0 0 rfl rfl)
theorem dX9_goesOn_1 : decode cX9_goesOn 1 = .ok (.getfield 37, 3) := dk_180 0 37 (dk_at dksX9_goesOn_0 1 rfl rfl)
theorem dX9_goesOn_4 : decode cX9_goesOn 4 = .ok (.invokevirtual 41, 3) := dk_182 0 41 (dk_at dksX9_goesOn_0 4 rfl rfl)
theorem dX9_goesOn_7 : decode cX9_goesOn 7 = .ok (.ifCond .eq 17, 3) := dk_153 0 17 (dk_at dksX9_goesOn_0 7 rfl rfl)
theorem dX9_goesOn_10 : decode cX9_goesOn 10 = .ok (.aload_n 0, 1) := dk_42 (dk_at dksX9_goesOn_0 10 rfl rfl)
theorem dX9_goesOn_11 : decode cX9_goesOn 11 = .ok (.getfield 1, 3) := dk_180 0 1 (dk_at dksX9_goesOn_0 11 rfl rfl)
theorem dX9_goesOn_14 : decode cX9_goesOn 14 = .ok (.getfield 13, 3) := dk_180 0 13 (dk_at dksX9_goesOn_0 14 rfl rfl)
theorem dX9_goesOn_17 : decode cX9_goesOn 17 = .ok (.aload_n 0, 1) := dk_42 (dk_at dksX9_goesOn_0 17 rfl rfl)
theorem dX9_goesOn_18 : decode cX9_goesOn 18 = .ok (.getfield 37, 3) := dk_180 0 37 (dk_at dksX9_goesOn_0 18 rfl rfl)
theorem dX9_goesOn_21 : decode cX9_goesOn 21 = .ok (.invokevirtual 45, 3) := dk_182 0 45 (dk_at dksX9_goesOn_0 21 rfl rfl)
theorem dX9_goesOn_24 : decode cX9_goesOn 24 = .ok (.aload_n 0, 1) := dk_42 (dk_at dksX9_goesOn_1 0 rfl rfl)
theorem dX9_goesOn_25 : decode cX9_goesOn 25 = .ok (.dup, 1) := dk_89 (dk_at dksX9_goesOn_1 1 rfl rfl)
theorem dX9_goesOn_26 : decode cX9_goesOn 26 = .ok (.getfield 49, 3) := dk_180 0 49 (dk_at dksX9_goesOn_1 2 rfl rfl)
theorem dX9_goesOn_29 : decode cX9_goesOn 29 = .ok (.iconst 1, 1) := dk_4 (dk_at dksX9_goesOn_1 5 rfl rfl)
theorem dX9_goesOn_30 : decode cX9_goesOn 30 = .ok (.iadd, 1) := dk_96 (dk_at dksX9_goesOn_1 6 rfl rfl)
theorem dX9_goesOn_31 : decode cX9_goesOn 31 = .ok (.putfield 49, 3) := dk_181 0 49 (dk_at dksX9_goesOn_1 7 rfl rfl)
theorem dX9_goesOn_34 : decode cX9_goesOn 34 = .ok (.return_, 1) := dk_177 (dk_at dksX9_goesOn_1 10 rfl rfl)
def dkwX9_tillGround_0 : List UInt8 := [42, 180, 0, 37, 182, 0, 41, 153, 0, 10, 42, 182, 0, 53, 167, 255, 242, 42, 176]
abbrev dktX9_tillGround_0 : List UInt8 := dkwX9_tillGround_0 ++ []
theorem dksX9_tillGround_0 : cX9_tillGround.data.toList.drop 0 = dktX9_tillGround_0 := by decide +kernel
theorem dX9_tillGround_0 : decode cX9_tillGround 0 = .ok (.aload_n 0, 1) := dk_42 (dk_at dksX9_tillGround_0 0 rfl rfl)
theorem dX9_tillGround_1 : decode cX9_tillGround 1 = .ok (.getfield 37, 3) := dk_180 0 37 (dk_at dksX9_tillGround_0 1 rfl rfl)
theorem dX9_tillGround_4 : decode cX9_tillGround 4 = .ok (.invokevirtual 41, 3) := dk_182 0 41 (dk_at dksX9_tillGround_0 4 rfl rfl)
theorem dX9_tillGround_7 : decode cX9_tillGround 7 = .ok (.ifCond .eq 10, 3) := dk_153 0 10 (dk_at dksX9_tillGround_0 7 rfl rfl)
theorem dX9_tillGround_10 : decode cX9_tillGround 10 = .ok (.aload_n 0, 1) := dk_42 (dk_at dksX9_tillGround_0 10 rfl rfl)
theorem dX9_tillGround_11 : decode cX9_tillGround 11 = .ok (.invokevirtual 53, 3) := dk_182 0 53 (dk_at dksX9_tillGround_0 11 rfl rfl)
theorem dX9_tillGround_14 : decode cX9_tillGround 14 = .ok (.goto (-14), 3) := dk_167 255 242 (dk_at dksX9_tillGround_0 14 rfl rfl)
theorem dX9_tillGround_17 : decode cX9_tillGround 17 = .ok (.aload_n 0, 1) := dk_42 (dk_at dksX9_tillGround_0 17 rfl rfl)
theorem dX9_tillGround_18 : decode cX9_tillGround 18 = .ok (.areturn, 1) := dk_176 (dk_at dksX9_tillGround_0 18 rfl rfl)
def dkwX10_init_0 : List UInt8 := [42, 43, 181, 0, 3, 42, 183, 0, 9, 42, 16, 100, 188, 4, 181, 0, 15, 177]
abbrev dktX10_init_0 : List UInt8 := dkwX10_init_0 ++ []
theorem dksX10_init_0 : cX10_init.data.toList.drop 0 = dktX10_init_0 := by decide +kernel
theorem dX10_init_0 : decode cX10_init 0 = .ok (.aload_n 0, 1) := dk_42 (dk_at dksX10_init_0 0 rfl rfl)
theorem dX10_init_1 : decode cX10_init 1 = .ok (.aload_n 1, 1) := dk_43 (dk_at dksX10_init_0 1 rfl rfl)
theorem dX10_init_2 : decode cX10_init 2 = .ok (.putfield 3, 3) := dk_181 0 3 (dk_at dksX10_init_0 2 rfl rfl)
theorem dX10_init_5 : decode cX10_init 5 = .ok (.aload_n 0, 1) := dk_42 (dk_at dksX10_init_0 5 rfl rfl)
theorem dX10_init_6 : decode cX10_init 6 = .ok (.invokespecial 9, 3) := dk_183 0 9 (dk_at dksX10_init_0 6 rfl rfl)
theorem dX10_init_9 : decode cX10_init 9 = .ok (.aload_n 0, 1) := dk_42 (dk_at dksX10_init_0 9 rfl rfl)
theorem dX10_init_10 : decode cX10_init 10 = .ok (.bipush 100, 2) := dk_16 100 (dk_at dksX10_init_0 10 rfl rfl)
theorem dX10_init_12 : decode cX10_init 12 = .ok (.newarray .boolean, 2) := dk_188_4 (dk_at dksX10_init_0 12 rfl rfl)
theorem dX10_init_14 : decode cX10_init 14 = .ok (.putfield 15, 3) := dk_181 0 15 (dk_at dksX10_init_0 14 rfl rfl)
theorem dX10_init_17 : decode cX10_init 17 = .ok (.return_, 1) := dk_177 (dk_at dksX10_init_0 17 rfl rfl)
def dkwX10_goesOn_2 : List UInt8 := [132, 3, 1, 167, 255, 220, 132, 2, 1, 167, 255, 206, 42, 43, 181, 0, 15, 177]
abbrev dktX10_goesOn_2 : List UInt8 := dkwX10_goesOn_2 ++ []
def dkwX10_goesOn_1 : List UInt8 := [28, 51, 153, 0, 28, 43, 28, 42, 180, 0, 3, 180, 0, 19, 180, 0, 23, 29, 46, 184, 0, 29, 4, 84]
abbrev dktX10_goesOn_1 : List UInt8 := dkwX10_goesOn_1 ++ dktX10_goesOn_2
def dkwX10_goesOn_0 : List UInt8 := [16, 100, 188, 4, 76, 3, 61, 28, 16, 100, 162, 0, 50, 4, 62, 29, 8, 163, 0, 37, 42, 180, 0, 15]
abbrev dktX10_goesOn_0 : List UInt8 := dkwX10_goesOn_0 ++ dktX10_goesOn_1
theorem dksX10_goesOn_0 : cX10_goesOn.data.toList.drop 0 = dktX10_goesOn_0 := by decide +kernel
theorem dksX10_goesOn_1 : cX10_goesOn.data.toList.drop 24 = dktX10_goesOn_1 := dk_seg dksX10_goesOn_0 24 rfl rfl
theorem dksX10_goesOn_2 : cX10_goesOn.data.toList.drop 48 = dktX10_goesOn_2 := dk_seg dksX10_goesOn_1 24 rfl rfl
theorem dX10_goesOn_0 : decode cX10_goesOn 0 = .ok (.bipush 100, 2) := dk_16 100 (dk_at dksX10_goesOn_0 0 rfl rfl)
theorem dX10_goesOn_2 : decode cX10_goesOn 2 = .ok (.newarray .boolean, 2) := dk_188_4 (dk_at dksX10_goesOn_0 2 rfl rfl)
theorem dX10_goesOn_4 : decode cX10_goesOn 4 = .ok (.astore_n 1, 1) := dk_76 (dk_at dksX10_goesOn_0 4 rfl rfl)
theorem dX10_goesOn_5 : decode cX10_goesOn 5 = .ok (.iconst 0, 1) := dk_3 (dk_at dksX10_goesOn_0 5 rfl rfl)
theorem dX10_goesOn_6 : decode cX10_goesOn 6 = .ok (.istore_n 2, 1) := dk_61 (dk_at dksX10_goesOn_0 6 rfl rfl)
theorem dX10_goesOn_7 : decode cX10_goesOn 7 = .ok (.iload_n 2, 1) := dk_28 (dk_at dksX10_goesOn_0 7 rfl rfl)
theorem dX10_goesOn_8 : decode cX10_goesOn 8 = .ok (.bipush 100, 2) := dk_16 100 (dk_at dksX10_goesOn_0 8 rfl rfl)
theorem dX10_goesOn_10 : decode cX10_goesOn 10 = .ok (.if_icmp .ge 50, 3) := dk_162 0 50 (dk_at dksX10_goesOn_0 10 rfl rfl)
theorem dX10_goesOn_13 : decode cX10_goesOn 13 = .ok (.iconst 1, 1) := dk_4 (dk_at dksX10_goesOn_0 13 rfl rfl)
theorem dX10_goesOn_14 : decode cX10_goesOn 14 = .ok (.istore_n 3, 1) := dk_62 (dk_at dksX10_goesOn_0 14 rfl rfl)
theorem dX10_goesOn_15 : decode cX10_goesOn 15 = .ok (.iload_n 3, 1) := dk_29 (dk_at dksX10_goesOn_0 15 rfl rfl)
theorem dX10_goesOn_16 : decode cX10_goesOn 16 = .ok (.iconst 5, 1) := dk_8 (dk_at dksX10_goesOn_0 16 rfl rfl)
theorem dX10_goesOn_17 : decode cX10_goesOn 17 = .ok (.if_icmp .gt 37, 3) := dk_163 0 37 (dk_at dksX10_goesOn_0 17 rfl rfl)
theorem dX10_goesOn_20 : decode cX10_goesOn 20 = .ok (.aload_n 0, 1) := dk_42 (dk_at dksX10_goesOn_0 20 rfl rfl)
theorem dX10_goesOn_21 : decode cX10_goesOn 21 = .ok (.getfield 15, 3) := dk_180 0 15 (dk_at dksX10_goesOn_0 21 rfl rfl)
theorem dX10_goesOn_24 : decode cX10_goesOn 24 = .ok (.iload_n 2, 1) := dk_28 (dk_at dksX10_goesOn_1 0 rfl rfl)
theorem dX10_goesOn_25 : decode cX10_goesOn 25 = .ok (.baload, 1) := dk_51 (dk_at dksX10_goesOn_1 1 rfl rfl)
theorem dX10_goesOn_26 : decode cX10_goesOn 26 = .ok (.ifCond .eq 28, 3) := dk_153 0 28 (dk_at dksX10_goesOn_1 2 rfl rfl)
theorem dX10_goesOn_29 : decode cX10_goesOn 29 = .ok (.aload_n 1, 1) := dk_43 (dk_at dksX10_goesOn_1 5 rfl rfl)
theorem dX10_goesOn_30 : decode cX10_goesOn 30 = .ok (.iload_n 2, 1) := dk_28 (dk_at dksX10_goesOn_1 6 rfl rfl)
theorem dX10_goesOn_31 : decode cX10_goesOn 31 = .ok (.aload_n 0, 1) := dk_42 (dk_at dksX10_goesOn_1 7 rfl rfl)
theorem dX10_goesOn_32 : decode cX10_goesOn 32 = .ok (.getfield 3, 3) := dk_180 0 3 (dk_at dksX10_goesOn_1 8 rfl rfl)
theorem dX10_goesOn_35 : decode cX10_goesOn 35 = .ok (.getfield 19, 3) := dk_180 0 19 (dk_at dksX10_goesOn_1 11 rfl rfl)
theorem dX10_goesOn_38 : decode cX10_goesOn 38 = .ok (.getfield 23, 3) := dk_180 0 23 (dk_at dksX10_goesOn_1 14 rfl rfl)
theorem dX10_goesOn_41 : decode cX10_goesOn 41 = .ok (.iload_n 3, 1) := dk_29 (dk_at dksX10_goesOn_1 17 rfl rfl)
theorem dX10_goesOn_42 : decode cX10_goesOn 42 = .ok (.iaload, 1) := dk_46 (dk_at dksX10_goesOn_1 18 rfl rfl)
theorem dX10_goesOn_43 : decode cX10_goesOn 43 = .ok (.invokestatic 29, 3) := dk_184 0 29 (dk_at dksX10_goesOn_1 19 rfl rfl)
theorem dX10_goesOn_46 : decode cX10_goesOn 46 = .ok (.iconst 1, 1) := dk_4 (dk_at dksX10_goesOn_1 22 rfl rfl)
theorem dX10_goesOn_47 : decode cX10_goesOn 47 = .ok (.bastore, 1) := dk_84 (dk_at dksX10_goesOn_1 23 rfl rfl)
theorem dX10_goesOn_48 : decode cX10_goesOn 48 = .ok (.iinc 3 1, 3) := dk_132 3 1 (dk_at dksX10_goesOn_2 0 rfl rfl)
theorem dX10_goesOn_51 : decode cX10_goesOn 51 = .ok (.goto (-36), 3) := dk_167 255 220 (dk_at dksX10_goesOn_2 3 rfl rfl)
theorem dX10_goesOn_54 : decode cX10_goesOn 54 = .ok (.iinc 2 1, 3) := dk_132 2 1 (dk_at dksX10_goesOn_2 6 rfl rfl)
theorem dX10_goesOn_57 : decode cX10_goesOn 57 = .ok (.goto (-50), 3) := dk_167 255 206 (dk_at dksX10_goesOn_2 9 rfl rfl)
theorem dX10_goesOn_60 : decode cX10_goesOn 60 = .ok (.aload_n 0, 1) := dk_42 (dk_at dksX10_goesOn_2 12 rfl rfl)
theorem dX10_goesOn_61 : decode cX10_goesOn 61 = .ok (.aload_n 1, 1) := dk_43 (dk_at dksX10_goesOn_2 13 rfl rfl)
theorem dX10_goesOn_62 : decode cX10_goesOn 62 = .ok (.putfield 15, 3) := dk_181 0 15 (dk_at dksX10_goesOn_2 14 rfl rfl)
theorem dX10_goesOn_65 : decode cX10_goesOn 65 = .ok (.return_, 1) := dk_177 (dk_at dksX10_goesOn_2 17 rfl rfl)
def dkwX10_many_1 : List UInt8 := [54, 5, 27, 21, 5, 153, 0, 7, 4, 167, 0, 4, 3, 96, 60, 132, 4, 1, 167, 255, 228, 27, 172]
abbrev dktX10_many_1 : List UInt8 := dkwX10_many_1 ++ []
def dkwX10_many_0 : List UInt8 := [3, 60, 42, 180, 0, 15, 77, 44, 190, 62, 3, 54, 4, 21, 4, 29, 162, 0, 28, 44, 21, 4, 51]
abbrev dktX10_many_0 : List UInt8 := dkwX10_many_0 ++ dktX10_many_1
theorem dksX10_many_0 : cX10_many.data.toList.drop 0 = dktX10_many_0 := by decide +kernel
theorem dksX10_many_1 : cX10_many.data.toList.drop 23 = dktX10_many_1 := dk_seg dksX10_many_0 23 rfl rfl
theorem dX10_many_0 : decode cX10_many 0 = .ok (.iconst 0, 1) := dk_3 (dk_at dksX10_many_0 0 rfl rfl)
theorem dX10_many_1 : decode cX10_many 1 = .ok (.istore_n 1, 1) := dk_60 (dk_at dksX10_many_0 1 rfl rfl)
theorem dX10_many_2 : decode cX10_many 2 = .ok (.aload_n 0, 1) := dk_42 (dk_at dksX10_many_0 2 rfl rfl)
theorem dX10_many_3 : decode cX10_many 3 = .ok (.getfield 15, 3) := dk_180 0 15 (dk_at dksX10_many_0 3 rfl rfl)
theorem dX10_many_6 : decode cX10_many 6 = .ok (.astore_n 2, 1) := dk_77 (dk_at dksX10_many_0 6 rfl rfl)
theorem dX10_many_7 : decode cX10_many 7 = .ok (.aload_n 2, 1) := dk_44 (dk_at dksX10_many_0 7 rfl rfl)
theorem dX10_many_8 : decode cX10_many 8 = .ok (.arraylength, 1) := dk_190 (dk_at dksX10_many_0 8 rfl rfl)
theorem dX10_many_9 : decode cX10_many 9 = .ok (.istore_n 3, 1) := dk_62 (dk_at dksX10_many_0 9 rfl rfl)
theorem dX10_many_10 : decode cX10_many 10 = .ok (.iconst 0, 1) := dk_3 (dk_at dksX10_many_0 10 rfl rfl)
theorem dX10_many_11 : decode cX10_many 11 = .ok (.istore 4, 2) := dk_54 4 (dk_at dksX10_many_0 11 rfl rfl)
theorem dX10_many_13 : decode cX10_many 13 = .ok (.iload 4, 2) := dk_21 4 (dk_at dksX10_many_0 13 rfl rfl)
theorem dX10_many_15 : decode cX10_many 15 = .ok (.iload_n 3, 1) := dk_29 (dk_at dksX10_many_0 15 rfl rfl)
theorem dX10_many_16 : decode cX10_many 16 = .ok (.if_icmp .ge 28, 3) := dk_162 0 28 (dk_at dksX10_many_0 16 rfl rfl)
theorem dX10_many_19 : decode cX10_many 19 = .ok (.aload_n 2, 1) := dk_44 (dk_at dksX10_many_0 19 rfl rfl)
theorem dX10_many_20 : decode cX10_many 20 = .ok (.iload 4, 2) := dk_21 4 (dk_at dksX10_many_0 20 rfl rfl)
theorem dX10_many_22 : decode cX10_many 22 = .ok (.baload, 1) := dk_51 (dk_at dksX10_many_0 22 rfl rfl)
theorem dX10_many_23 : decode cX10_many 23 = .ok (.istore 5, 2) := dk_54 5 (dk_at dksX10_many_1 0 rfl rfl)
theorem dX10_many_25 : decode cX10_many 25 = .ok (.iload_n 1, 1) := dk_27 (dk_at dksX10_many_1 2 rfl rfl)
theorem dX10_many_26 : decode cX10_many 26 = .ok (.iload 5, 2) := dk_21 5 (dk_at dksX10_many_1 3 rfl rfl)
theorem dX10_many_28 : decode cX10_many 28 = .ok (.ifCond .eq 7, 3) := dk_153 0 7 (dk_at dksX10_many_1 5 rfl rfl)
theorem dX10_many_31 : decode cX10_many 31 = .ok (.iconst 1, 1) := dk_4 (dk_at dksX10_many_1 8 rfl rfl)
theorem dX10_many_32 : decode cX10_many 32 = .ok (.goto 4, 3) := dk_167 0 4 (dk_at dksX10_many_1 9 rfl rfl)
theorem dX10_many_35 : decode cX10_many 35 = .ok (.iconst 0, 1) := dk_3 (dk_at dksX10_many_1 12 rfl rfl)
theorem dX10_many_36 : decode cX10_many 36 = .ok (.iadd, 1) := dk_96 (dk_at dksX10_many_1 13 rfl rfl)
theorem dX10_many_37 : decode cX10_many 37 = .ok (.istore_n 1, 1) := dk_60 (dk_at dksX10_many_1 14 rfl rfl)
theorem dX10_many_38 : decode cX10_many 38 = .ok (.iinc 4 1, 3) := dk_132 4 1 (dk_at dksX10_many_1 15 rfl rfl)
theorem dX10_many_41 : decode cX10_many 41 = .ok (.goto (-28), 3) := dk_167 255 228 (dk_at dksX10_many_1 18 rfl rfl)
theorem dX10_many_44 : decode cX10_many 44 = .ok (.iload_n 1, 1) := dk_27 (dk_at dksX10_many_1 21 rfl rfl)
theorem dX10_many_45 : decode cX10_many 45 = .ok (.ireturn, 1) := dk_172 (dk_at dksX10_many_1 22 rfl rfl)
def dkwX11_init_3 : List UInt8 := [89, 183, 0, 39, 181, 0, 40, 42, 43, 181, 0, 44, 177]
abbrev dktX11_init_3 : List UInt8 := dkwX11_init_3 ++ []
def dkwX11_init_2 : List UInt8 := [16, 7, 18, 25, 83, 89, 16, 8, 18, 27, 83, 89, 16, 9, 18, 29, 83, 181, 0, 31, 42, 187, 0, 37]
abbrev dktX11_init_2 : List UInt8 := dkwX11_init_2 ++ dktX11_init_3
def dkwX11_init_1 : List UInt8 := [83, 89, 6, 18, 17, 83, 89, 7, 18, 19, 83, 89, 8, 18, 21, 83, 89, 16, 6, 18, 23, 83, 89]
abbrev dktX11_init_1 : List UInt8 := dkwX11_init_1 ++ dktX11_init_2
def dkwX11_init_0 : List UInt8 := [42, 183, 0, 3, 42, 16, 10, 189, 0, 9, 89, 3, 18, 11, 83, 89, 4, 18, 13, 83, 89, 5, 18, 15]
abbrev dktX11_init_0 : List UInt8 := dkwX11_init_0 ++ dktX11_init_1
theorem dksX11_init_0 : cX11_init.data.toList.drop 0 = dktX11_init_0 := by decide +kernel
theorem dksX11_init_1 : cX11_init.data.toList.drop 24 = dktX11_init_1 := dk_seg dksX11_init_0 24 rfl rfl
theorem dksX11_init_2 : cX11_init.data.toList.drop 47 = dktX11_init_2 := dk_seg dksX11_init_1 23 rfl rfl
theorem dksX11_init_3 : cX11_init.data.toList.drop 71 = dktX11_init_3 := dk_seg dksX11_init_2 24 rfl rfl
theorem dX11_init_0 : decode cX11_init 0 = .ok (.aload_n 0, 1) := dk_42 (dk_at dksX11_init_0 0 rfl rfl)
theorem dX11_init_1 : decode cX11_init 1 = .ok (.invokespecial 3, 3) := dk_183 0 3 (dk_at dksX11_init_0 1 rfl rfl)
theorem dX11_init_4 : decode cX11_init 4 = .ok (.aload_n 0, 1) := dk_42 (dk_at dksX11_init_0 4 rfl rfl)
theorem dX11_init_5 : decode cX11_init 5 = .ok (.bipush 10, 2) := dk_16 10 (dk_at dksX11_init_0 5 rfl rfl)
theorem dX11_init_7 : decode cX11_init 7 = .ok (.anewarray 9, 3) := dk_189 0 9 (dk_at dksX11_init_0 7 rfl rfl)
theorem dX11_init_10 : decode cX11_init 10 = .ok (.dup, 1) := dk_89 (dk_at dksX11_init_0 10 rfl rfl)
theorem dX11_init_11 : decode cX11_init 11 = .ok (.iconst 0, 1) := dk_3 (dk_at dksX11_init_0 11 rfl rfl)
theorem dX11_init_12 : decode cX11_init 12 = .ok (.ldc 11, 2) := dk_18 11 (dk_at dksX11_init_0 12 rfl rfl)
theorem dX11_init_14 : decode cX11_init 14 = .ok (.aastore, 1) := dk_83 (dk_at dksX11_init_0 14 rfl rfl)
theorem dX11_init_15 : decode cX11_init 15 = .ok (.dup, 1) := dk_89 (dk_at dksX11_init_0 15 rfl rfl)
theorem dX11_init_16 : decode cX11_init 16 = .ok (.iconst 1, 1) := dk_4 (dk_at dksX11_init_0 16 rfl rfl)
theorem dX11_init_17 : decode cX11_init 17 = .ok (.ldc 13, 2) := dk_18 13 (dk_at dksX11_init_0 17 rfl rfl)
theorem dX11_init_19 : decode cX11_init 19 = .ok (.aastore, 1) := dk_83 (dk_at dksX11_init_0 19 rfl rfl)
theorem dX11_init_20 : decode cX11_init 20 = .ok (.dup, 1) := dk_89 (dk_at dksX11_init_0 20 rfl rfl)
theorem dX11_init_21 : decode cX11_init 21 = .ok (.iconst 2, 1) := dk_5 (dk_at dksX11_init_0 21 rfl rfl)
theorem dX11_init_22 : decode cX11_init 22 = .ok (.ldc 15, 2) := dk_18 15 (dk_at dksX11_init_0 22 rfl rfl)
theorem dX11_init_24 : decode cX11_init 24 = .ok (.aastore, 1) := dk_83 (dk_at dksX11_init_1 0 rfl rfl)
theorem dX11_init_25 : decode cX11_init 25 = .ok (.dup, 1) := dk_89 (dk_at dksX11_init_1 1 rfl rfl)
theorem dX11_init_26 : decode cX11_init 26 = .ok (.iconst 3, 1) := dk_6 (dk_at dksX11_init_1 2 rfl rfl)
theorem dX11_init_27 : decode cX11_init 27 = .ok (.ldc 17, 2) := dk_18 17 (dk_at dksX11_init_1 3 rfl rfl)
theorem dX11_init_29 : decode cX11_init 29 = .ok (.aastore, 1) := dk_83 (dk_at dksX11_init_1 5 rfl rfl)
theorem dX11_init_30 : decode cX11_init 30 = .ok (.dup, 1) := dk_89 (dk_at dksX11_init_1 6 rfl rfl)
theorem dX11_init_31 : decode cX11_init 31 = .ok (.iconst 4, 1) := dk_7 (dk_at dksX11_init_1 7 rfl rfl)
theorem dX11_init_32 : decode cX11_init 32 = .ok (.ldc 19, 2) := dk_18 19 (dk_at dksX11_init_1 8 rfl rfl)
theorem dX11_init_34 : decode cX11_init 34 = .ok (.aastore, 1) := dk_83 (dk_at dksX11_init_1 10 rfl rfl)
theorem dX11_init_35 : decode cX11_init 35 = .ok (.dup, 1) := dk_89 (dk_at dksX11_init_1 11 rfl rfl)
theorem dX11_init_36 : decode cX11_init 36 = .ok (.iconst 5, 1) := dk_8 (dk_at dksX11_init_1 12 rfl rfl)
theorem dX11_init_37 : decode cX11_init 37 = .ok (.ldc 21, 2) := dk_18 21 (dk_at dksX11_init_1 13 rfl rfl)
theorem dX11_init_39 : decode cX11_init 39 = .ok (.aastore, 1) := dk_83 (dk_at dksX11_init_1 15 rfl rfl)
theorem dX11_init_40 : decode cX11_init 40 = .ok (.dup, 1) := dk_89 (dk_at dksX11_init_1 16 rfl rfl)
theorem dX11_init_41 : decode cX11_init 41 = .ok (.bipush 6, 2) := dk_16 6 (dk_at dksX11_init_1 17 rfl rfl)
theorem dX11_init_43 : decode cX11_init 43 = .ok (.ldc 23, 2) := dk_18 23 (dk_at dksX11_init_1 19 rfl rfl)
theorem dX11_init_45 : decode cX11_init 45 = .ok (.aastore, 1) := dk_83 (dk_at dksX11_init_1 21 rfl rfl)
theorem dX11_init_46 : decode cX11_init 46 = .ok (.dup, 1) := dk_89 (dk_at dksX11_init_1 22 rfl rfl)
theorem dX11_init_47 : decode cX11_init 47 = .ok (.bipush 7, 2) := dk_16 7 (dk_at dksX11_init_2 0 rfl rfl)
theorem dX11_init_49 : decode cX11_init 49 = .ok (.ldc 25, 2) := dk_18 25 (dk_at dksX11_init_2 2 rfl rfl)
theorem dX11_init_51 : decode cX11_init 51 = .ok (.aastore, 1) := dk_83 (dk_at dksX11_init_2 4 rfl rfl)
theorem dX11_init_52 : decode cX11_init 52 = .ok (.dup, 1) := dk_89 (dk_at dksX11_init_2 5 rfl rfl)
theorem dX11_init_53 : decode cX11_init 53 = .ok (.bipush 8, 2) := dk_16 8 (dk_at dksX11_init_2 6 rfl rfl)
theorem dX11_init_55 : decode cX11_init 55 = .ok (.ldc 27, 2) := dk_18 27 (dk_at dksX11_init_2 8 rfl rfl)
theorem dX11_init_57 : decode cX11_init 57 = .ok (.aastore, 1) := dk_83 (dk_at dksX11_init_2 10 rfl rfl)
theorem dX11_init_58 : decode cX11_init 58 = .ok (.dup, 1) := dk_89 (dk_at dksX11_init_2 11 rfl rfl)
theorem dX11_init_59 : decode cX11_init 59 = .ok (.bipush 9, 2) := dk_16 9 (dk_at dksX11_init_2 12 rfl rfl)
theorem dX11_init_61 : decode cX11_init 61 = .ok (.ldc 29, 2) := dk_18 29 (dk_at dksX11_init_2 14 rfl rfl)
theorem dX11_init_63 : decode cX11_init 63 = .ok (.aastore, 1) := dk_83 (dk_at dksX11_init_2 16 rfl rfl)
theorem dX11_init_64 : decode cX11_init 64 = .ok (.putfield 31, 3) := dk_181 0 31 (dk_at dksX11_init_2 17 rfl rfl)
theorem dX11_init_67 : decode cX11_init 67 = .ok (.aload_n 0, 1) := dk_42 (dk_at dksX11_init_2 20 rfl rfl)
theorem dX11_init_68 : decode cX11_init 68 = .ok (.new 37, 3) := dk_187 0 37 (dk_at dksX11_init_2 21 rfl rfl)
theorem dX11_init_71 : decode cX11_init 71 = .ok (.dup, 1) := dk_89 (dk_at dksX11_init_3 0 rfl rfl)
theorem dX11_init_72 : decode cX11_init 72 = .ok (.invokespecial 39, 3) := dk_183 0 39 (dk_at dksX11_init_3 1 rfl rfl)
theorem dX11_init_75 : decode cX11_init 75 = .ok (.putfield 40, 3) := dk_181 0 40 (dk_at dksX11_init_3 4 rfl rfl)
theorem dX11_init_78 : decode cX11_init 78 = .ok (.aload_n 0, 1) := dk_42 (dk_at dksX11_init_3 7 rfl rfl)
theorem dX11_init_79 : decode cX11_init 79 = .ok (.aload_n 1, 1) := dk_43 (dk_at dksX11_init_3 8 rfl rfl)
theorem dX11_init_80 : decode cX11_init 80 = .ok (.putfield 44, 3) := dk_181 0 44 (dk_at dksX11_init_3 9 rfl rfl)
theorem dX11_init_83 : decode cX11_init 83 = .ok (.return_, 1) := dk_177 (dk_at dksX11_init_3 12 rfl rfl)
def dkwX11_fault_2 : List UInt8 := [153, 0, 10, 42, 180, 0, 48, 167, 0, 4, 2, 172]
abbrev dktX11_fault_2 : List UInt8 := dkwX11_fault_2 ++ []
def dkwX11_fault_1 : List UInt8 := [180, 0, 44, 182, 0, 52, 162, 0, 7, 4, 167, 0, 4, 3, 128, 181, 0, 60, 42, 180, 0, 60]
abbrev dktX11_fault_1 : List UInt8 := dkwX11_fault_1 ++ dktX11_fault_2
def dkwX11_fault_0 : List UInt8 := [42, 182, 0, 144, 42, 16, 59, 182, 0, 98, 154, 255, 246, 42, 89, 180, 0, 60, 42, 180, 0, 48, 42]
abbrev dktX11_fault_0 : List UInt8 := dkwX11_fault_0 ++ dktX11_fault_1
theorem dksX11_fault_0 : cX11_fault.data.toList.drop 0 = dktX11_fault_0 := by decide +kernel
theorem dksX11_fault_1 : cX11_fault.data.toList.drop 23 = dktX11_fault_1 := dk_seg dksX11_fault_0 23 rfl rfl
theorem dksX11_fault_2 : cX11_fault.data.toList.drop 45 = dktX11_fault_2 := dk_seg dksX11_fault_1 22 rfl rfl
theorem dX11_fault_0 : decode cX11_fault 0 = .ok (.aload_n 0, 1) := dk_42 (dk_at dksX11_fault_0 0 rfl rfl)
theorem dX11_fault_1 : decode cX11_fault 1 = .ok (.invokevirtual 144, 3) := dk_182 0 144 (dk_at dksX11_fault_0 1 rfl rfl)
theorem dX11_fault_4 : decode cX11_fault 4 = .ok (.aload_n 0, 1) := dk_42 (dk_at dksX11_fault_0 4 rfl rfl)
theorem dX11_fault_5 : decode cX11_fault 5 = .ok (.bipush 59, 2) := dk_16 59 (dk_at dksX11_fault_0 5 rfl rfl)
theorem dX11_fault_7 : decode cX11_fault 7 = .ok (.invokevirtual 98, 3) := dk_182 0 98 (dk_at dksX11_fault_0 7 rfl rfl)
theorem dX11_fault_10 : decode cX11_fault 10 = .ok (.ifCond .ne (-10), 3) := dk_154 255 246 (dk_at dksX11_fault_0 10 rfl rfl)
theorem dX11_fault_13 : decode cX11_fault 13 = .ok (.aload_n 0, 1) := dk_42 (dk_at dksX11_fault_0 13 rfl rfl)
theorem dX11_fault_14 : decode cX11_fault 14 = .ok (.dup, 1) := dk_89 (dk_at dksX11_fault_0 14 rfl rfl)
theorem dX11_fault_15 : decode cX11_fault 15 = .ok (.getfield 60, 3) := dk_180 0 60 (dk_at dksX11_fault_0 15 rfl rfl)
theorem dX11_fault_18 : decode cX11_fault 18 = .ok (.aload_n 0, 1) := dk_42 (dk_at dksX11_fault_0 18 rfl rfl)
theorem dX11_fault_19 : decode cX11_fault 19 = .ok (.getfield 48, 3) := dk_180 0 48 (dk_at dksX11_fault_0 19 rfl rfl)
theorem dX11_fault_22 : decode cX11_fault 22 = .ok (.aload_n 0, 1) := dk_42 (dk_at dksX11_fault_0 22 rfl rfl)
theorem dX11_fault_23 : decode cX11_fault 23 = .ok (.getfield 44, 3) := dk_180 0 44 (dk_at dksX11_fault_1 0 rfl rfl)
theorem dX11_fault_26 : decode cX11_fault 26 = .ok (.invokevirtual 52, 3) := dk_182 0 52 (dk_at dksX11_fault_1 3 rfl rfl)
theorem dX11_fault_29 : decode cX11_fault 29 = .ok (.if_icmp .ge 7, 3) := dk_162 0 7 (dk_at dksX11_fault_1 6 rfl rfl)
theorem dX11_fault_32 : decode cX11_fault 32 = .ok (.iconst 1, 1) := dk_4 (dk_at dksX11_fault_1 9 rfl rfl)
theorem dX11_fault_33 : decode cX11_fault 33 = .ok (.goto 4, 3) := dk_167 0 4 (dk_at dksX11_fault_1 10 rfl rfl)
theorem dX11_fault_36 : decode cX11_fault 36 = .ok (.iconst 0, 1) := dk_3 (dk_at dksX11_fault_1 13 rfl rfl)
theorem dX11_fault_37 : decode cX11_fault 37 = .ok (.ior, 1) := dk_128 (dk_at dksX11_fault_1 14 rfl rfl)
theorem dX11_fault_38 : decode cX11_fault 38 = .ok (.putfield 60, 3) := dk_181 0 60 (dk_at dksX11_fault_1 15 rfl rfl)
theorem dX11_fault_41 : decode cX11_fault 41 = .ok (.aload_n 0, 1) := dk_42 (dk_at dksX11_fault_1 18 rfl rfl)
theorem dX11_fault_42 : decode cX11_fault 42 = .ok (.getfield 60, 3) := dk_180 0 60 (dk_at dksX11_fault_1 19 rfl rfl)
theorem dX11_fault_45 : decode cX11_fault 45 = .ok (.ifCond .eq 10, 3) := dk_153 0 10 (dk_at dksX11_fault_2 0 rfl rfl)
theorem dX11_fault_48 : decode cX11_fault 48 = .ok (.aload_n 0, 1) := dk_42 (dk_at dksX11_fault_2 3 rfl rfl)
theorem dX11_fault_49 : decode cX11_fault 49 = .ok (.getfield 48, 3) := dk_180 0 48 (dk_at dksX11_fault_2 4 rfl rfl)
theorem dX11_fault_52 : decode cX11_fault 52 = .ok (.goto 4, 3) := dk_167 0 4 (dk_at dksX11_fault_2 7 rfl rfl)
theorem dX11_fault_55 : decode cX11_fault 55 = .ok (.iconst (-1), 1) := dk_2 (dk_at dksX11_fault_2 10 rfl rfl)
theorem dX11_fault_56 : decode cX11_fault 56 = .ok (.ireturn, 1) := dk_172 (dk_at dksX11_fault_2 11 rfl rfl)
def dkwX11_command_1 : List UInt8 := [180, 0, 60, 154, 0, 12, 42, 182, 0, 112, 42, 43, 182, 0, 124, 177]
abbrev dktX11_command_1 : List UInt8 := dkwX11_command_1 ++ []
def dkwX11_command_0 : List UInt8 := [187, 0, 103, 89, 42, 182, 0, 115, 183, 0, 118, 76, 42, 180, 0, 40, 43, 182, 0, 121, 87, 42]
abbrev dktX11_command_0 : List UInt8 := dkwX11_command_0 ++ dktX11_command_1
theorem dksX11_command_0 : cX11_command.data.toList.drop 0 = dktX11_command_0 := by decide +kernel
theorem dksX11_command_1 : cX11_command.data.toList.drop 22 = dktX11_command_1 := dk_seg dksX11_command_0 22 rfl rfl
theorem dX11_command_0 : decode cX11_command 0 = .ok (.new 103, 3) := dk_187 0 103 (dk_at dksX11_command_0 0 rfl rfl)
theorem dX11_command_3 : decode cX11_command 3 = .ok (.dup, 1) := dk_89 (dk_at dksX11_command_0 3 rfl rfl)
theorem dX11_command_4 : decode cX11_command 4 = .ok (.aload_n 0, 1) := dk_42 (dk_at dksX11_command_0 4 rfl rfl)
theorem dX11_command_5 : decode cX11_command 5 = .ok (.invokevirtual 115, 3) := dk_182 0 115 (dk_at dksX11_command_0 5 rfl rfl)
theorem dX11_command_8 : decode cX11_command 8 = .ok (.invokespecial 118, 3) := dk_183 0 118 (dk_at dksX11_command_0 8 rfl rfl)
theorem dX11_command_11 : decode cX11_command 11 = .ok (.astore_n 1, 1) := dk_76 (dk_at dksX11_command_0 11 rfl rfl)
theorem dX11_command_12 : decode cX11_command 12 = .ok (.aload_n 0, 1) := dk_42 (dk_at dksX11_command_0 12 rfl rfl)
theorem dX11_command_13 : decode cX11_command 13 = .ok (.getfield 40, 3) := dk_180 0 40 (dk_at dksX11_command_0 13 rfl rfl)
theorem dX11_command_16 : decode cX11_command 16 = .ok (.aload_n 1, 1) := dk_43 (dk_at dksX11_command_0 16 rfl rfl)
theorem dX11_command_17 : decode cX11_command 17 = .ok (.invokevirtual 121, 3) := dk_182 0 121 (dk_at dksX11_command_0 17 rfl rfl)
theorem dX11_command_20 : decode cX11_command 20 = .ok (.pop, 1) := dk_87 (dk_at dksX11_command_0 20 rfl rfl)
theorem dX11_command_21 : decode cX11_command 21 = .ok (.aload_n 0, 1) := dk_42 (dk_at dksX11_command_0 21 rfl rfl)
theorem dX11_command_22 : decode cX11_command 22 = .ok (.getfield 60, 3) := dk_180 0 60 (dk_at dksX11_command_1 0 rfl rfl)
theorem dX11_command_25 : decode cX11_command 25 = .ok (.ifCond .ne 12, 3) := dk_154 0 12 (dk_at dksX11_command_1 3 rfl rfl)
theorem dX11_command_28 : decode cX11_command 28 = .ok (.aload_n 0, 1) := dk_42 (dk_at dksX11_command_1 6 rfl rfl)
theorem dX11_command_29 : decode cX11_command 29 = .ok (.invokevirtual 112, 3) := dk_182 0 112 (dk_at dksX11_command_1 7 rfl rfl)
theorem dX11_command_32 : decode cX11_command 32 = .ok (.aload_n 0, 1) := dk_42 (dk_at dksX11_command_1 10 rfl rfl)
theorem dX11_command_33 : decode cX11_command 33 = .ok (.aload_n 1, 1) := dk_43 (dk_at dksX11_command_1 11 rfl rfl)
theorem dX11_command_34 : decode cX11_command 34 = .ok (.invokevirtual 124, 3) := dk_182 0 124 (dk_at dksX11_command_1 12 rfl rfl)
theorem dX11_command_37 : decode cX11_command 37 = .ok (.return_, 1) := dk_177 (dk_at dksX11_command_1 15 rfl rfl)
def dkwX11_word_5 : List UInt8 := [180, 0, 44, 27, 42, 180, 0, 48, 182, 0, 76, 176]
abbrev dktX11_word_5 : List UInt8 := dkwX11_word_5 ++ []
def dkwX11_word_4 : List UInt8 := [180, 0, 48, 42, 180, 0, 60, 153, 0, 7, 3, 167, 0, 4, 4, 96, 181, 0, 48, 167, 255, 152, 42]
abbrev dktX11_word_4 : List UInt8 := dkwX11_word_4 ++ dktX11_word_5
def dkwX11_word_3 : List UInt8 := [182, 0, 91, 182, 0, 94, 3, 182, 0, 80, 154, 0, 7, 4, 167, 0, 4, 3, 181, 0, 60, 42, 89]
abbrev dktX11_word_3 : List UInt8 := dkwX11_word_3 ++ dktX11_word_4
def dkwX11_word_2 : List UInt8 := [183, 0, 86, 42, 180, 0, 44, 27, 42, 180, 0, 48, 182, 0, 76, 182, 0, 87, 42, 182, 0, 64]
abbrev dktX11_word_2 : List UInt8 := dkwX11_word_2 ++ dktX11_word_3
def dkwX11_word_1 : List UInt8 := [154, 0, 90, 42, 180, 0, 60, 154, 0, 83, 42, 42, 182, 0, 64, 153, 0, 43, 42, 187, 0, 84, 89]
abbrev dktX11_word_1 : List UInt8 := dkwX11_word_1 ++ dktX11_word_2
def dkwX11_word_0 : List UInt8 := [42, 180, 0, 48, 60, 42, 42, 180, 0, 44, 27, 42, 180, 0, 48, 182, 0, 76, 4, 182, 0, 80]
abbrev dktX11_word_0 : List UInt8 := dkwX11_word_0 ++ dktX11_word_1
theorem dksX11_word_0 : cX11_word.data.toList.drop 0 = dktX11_word_0 := by decide +kernel
theorem dksX11_word_1 : cX11_word.data.toList.drop 22 = dktX11_word_1 := dk_seg dksX11_word_0 22 rfl rfl
theorem dksX11_word_2 : cX11_word.data.toList.drop 45 = dktX11_word_2 := dk_seg dksX11_word_1 23 rfl rfl
theorem dksX11_word_3 : cX11_word.data.toList.drop 67 = dktX11_word_3 := dk_seg dksX11_word_2 22 rfl rfl
theorem dksX11_word_4 : cX11_word.data.toList.drop 90 = dktX11_word_4 := dk_seg dksX11_word_3 23 rfl rfl
theorem dksX11_word_5 : cX11_word.data.toList.drop 113 = dktX11_word_5 := dk_seg dksX11_word_4 23 rfl rfl
theorem dX11_word_0 : decode cX11_word 0 = .ok (.aload_n 0, 1) := dk_42 (dk_at dksX11_word_0 0 rfl rfl)
theorem dX11_word_1 : decode cX11_word 1 = .ok (.getfield 48, 3) := dk_180 0 48 (dk_at dksX11_word_0 1 rfl rfl)
theorem dX11_word_4 : decode cX11_word 4 = .ok (.istore_n 1, 1) := dk_60 (dk_at dksX11_word_0 4 rfl rfl)
theorem dX11_word_5 : decode cX11_word 5 = .ok (.aload_n 0, 1) := dk_42 (dk_at dksX11_word_0 5 rfl rfl)
theorem dX11_word_6 : decode cX11_word 6 = .ok (.aload_n 0, 1) := dk_42 (dk_at dksX11_word_0 6 rfl rfl)
theorem dX11_word_7 : decode cX11_word 7 = .ok (.getfield 44, 3) := dk_180 0 44 (dk_at dksX11_word_0 7 rfl rfl)
theorem dX11_word_10 : decode cX11_word 10 = .ok (.iload_n 1, 1) := dk_27 (dk_at dksX11_word_0 10 rfl rfl)
theorem dX11_word_11 : decode cX11_word 11 = .ok (.aload_n 0, 1) := dk_42 (dk_at dksX11_word_0 11 rfl rfl)
theorem dX11_word_12 : decode cX11_word 12 = .ok (.getfield 48, 3) := dk_180 0 48 (dk_at dksX11_word_0 12 rfl rfl)
theorem dX11_word_15 : decode cX11_word 15 = .ok (.invokevirtual 76, 3) := dk_182 0 76 (dk_at dksX11_word_0 15 rfl rfl)
theorem dX11_word_18 : decode cX11_word 18 = .ok (.iconst 1, 1) := dk_4 (dk_at dksX11_word_0 18 rfl rfl)
theorem dX11_word_19 : decode cX11_word 19 = .ok (.invokevirtual 80, 3) := dk_182 0 80 (dk_at dksX11_word_0 19 rfl rfl)
theorem dX11_word_22 : decode cX11_word 22 = .ok (.ifCond .ne 90, 3) := dk_154 0 90 (dk_at dksX11_word_1 0 rfl rfl)
theorem dX11_word_25 : decode cX11_word 25 = .ok (.aload_n 0, 1) := dk_42 (dk_at dksX11_word_1 3 rfl rfl)
theorem dX11_word_26 : decode cX11_word 26 = .ok (.getfield 60, 3) := dk_180 0 60 (dk_at dksX11_word_1 4 rfl rfl)
theorem dX11_word_29 : decode cX11_word 29 = .ok (.ifCond .ne 83, 3) := dk_154 0 83 (dk_at dksX11_word_1 7 rfl rfl)
theorem dX11_word_32 : decode cX11_word 32 = .ok (.aload_n 0, 1) := dk_42 (dk_at dksX11_word_1 10 rfl rfl)
theorem dX11_word_33 : decode cX11_word 33 = .ok (.aload_n 0, 1) := dk_42 (dk_at dksX11_word_1 11 rfl rfl)
theorem dX11_word_34 : decode cX11_word 34 = .ok (.invokevirtual 64, 3) := dk_182 0 64 (dk_at dksX11_word_1 12 rfl rfl)
theorem dX11_word_37 : decode cX11_word 37 = .ok (.ifCond .eq 43, 3) := dk_153 0 43 (dk_at dksX11_word_1 15 rfl rfl)
theorem dX11_word_40 : decode cX11_word 40 = .ok (.aload_n 0, 1) := dk_42 (dk_at dksX11_word_1 18 rfl rfl)
theorem dX11_word_41 : decode cX11_word 41 = .ok (.new 84, 3) := dk_187 0 84 (dk_at dksX11_word_1 19 rfl rfl)
theorem dX11_word_44 : decode cX11_word 44 = .ok (.dup, 1) := dk_89 (dk_at dksX11_word_1 22 rfl rfl)
theorem dX11_word_45 : decode cX11_word 45 = .ok (.invokespecial 86, 3) := dk_183 0 86 (dk_at dksX11_word_2 0 rfl rfl)
theorem dX11_word_48 : decode cX11_word 48 = .ok (.aload_n 0, 1) := dk_42 (dk_at dksX11_word_2 3 rfl rfl)
theorem dX11_word_49 : decode cX11_word 49 = .ok (.getfield 44, 3) := dk_180 0 44 (dk_at dksX11_word_2 4 rfl rfl)
theorem dX11_word_52 : decode cX11_word 52 = .ok (.iload_n 1, 1) := dk_27 (dk_at dksX11_word_2 7 rfl rfl)
theorem dX11_word_53 : decode cX11_word 53 = .ok (.aload_n 0, 1) := dk_42 (dk_at dksX11_word_2 8 rfl rfl)
theorem dX11_word_54 : decode cX11_word 54 = .ok (.getfield 48, 3) := dk_180 0 48 (dk_at dksX11_word_2 9 rfl rfl)
theorem dX11_word_57 : decode cX11_word 57 = .ok (.invokevirtual 76, 3) := dk_182 0 76 (dk_at dksX11_word_2 12 rfl rfl)
theorem dX11_word_60 : decode cX11_word 60 = .ok (.invokevirtual 87, 3) := dk_182 0 87 (dk_at dksX11_word_2 15 rfl rfl)
theorem dX11_word_63 : decode cX11_word 63 = .ok (.aload_n 0, 1) := dk_42 (dk_at dksX11_word_2 18 rfl rfl)
theorem dX11_word_64 : decode cX11_word 64 = .ok (.invokevirtual 64, 3) := dk_182 0 64 (dk_at dksX11_word_2 19 rfl rfl)
theorem dX11_word_67 : decode cX11_word 67 = .ok (.invokevirtual 91, 3) := dk_182 0 91 (dk_at dksX11_word_3 0 rfl rfl)
theorem dX11_word_70 : decode cX11_word 70 = .ok (.invokevirtual 94, 3) := dk_182 0 94 (dk_at dksX11_word_3 3 rfl rfl)
theorem dX11_word_73 : decode cX11_word 73 = .ok (.iconst 0, 1) := dk_3 (dk_at dksX11_word_3 6 rfl rfl)
theorem dX11_word_74 : decode cX11_word 74 = .ok (.invokevirtual 80, 3) := dk_182 0 80 (dk_at dksX11_word_3 7 rfl rfl)
theorem dX11_word_77 : decode cX11_word 77 = .ok (.ifCond .ne 7, 3) := dk_154 0 7 (dk_at dksX11_word_3 10 rfl rfl)
theorem dX11_word_80 : decode cX11_word 80 = .ok (.iconst 1, 1) := dk_4 (dk_at dksX11_word_3 13 rfl rfl)
theorem dX11_word_81 : decode cX11_word 81 = .ok (.goto 4, 3) := dk_167 0 4 (dk_at dksX11_word_3 14 rfl rfl)
theorem dX11_word_84 : decode cX11_word 84 = .ok (.iconst 0, 1) := dk_3 (dk_at dksX11_word_3 17 rfl rfl)
theorem dX11_word_85 : decode cX11_word 85 = .ok (.putfield 60, 3) := dk_181 0 60 (dk_at dksX11_word_3 18 rfl rfl)
theorem dX11_word_88 : decode cX11_word 88 = .ok (.aload_n 0, 1) := dk_42 (dk_at dksX11_word_3 21 rfl rfl)
theorem dX11_word_89 : decode cX11_word 89 = .ok (.dup, 1) := dk_89 (dk_at dksX11_word_3 22 rfl rfl)
theorem dX11_word_90 : decode cX11_word 90 = .ok (.getfield 48, 3) := dk_180 0 48 (dk_at dksX11_word_4 0 rfl rfl)
theorem dX11_word_93 : decode cX11_word 93 = .ok (.aload_n 0, 1) := dk_42 (dk_at dksX11_word_4 3 rfl rfl)
theorem dX11_word_94 : decode cX11_word 94 = .ok (.getfield 60, 3) := dk_180 0 60 (dk_at dksX11_word_4 4 rfl rfl)
theorem dX11_word_97 : decode cX11_word 97 = .ok (.ifCond .eq 7, 3) := dk_153 0 7 (dk_at dksX11_word_4 7 rfl rfl)
theorem dX11_word_100 : decode cX11_word 100 = .ok (.iconst 0, 1) := dk_3 (dk_at dksX11_word_4 10 rfl rfl)
theorem dX11_word_101 : decode cX11_word 101 = .ok (.goto 4, 3) := dk_167 0 4 (dk_at dksX11_word_4 11 rfl rfl)
theorem dX11_word_104 : decode cX11_word 104 = .ok (.iconst 1, 1) := dk_4 (dk_at dksX11_word_4 14 rfl rfl)
theorem dX11_word_105 : decode cX11_word 105 = .ok (.iadd, 1) := dk_96 (dk_at dksX11_word_4 15 rfl rfl)
theorem dX11_word_106 : decode cX11_word 106 = .ok (.putfield 48, 3) := dk_181 0 48 (dk_at dksX11_word_4 16 rfl rfl)
theorem dX11_word_109 : decode cX11_word 109 = .ok (.goto (-104), 3) := dk_167 255 152 (dk_at dksX11_word_4 19 rfl rfl)
theorem dX11_word_112 : decode cX11_word 112 = .ok (.aload_n 0, 1) := dk_42 (dk_at dksX11_word_4 22 rfl rfl)
theorem dX11_word_113 : decode cX11_word 113 = .ok (.getfield 44, 3) := dk_180 0 44 (dk_at dksX11_word_5 0 rfl rfl)
theorem dX11_word_116 : decode cX11_word 116 = .ok (.iload_n 1, 1) := dk_27 (dk_at dksX11_word_5 3 rfl rfl)
theorem dX11_word_117 : decode cX11_word 117 = .ok (.aload_n 0, 1) := dk_42 (dk_at dksX11_word_5 4 rfl rfl)
theorem dX11_word_118 : decode cX11_word 118 = .ok (.getfield 48, 3) := dk_180 0 48 (dk_at dksX11_word_5 5 rfl rfl)
theorem dX11_word_121 : decode cX11_word 121 = .ok (.invokevirtual 76, 3) := dk_182 0 76 (dk_at dksX11_word_5 8 rfl rfl)
theorem dX11_word_124 : decode cX11_word 124 = .ok (.areturn, 1) := dk_176 (dk_at dksX11_word_5 11 rfl rfl)
def dkwX11_isSome_2 : List UInt8 := [153, 0, 5, 4, 172, 132, 5, 1, 167, 255, 213, 3, 172]
abbrev dktX11_isSome_2 : List UInt8 := dkwX11_isSome_2 ++ []
def dkwX11_isSome_1 : List UInt8 := [58, 6, 28, 153, 0, 15, 25, 6, 43, 182, 0, 68, 153, 0, 17, 167, 0, 12, 25, 6, 43, 182, 0, 72]
abbrev dktX11_isSome_1 : List UInt8 := dkwX11_isSome_1 ++ dktX11_isSome_2
def dkwX11_isSome_0 : List UInt8 := [42, 180, 0, 31, 78, 45, 190, 54, 4, 3, 54, 5, 21, 5, 21, 4, 162, 0, 42, 45, 21, 5, 50]
abbrev dktX11_isSome_0 : List UInt8 := dkwX11_isSome_0 ++ dktX11_isSome_1
theorem dksX11_isSome_0 : cX11_isSome.data.toList.drop 0 = dktX11_isSome_0 := by decide +kernel
theorem dksX11_isSome_1 : cX11_isSome.data.toList.drop 23 = dktX11_isSome_1 := dk_seg dksX11_isSome_0 23 rfl rfl
theorem dksX11_isSome_2 : cX11_isSome.data.toList.drop 47 = dktX11_isSome_2 := dk_seg dksX11_isSome_1 24 rfl rfl
theorem dX11_isSome_0 : decode cX11_isSome 0 = .ok (.aload_n 0, 1) := dk_42 (dk_at dksX11_isSome_0 0 rfl rfl)
theorem dX11_isSome_1 : decode cX11_isSome 1 = .ok (.getfield 31, 3) := dk_180 0 31 (dk_at dksX11_isSome_0 1 rfl rfl)
theorem dX11_isSome_4 : decode cX11_isSome 4 = .ok (.astore_n 3, 1) := dk_78 (dk_at dksX11_isSome_0 4 rfl rfl)
theorem dX11_isSome_5 : decode cX11_isSome 5 = .ok (.aload_n 3, 1) := dk_45 (dk_at dksX11_isSome_0 5 rfl rfl)
theorem dX11_isSome_6 : decode cX11_isSome 6 = .ok (.arraylength, 1) := dk_190 (dk_at dksX11_isSome_0 6 rfl rfl)
theorem dX11_isSome_7 : decode cX11_isSome 7 = .ok (.istore 4, 2) := dk_54 4 (dk_at dksX11_isSome_0 7 rfl rfl)
theorem dX11_isSome_9 : decode cX11_isSome 9 = .ok (.iconst 0, 1) := dk_3 (dk_at dksX11_isSome_0 9 rfl rfl)
theorem dX11_isSome_10 : decode cX11_isSome 10 = .ok (.istore 5, 2) := dk_54 5 (dk_at dksX11_isSome_0 10 rfl rfl)
theorem dX11_isSome_12 : decode cX11_isSome 12 = .ok (.iload 5, 2) := dk_21 5 (dk_at dksX11_isSome_0 12 rfl rfl)
theorem dX11_isSome_14 : decode cX11_isSome 14 = .ok (.iload 4, 2) := dk_21 4 (dk_at dksX11_isSome_0 14 rfl rfl)
theorem dX11_isSome_16 : decode cX11_isSome 16 = .ok (.if_icmp .ge 42, 3) := dk_162 0 42 (dk_at dksX11_isSome_0 16 rfl rfl)
theorem dX11_isSome_19 : decode cX11_isSome 19 = .ok (.aload_n 3, 1) := dk_45 (dk_at dksX11_isSome_0 19 rfl rfl)
theorem dX11_isSome_20 : decode cX11_isSome 20 = .ok (.iload 5, 2) := dk_21 5 (dk_at dksX11_isSome_0 20 rfl rfl)
theorem dX11_isSome_22 : decode cX11_isSome 22 = .ok (.aaload, 1) := dk_50 (dk_at dksX11_isSome_0 22 rfl rfl)
theorem dX11_isSome_23 : decode cX11_isSome 23 = .ok (.astore 6, 2) := dk_58 6 (dk_at dksX11_isSome_1 0 rfl rfl)
theorem dX11_isSome_25 : decode cX11_isSome 25 = .ok (.iload_n 2, 1) := dk_28 (dk_at dksX11_isSome_1 2 rfl rfl)
theorem dX11_isSome_26 : decode cX11_isSome 26 = .ok (.ifCond .eq 15, 3) := dk_153 0 15 (dk_at dksX11_isSome_1 3 rfl rfl)
theorem dX11_isSome_29 : decode cX11_isSome 29 = .ok (.aload 6, 2) := dk_25 6 (dk_at dksX11_isSome_1 6 rfl rfl)
theorem dX11_isSome_31 : decode cX11_isSome 31 = .ok (.aload_n 1, 1) := dk_43 (dk_at dksX11_isSome_1 8 rfl rfl)
theorem dX11_isSome_32 : decode cX11_isSome 32 = .ok (.invokevirtual 68, 3) := dk_182 0 68 (dk_at dksX11_isSome_1 9 rfl rfl)
theorem dX11_isSome_35 : decode cX11_isSome 35 = .ok (.ifCond .eq 17, 3) := dk_153 0 17 (dk_at dksX11_isSome_1 12 rfl rfl)
theorem dX11_isSome_38 : decode cX11_isSome 38 = .ok (.goto 12, 3) := dk_167 0 12 (dk_at dksX11_isSome_1 15 rfl rfl)
theorem dX11_isSome_41 : decode cX11_isSome 41 = .ok (.aload 6, 2) := dk_25 6 (dk_at dksX11_isSome_1 18 rfl rfl)
theorem dX11_isSome_43 : decode cX11_isSome 43 = .ok (.aload_n 1, 1) := dk_43 (dk_at dksX11_isSome_1 20 rfl rfl)
theorem dX11_isSome_44 : decode cX11_isSome 44 = .ok (.invokevirtual 72, 3) := dk_182 0 72 (dk_at dksX11_isSome_1 21 rfl rfl)
theorem dX11_isSome_47 : decode cX11_isSome 47 = .ok (.ifCond .eq 5, 3) := dk_153 0 5 (dk_at dksX11_isSome_2 0 rfl rfl)
theorem dX11_isSome_50 : decode cX11_isSome 50 = .ok (.iconst 1, 1) := dk_4 (dk_at dksX11_isSome_2 3 rfl rfl)
theorem dX11_isSome_51 : decode cX11_isSome 51 = .ok (.ireturn, 1) := dk_172 (dk_at dksX11_isSome_2 4 rfl rfl)
theorem dX11_isSome_52 : decode cX11_isSome 52 = .ok (.iinc 5 1, 3) := dk_132 5 1 (dk_at dksX11_isSome_2 5 rfl rfl)
theorem dX11_isSome_55 : decode cX11_isSome 55 = .ok (.goto (-43), 3) := dk_167 255 213 (dk_at dksX11_isSome_2 8 rfl rfl)
theorem dX11_isSome_58 : decode cX11_isSome 58 = .ok (.iconst 0, 1) := dk_3 (dk_at dksX11_isSome_2 11 rfl rfl)
theorem dX11_isSome_59 : decode cX11_isSome 59 = .ok (.ireturn, 1) := dk_172 (dk_at dksX11_isSome_2 12 rfl rfl)
def dkwX11_here_1 : List UInt8 := [182, 0, 56, 167, 0, 4, 3, 172]
abbrev dktX11_here_1 : List UInt8 := dkwX11_here_1 ++ []
def dkwX11_here_0 : List UInt8 := [42, 180, 0, 48, 42, 180, 0, 44, 182, 0, 52, 162, 0, 17, 42, 180, 0, 44, 42, 180, 0, 48]
abbrev dktX11_here_0 : List UInt8 := dkwX11_here_0 ++ dktX11_here_1
theorem dksX11_here_0 : cX11_here.data.toList.drop 0 = dktX11_here_0 := by decide +kernel
theorem dksX11_here_1 : cX11_here.data.toList.drop 22 = dktX11_here_1 := dk_seg dksX11_here_0 22 rfl rfl
theorem dX11_here_0 : decode cX11_here 0 = .ok (.aload_n 0, 1) := dk_42 (dk_at dksX11_here_0 0 rfl rfl)
theorem dX11_here_1 : decode cX11_here 1 = .ok (.getfield 48, 3) := dk_180 0 48 (dk_at dksX11_here_0 1 rfl rfl)
theorem dX11_here_4 : decode cX11_here 4 = .ok (.aload_n 0, 1) := dk_42 (dk_at dksX11_here_0 4 rfl rfl)
theorem dX11_here_5 : decode cX11_here 5 = .ok (.getfield 44, 3) := dk_180 0 44 (dk_at dksX11_here_0 5 rfl rfl)
theorem dX11_here_8 : decode cX11_here 8 = .ok (.invokevirtual 52, 3) := dk_182 0 52 (dk_at dksX11_here_0 8 rfl rfl)
theorem dX11_here_11 : decode cX11_here 11 = .ok (.if_icmp .ge 17, 3) := dk_162 0 17 (dk_at dksX11_here_0 11 rfl rfl)
theorem dX11_here_14 : decode cX11_here 14 = .ok (.aload_n 0, 1) := dk_42 (dk_at dksX11_here_0 14 rfl rfl)
theorem dX11_here_15 : decode cX11_here 15 = .ok (.getfield 44, 3) := dk_180 0 44 (dk_at dksX11_here_0 15 rfl rfl)
theorem dX11_here_18 : decode cX11_here 18 = .ok (.aload_n 0, 1) := dk_42 (dk_at dksX11_here_0 18 rfl rfl)
theorem dX11_here_19 : decode cX11_here 19 = .ok (.getfield 48, 3) := dk_180 0 48 (dk_at dksX11_here_0 19 rfl rfl)
theorem dX11_here_22 : decode cX11_here 22 = .ok (.invokevirtual 56, 3) := dk_182 0 56 (dk_at dksX11_here_1 0 rfl rfl)
theorem dX11_here_25 : decode cX11_here 25 = .ok (.goto 4, 3) := dk_167 0 4 (dk_at dksX11_here_1 3 rfl rfl)
theorem dX11_here_28 : decode cX11_here 28 = .ok (.iconst 0, 1) := dk_3 (dk_at dksX11_here_1 6 rfl rfl)
theorem dX11_here_29 : decode cX11_here 29 = .ok (.ireturn, 1) := dk_172 (dk_at dksX11_here_1 7 rfl rfl)
def dkwX11_blank_0 : List UInt8 := [42, 89, 180, 0, 60, 42, 16, 32, 182, 0, 98, 154, 0, 7, 4, 167, 0, 4, 3, 128, 181, 0, 60, 177]
abbrev dktX11_blank_0 : List UInt8 := dkwX11_blank_0 ++ []
theorem dksX11_blank_0 : cX11_blank.data.toList.drop 0 = dktX11_blank_0 := by decide +kernel
theorem dX11_blank_0 : decode cX11_blank 0 = .ok (.aload_n 0, 1) := dk_42 (dk_at dksX11_blank_0 0 rfl rfl)
theorem dX11_blank_1 : decode cX11_blank 1 = .ok (.dup, 1) := dk_89 (dk_at dksX11_blank_0 1 rfl rfl)
theorem dX11_blank_2 : decode cX11_blank 2 = .ok (.getfield 60, 3) := dk_180 0 60 (dk_at dksX11_blank_0 2 rfl rfl)
theorem dX11_blank_5 : decode cX11_blank 5 = .ok (.aload_n 0, 1) := dk_42 (dk_at dksX11_blank_0 5 rfl rfl)
theorem dX11_blank_6 : decode cX11_blank 6 = .ok (.bipush 32, 2) := dk_16 32 (dk_at dksX11_blank_0 6 rfl rfl)
theorem dX11_blank_8 : decode cX11_blank 8 = .ok (.invokevirtual 98, 3) := dk_182 0 98 (dk_at dksX11_blank_0 8 rfl rfl)
theorem dX11_blank_11 : decode cX11_blank 11 = .ok (.ifCond .ne 7, 3) := dk_154 0 7 (dk_at dksX11_blank_0 11 rfl rfl)
theorem dX11_blank_14 : decode cX11_blank 14 = .ok (.iconst 1, 1) := dk_4 (dk_at dksX11_blank_0 14 rfl rfl)
theorem dX11_blank_15 : decode cX11_blank 15 = .ok (.goto 4, 3) := dk_167 0 4 (dk_at dksX11_blank_0 15 rfl rfl)
theorem dX11_blank_18 : decode cX11_blank 18 = .ok (.iconst 0, 1) := dk_3 (dk_at dksX11_blank_0 18 rfl rfl)
theorem dX11_blank_19 : decode cX11_blank 19 = .ok (.ior, 1) := dk_128 (dk_at dksX11_blank_0 19 rfl rfl)
theorem dX11_blank_20 : decode cX11_blank 20 = .ok (.putfield 60, 3) := dk_181 0 60 (dk_at dksX11_blank_0 20 rfl rfl)
theorem dX11_blank_23 : decode cX11_blank 23 = .ok (.return_, 1) := dk_177 (dk_at dksX11_blank_0 23 rfl rfl)
def dkwX11_takes_1 : List UInt8 := [181, 0, 48, 4, 172]
abbrev dktX11_takes_1 : List UInt8 := dkwX11_takes_1 ++ []
def dkwX11_takes_0 : List UInt8 := [42, 180, 0, 60, 154, 0, 11, 42, 182, 0, 64, 27, 159, 0, 5, 3, 172, 42, 89, 180, 0, 48, 4, 96]
abbrev dktX11_takes_0 : List UInt8 := dkwX11_takes_0 ++ dktX11_takes_1
theorem dksX11_takes_0 : cX11_takes.data.toList.drop 0 = dktX11_takes_0 := by decide +kernel
theorem dksX11_takes_1 : cX11_takes.data.toList.drop 24 = dktX11_takes_1 := dk_seg dksX11_takes_0 24 rfl rfl
theorem dX11_takes_0 : decode cX11_takes 0 = .ok (.aload_n 0, 1) := dk_42 (dk_at dksX11_takes_0 0 rfl rfl)
theorem dX11_takes_1 : decode cX11_takes 1 = .ok (.getfield 60, 3) := dk_180 0 60 (dk_at dksX11_takes_0 1 rfl rfl)
theorem dX11_takes_4 : decode cX11_takes 4 = .ok (.ifCond .ne 11, 3) := dk_154 0 11 (dk_at dksX11_takes_0 4 rfl rfl)
theorem dX11_takes_7 : decode cX11_takes 7 = .ok (.aload_n 0, 1) := dk_42 (dk_at dksX11_takes_0 7 rfl rfl)
theorem dX11_takes_8 : decode cX11_takes 8 = .ok (.invokevirtual 64, 3) := dk_182 0 64 (dk_at dksX11_takes_0 8 rfl rfl)
theorem dX11_takes_11 : decode cX11_takes 11 = .ok (.iload_n 1, 1) := dk_27 (dk_at dksX11_takes_0 11 rfl rfl)
theorem dX11_takes_12 : decode cX11_takes 12 = .ok (.if_icmp .eq 5, 3) := dk_159 0 5 (dk_at dksX11_takes_0 12 rfl rfl)
theorem dX11_takes_15 : decode cX11_takes 15 = .ok (.iconst 0, 1) := dk_3 (dk_at dksX11_takes_0 15 rfl rfl)
theorem dX11_takes_16 : decode cX11_takes 16 = .ok (.ireturn, 1) := dk_172 (dk_at dksX11_takes_0 16 rfl rfl)
theorem dX11_takes_17 : decode cX11_takes 17 = .ok (.aload_n 0, 1) := dk_42 (dk_at dksX11_takes_0 17 rfl rfl)
theorem dX11_takes_18 : decode cX11_takes 18 = .ok (.dup, 1) := dk_89 (dk_at dksX11_takes_0 18 rfl rfl)
theorem dX11_takes_19 : decode cX11_takes 19 = .ok (.getfield 48, 3) := dk_180 0 48 (dk_at dksX11_takes_0 19 rfl rfl)
theorem dX11_takes_22 : decode cX11_takes 22 = .ok (.iconst 1, 1) := dk_4 (dk_at dksX11_takes_0 22 rfl rfl)
theorem dX11_takes_23 : decode cX11_takes 23 = .ok (.iadd, 1) := dk_96 (dk_at dksX11_takes_0 23 rfl rfl)
theorem dX11_takes_24 : decode cX11_takes 24 = .ok (.putfield 48, 3) := dk_181 0 48 (dk_at dksX11_takes_1 0 rfl rfl)
theorem dX11_takes_27 : decode cX11_takes 27 = .ok (.iconst 1, 1) := dk_4 (dk_at dksX11_takes_1 3 rfl rfl)
theorem dX11_takes_28 : decode cX11_takes 28 = .ok (.ireturn, 1) := dk_172 (dk_at dksX11_takes_1 4 rfl rfl)
def dkwX11_rest_13 : List UInt8 := [167, 0, 18, 42, 43, 4, 182, 0, 140, 167, 0, 9, 42, 43, 5, 182, 0, 140, 177]
abbrev dktX11_rest_13 : List UInt8 := dkwX11_rest_13 ++ []
def dkwX11_rest_12 : List UInt8 := [79, 167, 0, 41, 42, 43, 6, 182, 0, 140, 167, 0, 32, 43, 180, 0, 102, 3, 42, 5, 182, 0, 108, 79]
abbrev dktX11_rest_12 : List UInt8 := dkwX11_rest_12 ++ dktX11_rest_13
def dkwX11_rest_11 : List UInt8 := [167, 0, 66, 43, 180, 0, 102, 3, 42, 4, 182, 0, 108, 79, 43, 180, 0, 102, 4, 42, 4, 182, 0, 136]
abbrev dktX11_rest_11 : List UInt8 := dkwX11_rest_11 ++ dktX11_rest_12
def dkwX11_rest_10 : List UInt8 := [182, 0, 136, 79, 167, 0, 85, 42, 43, 182, 0, 133, 43, 180, 0, 102, 5, 42, 4, 182, 0, 108, 79]
abbrev dktX11_rest_10 : List UInt8 := dkwX11_rest_10 ++ dktX11_rest_11
def dkwX11_rest_9 : List UInt8 := [6, 42, 5, 182, 0, 108, 79, 167, 0, 104, 42, 43, 182, 0, 133, 43, 180, 0, 102, 5, 42, 3]
abbrev dktX11_rest_9 : List UInt8 := dkwX11_rest_9 ++ dktX11_rest_10
def dkwX11_rest_8 : List UInt8 := [42, 43, 182, 0, 133, 43, 180, 0, 102, 5, 42, 5, 182, 0, 108, 79, 42, 182, 0, 112, 43, 180, 0, 102]
abbrev dktX11_rest_8 : List UInt8 := dkwX11_rest_8 ++ dktX11_rest_9
def dkwX11_rest_7 : List UInt8 := [170, 0, 0, 0, 0, 0, 172, 0, 0, 0, 0, 0, 0, 0, 6, 0, 0, 0, 43, 0, 0, 0, 77, 0, 0, 0, 96, 0, 0, 0, 115, 0, 0, 0, 140, 0, 0, 0, 149, 0, 0, 0, 163]
abbrev dktX11_rest_7 : List UInt8 := dkwX11_rest_7 ++ dktX11_rest_8
def dkwX11_rest_6 : List UInt8 := [62, 29]
abbrev dktX11_rest_6 : List UInt8 := dkwX11_rest_6 ++ dktX11_rest_7
def dkwX11_rest_5 : List UInt8 := [18, 27, 182, 0, 68, 153, 0, 20, 8, 62, 167, 0, 15, 44, 18, 29, 182, 0, 68, 153, 0, 6, 16, 6]
abbrev dktX11_rest_5 : List UInt8 := dkwX11_rest_5 ++ dktX11_rest_6
def dkwX11_rest_4 : List UInt8 := [153, 0, 48, 6, 62, 167, 0, 43, 44, 18, 23, 182, 0, 68, 153, 0, 34, 7, 62, 167, 0, 29, 44]
abbrev dktX11_rest_4 : List UInt8 := dkwX11_rest_4 ++ dktX11_rest_5
def dkwX11_rest_3 : List UInt8 := [62, 167, 0, 71, 44, 18, 15, 182, 0, 68, 153, 0, 62, 5, 62, 167, 0, 57, 44, 18, 17, 182, 0, 68]
abbrev dktX11_rest_3 : List UInt8 := dkwX11_rest_3 ++ dktX11_rest_4
def dkwX11_rest_2 : List UInt8 := [44, 18, 11, 182, 0, 68, 153, 0, 90, 3, 62, 167, 0, 85, 44, 18, 13, 182, 0, 68, 153, 0, 76, 4]
abbrev dktX11_rest_2 : List UInt8 := dkwX11_rest_2 ++ dktX11_rest_3
def dkwX11_rest_1 : List UInt8 := [171, 0, 0, 0, 161, 0, 0, 0, 7, 200, 78, 16, 27, 0, 0, 0, 149, 0, 47, 216, 54, 0, 0, 0, 93, 0, 48, 245, 228, 0, 0, 0, 135, 0, 55, 176, 8, 0, 0, 0, 107, 5, 195, 6, 216, 0, 0, 0, 65, 6, 137, 16, 223, 0, 0, 0, 79, 6, 151, 241, 100, 0, 0, 0, 121]
abbrev dktX11_rest_1 : List UInt8 := dkwX11_rest_1 ++ dktX11_rest_2
def dkwX11_rest_0 : List UInt8 := [43, 180, 0, 128, 77, 2, 62, 44, 182, 0, 130]
abbrev dktX11_rest_0 : List UInt8 := dkwX11_rest_0 ++ dktX11_rest_1
theorem dksX11_rest_0 : cX11_rest.data.toList.drop 0 = dktX11_rest_0 := by decide +kernel
theorem dksX11_rest_1 : cX11_rest.data.toList.drop 11 = dktX11_rest_1 := dk_seg dksX11_rest_0 11 rfl rfl
theorem dksX11_rest_2 : cX11_rest.data.toList.drop 76 = dktX11_rest_2 := dk_seg dksX11_rest_1 65 rfl rfl
theorem dksX11_rest_3 : cX11_rest.data.toList.drop 100 = dktX11_rest_3 := dk_seg dksX11_rest_2 24 rfl rfl
theorem dksX11_rest_4 : cX11_rest.data.toList.drop 124 = dktX11_rest_4 := dk_seg dksX11_rest_3 24 rfl rfl
theorem dksX11_rest_5 : cX11_rest.data.toList.drop 147 = dktX11_rest_5 := dk_seg dksX11_rest_4 23 rfl rfl
theorem dksX11_rest_6 : cX11_rest.data.toList.drop 171 = dktX11_rest_6 := dk_seg dksX11_rest_5 24 rfl rfl
theorem dksX11_rest_7 : cX11_rest.data.toList.drop 173 = dktX11_rest_7 := dk_seg dksX11_rest_6 2 rfl rfl
theorem dksX11_rest_8 : cX11_rest.data.toList.drop 216 = dktX11_rest_8 := dk_seg dksX11_rest_7 43 rfl rfl
theorem dksX11_rest_9 : cX11_rest.data.toList.drop 240 = dktX11_rest_9 := dk_seg dksX11_rest_8 24 rfl rfl
theorem dksX11_rest_10 : cX11_rest.data.toList.drop 262 = dktX11_rest_10 := dk_seg dksX11_rest_9 22 rfl rfl
theorem dksX11_rest_11 : cX11_rest.data.toList.drop 285 = dktX11_rest_11 := dk_seg dksX11_rest_10 23 rfl rfl
theorem dksX11_rest_12 : cX11_rest.data.toList.drop 309 = dktX11_rest_12 := dk_seg dksX11_rest_11 24 rfl rfl
theorem dksX11_rest_13 : cX11_rest.data.toList.drop 333 = dktX11_rest_13 := dk_seg dksX11_rest_12 24 rfl rfl
theorem dX11_rest_0 : decode cX11_rest 0 = .ok (.aload_n 1, 1) := dk_43 (dk_at dksX11_rest_0 0 rfl rfl)
theorem dX11_rest_1 : decode cX11_rest 1 = .ok (.getfield 128, 3) := dk_180 0 128 (dk_at dksX11_rest_0 1 rfl rfl)
theorem dX11_rest_4 : decode cX11_rest 4 = .ok (.astore_n 2, 1) := dk_77 (dk_at dksX11_rest_0 4 rfl rfl)
theorem dX11_rest_5 : decode cX11_rest 5 = .ok (.iconst (-1), 1) := dk_2 (dk_at dksX11_rest_0 5 rfl rfl)
theorem dX11_rest_6 : decode cX11_rest 6 = .ok (.istore_n 3, 1) := dk_62 (dk_at dksX11_rest_0 6 rfl rfl)
theorem dX11_rest_7 : decode cX11_rest 7 = .ok (.aload_n 2, 1) := dk_44 (dk_at dksX11_rest_0 7 rfl rfl)
theorem dX11_rest_8 : decode cX11_rest 8 = .ok (.invokevirtual 130, 3) := dk_182 0 130 (dk_at dksX11_rest_0 8 rfl rfl)
theorem dX11_rest_11 : decode cX11_rest 11 = .ok (.lookupswitch 161 #[(-934408165, 149), (3135542, 93), (3208676, 135), (3649544, 107), (96667352, 65), (109646047, 79), (110621028, 121)], 65) := by decide +kernel
theorem dX11_rest_76 : decode cX11_rest 76 = .ok (.aload_n 2, 1) := dk_44 (dk_at dksX11_rest_2 0 rfl rfl)
theorem dX11_rest_77 : decode cX11_rest 77 = .ok (.ldc 11, 2) := dk_18 11 (dk_at dksX11_rest_2 1 rfl rfl)
theorem dX11_rest_79 : decode cX11_rest 79 = .ok (.invokevirtual 68, 3) := dk_182 0 68 (dk_at dksX11_rest_2 3 rfl rfl)
theorem dX11_rest_82 : decode cX11_rest 82 = .ok (.ifCond .eq 90, 3) := dk_153 0 90 (dk_at dksX11_rest_2 6 rfl rfl)
theorem dX11_rest_85 : decode cX11_rest 85 = .ok (.iconst 0, 1) := dk_3 (dk_at dksX11_rest_2 9 rfl rfl)
theorem dX11_rest_86 : decode cX11_rest 86 = .ok (.istore_n 3, 1) := dk_62 (dk_at dksX11_rest_2 10 rfl rfl)
theorem dX11_rest_87 : decode cX11_rest 87 = .ok (.goto 85, 3) := dk_167 0 85 (dk_at dksX11_rest_2 11 rfl rfl)
theorem dX11_rest_90 : decode cX11_rest 90 = .ok (.aload_n 2, 1) := dk_44 (dk_at dksX11_rest_2 14 rfl rfl)
theorem dX11_rest_91 : decode cX11_rest 91 = .ok (.ldc 13, 2) := dk_18 13 (dk_at dksX11_rest_2 15 rfl rfl)
theorem dX11_rest_93 : decode cX11_rest 93 = .ok (.invokevirtual 68, 3) := dk_182 0 68 (dk_at dksX11_rest_2 17 rfl rfl)
theorem dX11_rest_96 : decode cX11_rest 96 = .ok (.ifCond .eq 76, 3) := dk_153 0 76 (dk_at dksX11_rest_2 20 rfl rfl)
theorem dX11_rest_99 : decode cX11_rest 99 = .ok (.iconst 1, 1) := dk_4 (dk_at dksX11_rest_2 23 rfl rfl)
theorem dX11_rest_100 : decode cX11_rest 100 = .ok (.istore_n 3, 1) := dk_62 (dk_at dksX11_rest_3 0 rfl rfl)
theorem dX11_rest_101 : decode cX11_rest 101 = .ok (.goto 71, 3) := dk_167 0 71 (dk_at dksX11_rest_3 1 rfl rfl)
theorem dX11_rest_104 : decode cX11_rest 104 = .ok (.aload_n 2, 1) := dk_44 (dk_at dksX11_rest_3 4 rfl rfl)
theorem dX11_rest_105 : decode cX11_rest 105 = .ok (.ldc 15, 2) := dk_18 15 (dk_at dksX11_rest_3 5 rfl rfl)
theorem dX11_rest_107 : decode cX11_rest 107 = .ok (.invokevirtual 68, 3) := dk_182 0 68 (dk_at dksX11_rest_3 7 rfl rfl)
theorem dX11_rest_110 : decode cX11_rest 110 = .ok (.ifCond .eq 62, 3) := dk_153 0 62 (dk_at dksX11_rest_3 10 rfl rfl)
theorem dX11_rest_113 : decode cX11_rest 113 = .ok (.iconst 2, 1) := dk_5 (dk_at dksX11_rest_3 13 rfl rfl)
theorem dX11_rest_114 : decode cX11_rest 114 = .ok (.istore_n 3, 1) := dk_62 (dk_at dksX11_rest_3 14 rfl rfl)
theorem dX11_rest_115 : decode cX11_rest 115 = .ok (.goto 57, 3) := dk_167 0 57 (dk_at dksX11_rest_3 15 rfl rfl)
theorem dX11_rest_118 : decode cX11_rest 118 = .ok (.aload_n 2, 1) := dk_44 (dk_at dksX11_rest_3 18 rfl rfl)
theorem dX11_rest_119 : decode cX11_rest 119 = .ok (.ldc 17, 2) := dk_18 17 (dk_at dksX11_rest_3 19 rfl rfl)
theorem dX11_rest_121 : decode cX11_rest 121 = .ok (.invokevirtual 68, 3) := dk_182 0 68 (dk_at dksX11_rest_3 21 rfl rfl)
theorem dX11_rest_124 : decode cX11_rest 124 = .ok (.ifCond .eq 48, 3) := dk_153 0 48 (dk_at dksX11_rest_4 0 rfl rfl)
theorem dX11_rest_127 : decode cX11_rest 127 = .ok (.iconst 3, 1) := dk_6 (dk_at dksX11_rest_4 3 rfl rfl)
theorem dX11_rest_128 : decode cX11_rest 128 = .ok (.istore_n 3, 1) := dk_62 (dk_at dksX11_rest_4 4 rfl rfl)
theorem dX11_rest_129 : decode cX11_rest 129 = .ok (.goto 43, 3) := dk_167 0 43 (dk_at dksX11_rest_4 5 rfl rfl)
theorem dX11_rest_132 : decode cX11_rest 132 = .ok (.aload_n 2, 1) := dk_44 (dk_at dksX11_rest_4 8 rfl rfl)
theorem dX11_rest_133 : decode cX11_rest 133 = .ok (.ldc 23, 2) := dk_18 23 (dk_at dksX11_rest_4 9 rfl rfl)
theorem dX11_rest_135 : decode cX11_rest 135 = .ok (.invokevirtual 68, 3) := dk_182 0 68 (dk_at dksX11_rest_4 11 rfl rfl)
theorem dX11_rest_138 : decode cX11_rest 138 = .ok (.ifCond .eq 34, 3) := dk_153 0 34 (dk_at dksX11_rest_4 14 rfl rfl)
theorem dX11_rest_141 : decode cX11_rest 141 = .ok (.iconst 4, 1) := dk_7 (dk_at dksX11_rest_4 17 rfl rfl)
theorem dX11_rest_142 : decode cX11_rest 142 = .ok (.istore_n 3, 1) := dk_62 (dk_at dksX11_rest_4 18 rfl rfl)
theorem dX11_rest_143 : decode cX11_rest 143 = .ok (.goto 29, 3) := dk_167 0 29 (dk_at dksX11_rest_4 19 rfl rfl)
theorem dX11_rest_146 : decode cX11_rest 146 = .ok (.aload_n 2, 1) := dk_44 (dk_at dksX11_rest_4 22 rfl rfl)
theorem dX11_rest_147 : decode cX11_rest 147 = .ok (.ldc 27, 2) := dk_18 27 (dk_at dksX11_rest_5 0 rfl rfl)
theorem dX11_rest_149 : decode cX11_rest 149 = .ok (.invokevirtual 68, 3) := dk_182 0 68 (dk_at dksX11_rest_5 2 rfl rfl)
theorem dX11_rest_152 : decode cX11_rest 152 = .ok (.ifCond .eq 20, 3) := dk_153 0 20 (dk_at dksX11_rest_5 5 rfl rfl)
theorem dX11_rest_155 : decode cX11_rest 155 = .ok (.iconst 5, 1) := dk_8 (dk_at dksX11_rest_5 8 rfl rfl)
theorem dX11_rest_156 : decode cX11_rest 156 = .ok (.istore_n 3, 1) := dk_62 (dk_at dksX11_rest_5 9 rfl rfl)
theorem dX11_rest_157 : decode cX11_rest 157 = .ok (.goto 15, 3) := dk_167 0 15 (dk_at dksX11_rest_5 10 rfl rfl)
theorem dX11_rest_160 : decode cX11_rest 160 = .ok (.aload_n 2, 1) := dk_44 (dk_at dksX11_rest_5 13 rfl rfl)
theorem dX11_rest_161 : decode cX11_rest 161 = .ok (.ldc 29, 2) := dk_18 29 (dk_at dksX11_rest_5 14 rfl rfl)
theorem dX11_rest_163 : decode cX11_rest 163 = .ok (.invokevirtual 68, 3) := dk_182 0 68 (dk_at dksX11_rest_5 16 rfl rfl)
theorem dX11_rest_166 : decode cX11_rest 166 = .ok (.ifCond .eq 6, 3) := dk_153 0 6 (dk_at dksX11_rest_5 19 rfl rfl)
theorem dX11_rest_169 : decode cX11_rest 169 = .ok (.bipush 6, 2) := dk_16 6 (dk_at dksX11_rest_5 22 rfl rfl)
theorem dX11_rest_171 : decode cX11_rest 171 = .ok (.istore_n 3, 1) := dk_62 (dk_at dksX11_rest_6 0 rfl rfl)
theorem dX11_rest_172 : decode cX11_rest 172 = .ok (.iload_n 3, 1) := dk_29 (dk_at dksX11_rest_6 1 rfl rfl)
theorem dX11_rest_173 : decode cX11_rest 173 = .ok (.tableswitch 172 0 6 #[43, 77, 96, 115, 140, 149, 163], 43) := by decide +kernel
theorem dX11_rest_216 : decode cX11_rest 216 = .ok (.aload_n 0, 1) := dk_42 (dk_at dksX11_rest_8 0 rfl rfl)
theorem dX11_rest_217 : decode cX11_rest 217 = .ok (.aload_n 1, 1) := dk_43 (dk_at dksX11_rest_8 1 rfl rfl)
theorem dX11_rest_218 : decode cX11_rest 218 = .ok (.invokevirtual 133, 3) := dk_182 0 133 (dk_at dksX11_rest_8 2 rfl rfl)
theorem dX11_rest_221 : decode cX11_rest 221 = .ok (.aload_n 1, 1) := dk_43 (dk_at dksX11_rest_8 5 rfl rfl)
theorem dX11_rest_222 : decode cX11_rest 222 = .ok (.getfield 102, 3) := dk_180 0 102 (dk_at dksX11_rest_8 6 rfl rfl)
theorem dX11_rest_225 : decode cX11_rest 225 = .ok (.iconst 2, 1) := dk_5 (dk_at dksX11_rest_8 9 rfl rfl)
theorem dX11_rest_226 : decode cX11_rest 226 = .ok (.aload_n 0, 1) := dk_42 (dk_at dksX11_rest_8 10 rfl rfl)
theorem dX11_rest_227 : decode cX11_rest 227 = .ok (.iconst 2, 1) := dk_5 (dk_at dksX11_rest_8 11 rfl rfl)
theorem dX11_rest_228 : decode cX11_rest 228 = .ok (.invokevirtual 108, 3) := dk_182 0 108 (dk_at dksX11_rest_8 12 rfl rfl)
theorem dX11_rest_231 : decode cX11_rest 231 = .ok (.iastore, 1) := dk_79 (dk_at dksX11_rest_8 15 rfl rfl)
theorem dX11_rest_232 : decode cX11_rest 232 = .ok (.aload_n 0, 1) := dk_42 (dk_at dksX11_rest_8 16 rfl rfl)
theorem dX11_rest_233 : decode cX11_rest 233 = .ok (.invokevirtual 112, 3) := dk_182 0 112 (dk_at dksX11_rest_8 17 rfl rfl)
theorem dX11_rest_236 : decode cX11_rest 236 = .ok (.aload_n 1, 1) := dk_43 (dk_at dksX11_rest_8 20 rfl rfl)
theorem dX11_rest_237 : decode cX11_rest 237 = .ok (.getfield 102, 3) := dk_180 0 102 (dk_at dksX11_rest_8 21 rfl rfl)
theorem dX11_rest_240 : decode cX11_rest 240 = .ok (.iconst 3, 1) := dk_6 (dk_at dksX11_rest_9 0 rfl rfl)
theorem dX11_rest_241 : decode cX11_rest 241 = .ok (.aload_n 0, 1) := dk_42 (dk_at dksX11_rest_9 1 rfl rfl)
theorem dX11_rest_242 : decode cX11_rest 242 = .ok (.iconst 2, 1) := dk_5 (dk_at dksX11_rest_9 2 rfl rfl)
theorem dX11_rest_243 : decode cX11_rest 243 = .ok (.invokevirtual 108, 3) := dk_182 0 108 (dk_at dksX11_rest_9 3 rfl rfl)
theorem dX11_rest_246 : decode cX11_rest 246 = .ok (.iastore, 1) := dk_79 (dk_at dksX11_rest_9 6 rfl rfl)
theorem dX11_rest_247 : decode cX11_rest 247 = .ok (.goto 104, 3) := dk_167 0 104 (dk_at dksX11_rest_9 7 rfl rfl)
theorem dX11_rest_250 : decode cX11_rest 250 = .ok (.aload_n 0, 1) := dk_42 (dk_at dksX11_rest_9 10 rfl rfl)
theorem dX11_rest_251 : decode cX11_rest 251 = .ok (.aload_n 1, 1) := dk_43 (dk_at dksX11_rest_9 11 rfl rfl)
theorem dX11_rest_252 : decode cX11_rest 252 = .ok (.invokevirtual 133, 3) := dk_182 0 133 (dk_at dksX11_rest_9 12 rfl rfl)
theorem dX11_rest_255 : decode cX11_rest 255 = .ok (.aload_n 1, 1) := dk_43 (dk_at dksX11_rest_9 15 rfl rfl)
theorem dX11_rest_256 : decode cX11_rest 256 = .ok (.getfield 102, 3) := dk_180 0 102 (dk_at dksX11_rest_9 16 rfl rfl)
theorem dX11_rest_259 : decode cX11_rest 259 = .ok (.iconst 2, 1) := dk_5 (dk_at dksX11_rest_9 19 rfl rfl)
theorem dX11_rest_260 : decode cX11_rest 260 = .ok (.aload_n 0, 1) := dk_42 (dk_at dksX11_rest_9 20 rfl rfl)
theorem dX11_rest_261 : decode cX11_rest 261 = .ok (.iconst 0, 1) := dk_3 (dk_at dksX11_rest_9 21 rfl rfl)
theorem dX11_rest_262 : decode cX11_rest 262 = .ok (.invokevirtual 136, 3) := dk_182 0 136 (dk_at dksX11_rest_10 0 rfl rfl)
theorem dX11_rest_265 : decode cX11_rest 265 = .ok (.iastore, 1) := dk_79 (dk_at dksX11_rest_10 3 rfl rfl)
theorem dX11_rest_266 : decode cX11_rest 266 = .ok (.goto 85, 3) := dk_167 0 85 (dk_at dksX11_rest_10 4 rfl rfl)
theorem dX11_rest_269 : decode cX11_rest 269 = .ok (.aload_n 0, 1) := dk_42 (dk_at dksX11_rest_10 7 rfl rfl)
theorem dX11_rest_270 : decode cX11_rest 270 = .ok (.aload_n 1, 1) := dk_43 (dk_at dksX11_rest_10 8 rfl rfl)
theorem dX11_rest_271 : decode cX11_rest 271 = .ok (.invokevirtual 133, 3) := dk_182 0 133 (dk_at dksX11_rest_10 9 rfl rfl)
theorem dX11_rest_274 : decode cX11_rest 274 = .ok (.aload_n 1, 1) := dk_43 (dk_at dksX11_rest_10 12 rfl rfl)
theorem dX11_rest_275 : decode cX11_rest 275 = .ok (.getfield 102, 3) := dk_180 0 102 (dk_at dksX11_rest_10 13 rfl rfl)
theorem dX11_rest_278 : decode cX11_rest 278 = .ok (.iconst 2, 1) := dk_5 (dk_at dksX11_rest_10 16 rfl rfl)
theorem dX11_rest_279 : decode cX11_rest 279 = .ok (.aload_n 0, 1) := dk_42 (dk_at dksX11_rest_10 17 rfl rfl)
theorem dX11_rest_280 : decode cX11_rest 280 = .ok (.iconst 1, 1) := dk_4 (dk_at dksX11_rest_10 18 rfl rfl)
theorem dX11_rest_281 : decode cX11_rest 281 = .ok (.invokevirtual 108, 3) := dk_182 0 108 (dk_at dksX11_rest_10 19 rfl rfl)
theorem dX11_rest_284 : decode cX11_rest 284 = .ok (.iastore, 1) := dk_79 (dk_at dksX11_rest_10 22 rfl rfl)
theorem dX11_rest_285 : decode cX11_rest 285 = .ok (.goto 66, 3) := dk_167 0 66 (dk_at dksX11_rest_11 0 rfl rfl)
theorem dX11_rest_288 : decode cX11_rest 288 = .ok (.aload_n 1, 1) := dk_43 (dk_at dksX11_rest_11 3 rfl rfl)
theorem dX11_rest_289 : decode cX11_rest 289 = .ok (.getfield 102, 3) := dk_180 0 102 (dk_at dksX11_rest_11 4 rfl rfl)
theorem dX11_rest_292 : decode cX11_rest 292 = .ok (.iconst 0, 1) := dk_3 (dk_at dksX11_rest_11 7 rfl rfl)
theorem dX11_rest_293 : decode cX11_rest 293 = .ok (.aload_n 0, 1) := dk_42 (dk_at dksX11_rest_11 8 rfl rfl)
theorem dX11_rest_294 : decode cX11_rest 294 = .ok (.iconst 1, 1) := dk_4 (dk_at dksX11_rest_11 9 rfl rfl)
theorem dX11_rest_295 : decode cX11_rest 295 = .ok (.invokevirtual 108, 3) := dk_182 0 108 (dk_at dksX11_rest_11 10 rfl rfl)
theorem dX11_rest_298 : decode cX11_rest 298 = .ok (.iastore, 1) := dk_79 (dk_at dksX11_rest_11 13 rfl rfl)
theorem dX11_rest_299 : decode cX11_rest 299 = .ok (.aload_n 1, 1) := dk_43 (dk_at dksX11_rest_11 14 rfl rfl)
theorem dX11_rest_300 : decode cX11_rest 300 = .ok (.getfield 102, 3) := dk_180 0 102 (dk_at dksX11_rest_11 15 rfl rfl)
theorem dX11_rest_303 : decode cX11_rest 303 = .ok (.iconst 1, 1) := dk_4 (dk_at dksX11_rest_11 18 rfl rfl)
theorem dX11_rest_304 : decode cX11_rest 304 = .ok (.aload_n 0, 1) := dk_42 (dk_at dksX11_rest_11 19 rfl rfl)
theorem dX11_rest_305 : decode cX11_rest 305 = .ok (.iconst 1, 1) := dk_4 (dk_at dksX11_rest_11 20 rfl rfl)
theorem dX11_rest_306 : decode cX11_rest 306 = .ok (.invokevirtual 136, 3) := dk_182 0 136 (dk_at dksX11_rest_11 21 rfl rfl)
theorem dX11_rest_309 : decode cX11_rest 309 = .ok (.iastore, 1) := dk_79 (dk_at dksX11_rest_12 0 rfl rfl)
theorem dX11_rest_310 : decode cX11_rest 310 = .ok (.goto 41, 3) := dk_167 0 41 (dk_at dksX11_rest_12 1 rfl rfl)
theorem dX11_rest_313 : decode cX11_rest 313 = .ok (.aload_n 0, 1) := dk_42 (dk_at dksX11_rest_12 4 rfl rfl)
theorem dX11_rest_314 : decode cX11_rest 314 = .ok (.aload_n 1, 1) := dk_43 (dk_at dksX11_rest_12 5 rfl rfl)
theorem dX11_rest_315 : decode cX11_rest 315 = .ok (.iconst 3, 1) := dk_6 (dk_at dksX11_rest_12 6 rfl rfl)
theorem dX11_rest_316 : decode cX11_rest 316 = .ok (.invokevirtual 140, 3) := dk_182 0 140 (dk_at dksX11_rest_12 7 rfl rfl)
theorem dX11_rest_319 : decode cX11_rest 319 = .ok (.goto 32, 3) := dk_167 0 32 (dk_at dksX11_rest_12 10 rfl rfl)
theorem dX11_rest_322 : decode cX11_rest 322 = .ok (.aload_n 1, 1) := dk_43 (dk_at dksX11_rest_12 13 rfl rfl)
theorem dX11_rest_323 : decode cX11_rest 323 = .ok (.getfield 102, 3) := dk_180 0 102 (dk_at dksX11_rest_12 14 rfl rfl)
theorem dX11_rest_326 : decode cX11_rest 326 = .ok (.iconst 0, 1) := dk_3 (dk_at dksX11_rest_12 17 rfl rfl)
theorem dX11_rest_327 : decode cX11_rest 327 = .ok (.aload_n 0, 1) := dk_42 (dk_at dksX11_rest_12 18 rfl rfl)
theorem dX11_rest_328 : decode cX11_rest 328 = .ok (.iconst 2, 1) := dk_5 (dk_at dksX11_rest_12 19 rfl rfl)
theorem dX11_rest_329 : decode cX11_rest 329 = .ok (.invokevirtual 108, 3) := dk_182 0 108 (dk_at dksX11_rest_12 20 rfl rfl)
theorem dX11_rest_332 : decode cX11_rest 332 = .ok (.iastore, 1) := dk_79 (dk_at dksX11_rest_12 23 rfl rfl)
theorem dX11_rest_333 : decode cX11_rest 333 = .ok (.goto 18, 3) := dk_167 0 18 (dk_at dksX11_rest_13 0 rfl rfl)
theorem dX11_rest_336 : decode cX11_rest 336 = .ok (.aload_n 0, 1) := dk_42 (dk_at dksX11_rest_13 3 rfl rfl)
theorem dX11_rest_337 : decode cX11_rest 337 = .ok (.aload_n 1, 1) := dk_43 (dk_at dksX11_rest_13 4 rfl rfl)
theorem dX11_rest_338 : decode cX11_rest 338 = .ok (.iconst 1, 1) := dk_4 (dk_at dksX11_rest_13 5 rfl rfl)
theorem dX11_rest_339 : decode cX11_rest 339 = .ok (.invokevirtual 140, 3) := dk_182 0 140 (dk_at dksX11_rest_13 6 rfl rfl)
theorem dX11_rest_342 : decode cX11_rest 342 = .ok (.goto 9, 3) := dk_167 0 9 (dk_at dksX11_rest_13 9 rfl rfl)
theorem dX11_rest_345 : decode cX11_rest 345 = .ok (.aload_n 0, 1) := dk_42 (dk_at dksX11_rest_13 12 rfl rfl)
theorem dX11_rest_346 : decode cX11_rest 346 = .ok (.aload_n 1, 1) := dk_43 (dk_at dksX11_rest_13 13 rfl rfl)
theorem dX11_rest_347 : decode cX11_rest 347 = .ok (.iconst 2, 1) := dk_5 (dk_at dksX11_rest_13 14 rfl rfl)
theorem dX11_rest_348 : decode cX11_rest 348 = .ok (.invokevirtual 140, 3) := dk_182 0 140 (dk_at dksX11_rest_13 15 rfl rfl)
theorem dX11_rest_351 : decode cX11_rest 351 = .ok (.return_, 1) := dk_177 (dk_at dksX11_rest_13 18 rfl rfl)
def dkwX11_point_1 : List UInt8 := [182, 0, 112, 177]
abbrev dktX11_point_1 : List UInt8 := dkwX11_point_1 ++ []
def dkwX11_point_0 : List UInt8 := [43, 180, 0, 102, 3, 42, 4, 182, 0, 108, 79, 43, 180, 0, 102, 4, 42, 4, 182, 0, 108, 79, 42]
abbrev dktX11_point_0 : List UInt8 := dkwX11_point_0 ++ dktX11_point_1
theorem dksX11_point_0 : cX11_point.data.toList.drop 0 = dktX11_point_0 := by decide +kernel
theorem dksX11_point_1 : cX11_point.data.toList.drop 23 = dktX11_point_1 := dk_seg dksX11_point_0 23 rfl rfl
theorem dX11_point_0 : decode cX11_point 0 = .ok (.aload_n 1, 1) := dk_43 (dk_at dksX11_point_0 0 rfl rfl)
theorem dX11_point_1 : decode cX11_point 1 = .ok (.getfield 102, 3) := dk_180 0 102 (dk_at dksX11_point_0 1 rfl rfl)
theorem dX11_point_4 : decode cX11_point 4 = .ok (.iconst 0, 1) := dk_3 (dk_at dksX11_point_0 4 rfl rfl)
theorem dX11_point_5 : decode cX11_point 5 = .ok (.aload_n 0, 1) := dk_42 (dk_at dksX11_point_0 5 rfl rfl)
theorem dX11_point_6 : decode cX11_point 6 = .ok (.iconst 1, 1) := dk_4 (dk_at dksX11_point_0 6 rfl rfl)
theorem dX11_point_7 : decode cX11_point 7 = .ok (.invokevirtual 108, 3) := dk_182 0 108 (dk_at dksX11_point_0 7 rfl rfl)
theorem dX11_point_10 : decode cX11_point 10 = .ok (.iastore, 1) := dk_79 (dk_at dksX11_point_0 10 rfl rfl)
theorem dX11_point_11 : decode cX11_point 11 = .ok (.aload_n 1, 1) := dk_43 (dk_at dksX11_point_0 11 rfl rfl)
theorem dX11_point_12 : decode cX11_point 12 = .ok (.getfield 102, 3) := dk_180 0 102 (dk_at dksX11_point_0 12 rfl rfl)
theorem dX11_point_15 : decode cX11_point 15 = .ok (.iconst 1, 1) := dk_4 (dk_at dksX11_point_0 15 rfl rfl)
theorem dX11_point_16 : decode cX11_point 16 = .ok (.aload_n 0, 1) := dk_42 (dk_at dksX11_point_0 16 rfl rfl)
theorem dX11_point_17 : decode cX11_point 17 = .ok (.iconst 1, 1) := dk_4 (dk_at dksX11_point_0 17 rfl rfl)
theorem dX11_point_18 : decode cX11_point 18 = .ok (.invokevirtual 108, 3) := dk_182 0 108 (dk_at dksX11_point_0 18 rfl rfl)
theorem dX11_point_21 : decode cX11_point 21 = .ok (.iastore, 1) := dk_79 (dk_at dksX11_point_0 21 rfl rfl)
theorem dX11_point_22 : decode cX11_point 22 = .ok (.aload_n 0, 1) := dk_42 (dk_at dksX11_point_0 22 rfl rfl)
theorem dX11_point_23 : decode cX11_point 23 = .ok (.invokevirtual 112, 3) := dk_182 0 112 (dk_at dksX11_point_1 0 rfl rfl)
theorem dX11_point_26 : decode cX11_point 26 = .ok (.return_, 1) := dk_177 (dk_at dksX11_point_1 3 rfl rfl)
def dkwX11_number_4 : List UInt8 := [167, 255, 200, 28, 172]
abbrev dktX11_number_4 : List UInt8 := dkwX11_number_4 ++ []
def dkwX11_number_3 : List UInt8 := [104, 42, 182, 0, 64, 96, 16, 48, 100, 61, 42, 89, 180, 0, 48, 4, 96, 181, 0, 48, 132, 3, 1]
abbrev dktX11_number_3 : List UInt8 := dkwX11_number_3 ++ dktX11_number_4
def dkwX11_number_2 : List UInt8 := [154, 0, 50, 42, 182, 0, 64, 16, 48, 161, 0, 41, 42, 182, 0, 64, 16, 57, 163, 0, 32, 16, 10, 28]
abbrev dktX11_number_2 : List UInt8 := dkwX11_number_2 ++ dktX11_number_3
def dkwX11_number_1 : List UInt8 := [164, 0, 7, 4, 167, 0, 4, 3, 128, 181, 0, 60, 3, 62, 29, 27, 162, 0, 57, 42, 180, 0, 60]
abbrev dktX11_number_1 : List UInt8 := dkwX11_number_1 ++ dktX11_number_2
def dkwX11_number_0 : List UInt8 := [3, 61, 42, 89, 180, 0, 60, 42, 182, 0, 64, 16, 48, 161, 0, 12, 42, 182, 0, 64, 16, 57]
abbrev dktX11_number_0 : List UInt8 := dkwX11_number_0 ++ dktX11_number_1
theorem dksX11_number_0 : cX11_number.data.toList.drop 0 = dktX11_number_0 := by decide +kernel
theorem dksX11_number_1 : cX11_number.data.toList.drop 22 = dktX11_number_1 := dk_seg dksX11_number_0 22 rfl rfl
theorem dksX11_number_2 : cX11_number.data.toList.drop 45 = dktX11_number_2 := dk_seg dksX11_number_1 23 rfl rfl
theorem dksX11_number_3 : cX11_number.data.toList.drop 69 = dktX11_number_3 := dk_seg dksX11_number_2 24 rfl rfl
theorem dksX11_number_4 : cX11_number.data.toList.drop 92 = dktX11_number_4 := dk_seg dksX11_number_3 23 rfl rfl
theorem dX11_number_0 : decode cX11_number 0 = .ok (.iconst 0, 1) := dk_3 (dk_at dksX11_number_0 0 rfl rfl)
theorem dX11_number_1 : decode cX11_number 1 = .ok (.istore_n 2, 1) := dk_61 (dk_at dksX11_number_0 1 rfl rfl)
theorem dX11_number_2 : decode cX11_number 2 = .ok (.aload_n 0, 1) := dk_42 (dk_at dksX11_number_0 2 rfl rfl)
theorem dX11_number_3 : decode cX11_number 3 = .ok (.dup, 1) := dk_89 (dk_at dksX11_number_0 3 rfl rfl)
theorem dX11_number_4 : decode cX11_number 4 = .ok (.getfield 60, 3) := dk_180 0 60 (dk_at dksX11_number_0 4 rfl rfl)
theorem dX11_number_7 : decode cX11_number 7 = .ok (.aload_n 0, 1) := dk_42 (dk_at dksX11_number_0 7 rfl rfl)
theorem dX11_number_8 : decode cX11_number 8 = .ok (.invokevirtual 64, 3) := dk_182 0 64 (dk_at dksX11_number_0 8 rfl rfl)
theorem dX11_number_11 : decode cX11_number 11 = .ok (.bipush 48, 2) := dk_16 48 (dk_at dksX11_number_0 11 rfl rfl)
theorem dX11_number_13 : decode cX11_number 13 = .ok (.if_icmp .lt 12, 3) := dk_161 0 12 (dk_at dksX11_number_0 13 rfl rfl)
theorem dX11_number_16 : decode cX11_number 16 = .ok (.aload_n 0, 1) := dk_42 (dk_at dksX11_number_0 16 rfl rfl)
theorem dX11_number_17 : decode cX11_number 17 = .ok (.invokevirtual 64, 3) := dk_182 0 64 (dk_at dksX11_number_0 17 rfl rfl)
theorem dX11_number_20 : decode cX11_number 20 = .ok (.bipush 57, 2) := dk_16 57 (dk_at dksX11_number_0 20 rfl rfl)
theorem dX11_number_22 : decode cX11_number 22 = .ok (.if_icmp .le 7, 3) := dk_164 0 7 (dk_at dksX11_number_1 0 rfl rfl)
theorem dX11_number_25 : decode cX11_number 25 = .ok (.iconst 1, 1) := dk_4 (dk_at dksX11_number_1 3 rfl rfl)
theorem dX11_number_26 : decode cX11_number 26 = .ok (.goto 4, 3) := dk_167 0 4 (dk_at dksX11_number_1 4 rfl rfl)
theorem dX11_number_29 : decode cX11_number 29 = .ok (.iconst 0, 1) := dk_3 (dk_at dksX11_number_1 7 rfl rfl)
theorem dX11_number_30 : decode cX11_number 30 = .ok (.ior, 1) := dk_128 (dk_at dksX11_number_1 8 rfl rfl)
theorem dX11_number_31 : decode cX11_number 31 = .ok (.putfield 60, 3) := dk_181 0 60 (dk_at dksX11_number_1 9 rfl rfl)
theorem dX11_number_34 : decode cX11_number 34 = .ok (.iconst 0, 1) := dk_3 (dk_at dksX11_number_1 12 rfl rfl)
theorem dX11_number_35 : decode cX11_number 35 = .ok (.istore_n 3, 1) := dk_62 (dk_at dksX11_number_1 13 rfl rfl)
theorem dX11_number_36 : decode cX11_number 36 = .ok (.iload_n 3, 1) := dk_29 (dk_at dksX11_number_1 14 rfl rfl)
theorem dX11_number_37 : decode cX11_number 37 = .ok (.iload_n 1, 1) := dk_27 (dk_at dksX11_number_1 15 rfl rfl)
theorem dX11_number_38 : decode cX11_number 38 = .ok (.if_icmp .ge 57, 3) := dk_162 0 57 (dk_at dksX11_number_1 16 rfl rfl)
theorem dX11_number_41 : decode cX11_number 41 = .ok (.aload_n 0, 1) := dk_42 (dk_at dksX11_number_1 19 rfl rfl)
theorem dX11_number_42 : decode cX11_number 42 = .ok (.getfield 60, 3) := dk_180 0 60 (dk_at dksX11_number_1 20 rfl rfl)
theorem dX11_number_45 : decode cX11_number 45 = .ok (.ifCond .ne 50, 3) := dk_154 0 50 (dk_at dksX11_number_2 0 rfl rfl)
theorem dX11_number_48 : decode cX11_number 48 = .ok (.aload_n 0, 1) := dk_42 (dk_at dksX11_number_2 3 rfl rfl)
theorem dX11_number_49 : decode cX11_number 49 = .ok (.invokevirtual 64, 3) := dk_182 0 64 (dk_at dksX11_number_2 4 rfl rfl)
theorem dX11_number_52 : decode cX11_number 52 = .ok (.bipush 48, 2) := dk_16 48 (dk_at dksX11_number_2 7 rfl rfl)
theorem dX11_number_54 : decode cX11_number 54 = .ok (.if_icmp .lt 41, 3) := dk_161 0 41 (dk_at dksX11_number_2 9 rfl rfl)
theorem dX11_number_57 : decode cX11_number 57 = .ok (.aload_n 0, 1) := dk_42 (dk_at dksX11_number_2 12 rfl rfl)
theorem dX11_number_58 : decode cX11_number 58 = .ok (.invokevirtual 64, 3) := dk_182 0 64 (dk_at dksX11_number_2 13 rfl rfl)
theorem dX11_number_61 : decode cX11_number 61 = .ok (.bipush 57, 2) := dk_16 57 (dk_at dksX11_number_2 16 rfl rfl)
theorem dX11_number_63 : decode cX11_number 63 = .ok (.if_icmp .gt 32, 3) := dk_163 0 32 (dk_at dksX11_number_2 18 rfl rfl)
theorem dX11_number_66 : decode cX11_number 66 = .ok (.bipush 10, 2) := dk_16 10 (dk_at dksX11_number_2 21 rfl rfl)
theorem dX11_number_68 : decode cX11_number 68 = .ok (.iload_n 2, 1) := dk_28 (dk_at dksX11_number_2 23 rfl rfl)
theorem dX11_number_69 : decode cX11_number 69 = .ok (.imul, 1) := dk_104 (dk_at dksX11_number_3 0 rfl rfl)
theorem dX11_number_70 : decode cX11_number 70 = .ok (.aload_n 0, 1) := dk_42 (dk_at dksX11_number_3 1 rfl rfl)
theorem dX11_number_71 : decode cX11_number 71 = .ok (.invokevirtual 64, 3) := dk_182 0 64 (dk_at dksX11_number_3 2 rfl rfl)
theorem dX11_number_74 : decode cX11_number 74 = .ok (.iadd, 1) := dk_96 (dk_at dksX11_number_3 5 rfl rfl)
theorem dX11_number_75 : decode cX11_number 75 = .ok (.bipush 48, 2) := dk_16 48 (dk_at dksX11_number_3 6 rfl rfl)
theorem dX11_number_77 : decode cX11_number 77 = .ok (.isub, 1) := dk_100 (dk_at dksX11_number_3 8 rfl rfl)
theorem dX11_number_78 : decode cX11_number 78 = .ok (.istore_n 2, 1) := dk_61 (dk_at dksX11_number_3 9 rfl rfl)
theorem dX11_number_79 : decode cX11_number 79 = .ok (.aload_n 0, 1) := dk_42 (dk_at dksX11_number_3 10 rfl rfl)
theorem dX11_number_80 : decode cX11_number 80 = .ok (.dup, 1) := dk_89 (dk_at dksX11_number_3 11 rfl rfl)
theorem dX11_number_81 : decode cX11_number 81 = .ok (.getfield 48, 3) := dk_180 0 48 (dk_at dksX11_number_3 12 rfl rfl)
theorem dX11_number_84 : decode cX11_number 84 = .ok (.iconst 1, 1) := dk_4 (dk_at dksX11_number_3 15 rfl rfl)
theorem dX11_number_85 : decode cX11_number 85 = .ok (.iadd, 1) := dk_96 (dk_at dksX11_number_3 16 rfl rfl)
theorem dX11_number_86 : decode cX11_number 86 = .ok (.putfield 48, 3) := dk_181 0 48 (dk_at dksX11_number_3 17 rfl rfl)
theorem dX11_number_89 : decode cX11_number 89 = .ok (.iinc 3 1, 3) := dk_132 3 1 (dk_at dksX11_number_3 20 rfl rfl)
theorem dX11_number_92 : decode cX11_number 92 = .ok (.goto (-56), 3) := dk_167 255 200 (dk_at dksX11_number_4 0 rfl rfl)
theorem dX11_number_95 : decode cX11_number 95 = .ok (.iload_n 2, 1) := dk_28 (dk_at dksX11_number_4 3 rfl rfl)
theorem dX11_number_96 : decode cX11_number 96 = .ok (.ireturn, 1) := dk_172 (dk_at dksX11_number_4 4 rfl rfl)
def dkwX11_side_4 : List UInt8 := [180, 0, 60, 153, 0, 7, 3, 167, 0, 4, 4, 96, 181, 0, 48, 28, 172]
abbrev dktX11_side_4 : List UInt8 := dkwX11_side_4 ++ []
def dkwX11_side_3 : List UInt8 := [180, 0, 60, 28, 154, 0, 7, 4, 167, 0, 4, 3, 128, 181, 0, 60, 42, 89, 180, 0, 48, 42]
abbrev dktX11_side_3 : List UInt8 := dkwX11_side_3 ++ dktX11_side_4
def dkwX11_side_2 : List UInt8 := [160, 0, 7, 6, 167, 0, 17, 42, 182, 0, 64, 16, 119, 160, 0, 7, 7, 167, 0, 4, 3, 61, 42, 89]
abbrev dktX11_side_2 : List UInt8 := dkwX11_side_2 ++ dktX11_side_3
def dkwX11_side_1 : List UInt8 := [4, 167, 0, 43, 42, 182, 0, 64, 16, 101, 160, 0, 7, 5, 167, 0, 30, 42, 182, 0, 64, 16, 115]
abbrev dktX11_side_1 : List UInt8 := dkwX11_side_1 ++ dktX11_side_2
def dkwX11_side_0 : List UInt8 := [27, 153, 0, 14, 42, 16, 45, 182, 0, 98, 153, 0, 5, 3, 172, 42, 182, 0, 64, 16, 110, 160, 0, 7]
abbrev dktX11_side_0 : List UInt8 := dkwX11_side_0 ++ dktX11_side_1
theorem dksX11_side_0 : cX11_side.data.toList.drop 0 = dktX11_side_0 := by decide +kernel
theorem dksX11_side_1 : cX11_side.data.toList.drop 24 = dktX11_side_1 := dk_seg dksX11_side_0 24 rfl rfl
theorem dksX11_side_2 : cX11_side.data.toList.drop 47 = dktX11_side_2 := dk_seg dksX11_side_1 23 rfl rfl
theorem dksX11_side_3 : cX11_side.data.toList.drop 71 = dktX11_side_3 := dk_seg dksX11_side_2 24 rfl rfl
theorem dksX11_side_4 : cX11_side.data.toList.drop 93 = dktX11_side_4 := dk_seg dksX11_side_3 22 rfl rfl
theorem dX11_side_0 : decode cX11_side 0 = .ok (.iload_n 1, 1) := dk_27 (dk_at dksX11_side_0 0 rfl rfl)
theorem dX11_side_1 : decode cX11_side 1 = .ok (.ifCond .eq 14, 3) := dk_153 0 14 (dk_at dksX11_side_0 1 rfl rfl)
theorem dX11_side_4 : decode cX11_side 4 = .ok (.aload_n 0, 1) := dk_42 (dk_at dksX11_side_0 4 rfl rfl)
theorem dX11_side_5 : decode cX11_side 5 = .ok (.bipush 45, 2) := dk_16 45 (dk_at dksX11_side_0 5 rfl rfl)
theorem dX11_side_7 : decode cX11_side 7 = .ok (.invokevirtual 98, 3) := dk_182 0 98 (dk_at dksX11_side_0 7 rfl rfl)
theorem dX11_side_10 : decode cX11_side 10 = .ok (.ifCond .eq 5, 3) := dk_153 0 5 (dk_at dksX11_side_0 10 rfl rfl)
theorem dX11_side_13 : decode cX11_side 13 = .ok (.iconst 0, 1) := dk_3 (dk_at dksX11_side_0 13 rfl rfl)
theorem dX11_side_14 : decode cX11_side 14 = .ok (.ireturn, 1) := dk_172 (dk_at dksX11_side_0 14 rfl rfl)
theorem dX11_side_15 : decode cX11_side 15 = .ok (.aload_n 0, 1) := dk_42 (dk_at dksX11_side_0 15 rfl rfl)
theorem dX11_side_16 : decode cX11_side 16 = .ok (.invokevirtual 64, 3) := dk_182 0 64 (dk_at dksX11_side_0 16 rfl rfl)
theorem dX11_side_19 : decode cX11_side 19 = .ok (.bipush 110, 2) := dk_16 110 (dk_at dksX11_side_0 19 rfl rfl)
theorem dX11_side_21 : decode cX11_side 21 = .ok (.if_icmp .ne 7, 3) := dk_160 0 7 (dk_at dksX11_side_0 21 rfl rfl)
theorem dX11_side_24 : decode cX11_side 24 = .ok (.iconst 1, 1) := dk_4 (dk_at dksX11_side_1 0 rfl rfl)
theorem dX11_side_25 : decode cX11_side 25 = .ok (.goto 43, 3) := dk_167 0 43 (dk_at dksX11_side_1 1 rfl rfl)
theorem dX11_side_28 : decode cX11_side 28 = .ok (.aload_n 0, 1) := dk_42 (dk_at dksX11_side_1 4 rfl rfl)
theorem dX11_side_29 : decode cX11_side 29 = .ok (.invokevirtual 64, 3) := dk_182 0 64 (dk_at dksX11_side_1 5 rfl rfl)
theorem dX11_side_32 : decode cX11_side 32 = .ok (.bipush 101, 2) := dk_16 101 (dk_at dksX11_side_1 8 rfl rfl)
theorem dX11_side_34 : decode cX11_side 34 = .ok (.if_icmp .ne 7, 3) := dk_160 0 7 (dk_at dksX11_side_1 10 rfl rfl)
theorem dX11_side_37 : decode cX11_side 37 = .ok (.iconst 2, 1) := dk_5 (dk_at dksX11_side_1 13 rfl rfl)
theorem dX11_side_38 : decode cX11_side 38 = .ok (.goto 30, 3) := dk_167 0 30 (dk_at dksX11_side_1 14 rfl rfl)
theorem dX11_side_41 : decode cX11_side 41 = .ok (.aload_n 0, 1) := dk_42 (dk_at dksX11_side_1 17 rfl rfl)
theorem dX11_side_42 : decode cX11_side 42 = .ok (.invokevirtual 64, 3) := dk_182 0 64 (dk_at dksX11_side_1 18 rfl rfl)
theorem dX11_side_45 : decode cX11_side 45 = .ok (.bipush 115, 2) := dk_16 115 (dk_at dksX11_side_1 21 rfl rfl)
theorem dX11_side_47 : decode cX11_side 47 = .ok (.if_icmp .ne 7, 3) := dk_160 0 7 (dk_at dksX11_side_2 0 rfl rfl)
theorem dX11_side_50 : decode cX11_side 50 = .ok (.iconst 3, 1) := dk_6 (dk_at dksX11_side_2 3 rfl rfl)
theorem dX11_side_51 : decode cX11_side 51 = .ok (.goto 17, 3) := dk_167 0 17 (dk_at dksX11_side_2 4 rfl rfl)
theorem dX11_side_54 : decode cX11_side 54 = .ok (.aload_n 0, 1) := dk_42 (dk_at dksX11_side_2 7 rfl rfl)
theorem dX11_side_55 : decode cX11_side 55 = .ok (.invokevirtual 64, 3) := dk_182 0 64 (dk_at dksX11_side_2 8 rfl rfl)
theorem dX11_side_58 : decode cX11_side 58 = .ok (.bipush 119, 2) := dk_16 119 (dk_at dksX11_side_2 11 rfl rfl)
theorem dX11_side_60 : decode cX11_side 60 = .ok (.if_icmp .ne 7, 3) := dk_160 0 7 (dk_at dksX11_side_2 13 rfl rfl)
theorem dX11_side_63 : decode cX11_side 63 = .ok (.iconst 4, 1) := dk_7 (dk_at dksX11_side_2 16 rfl rfl)
theorem dX11_side_64 : decode cX11_side 64 = .ok (.goto 4, 3) := dk_167 0 4 (dk_at dksX11_side_2 17 rfl rfl)
theorem dX11_side_67 : decode cX11_side 67 = .ok (.iconst 0, 1) := dk_3 (dk_at dksX11_side_2 20 rfl rfl)
theorem dX11_side_68 : decode cX11_side 68 = .ok (.istore_n 2, 1) := dk_61 (dk_at dksX11_side_2 21 rfl rfl)
theorem dX11_side_69 : decode cX11_side 69 = .ok (.aload_n 0, 1) := dk_42 (dk_at dksX11_side_2 22 rfl rfl)
theorem dX11_side_70 : decode cX11_side 70 = .ok (.dup, 1) := dk_89 (dk_at dksX11_side_2 23 rfl rfl)
theorem dX11_side_71 : decode cX11_side 71 = .ok (.getfield 60, 3) := dk_180 0 60 (dk_at dksX11_side_3 0 rfl rfl)
theorem dX11_side_74 : decode cX11_side 74 = .ok (.iload_n 2, 1) := dk_28 (dk_at dksX11_side_3 3 rfl rfl)
theorem dX11_side_75 : decode cX11_side 75 = .ok (.ifCond .ne 7, 3) := dk_154 0 7 (dk_at dksX11_side_3 4 rfl rfl)
theorem dX11_side_78 : decode cX11_side 78 = .ok (.iconst 1, 1) := dk_4 (dk_at dksX11_side_3 7 rfl rfl)
theorem dX11_side_79 : decode cX11_side 79 = .ok (.goto 4, 3) := dk_167 0 4 (dk_at dksX11_side_3 8 rfl rfl)
theorem dX11_side_82 : decode cX11_side 82 = .ok (.iconst 0, 1) := dk_3 (dk_at dksX11_side_3 11 rfl rfl)
theorem dX11_side_83 : decode cX11_side 83 = .ok (.ior, 1) := dk_128 (dk_at dksX11_side_3 12 rfl rfl)
theorem dX11_side_84 : decode cX11_side 84 = .ok (.putfield 60, 3) := dk_181 0 60 (dk_at dksX11_side_3 13 rfl rfl)
theorem dX11_side_87 : decode cX11_side 87 = .ok (.aload_n 0, 1) := dk_42 (dk_at dksX11_side_3 16 rfl rfl)
theorem dX11_side_88 : decode cX11_side 88 = .ok (.dup, 1) := dk_89 (dk_at dksX11_side_3 17 rfl rfl)
theorem dX11_side_89 : decode cX11_side 89 = .ok (.getfield 48, 3) := dk_180 0 48 (dk_at dksX11_side_3 18 rfl rfl)
theorem dX11_side_92 : decode cX11_side 92 = .ok (.aload_n 0, 1) := dk_42 (dk_at dksX11_side_3 21 rfl rfl)
theorem dX11_side_93 : decode cX11_side 93 = .ok (.getfield 60, 3) := dk_180 0 60 (dk_at dksX11_side_4 0 rfl rfl)
theorem dX11_side_96 : decode cX11_side 96 = .ok (.ifCond .eq 7, 3) := dk_153 0 7 (dk_at dksX11_side_4 3 rfl rfl)
theorem dX11_side_99 : decode cX11_side 99 = .ok (.iconst 0, 1) := dk_3 (dk_at dksX11_side_4 6 rfl rfl)
theorem dX11_side_100 : decode cX11_side 100 = .ok (.goto 4, 3) := dk_167 0 4 (dk_at dksX11_side_4 7 rfl rfl)
theorem dX11_side_103 : decode cX11_side 103 = .ok (.iconst 1, 1) := dk_4 (dk_at dksX11_side_4 10 rfl rfl)
theorem dX11_side_104 : decode cX11_side 104 = .ok (.iadd, 1) := dk_96 (dk_at dksX11_side_4 11 rfl rfl)
theorem dX11_side_105 : decode cX11_side 105 = .ok (.putfield 48, 3) := dk_181 0 48 (dk_at dksX11_side_4 12 rfl rfl)
theorem dX11_side_108 : decode cX11_side 108 = .ok (.iload_n 2, 1) := dk_28 (dk_at dksX11_side_4 15 rfl rfl)
theorem dX11_side_109 : decode cX11_side 109 = .ok (.ireturn, 1) := dk_172 (dk_at dksX11_side_4 16 rfl rfl)
def dkwX11_digits_1 : List UInt8 := [182, 0, 108, 79, 132, 3, 1, 167, 255, 229, 177]
abbrev dktX11_digits_1 : List UInt8 := dkwX11_digits_1 ++ []
def dkwX11_digits_0 : List UInt8 := [3, 62, 29, 28, 162, 0, 28, 29, 158, 0, 7, 42, 182, 0, 112, 43, 180, 0, 102, 29, 42, 4]
abbrev dktX11_digits_0 : List UInt8 := dkwX11_digits_0 ++ dktX11_digits_1
theorem dksX11_digits_0 : cX11_digits.data.toList.drop 0 = dktX11_digits_0 := by decide +kernel
theorem dksX11_digits_1 : cX11_digits.data.toList.drop 22 = dktX11_digits_1 := dk_seg dksX11_digits_0 22 rfl rfl
theorem dX11_digits_0 : decode cX11_digits 0 = .ok (.iconst 0, 1) := dk_3 (dk_at dksX11_digits_0 0 rfl rfl)
theorem dX11_digits_1 : decode cX11_digits 1 = .ok (.istore_n 3, 1) := dk_62 (dk_at dksX11_digits_0 1 rfl rfl)
theorem dX11_digits_2 : decode cX11_digits 2 = .ok (.iload_n 3, 1) := dk_29 (dk_at dksX11_digits_0 2 rfl rfl)
theorem dX11_digits_3 : decode cX11_digits 3 = .ok (.iload_n 2, 1) := dk_28 (dk_at dksX11_digits_0 3 rfl rfl)
theorem dX11_digits_4 : decode cX11_digits 4 = .ok (.if_icmp .ge 28, 3) := dk_162 0 28 (dk_at dksX11_digits_0 4 rfl rfl)
theorem dX11_digits_7 : decode cX11_digits 7 = .ok (.iload_n 3, 1) := dk_29 (dk_at dksX11_digits_0 7 rfl rfl)
theorem dX11_digits_8 : decode cX11_digits 8 = .ok (.ifCond .le 7, 3) := dk_158 0 7 (dk_at dksX11_digits_0 8 rfl rfl)
theorem dX11_digits_11 : decode cX11_digits 11 = .ok (.aload_n 0, 1) := dk_42 (dk_at dksX11_digits_0 11 rfl rfl)
theorem dX11_digits_12 : decode cX11_digits 12 = .ok (.invokevirtual 112, 3) := dk_182 0 112 (dk_at dksX11_digits_0 12 rfl rfl)
theorem dX11_digits_15 : decode cX11_digits 15 = .ok (.aload_n 1, 1) := dk_43 (dk_at dksX11_digits_0 15 rfl rfl)
theorem dX11_digits_16 : decode cX11_digits 16 = .ok (.getfield 102, 3) := dk_180 0 102 (dk_at dksX11_digits_0 16 rfl rfl)
theorem dX11_digits_19 : decode cX11_digits 19 = .ok (.iload_n 3, 1) := dk_29 (dk_at dksX11_digits_0 19 rfl rfl)
theorem dX11_digits_20 : decode cX11_digits 20 = .ok (.aload_n 0, 1) := dk_42 (dk_at dksX11_digits_0 20 rfl rfl)
theorem dX11_digits_21 : decode cX11_digits 21 = .ok (.iconst 1, 1) := dk_4 (dk_at dksX11_digits_0 21 rfl rfl)
theorem dX11_digits_22 : decode cX11_digits 22 = .ok (.invokevirtual 108, 3) := dk_182 0 108 (dk_at dksX11_digits_1 0 rfl rfl)
theorem dX11_digits_25 : decode cX11_digits 25 = .ok (.iastore, 1) := dk_79 (dk_at dksX11_digits_1 3 rfl rfl)
theorem dX11_digits_26 : decode cX11_digits 26 = .ok (.iinc 3 1, 3) := dk_132 3 1 (dk_at dksX11_digits_1 4 rfl rfl)
theorem dX11_digits_29 : decode cX11_digits 29 = .ok (.goto (-27), 3) := dk_167 255 229 (dk_at dksX11_digits_1 7 rfl rfl)
theorem dX11_digits_32 : decode cX11_digits 32 = .ok (.return_, 1) := dk_177 (dk_at dksX11_digits_1 10 rfl rfl)
def dkwX12_init_0 : List UInt8 := [42, 183, 0, 1, 42, 7, 188, 10, 181, 0, 7, 42, 43, 181, 0, 13, 177]
abbrev dktX12_init_0 : List UInt8 := dkwX12_init_0 ++ []
theorem dksX12_init_0 : cX12_init.data.toList.drop 0 = dktX12_init_0 := by decide +kernel
theorem dX12_init_0 : decode cX12_init 0 = .ok (.aload_n 0, 1) := dk_42 (dk_at dksX12_init_0 0 rfl rfl)
theorem dX12_init_1 : decode cX12_init 1 = .ok (.invokespecial 1, 3) := dk_183 0 1 (dk_at dksX12_init_0 1 rfl rfl)
theorem dX12_init_4 : decode cX12_init 4 = .ok (.aload_n 0, 1) := dk_42 (dk_at dksX12_init_0 4 rfl rfl)
theorem dX12_init_5 : decode cX12_init 5 = .ok (.iconst 4, 1) := dk_7 (dk_at dksX12_init_0 5 rfl rfl)
theorem dX12_init_6 : decode cX12_init 6 = .ok (.newarray .int, 2) := dk_188_10 (dk_at dksX12_init_0 6 rfl rfl)
theorem dX12_init_8 : decode cX12_init 8 = .ok (.putfield 7, 3) := dk_181 0 7 (dk_at dksX12_init_0 8 rfl rfl)
theorem dX12_init_11 : decode cX12_init 11 = .ok (.aload_n 0, 1) := dk_42 (dk_at dksX12_init_0 11 rfl rfl)
theorem dX12_init_12 : decode cX12_init 12 = .ok (.aload_n 1, 1) := dk_43 (dk_at dksX12_init_0 12 rfl rfl)
theorem dX12_init_13 : decode cX12_init 13 = .ok (.putfield 13, 3) := dk_181 0 13 (dk_at dksX12_init_0 13 rfl rfl)
theorem dX12_init_16 : decode cX12_init 16 = .ok (.return_, 1) := dk_177 (dk_at dksX12_init_0 16 rfl rfl)
theorem dX13_init_0 : decode cX13_init 0 = .ok (.aload_n 0, 1) := by decide +kernel
theorem dX13_init_1 : decode cX13_init 1 = .ok (.invokespecial 1, 3) := by decide +kernel
theorem dX13_init_4 : decode cX13_init 4 = .ok (.return_, 1) := by decide +kernel
def dkwX13_over_1 : List UInt8 := [192, 0, 23, 58, 4, 28, 42, 25, 4, 182, 0, 25, 96, 61, 167, 255, 227, 28, 172]
abbrev dktX13_over_1 : List UInt8 := dkwX13_over_1 ++ []
def dkwX13_over_0 : List UInt8 := [3, 61, 43, 185, 0, 7, 1, 0, 78, 45, 185, 0, 13, 1, 0, 153, 0, 26, 45, 185, 0, 19, 1, 0]
abbrev dktX13_over_0 : List UInt8 := dkwX13_over_0 ++ dktX13_over_1
theorem dksX13_over_0 : cX13_over.data.toList.drop 0 = dktX13_over_0 := by decide +kernel
theorem dksX13_over_1 : cX13_over.data.toList.drop 24 = dktX13_over_1 := dk_seg dksX13_over_0 24 rfl rfl
theorem dX13_over_0 : decode cX13_over 0 = .ok (.iconst 0, 1) := dk_3 (dk_at dksX13_over_0 0 rfl rfl)
theorem dX13_over_1 : decode cX13_over 1 = .ok (.istore_n 2, 1) := dk_61 (dk_at dksX13_over_0 1 rfl rfl)
theorem dX13_over_2 : decode cX13_over 2 = .ok (.aload_n 1, 1) := dk_43 (dk_at dksX13_over_0 2 rfl rfl)
theorem dX13_over_3 : decode cX13_over 3 = .ok (.invokeinterface 7 1, 5) := by decide +kernel
theorem dX13_over_8 : decode cX13_over 8 = .ok (.astore_n 3, 1) := dk_78 (dk_at dksX13_over_0 8 rfl rfl)
theorem dX13_over_9 : decode cX13_over 9 = .ok (.aload_n 3, 1) := dk_45 (dk_at dksX13_over_0 9 rfl rfl)
theorem dX13_over_10 : decode cX13_over 10 = .ok (.invokeinterface 13 1, 5) := by decide +kernel
theorem dX13_over_15 : decode cX13_over 15 = .ok (.ifCond .eq 26, 3) := dk_153 0 26 (dk_at dksX13_over_0 15 rfl rfl)
theorem dX13_over_18 : decode cX13_over 18 = .ok (.aload_n 3, 1) := dk_45 (dk_at dksX13_over_0 18 rfl rfl)
theorem dX13_over_19 : decode cX13_over 19 = .ok (.invokeinterface 19 1, 5) := by decide +kernel
theorem dX13_over_24 : decode cX13_over 24 = .ok (.checkcast 23, 3) := dk_192 0 23 (dk_at dksX13_over_1 0 rfl rfl)
theorem dX13_over_27 : decode cX13_over 27 = .ok (.astore 4, 2) := dk_58 4 (dk_at dksX13_over_1 3 rfl rfl)
theorem dX13_over_29 : decode cX13_over 29 = .ok (.iload_n 2, 1) := dk_28 (dk_at dksX13_over_1 5 rfl rfl)
theorem dX13_over_30 : decode cX13_over 30 = .ok (.aload_n 0, 1) := dk_42 (dk_at dksX13_over_1 6 rfl rfl)
theorem dX13_over_31 : decode cX13_over 31 = .ok (.aload 4, 2) := dk_25 4 (dk_at dksX13_over_1 7 rfl rfl)
theorem dX13_over_33 : decode cX13_over 33 = .ok (.invokevirtual 25, 3) := dk_182 0 25 (dk_at dksX13_over_1 9 rfl rfl)
theorem dX13_over_36 : decode cX13_over 36 = .ok (.iadd, 1) := dk_96 (dk_at dksX13_over_1 12 rfl rfl)
theorem dX13_over_37 : decode cX13_over 37 = .ok (.istore_n 2, 1) := dk_61 (dk_at dksX13_over_1 13 rfl rfl)
theorem dX13_over_38 : decode cX13_over 38 = .ok (.goto (-29), 3) := dk_167 255 227 (dk_at dksX13_over_1 14 rfl rfl)
theorem dX13_over_41 : decode cX13_over 41 = .ok (.iload_n 2, 1) := dk_28 (dk_at dksX13_over_1 17 rfl rfl)
theorem dX13_over_42 : decode cX13_over 42 = .ok (.ireturn, 1) := dk_172 (dk_at dksX13_over_1 18 rfl rfl)
def dkwX14_init_0 : List UInt8 := [42, 43, 181, 0, 1, 42, 183, 0, 7, 177]
abbrev dktX14_init_0 : List UInt8 := dkwX14_init_0 ++ []
theorem dksX14_init_0 : cX14_init.data.toList.drop 0 = dktX14_init_0 := by decide +kernel
theorem dX14_init_0 : decode cX14_init 0 = .ok (.aload_n 0, 1) := dk_42 (dk_at dksX14_init_0 0 rfl rfl)
theorem dX14_init_1 : decode cX14_init 1 = .ok (.aload_n 1, 1) := dk_43 (dk_at dksX14_init_0 1 rfl rfl)
theorem dX14_init_2 : decode cX14_init 2 = .ok (.putfield 1, 3) := dk_181 0 1 (dk_at dksX14_init_0 2 rfl rfl)
theorem dX14_init_5 : decode cX14_init 5 = .ok (.aload_n 0, 1) := dk_42 (dk_at dksX14_init_0 5 rfl rfl)
theorem dX14_init_6 : decode cX14_init 6 = .ok (.invokespecial 7, 3) := dk_183 0 7 (dk_at dksX14_init_0 6 rfl rfl)
theorem dX14_init_9 : decode cX14_init 9 = .ok (.return_, 1) := dk_177 (dk_at dksX14_init_0 9 rfl rfl)
theorem dX14_of_0 : decode cX14_of 0 = .ok (.aload_n 1, 1) := by decide +kernel
theorem dX14_of_1 : decode cX14_of 1 = .ok (.getfield 13, 3) := by decide +kernel
theorem dX14_of_4 : decode cX14_of 4 = .ok (.ireturn, 1) := by decide +kernel
def dkwX15_of_0 : List UInt8 := [43, 180, 0, 13, 158, 0, 7, 4, 167, 0, 4, 3, 172]
abbrev dktX15_of_0 : List UInt8 := dkwX15_of_0 ++ []
theorem dksX15_of_0 : cX15_of.data.toList.drop 0 = dktX15_of_0 := by decide +kernel
theorem dX15_of_0 : decode cX15_of 0 = .ok (.aload_n 1, 1) := dk_43 (dk_at dksX15_of_0 0 rfl rfl)
theorem dX15_of_1 : decode cX15_of 1 = .ok (.getfield 13, 3) := dk_180 0 13 (dk_at dksX15_of_0 1 rfl rfl)
theorem dX15_of_4 : decode cX15_of 4 = .ok (.ifCond .le 7, 3) := dk_158 0 7 (dk_at dksX15_of_0 4 rfl rfl)
theorem dX15_of_7 : decode cX15_of 7 = .ok (.iconst 1, 1) := dk_4 (dk_at dksX15_of_0 7 rfl rfl)
theorem dX15_of_8 : decode cX15_of 8 = .ok (.goto 4, 3) := dk_167 0 4 (dk_at dksX15_of_0 8 rfl rfl)
theorem dX15_of_11 : decode cX15_of 11 = .ok (.iconst 0, 1) := dk_3 (dk_at dksX15_of_0 11 rfl rfl)
theorem dX15_of_12 : decode cX15_of 12 = .ok (.ireturn, 1) := dk_172 (dk_at dksX15_of_0 12 rfl rfl)
def dkwX15_init_0 : List UInt8 := [42, 43, 181, 0, 1, 42, 183, 0, 7, 177]
abbrev dktX15_init_0 : List UInt8 := dkwX15_init_0 ++ []
theorem dksX15_init_0 : cX15_init.data.toList.drop 0 = dktX15_init_0 := by decide +kernel
theorem dX15_init_0 : decode cX15_init 0 = .ok (.aload_n 0, 1) := dk_42 (dk_at dksX15_init_0 0 rfl rfl)
theorem dX15_init_1 : decode cX15_init 1 = .ok (.aload_n 1, 1) := dk_43 (dk_at dksX15_init_0 1 rfl rfl)
theorem dX15_init_2 : decode cX15_init 2 = .ok (.putfield 1, 3) := dk_181 0 1 (dk_at dksX15_init_0 2 rfl rfl)
theorem dX15_init_5 : decode cX15_init 5 = .ok (.aload_n 0, 1) := dk_42 (dk_at dksX15_init_0 5 rfl rfl)
theorem dX15_init_6 : decode cX15_init 6 = .ok (.invokespecial 7, 3) := dk_183 0 7 (dk_at dksX15_init_0 6 rfl rfl)
theorem dX15_init_9 : decode cX15_init 9 = .ok (.return_, 1) := dk_177 (dk_at dksX15_init_0 9 rfl rfl)
theorem dX16_of_0 : decode cX16_of 0 = .ok (.aload_n 1, 1) := by decide +kernel
theorem dX16_of_1 : decode cX16_of 1 = .ok (.getfield 13, 3) := by decide +kernel
theorem dX16_of_4 : decode cX16_of 4 = .ok (.ireturn, 1) := by decide +kernel
def dkwX16_init_0 : List UInt8 := [42, 43, 181, 0, 1, 42, 183, 0, 7, 177]
abbrev dktX16_init_0 : List UInt8 := dkwX16_init_0 ++ []
theorem dksX16_init_0 : cX16_init.data.toList.drop 0 = dktX16_init_0 := by decide +kernel
theorem dX16_init_0 : decode cX16_init 0 = .ok (.aload_n 0, 1) := dk_42 (dk_at dksX16_init_0 0 rfl rfl)
theorem dX16_init_1 : decode cX16_init 1 = .ok (.aload_n 1, 1) := dk_43 (dk_at dksX16_init_0 1 rfl rfl)
theorem dX16_init_2 : decode cX16_init 2 = .ok (.putfield 1, 3) := dk_181 0 1 (dk_at dksX16_init_0 2 rfl rfl)
theorem dX16_init_5 : decode cX16_init 5 = .ok (.aload_n 0, 1) := dk_42 (dk_at dksX16_init_0 5 rfl rfl)
theorem dX16_init_6 : decode cX16_init 6 = .ok (.invokespecial 7, 3) := dk_183 0 7 (dk_at dksX16_init_0 6 rfl rfl)
theorem dX16_init_9 : decode cX16_init 9 = .ok (.return_, 1) := dk_177 (dk_at dksX16_init_0 9 rfl rfl)
def dkwX2_init_2 : List UInt8 := [181, 0, 28, 177]
abbrev dktX2_init_2 : List UInt8 := dkwX2_init_2 ++ []
def dkwX2_init_1 : List UInt8 := [181, 0, 18, 42, 16, 100, 188, 10, 181, 0, 21, 42, 16, 100, 188, 10, 181, 0, 25, 42, 16, 6, 188, 10]
abbrev dktX2_init_1 : List UInt8 := dkwX2_init_1 ++ dktX2_init_2
def dkwX2_init_0 : List UInt8 := [42, 183, 0, 3, 42, 187, 0, 9, 89, 183, 0, 11, 181, 0, 12, 42, 187, 0, 9, 89, 183, 0, 11]
abbrev dktX2_init_0 : List UInt8 := dkwX2_init_0 ++ dktX2_init_1
theorem dksX2_init_0 : cX2_init.data.toList.drop 0 = dktX2_init_0 := by decide +kernel
theorem dksX2_init_1 : cX2_init.data.toList.drop 23 = dktX2_init_1 := dk_seg dksX2_init_0 23 rfl rfl
theorem dksX2_init_2 : cX2_init.data.toList.drop 47 = dktX2_init_2 := dk_seg dksX2_init_1 24 rfl rfl
theorem dX2_init_0 : decode cX2_init 0 = .ok (.aload_n 0, 1) := dk_42 (dk_at dksX2_init_0 0 rfl rfl)
theorem dX2_init_1 : decode cX2_init 1 = .ok (.invokespecial 3, 3) := dk_183 0 3 (dk_at dksX2_init_0 1 rfl rfl)
theorem dX2_init_4 : decode cX2_init 4 = .ok (.aload_n 0, 1) := dk_42 (dk_at dksX2_init_0 4 rfl rfl)
theorem dX2_init_5 : decode cX2_init 5 = .ok (.new 9, 3) := dk_187 0 9 (dk_at dksX2_init_0 5 rfl rfl)
theorem dX2_init_8 : decode cX2_init 8 = .ok (.dup, 1) := dk_89 (dk_at dksX2_init_0 8 rfl rfl)
theorem dX2_init_9 : decode cX2_init 9 = .ok (.invokespecial 11, 3) := dk_183 0 11 (dk_at dksX2_init_0 9 rfl rfl)
theorem dX2_init_12 : decode cX2_init 12 = .ok (.putfield 12, 3) := dk_181 0 12 (dk_at dksX2_init_0 12 rfl rfl)
theorem dX2_init_15 : decode cX2_init 15 = .ok (.aload_n 0, 1) := dk_42 (dk_at dksX2_init_0 15 rfl rfl)
theorem dX2_init_16 : decode cX2_init 16 = .ok (.new 9, 3) := dk_187 0 9 (dk_at dksX2_init_0 16 rfl rfl)
theorem dX2_init_19 : decode cX2_init 19 = .ok (.dup, 1) := dk_89 (dk_at dksX2_init_0 19 rfl rfl)
theorem dX2_init_20 : decode cX2_init 20 = .ok (.invokespecial 11, 3) := dk_183 0 11 (dk_at dksX2_init_0 20 rfl rfl)
theorem dX2_init_23 : decode cX2_init 23 = .ok (.putfield 18, 3) := dk_181 0 18 (dk_at dksX2_init_1 0 rfl rfl)
theorem dX2_init_26 : decode cX2_init 26 = .ok (.aload_n 0, 1) := dk_42 (dk_at dksX2_init_1 3 rfl rfl)
theorem dX2_init_27 : decode cX2_init 27 = .ok (.bipush 100, 2) := dk_16 100 (dk_at dksX2_init_1 4 rfl rfl)
theorem dX2_init_29 : decode cX2_init 29 = .ok (.newarray .int, 2) := dk_188_10 (dk_at dksX2_init_1 6 rfl rfl)
theorem dX2_init_31 : decode cX2_init 31 = .ok (.putfield 21, 3) := dk_181 0 21 (dk_at dksX2_init_1 8 rfl rfl)
theorem dX2_init_34 : decode cX2_init 34 = .ok (.aload_n 0, 1) := dk_42 (dk_at dksX2_init_1 11 rfl rfl)
theorem dX2_init_35 : decode cX2_init 35 = .ok (.bipush 100, 2) := dk_16 100 (dk_at dksX2_init_1 12 rfl rfl)
theorem dX2_init_37 : decode cX2_init 37 = .ok (.newarray .int, 2) := dk_188_10 (dk_at dksX2_init_1 14 rfl rfl)
theorem dX2_init_39 : decode cX2_init 39 = .ok (.putfield 25, 3) := dk_181 0 25 (dk_at dksX2_init_1 16 rfl rfl)
theorem dX2_init_42 : decode cX2_init 42 = .ok (.aload_n 0, 1) := dk_42 (dk_at dksX2_init_1 19 rfl rfl)
theorem dX2_init_43 : decode cX2_init 43 = .ok (.bipush 6, 2) := dk_16 6 (dk_at dksX2_init_1 20 rfl rfl)
theorem dX2_init_45 : decode cX2_init 45 = .ok (.newarray .int, 2) := dk_188_10 (dk_at dksX2_init_1 22 rfl rfl)
theorem dX2_init_47 : decode cX2_init 47 = .ok (.putfield 28, 3) := dk_181 0 28 (dk_at dksX2_init_2 0 rfl rfl)
theorem dX2_init_50 : decode cX2_init 50 = .ok (.return_, 1) := dk_177 (dk_at dksX2_init_2 3 rfl rfl)
def dkwX2_nextOf_1 : List UInt8 := [182, 0, 98, 192, 0, 56, 167, 0, 4, 1, 176]
abbrev dktX2_nextOf_1 : List UInt8 := dkwX2_nextOf_1 ++ []
def dkwX2_nextOf_0 : List UInt8 := [43, 180, 0, 97, 42, 180, 0, 18, 182, 0, 89, 162, 0, 20, 42, 180, 0, 18, 43, 180, 0, 97]
abbrev dktX2_nextOf_0 : List UInt8 := dkwX2_nextOf_0 ++ dktX2_nextOf_1
theorem dksX2_nextOf_0 : cX2_nextOf.data.toList.drop 0 = dktX2_nextOf_0 := by decide +kernel
theorem dksX2_nextOf_1 : cX2_nextOf.data.toList.drop 22 = dktX2_nextOf_1 := dk_seg dksX2_nextOf_0 22 rfl rfl
theorem dX2_nextOf_0 : decode cX2_nextOf 0 = .ok (.aload_n 1, 1) := dk_43 (dk_at dksX2_nextOf_0 0 rfl rfl)
theorem dX2_nextOf_1 : decode cX2_nextOf 1 = .ok (.getfield 97, 3) := dk_180 0 97 (dk_at dksX2_nextOf_0 1 rfl rfl)
theorem dX2_nextOf_4 : decode cX2_nextOf 4 = .ok (.aload_n 0, 1) := dk_42 (dk_at dksX2_nextOf_0 4 rfl rfl)
theorem dX2_nextOf_5 : decode cX2_nextOf 5 = .ok (.getfield 18, 3) := dk_180 0 18 (dk_at dksX2_nextOf_0 5 rfl rfl)
theorem dX2_nextOf_8 : decode cX2_nextOf 8 = .ok (.invokevirtual 89, 3) := dk_182 0 89 (dk_at dksX2_nextOf_0 8 rfl rfl)
theorem dX2_nextOf_11 : decode cX2_nextOf 11 = .ok (.if_icmp .ge 20, 3) := dk_162 0 20 (dk_at dksX2_nextOf_0 11 rfl rfl)
theorem dX2_nextOf_14 : decode cX2_nextOf 14 = .ok (.aload_n 0, 1) := dk_42 (dk_at dksX2_nextOf_0 14 rfl rfl)
theorem dX2_nextOf_15 : decode cX2_nextOf 15 = .ok (.getfield 18, 3) := dk_180 0 18 (dk_at dksX2_nextOf_0 15 rfl rfl)
theorem dX2_nextOf_18 : decode cX2_nextOf 18 = .ok (.aload_n 1, 1) := dk_43 (dk_at dksX2_nextOf_0 18 rfl rfl)
theorem dX2_nextOf_19 : decode cX2_nextOf 19 = .ok (.getfield 97, 3) := dk_180 0 97 (dk_at dksX2_nextOf_0 19 rfl rfl)
theorem dX2_nextOf_22 : decode cX2_nextOf 22 = .ok (.invokevirtual 98, 3) := dk_182 0 98 (dk_at dksX2_nextOf_1 0 rfl rfl)
theorem dX2_nextOf_25 : decode cX2_nextOf 25 = .ok (.checkcast 56, 3) := dk_192 0 56 (dk_at dksX2_nextOf_1 3 rfl rfl)
theorem dX2_nextOf_28 : decode cX2_nextOf 28 = .ok (.goto 4, 3) := dk_167 0 4 (dk_at dksX2_nextOf_1 6 rfl rfl)
theorem dX2_nextOf_31 : decode cX2_nextOf 31 = .ok (.aconst_null, 1) := dk_1 (dk_at dksX2_nextOf_1 9 rfl rfl)
theorem dX2_nextOf_32 : decode cX2_nextOf 32 = .ok (.areturn, 1) := dk_176 (dk_at dksX2_nextOf_1 10 rfl rfl)
def dkwX2_copy_8 : List UInt8 := [181, 0, 71, 43, 42, 180, 0, 74, 181, 0, 74, 43, 42, 180, 0, 77, 181, 0, 77, 43, 176]
abbrev dktX2_copy_8 : List UInt8 := dkwX2_copy_8 ++ []
def dkwX2_copy_7 : List UInt8 := [181, 0, 61, 43, 42, 180, 0, 65, 181, 0, 65, 43, 42, 180, 0, 68, 181, 0, 68, 43, 42, 180, 0, 71]
abbrev dktX2_copy_7 : List UInt8 := dkwX2_copy_7 ++ dktX2_copy_8
def dkwX2_copy_6 : List UInt8 := [180, 0, 28, 28, 42, 180, 0, 28, 28, 46, 79, 132, 2, 1, 167, 255, 236, 43, 42, 180, 0, 61]
abbrev dktX2_copy_6 : List UInt8 := dkwX2_copy_6 ++ dktX2_copy_7
def dkwX2_copy_5 : List UInt8 := [28, 42, 180, 0, 25, 28, 46, 79, 132, 2, 1, 167, 255, 223, 3, 61, 28, 8, 163, 0, 21, 43]
abbrev dktX2_copy_5 : List UInt8 := dkwX2_copy_5 ++ dktX2_copy_6
def dkwX2_copy_4 : List UInt8 := [3, 61, 28, 16, 100, 162, 0, 33, 43, 180, 0, 21, 28, 42, 180, 0, 21, 28, 46, 79, 43, 180, 0, 25]
abbrev dktX2_copy_4 : List UInt8 := dkwX2_copy_4 ++ dktX2_copy_5
def dkwX2_copy_3 : List UInt8 := [185, 0, 42, 1, 0, 192, 0, 56, 78, 43, 180, 0, 18, 45, 182, 0, 58, 182, 0, 52, 87, 167, 255, 225]
abbrev dktX2_copy_3 : List UInt8 := dkwX2_copy_3 ++ dktX2_copy_4
def dkwX2_copy_2 : List UInt8 := [87, 167, 255, 225, 42, 180, 0, 18, 182, 0, 32, 77, 44, 185, 0, 36, 1, 0, 153, 0, 28, 44]
abbrev dktX2_copy_2 : List UInt8 := dkwX2_copy_2 ++ dktX2_copy_3
def dkwX2_copy_1 : List UInt8 := [153, 0, 28, 44, 185, 0, 42, 1, 0, 192, 0, 46, 78, 43, 180, 0, 12, 45, 182, 0, 48, 182, 0, 52]
abbrev dktX2_copy_1 : List UInt8 := dkwX2_copy_1 ++ dktX2_copy_2
def dkwX2_copy_0 : List UInt8 := [187, 0, 13, 89, 183, 0, 31, 76, 42, 180, 0, 12, 182, 0, 32, 77, 44, 185, 0, 36, 1, 0]
abbrev dktX2_copy_0 : List UInt8 := dkwX2_copy_0 ++ dktX2_copy_1
theorem dksX2_copy_0 : cX2_copy.data.toList.drop 0 = dktX2_copy_0 := by decide +kernel
theorem dksX2_copy_1 : cX2_copy.data.toList.drop 22 = dktX2_copy_1 := dk_seg dksX2_copy_0 22 rfl rfl
theorem dksX2_copy_2 : cX2_copy.data.toList.drop 46 = dktX2_copy_2 := dk_seg dksX2_copy_1 24 rfl rfl
theorem dksX2_copy_3 : cX2_copy.data.toList.drop 68 = dktX2_copy_3 := dk_seg dksX2_copy_2 22 rfl rfl
theorem dksX2_copy_4 : cX2_copy.data.toList.drop 92 = dktX2_copy_4 := dk_seg dksX2_copy_3 24 rfl rfl
theorem dksX2_copy_5 : cX2_copy.data.toList.drop 116 = dktX2_copy_5 := dk_seg dksX2_copy_4 24 rfl rfl
theorem dksX2_copy_6 : cX2_copy.data.toList.drop 138 = dktX2_copy_6 := dk_seg dksX2_copy_5 22 rfl rfl
theorem dksX2_copy_7 : cX2_copy.data.toList.drop 160 = dktX2_copy_7 := dk_seg dksX2_copy_6 22 rfl rfl
theorem dksX2_copy_8 : cX2_copy.data.toList.drop 184 = dktX2_copy_8 := dk_seg dksX2_copy_7 24 rfl rfl
theorem dX2_copy_0 : decode cX2_copy 0 = .ok (.new 13, 3) := dk_187 0 13 (dk_at dksX2_copy_0 0 rfl rfl)
theorem dX2_copy_3 : decode cX2_copy 3 = .ok (.dup, 1) := dk_89 (dk_at dksX2_copy_0 3 rfl rfl)
theorem dX2_copy_4 : decode cX2_copy 4 = .ok (.invokespecial 31, 3) := dk_183 0 31 (dk_at dksX2_copy_0 4 rfl rfl)
theorem dX2_copy_7 : decode cX2_copy 7 = .ok (.astore_n 1, 1) := dk_76 (dk_at dksX2_copy_0 7 rfl rfl)
theorem dX2_copy_8 : decode cX2_copy 8 = .ok (.aload_n 0, 1) := dk_42 (dk_at dksX2_copy_0 8 rfl rfl)
theorem dX2_copy_9 : decode cX2_copy 9 = .ok (.getfield 12, 3) := dk_180 0 12 (dk_at dksX2_copy_0 9 rfl rfl)
theorem dX2_copy_12 : decode cX2_copy 12 = .ok (.invokevirtual 32, 3) := dk_182 0 32 (dk_at dksX2_copy_0 12 rfl rfl)
theorem dX2_copy_15 : decode cX2_copy 15 = .ok (.astore_n 2, 1) := dk_77 (dk_at dksX2_copy_0 15 rfl rfl)
theorem dX2_copy_16 : decode cX2_copy 16 = .ok (.aload_n 2, 1) := dk_44 (dk_at dksX2_copy_0 16 rfl rfl)
theorem dX2_copy_17 : decode cX2_copy 17 = .ok (.invokeinterface 36 1, 5) := by decide +kernel
theorem dX2_copy_22 : decode cX2_copy 22 = .ok (.ifCond .eq 28, 3) := dk_153 0 28 (dk_at dksX2_copy_1 0 rfl rfl)
theorem dX2_copy_25 : decode cX2_copy 25 = .ok (.aload_n 2, 1) := dk_44 (dk_at dksX2_copy_1 3 rfl rfl)
theorem dX2_copy_26 : decode cX2_copy 26 = .ok (.invokeinterface 42 1, 5) := by decide +kernel
theorem dX2_copy_31 : decode cX2_copy 31 = .ok (.checkcast 46, 3) := dk_192 0 46 (dk_at dksX2_copy_1 9 rfl rfl)
theorem dX2_copy_34 : decode cX2_copy 34 = .ok (.astore_n 3, 1) := dk_78 (dk_at dksX2_copy_1 12 rfl rfl)
theorem dX2_copy_35 : decode cX2_copy 35 = .ok (.aload_n 1, 1) := dk_43 (dk_at dksX2_copy_1 13 rfl rfl)
theorem dX2_copy_36 : decode cX2_copy 36 = .ok (.getfield 12, 3) := dk_180 0 12 (dk_at dksX2_copy_1 14 rfl rfl)
theorem dX2_copy_39 : decode cX2_copy 39 = .ok (.aload_n 3, 1) := dk_45 (dk_at dksX2_copy_1 17 rfl rfl)
theorem dX2_copy_40 : decode cX2_copy 40 = .ok (.invokevirtual 48, 3) := dk_182 0 48 (dk_at dksX2_copy_1 18 rfl rfl)
theorem dX2_copy_43 : decode cX2_copy 43 = .ok (.invokevirtual 52, 3) := dk_182 0 52 (dk_at dksX2_copy_1 21 rfl rfl)
theorem dX2_copy_46 : decode cX2_copy 46 = .ok (.pop, 1) := dk_87 (dk_at dksX2_copy_2 0 rfl rfl)
theorem dX2_copy_47 : decode cX2_copy 47 = .ok (.goto (-31), 3) := dk_167 255 225 (dk_at dksX2_copy_2 1 rfl rfl)
theorem dX2_copy_50 : decode cX2_copy 50 = .ok (.aload_n 0, 1) := dk_42 (dk_at dksX2_copy_2 4 rfl rfl)
theorem dX2_copy_51 : decode cX2_copy 51 = .ok (.getfield 18, 3) := dk_180 0 18 (dk_at dksX2_copy_2 5 rfl rfl)
theorem dX2_copy_54 : decode cX2_copy 54 = .ok (.invokevirtual 32, 3) := dk_182 0 32 (dk_at dksX2_copy_2 8 rfl rfl)
theorem dX2_copy_57 : decode cX2_copy 57 = .ok (.astore_n 2, 1) := dk_77 (dk_at dksX2_copy_2 11 rfl rfl)
theorem dX2_copy_58 : decode cX2_copy 58 = .ok (.aload_n 2, 1) := dk_44 (dk_at dksX2_copy_2 12 rfl rfl)
theorem dX2_copy_59 : decode cX2_copy 59 = .ok (.invokeinterface 36 1, 5) := by decide +kernel
theorem dX2_copy_64 : decode cX2_copy 64 = .ok (.ifCond .eq 28, 3) := dk_153 0 28 (dk_at dksX2_copy_2 18 rfl rfl)
theorem dX2_copy_67 : decode cX2_copy 67 = .ok (.aload_n 2, 1) := dk_44 (dk_at dksX2_copy_2 21 rfl rfl)
theorem dX2_copy_68 : decode cX2_copy 68 = .ok (.invokeinterface 42 1, 5) := by decide +kernel
theorem dX2_copy_73 : decode cX2_copy 73 = .ok (.checkcast 56, 3) := dk_192 0 56 (dk_at dksX2_copy_3 5 rfl rfl)
theorem dX2_copy_76 : decode cX2_copy 76 = .ok (.astore_n 3, 1) := dk_78 (dk_at dksX2_copy_3 8 rfl rfl)
theorem dX2_copy_77 : decode cX2_copy 77 = .ok (.aload_n 1, 1) := dk_43 (dk_at dksX2_copy_3 9 rfl rfl)
theorem dX2_copy_78 : decode cX2_copy 78 = .ok (.getfield 18, 3) := dk_180 0 18 (dk_at dksX2_copy_3 10 rfl rfl)
theorem dX2_copy_81 : decode cX2_copy 81 = .ok (.aload_n 3, 1) := dk_45 (dk_at dksX2_copy_3 13 rfl rfl)
theorem dX2_copy_82 : decode cX2_copy 82 = .ok (.invokevirtual 58, 3) := dk_182 0 58 (dk_at dksX2_copy_3 14 rfl rfl)
theorem dX2_copy_85 : decode cX2_copy 85 = .ok (.invokevirtual 52, 3) := dk_182 0 52 (dk_at dksX2_copy_3 17 rfl rfl)
theorem dX2_copy_88 : decode cX2_copy 88 = .ok (.pop, 1) := dk_87 (dk_at dksX2_copy_3 20 rfl rfl)
theorem dX2_copy_89 : decode cX2_copy 89 = .ok (.goto (-31), 3) := dk_167 255 225 (dk_at dksX2_copy_3 21 rfl rfl)
theorem dX2_copy_92 : decode cX2_copy 92 = .ok (.iconst 0, 1) := dk_3 (dk_at dksX2_copy_4 0 rfl rfl)
theorem dX2_copy_93 : decode cX2_copy 93 = .ok (.istore_n 2, 1) := dk_61 (dk_at dksX2_copy_4 1 rfl rfl)
theorem dX2_copy_94 : decode cX2_copy 94 = .ok (.iload_n 2, 1) := dk_28 (dk_at dksX2_copy_4 2 rfl rfl)
theorem dX2_copy_95 : decode cX2_copy 95 = .ok (.bipush 100, 2) := dk_16 100 (dk_at dksX2_copy_4 3 rfl rfl)
theorem dX2_copy_97 : decode cX2_copy 97 = .ok (.if_icmp .ge 33, 3) := dk_162 0 33 (dk_at dksX2_copy_4 5 rfl rfl)
theorem dX2_copy_100 : decode cX2_copy 100 = .ok (.aload_n 1, 1) := dk_43 (dk_at dksX2_copy_4 8 rfl rfl)
theorem dX2_copy_101 : decode cX2_copy 101 = .ok (.getfield 21, 3) := dk_180 0 21 (dk_at dksX2_copy_4 9 rfl rfl)
theorem dX2_copy_104 : decode cX2_copy 104 = .ok (.iload_n 2, 1) := dk_28 (dk_at dksX2_copy_4 12 rfl rfl)
theorem dX2_copy_105 : decode cX2_copy 105 = .ok (.aload_n 0, 1) := dk_42 (dk_at dksX2_copy_4 13 rfl rfl)
theorem dX2_copy_106 : decode cX2_copy 106 = .ok (.getfield 21, 3) := dk_180 0 21 (dk_at dksX2_copy_4 14 rfl rfl)
theorem dX2_copy_109 : decode cX2_copy 109 = .ok (.iload_n 2, 1) := dk_28 (dk_at dksX2_copy_4 17 rfl rfl)
theorem dX2_copy_110 : decode cX2_copy 110 = .ok (.iaload, 1) := dk_46 (dk_at dksX2_copy_4 18 rfl rfl)
theorem dX2_copy_111 : decode cX2_copy 111 = .ok (.iastore, 1) := dk_79 (dk_at dksX2_copy_4 19 rfl rfl)
theorem dX2_copy_112 : decode cX2_copy 112 = .ok (.aload_n 1, 1) := dk_43 (dk_at dksX2_copy_4 20 rfl rfl)
theorem dX2_copy_113 : decode cX2_copy 113 = .ok (.getfield 25, 3) := dk_180 0 25 (dk_at dksX2_copy_4 21 rfl rfl)
theorem dX2_copy_116 : decode cX2_copy 116 = .ok (.iload_n 2, 1) := dk_28 (dk_at dksX2_copy_5 0 rfl rfl)
theorem dX2_copy_117 : decode cX2_copy 117 = .ok (.aload_n 0, 1) := dk_42 (dk_at dksX2_copy_5 1 rfl rfl)
theorem dX2_copy_118 : decode cX2_copy 118 = .ok (.getfield 25, 3) := dk_180 0 25 (dk_at dksX2_copy_5 2 rfl rfl)
theorem dX2_copy_121 : decode cX2_copy 121 = .ok (.iload_n 2, 1) := dk_28 (dk_at dksX2_copy_5 5 rfl rfl)
theorem dX2_copy_122 : decode cX2_copy 122 = .ok (.iaload, 1) := dk_46 (dk_at dksX2_copy_5 6 rfl rfl)
theorem dX2_copy_123 : decode cX2_copy 123 = .ok (.iastore, 1) := dk_79 (dk_at dksX2_copy_5 7 rfl rfl)
theorem dX2_copy_124 : decode cX2_copy 124 = .ok (.iinc 2 1, 3) := dk_132 2 1 (dk_at dksX2_copy_5 8 rfl rfl)
theorem dX2_copy_127 : decode cX2_copy 127 = .ok (.goto (-33), 3) := dk_167 255 223 (dk_at dksX2_copy_5 11 rfl rfl)
theorem dX2_copy_130 : decode cX2_copy 130 = .ok (.iconst 0, 1) := dk_3 (dk_at dksX2_copy_5 14 rfl rfl)
theorem dX2_copy_131 : decode cX2_copy 131 = .ok (.istore_n 2, 1) := dk_61 (dk_at dksX2_copy_5 15 rfl rfl)
theorem dX2_copy_132 : decode cX2_copy 132 = .ok (.iload_n 2, 1) := dk_28 (dk_at dksX2_copy_5 16 rfl rfl)
theorem dX2_copy_133 : decode cX2_copy 133 = .ok (.iconst 5, 1) := dk_8 (dk_at dksX2_copy_5 17 rfl rfl)
theorem dX2_copy_134 : decode cX2_copy 134 = .ok (.if_icmp .gt 21, 3) := dk_163 0 21 (dk_at dksX2_copy_5 18 rfl rfl)
theorem dX2_copy_137 : decode cX2_copy 137 = .ok (.aload_n 1, 1) := dk_43 (dk_at dksX2_copy_5 21 rfl rfl)
theorem dX2_copy_138 : decode cX2_copy 138 = .ok (.getfield 28, 3) := dk_180 0 28 (dk_at dksX2_copy_6 0 rfl rfl)
theorem dX2_copy_141 : decode cX2_copy 141 = .ok (.iload_n 2, 1) := dk_28 (dk_at dksX2_copy_6 3 rfl rfl)
theorem dX2_copy_142 : decode cX2_copy 142 = .ok (.aload_n 0, 1) := dk_42 (dk_at dksX2_copy_6 4 rfl rfl)
theorem dX2_copy_143 : decode cX2_copy 143 = .ok (.getfield 28, 3) := dk_180 0 28 (dk_at dksX2_copy_6 5 rfl rfl)
theorem dX2_copy_146 : decode cX2_copy 146 = .ok (.iload_n 2, 1) := dk_28 (dk_at dksX2_copy_6 8 rfl rfl)
theorem dX2_copy_147 : decode cX2_copy 147 = .ok (.iaload, 1) := dk_46 (dk_at dksX2_copy_6 9 rfl rfl)
theorem dX2_copy_148 : decode cX2_copy 148 = .ok (.iastore, 1) := dk_79 (dk_at dksX2_copy_6 10 rfl rfl)
theorem dX2_copy_149 : decode cX2_copy 149 = .ok (.iinc 2 1, 3) := dk_132 2 1 (dk_at dksX2_copy_6 11 rfl rfl)
theorem dX2_copy_152 : decode cX2_copy 152 = .ok (.goto (-20), 3) := dk_167 255 236 (dk_at dksX2_copy_6 14 rfl rfl)
theorem dX2_copy_155 : decode cX2_copy 155 = .ok (.aload_n 1, 1) := dk_43 (dk_at dksX2_copy_6 17 rfl rfl)
theorem dX2_copy_156 : decode cX2_copy 156 = .ok (.aload_n 0, 1) := dk_42 (dk_at dksX2_copy_6 18 rfl rfl)
theorem dX2_copy_157 : decode cX2_copy 157 = .ok (.getfield 61, 3) := dk_180 0 61 (dk_at dksX2_copy_6 19 rfl rfl)
theorem dX2_copy_160 : decode cX2_copy 160 = .ok (.putfield 61, 3) := dk_181 0 61 (dk_at dksX2_copy_7 0 rfl rfl)
theorem dX2_copy_163 : decode cX2_copy 163 = .ok (.aload_n 1, 1) := dk_43 (dk_at dksX2_copy_7 3 rfl rfl)
theorem dX2_copy_164 : decode cX2_copy 164 = .ok (.aload_n 0, 1) := dk_42 (dk_at dksX2_copy_7 4 rfl rfl)
theorem dX2_copy_165 : decode cX2_copy 165 = .ok (.getfield 65, 3) := dk_180 0 65 (dk_at dksX2_copy_7 5 rfl rfl)
theorem dX2_copy_168 : decode cX2_copy 168 = .ok (.putfield 65, 3) := dk_181 0 65 (dk_at dksX2_copy_7 8 rfl rfl)
theorem dX2_copy_171 : decode cX2_copy 171 = .ok (.aload_n 1, 1) := dk_43 (dk_at dksX2_copy_7 11 rfl rfl)
theorem dX2_copy_172 : decode cX2_copy 172 = .ok (.aload_n 0, 1) := dk_42 (dk_at dksX2_copy_7 12 rfl rfl)
theorem dX2_copy_173 : decode cX2_copy 173 = .ok (.getfield 68, 3) := dk_180 0 68 (dk_at dksX2_copy_7 13 rfl rfl)
theorem dX2_copy_176 : decode cX2_copy 176 = .ok (.putfield 68, 3) := dk_181 0 68 (dk_at dksX2_copy_7 16 rfl rfl)
theorem dX2_copy_179 : decode cX2_copy 179 = .ok (.aload_n 1, 1) := dk_43 (dk_at dksX2_copy_7 19 rfl rfl)
theorem dX2_copy_180 : decode cX2_copy 180 = .ok (.aload_n 0, 1) := dk_42 (dk_at dksX2_copy_7 20 rfl rfl)
theorem dX2_copy_181 : decode cX2_copy 181 = .ok (.getfield 71, 3) := dk_180 0 71 (dk_at dksX2_copy_7 21 rfl rfl)
theorem dX2_copy_184 : decode cX2_copy 184 = .ok (.putfield 71, 3) := dk_181 0 71 (dk_at dksX2_copy_8 0 rfl rfl)
theorem dX2_copy_187 : decode cX2_copy 187 = .ok (.aload_n 1, 1) := dk_43 (dk_at dksX2_copy_8 3 rfl rfl)
theorem dX2_copy_188 : decode cX2_copy 188 = .ok (.aload_n 0, 1) := dk_42 (dk_at dksX2_copy_8 4 rfl rfl)
theorem dX2_copy_189 : decode cX2_copy 189 = .ok (.getfield 74, 3) := dk_180 0 74 (dk_at dksX2_copy_8 5 rfl rfl)
theorem dX2_copy_192 : decode cX2_copy 192 = .ok (.putfield 74, 3) := dk_181 0 74 (dk_at dksX2_copy_8 8 rfl rfl)
theorem dX2_copy_195 : decode cX2_copy 195 = .ok (.aload_n 1, 1) := dk_43 (dk_at dksX2_copy_8 11 rfl rfl)
theorem dX2_copy_196 : decode cX2_copy 196 = .ok (.aload_n 0, 1) := dk_42 (dk_at dksX2_copy_8 12 rfl rfl)
theorem dX2_copy_197 : decode cX2_copy 197 = .ok (.getfield 77, 3) := dk_180 0 77 (dk_at dksX2_copy_8 13 rfl rfl)
theorem dX2_copy_200 : decode cX2_copy 200 = .ok (.putfield 77, 3) := dk_181 0 77 (dk_at dksX2_copy_8 16 rfl rfl)
theorem dX2_copy_203 : decode cX2_copy 203 = .ok (.aload_n 1, 1) := dk_43 (dk_at dksX2_copy_8 19 rfl rfl)
theorem dX2_copy_204 : decode cX2_copy 204 = .ok (.areturn, 1) := dk_176 (dk_at dksX2_copy_8 20 rfl rfl)
def dkwX2_isBalloon_0 : List UInt8 := [27, 3, 42, 180, 0, 12, 182, 0, 89, 4, 100, 184, 0, 93, 172]
abbrev dktX2_isBalloon_0 : List UInt8 := dkwX2_isBalloon_0 ++ []
theorem dksX2_isBalloon_0 : cX2_isBalloon.data.toList.drop 0 = dktX2_isBalloon_0 := by decide +kernel
theorem dX2_isBalloon_0 : decode cX2_isBalloon 0 = .ok (.iload_n 1, 1) := dk_27 (dk_at dksX2_isBalloon_0 0 rfl rfl)
theorem dX2_isBalloon_1 : decode cX2_isBalloon 1 = .ok (.iconst 0, 1) := dk_3 (dk_at dksX2_isBalloon_0 1 rfl rfl)
theorem dX2_isBalloon_2 : decode cX2_isBalloon 2 = .ok (.aload_n 0, 1) := dk_42 (dk_at dksX2_isBalloon_0 2 rfl rfl)
theorem dX2_isBalloon_3 : decode cX2_isBalloon 3 = .ok (.getfield 12, 3) := dk_180 0 12 (dk_at dksX2_isBalloon_0 3 rfl rfl)
theorem dX2_isBalloon_6 : decode cX2_isBalloon 6 = .ok (.invokevirtual 89, 3) := dk_182 0 89 (dk_at dksX2_isBalloon_0 6 rfl rfl)
theorem dX2_isBalloon_9 : decode cX2_isBalloon 9 = .ok (.iconst 1, 1) := dk_4 (dk_at dksX2_isBalloon_0 9 rfl rfl)
theorem dX2_isBalloon_10 : decode cX2_isBalloon 10 = .ok (.isub, 1) := dk_100 (dk_at dksX2_isBalloon_0 10 rfl rfl)
theorem dX2_isBalloon_11 : decode cX2_isBalloon 11 = .ok (.invokestatic 93, 3) := dk_184 0 93 (dk_at dksX2_isBalloon_0 11 rfl rfl)
theorem dX2_isBalloon_14 : decode cX2_isBalloon 14 = .ok (.ireturn, 1) := dk_172 (dk_at dksX2_isBalloon_0 14 rfl rfl)
def dkwX2_pays_1 : List UInt8 := [43, 180, 0, 109, 92, 46, 28, 96, 79, 42, 89, 180, 0, 71, 28, 96, 181, 0, 71, 28, 172]
abbrev dktX2_pays_1 : List UInt8 := dkwX2_pays_1 ++ []
def dkwX2_pays_0 : List UInt8 := [42, 180, 0, 21, 43, 180, 0, 109, 46, 61, 43, 89, 180, 0, 133, 28, 96, 181, 0, 133, 42, 180, 0, 25]
abbrev dktX2_pays_0 : List UInt8 := dkwX2_pays_0 ++ dktX2_pays_1
theorem dksX2_pays_0 : cX2_pays.data.toList.drop 0 = dktX2_pays_0 := by decide +kernel
theorem dksX2_pays_1 : cX2_pays.data.toList.drop 24 = dktX2_pays_1 := dk_seg dksX2_pays_0 24 rfl rfl
theorem dX2_pays_0 : decode cX2_pays 0 = .ok (.aload_n 0, 1) := dk_42 (dk_at dksX2_pays_0 0 rfl rfl)
theorem dX2_pays_1 : decode cX2_pays 1 = .ok (.getfield 21, 3) := dk_180 0 21 (dk_at dksX2_pays_0 1 rfl rfl)
theorem dX2_pays_4 : decode cX2_pays 4 = .ok (.aload_n 1, 1) := dk_43 (dk_at dksX2_pays_0 4 rfl rfl)
theorem dX2_pays_5 : decode cX2_pays 5 = .ok (.getfield 109, 3) := dk_180 0 109 (dk_at dksX2_pays_0 5 rfl rfl)
theorem dX2_pays_8 : decode cX2_pays 8 = .ok (.iaload, 1) := dk_46 (dk_at dksX2_pays_0 8 rfl rfl)
theorem dX2_pays_9 : decode cX2_pays 9 = .ok (.istore_n 2, 1) := dk_61 (dk_at dksX2_pays_0 9 rfl rfl)
theorem dX2_pays_10 : decode cX2_pays 10 = .ok (.aload_n 1, 1) := dk_43 (dk_at dksX2_pays_0 10 rfl rfl)
theorem dX2_pays_11 : decode cX2_pays 11 = .ok (.dup, 1) := dk_89 (dk_at dksX2_pays_0 11 rfl rfl)
theorem dX2_pays_12 : decode cX2_pays 12 = .ok (.getfield 133, 3) := dk_180 0 133 (dk_at dksX2_pays_0 12 rfl rfl)
theorem dX2_pays_15 : decode cX2_pays 15 = .ok (.iload_n 2, 1) := dk_28 (dk_at dksX2_pays_0 15 rfl rfl)
theorem dX2_pays_16 : decode cX2_pays 16 = .ok (.iadd, 1) := dk_96 (dk_at dksX2_pays_0 16 rfl rfl)
theorem dX2_pays_17 : decode cX2_pays 17 = .ok (.putfield 133, 3) := dk_181 0 133 (dk_at dksX2_pays_0 17 rfl rfl)
theorem dX2_pays_20 : decode cX2_pays 20 = .ok (.aload_n 0, 1) := dk_42 (dk_at dksX2_pays_0 20 rfl rfl)
theorem dX2_pays_21 : decode cX2_pays 21 = .ok (.getfield 25, 3) := dk_180 0 25 (dk_at dksX2_pays_0 21 rfl rfl)
theorem dX2_pays_24 : decode cX2_pays 24 = .ok (.aload_n 1, 1) := dk_43 (dk_at dksX2_pays_1 0 rfl rfl)
theorem dX2_pays_25 : decode cX2_pays 25 = .ok (.getfield 109, 3) := dk_180 0 109 (dk_at dksX2_pays_1 1 rfl rfl)
theorem dX2_pays_28 : decode cX2_pays 28 = .ok (.dup2, 1) := dk_92 (dk_at dksX2_pays_1 4 rfl rfl)
theorem dX2_pays_29 : decode cX2_pays 29 = .ok (.iaload, 1) := dk_46 (dk_at dksX2_pays_1 5 rfl rfl)
theorem dX2_pays_30 : decode cX2_pays 30 = .ok (.iload_n 2, 1) := dk_28 (dk_at dksX2_pays_1 6 rfl rfl)
theorem dX2_pays_31 : decode cX2_pays 31 = .ok (.iadd, 1) := dk_96 (dk_at dksX2_pays_1 7 rfl rfl)
theorem dX2_pays_32 : decode cX2_pays 32 = .ok (.iastore, 1) := dk_79 (dk_at dksX2_pays_1 8 rfl rfl)
theorem dX2_pays_33 : decode cX2_pays 33 = .ok (.aload_n 0, 1) := dk_42 (dk_at dksX2_pays_1 9 rfl rfl)
theorem dX2_pays_34 : decode cX2_pays 34 = .ok (.dup, 1) := dk_89 (dk_at dksX2_pays_1 10 rfl rfl)
theorem dX2_pays_35 : decode cX2_pays 35 = .ok (.getfield 71, 3) := dk_180 0 71 (dk_at dksX2_pays_1 11 rfl rfl)
theorem dX2_pays_38 : decode cX2_pays 38 = .ok (.iload_n 2, 1) := dk_28 (dk_at dksX2_pays_1 14 rfl rfl)
theorem dX2_pays_39 : decode cX2_pays 39 = .ok (.iadd, 1) := dk_96 (dk_at dksX2_pays_1 15 rfl rfl)
theorem dX2_pays_40 : decode cX2_pays 40 = .ok (.putfield 71, 3) := dk_181 0 71 (dk_at dksX2_pays_1 16 rfl rfl)
theorem dX2_pays_43 : decode cX2_pays 43 = .ok (.iload_n 2, 1) := dk_28 (dk_at dksX2_pays_1 19 rfl rfl)
theorem dX2_pays_44 : decode cX2_pays 44 = .ok (.ireturn, 1) := dk_172 (dk_at dksX2_pays_1 20 rfl rfl)
def dkwX2_hour_2 : List UInt8 := [180, 0, 61, 4, 96, 181, 0, 61, 27, 172]
abbrev dktX2_hour_2 : List UInt8 := dkwX2_hour_2 ++ []
def dkwX2_hour_1 : List UInt8 := [185, 0, 42, 1, 0, 192, 0, 46, 78, 27, 42, 45, 182, 0, 146, 96, 60, 167, 255, 229, 42, 89]
abbrev dktX2_hour_1 : List UInt8 := dkwX2_hour_1 ++ dktX2_hour_2
def dkwX2_hour_0 : List UInt8 := [3, 60, 187, 0, 80, 89, 42, 183, 0, 82, 182, 0, 85, 77, 44, 185, 0, 36, 1, 0, 153, 0, 24, 44]
abbrev dktX2_hour_0 : List UInt8 := dkwX2_hour_0 ++ dktX2_hour_1
theorem dksX2_hour_0 : cX2_hour.data.toList.drop 0 = dktX2_hour_0 := by decide +kernel
theorem dksX2_hour_1 : cX2_hour.data.toList.drop 24 = dktX2_hour_1 := dk_seg dksX2_hour_0 24 rfl rfl
theorem dksX2_hour_2 : cX2_hour.data.toList.drop 46 = dktX2_hour_2 := dk_seg dksX2_hour_1 22 rfl rfl
theorem dX2_hour_0 : decode cX2_hour 0 = .ok (.iconst 0, 1) := dk_3 (dk_at dksX2_hour_0 0 rfl rfl)
theorem dX2_hour_1 : decode cX2_hour 1 = .ok (.istore_n 1, 1) := dk_60 (dk_at dksX2_hour_0 1 rfl rfl)
theorem dX2_hour_2 : decode cX2_hour 2 = .ok (.new 80, 3) := dk_187 0 80 (dk_at dksX2_hour_0 2 rfl rfl)
theorem dX2_hour_5 : decode cX2_hour 5 = .ok (.dup, 1) := dk_89 (dk_at dksX2_hour_0 5 rfl rfl)
theorem dX2_hour_6 : decode cX2_hour 6 = .ok (.aload_n 0, 1) := dk_42 (dk_at dksX2_hour_0 6 rfl rfl)
theorem dX2_hour_7 : decode cX2_hour 7 = .ok (.invokespecial 82, 3) := dk_183 0 82 (dk_at dksX2_hour_0 7 rfl rfl)
theorem dX2_hour_10 : decode cX2_hour 10 = .ok (.invokevirtual 85, 3) := dk_182 0 85 (dk_at dksX2_hour_0 10 rfl rfl)
theorem dX2_hour_13 : decode cX2_hour 13 = .ok (.astore_n 2, 1) := dk_77 (dk_at dksX2_hour_0 13 rfl rfl)
theorem dX2_hour_14 : decode cX2_hour 14 = .ok (.aload_n 2, 1) := dk_44 (dk_at dksX2_hour_0 14 rfl rfl)
theorem dX2_hour_15 : decode cX2_hour 15 = .ok (.invokeinterface 36 1, 5) := by decide +kernel
theorem dX2_hour_20 : decode cX2_hour 20 = .ok (.ifCond .eq 24, 3) := dk_153 0 24 (dk_at dksX2_hour_0 20 rfl rfl)
theorem dX2_hour_23 : decode cX2_hour 23 = .ok (.aload_n 2, 1) := dk_44 (dk_at dksX2_hour_0 23 rfl rfl)
theorem dX2_hour_24 : decode cX2_hour 24 = .ok (.invokeinterface 42 1, 5) := by decide +kernel
theorem dX2_hour_29 : decode cX2_hour 29 = .ok (.checkcast 46, 3) := dk_192 0 46 (dk_at dksX2_hour_1 5 rfl rfl)
theorem dX2_hour_32 : decode cX2_hour 32 = .ok (.astore_n 3, 1) := dk_78 (dk_at dksX2_hour_1 8 rfl rfl)
theorem dX2_hour_33 : decode cX2_hour 33 = .ok (.iload_n 1, 1) := dk_27 (dk_at dksX2_hour_1 9 rfl rfl)
theorem dX2_hour_34 : decode cX2_hour 34 = .ok (.aload_n 0, 1) := dk_42 (dk_at dksX2_hour_1 10 rfl rfl)
theorem dX2_hour_35 : decode cX2_hour 35 = .ok (.aload_n 3, 1) := dk_45 (dk_at dksX2_hour_1 11 rfl rfl)
theorem dX2_hour_36 : decode cX2_hour 36 = .ok (.invokevirtual 146, 3) := dk_182 0 146 (dk_at dksX2_hour_1 12 rfl rfl)
theorem dX2_hour_39 : decode cX2_hour 39 = .ok (.iadd, 1) := dk_96 (dk_at dksX2_hour_1 15 rfl rfl)
theorem dX2_hour_40 : decode cX2_hour 40 = .ok (.istore_n 1, 1) := dk_60 (dk_at dksX2_hour_1 16 rfl rfl)
theorem dX2_hour_41 : decode cX2_hour 41 = .ok (.goto (-27), 3) := dk_167 255 229 (dk_at dksX2_hour_1 17 rfl rfl)
theorem dX2_hour_44 : decode cX2_hour 44 = .ok (.aload_n 0, 1) := dk_42 (dk_at dksX2_hour_1 20 rfl rfl)
theorem dX2_hour_45 : decode cX2_hour 45 = .ok (.dup, 1) := dk_89 (dk_at dksX2_hour_1 21 rfl rfl)
theorem dX2_hour_46 : decode cX2_hour 46 = .ok (.getfield 61, 3) := dk_180 0 61 (dk_at dksX2_hour_2 0 rfl rfl)
theorem dX2_hour_49 : decode cX2_hour 49 = .ok (.iconst 1, 1) := dk_4 (dk_at dksX2_hour_2 3 rfl rfl)
theorem dX2_hour_50 : decode cX2_hour 50 = .ok (.iadd, 1) := dk_96 (dk_at dksX2_hour_2 4 rfl rfl)
theorem dX2_hour_51 : decode cX2_hour 51 = .ok (.putfield 61, 3) := dk_181 0 61 (dk_at dksX2_hour_2 5 rfl rfl)
theorem dX2_hour_54 : decode cX2_hour 54 = .ok (.iload_n 1, 1) := dk_27 (dk_at dksX2_hour_2 8 rfl rfl)
theorem dX2_hour_55 : decode cX2_hour 55 = .ok (.ireturn, 1) := dk_172 (dk_at dksX2_hour_2 9 rfl rfl)
def dkwX2_hourOf_3 : List UInt8 := [180, 0, 68, 21, 4, 16, 10, 164, 0, 7, 4, 167, 0, 4, 3, 96, 181, 0, 68, 4, 172]
abbrev dktX2_hourOf_3 : List UInt8 := dkwX2_hourOf_3 ++ []
def dkwX2_hourOf_2 : List UInt8 := [44, 89, 180, 0, 145, 4, 96, 181, 0, 145, 42, 89, 180, 0, 65, 4, 96, 181, 0, 65, 42, 89]
abbrev dktX2_hourOf_2 : List UInt8 := dkwX2_hourOf_2 ++ dktX2_hourOf_3
def dkwX2_hourOf_1 : List UInt8 := [43, 182, 0, 86, 154, 0, 9, 42, 43, 182, 0, 141, 87, 21, 4, 153, 0, 7, 44, 199, 0, 5, 3, 172]
abbrev dktX2_hourOf_1 : List UInt8 := dkwX2_hourOf_1 ++ dktX2_hourOf_2
def dkwX2_hourOf_0 : List UInt8 := [42, 43, 182, 0, 102, 77, 43, 180, 0, 134, 62, 42, 43, 182, 0, 137, 43, 180, 0, 134, 29, 100, 54, 4]
abbrev dktX2_hourOf_0 : List UInt8 := dkwX2_hourOf_0 ++ dktX2_hourOf_1
theorem dksX2_hourOf_0 : cX2_hourOf.data.toList.drop 0 = dktX2_hourOf_0 := by decide +kernel
theorem dksX2_hourOf_1 : cX2_hourOf.data.toList.drop 24 = dktX2_hourOf_1 := dk_seg dksX2_hourOf_0 24 rfl rfl
theorem dksX2_hourOf_2 : cX2_hourOf.data.toList.drop 48 = dktX2_hourOf_2 := dk_seg dksX2_hourOf_1 24 rfl rfl
theorem dksX2_hourOf_3 : cX2_hourOf.data.toList.drop 70 = dktX2_hourOf_3 := dk_seg dksX2_hourOf_2 22 rfl rfl
theorem dX2_hourOf_0 : decode cX2_hourOf 0 = .ok (.aload_n 0, 1) := dk_42 (dk_at dksX2_hourOf_0 0 rfl rfl)
theorem dX2_hourOf_1 : decode cX2_hourOf 1 = .ok (.aload_n 1, 1) := dk_43 (dk_at dksX2_hourOf_0 1 rfl rfl)
theorem dX2_hourOf_2 : decode cX2_hourOf 2 = .ok (.invokevirtual 102, 3) := dk_182 0 102 (dk_at dksX2_hourOf_0 2 rfl rfl)
theorem dX2_hourOf_5 : decode cX2_hourOf 5 = .ok (.astore_n 2, 1) := dk_77 (dk_at dksX2_hourOf_0 5 rfl rfl)
theorem dX2_hourOf_6 : decode cX2_hourOf 6 = .ok (.aload_n 1, 1) := dk_43 (dk_at dksX2_hourOf_0 6 rfl rfl)
theorem dX2_hourOf_7 : decode cX2_hourOf 7 = .ok (.getfield 134, 3) := dk_180 0 134 (dk_at dksX2_hourOf_0 7 rfl rfl)
theorem dX2_hourOf_10 : decode cX2_hourOf 10 = .ok (.istore_n 3, 1) := dk_62 (dk_at dksX2_hourOf_0 10 rfl rfl)
theorem dX2_hourOf_11 : decode cX2_hourOf 11 = .ok (.aload_n 0, 1) := dk_42 (dk_at dksX2_hourOf_0 11 rfl rfl)
theorem dX2_hourOf_12 : decode cX2_hourOf 12 = .ok (.aload_n 1, 1) := dk_43 (dk_at dksX2_hourOf_0 12 rfl rfl)
theorem dX2_hourOf_13 : decode cX2_hourOf 13 = .ok (.invokevirtual 137, 3) := dk_182 0 137 (dk_at dksX2_hourOf_0 13 rfl rfl)
theorem dX2_hourOf_16 : decode cX2_hourOf 16 = .ok (.aload_n 1, 1) := dk_43 (dk_at dksX2_hourOf_0 16 rfl rfl)
theorem dX2_hourOf_17 : decode cX2_hourOf 17 = .ok (.getfield 134, 3) := dk_180 0 134 (dk_at dksX2_hourOf_0 17 rfl rfl)
theorem dX2_hourOf_20 : decode cX2_hourOf 20 = .ok (.iload_n 3, 1) := dk_29 (dk_at dksX2_hourOf_0 20 rfl rfl)
theorem dX2_hourOf_21 : decode cX2_hourOf 21 = .ok (.isub, 1) := dk_100 (dk_at dksX2_hourOf_0 21 rfl rfl)
theorem dX2_hourOf_22 : decode cX2_hourOf 22 = .ok (.istore 4, 2) := dk_54 4 (dk_at dksX2_hourOf_0 22 rfl rfl)
theorem dX2_hourOf_24 : decode cX2_hourOf 24 = .ok (.aload_n 1, 1) := dk_43 (dk_at dksX2_hourOf_1 0 rfl rfl)
theorem dX2_hourOf_25 : decode cX2_hourOf 25 = .ok (.invokevirtual 86, 3) := dk_182 0 86 (dk_at dksX2_hourOf_1 1 rfl rfl)
theorem dX2_hourOf_28 : decode cX2_hourOf 28 = .ok (.ifCond .ne 9, 3) := dk_154 0 9 (dk_at dksX2_hourOf_1 4 rfl rfl)
theorem dX2_hourOf_31 : decode cX2_hourOf 31 = .ok (.aload_n 0, 1) := dk_42 (dk_at dksX2_hourOf_1 7 rfl rfl)
theorem dX2_hourOf_32 : decode cX2_hourOf 32 = .ok (.aload_n 1, 1) := dk_43 (dk_at dksX2_hourOf_1 8 rfl rfl)
theorem dX2_hourOf_33 : decode cX2_hourOf 33 = .ok (.invokevirtual 141, 3) := dk_182 0 141 (dk_at dksX2_hourOf_1 9 rfl rfl)
theorem dX2_hourOf_36 : decode cX2_hourOf 36 = .ok (.pop, 1) := dk_87 (dk_at dksX2_hourOf_1 12 rfl rfl)
theorem dX2_hourOf_37 : decode cX2_hourOf 37 = .ok (.iload 4, 2) := dk_21 4 (dk_at dksX2_hourOf_1 13 rfl rfl)
theorem dX2_hourOf_39 : decode cX2_hourOf 39 = .ok (.ifCond .eq 7, 3) := dk_153 0 7 (dk_at dksX2_hourOf_1 15 rfl rfl)
theorem dX2_hourOf_42 : decode cX2_hourOf 42 = .ok (.aload_n 2, 1) := dk_44 (dk_at dksX2_hourOf_1 18 rfl rfl)
theorem dX2_hourOf_43 : decode cX2_hourOf 43 = .ok (.ifnonnull 5, 3) := dk_199 0 5 (dk_at dksX2_hourOf_1 19 rfl rfl)
theorem dX2_hourOf_46 : decode cX2_hourOf 46 = .ok (.iconst 0, 1) := dk_3 (dk_at dksX2_hourOf_1 22 rfl rfl)
theorem dX2_hourOf_47 : decode cX2_hourOf 47 = .ok (.ireturn, 1) := dk_172 (dk_at dksX2_hourOf_1 23 rfl rfl)
theorem dX2_hourOf_48 : decode cX2_hourOf 48 = .ok (.aload_n 2, 1) := dk_44 (dk_at dksX2_hourOf_2 0 rfl rfl)
theorem dX2_hourOf_49 : decode cX2_hourOf 49 = .ok (.dup, 1) := dk_89 (dk_at dksX2_hourOf_2 1 rfl rfl)
theorem dX2_hourOf_50 : decode cX2_hourOf 50 = .ok (.getfield 145, 3) := dk_180 0 145 (dk_at dksX2_hourOf_2 2 rfl rfl)
theorem dX2_hourOf_53 : decode cX2_hourOf 53 = .ok (.iconst 1, 1) := dk_4 (dk_at dksX2_hourOf_2 5 rfl rfl)
theorem dX2_hourOf_54 : decode cX2_hourOf 54 = .ok (.iadd, 1) := dk_96 (dk_at dksX2_hourOf_2 6 rfl rfl)
theorem dX2_hourOf_55 : decode cX2_hourOf 55 = .ok (.putfield 145, 3) := dk_181 0 145 (dk_at dksX2_hourOf_2 7 rfl rfl)
theorem dX2_hourOf_58 : decode cX2_hourOf 58 = .ok (.aload_n 0, 1) := dk_42 (dk_at dksX2_hourOf_2 10 rfl rfl)
theorem dX2_hourOf_59 : decode cX2_hourOf 59 = .ok (.dup, 1) := dk_89 (dk_at dksX2_hourOf_2 11 rfl rfl)
theorem dX2_hourOf_60 : decode cX2_hourOf 60 = .ok (.getfield 65, 3) := dk_180 0 65 (dk_at dksX2_hourOf_2 12 rfl rfl)
theorem dX2_hourOf_63 : decode cX2_hourOf 63 = .ok (.iconst 1, 1) := dk_4 (dk_at dksX2_hourOf_2 15 rfl rfl)
theorem dX2_hourOf_64 : decode cX2_hourOf 64 = .ok (.iadd, 1) := dk_96 (dk_at dksX2_hourOf_2 16 rfl rfl)
theorem dX2_hourOf_65 : decode cX2_hourOf 65 = .ok (.putfield 65, 3) := dk_181 0 65 (dk_at dksX2_hourOf_2 17 rfl rfl)
theorem dX2_hourOf_68 : decode cX2_hourOf 68 = .ok (.aload_n 0, 1) := dk_42 (dk_at dksX2_hourOf_2 20 rfl rfl)
theorem dX2_hourOf_69 : decode cX2_hourOf 69 = .ok (.dup, 1) := dk_89 (dk_at dksX2_hourOf_2 21 rfl rfl)
theorem dX2_hourOf_70 : decode cX2_hourOf 70 = .ok (.getfield 68, 3) := dk_180 0 68 (dk_at dksX2_hourOf_3 0 rfl rfl)
theorem dX2_hourOf_73 : decode cX2_hourOf 73 = .ok (.iload 4, 2) := dk_21 4 (dk_at dksX2_hourOf_3 3 rfl rfl)
theorem dX2_hourOf_75 : decode cX2_hourOf 75 = .ok (.bipush 10, 2) := dk_16 10 (dk_at dksX2_hourOf_3 5 rfl rfl)
theorem dX2_hourOf_77 : decode cX2_hourOf 77 = .ok (.if_icmp .le 7, 3) := dk_164 0 7 (dk_at dksX2_hourOf_3 7 rfl rfl)
theorem dX2_hourOf_80 : decode cX2_hourOf 80 = .ok (.iconst 1, 1) := dk_4 (dk_at dksX2_hourOf_3 10 rfl rfl)
theorem dX2_hourOf_81 : decode cX2_hourOf 81 = .ok (.goto 4, 3) := dk_167 0 4 (dk_at dksX2_hourOf_3 11 rfl rfl)
theorem dX2_hourOf_84 : decode cX2_hourOf 84 = .ok (.iconst 0, 1) := dk_3 (dk_at dksX2_hourOf_3 14 rfl rfl)
theorem dX2_hourOf_85 : decode cX2_hourOf 85 = .ok (.iadd, 1) := dk_96 (dk_at dksX2_hourOf_3 15 rfl rfl)
theorem dX2_hourOf_86 : decode cX2_hourOf 86 = .ok (.putfield 68, 3) := dk_181 0 68 (dk_at dksX2_hourOf_3 16 rfl rfl)
theorem dX2_hourOf_89 : decode cX2_hourOf 89 = .ok (.iconst 1, 1) := dk_4 (dk_at dksX2_hourOf_3 19 rfl rfl)
theorem dX2_hourOf_90 : decode cX2_hourOf 90 = .ok (.ireturn, 1) := dk_172 (dk_at dksX2_hourOf_3 20 rfl rfl)
def dkwX2_passes_2 : List UInt8 := [43, 180, 0, 125, 154, 0, 13, 43, 89, 180, 0, 112, 4, 100, 181, 0, 112, 177]
abbrev dktX2_passes_2 : List UInt8 := dkwX2_passes_2 ++ []
def dkwX2_passes_1 : List UInt8 := [182, 0, 118, 153, 0, 7, 43, 182, 0, 122, 43, 3, 43, 180, 0, 125, 4, 100, 184, 0, 128, 181, 0, 125]
abbrev dktX2_passes_1 : List UInt8 := dkwX2_passes_1 ++ dktX2_passes_2
def dkwX2_passes_0 : List UInt8 := [43, 43, 180, 0, 109, 42, 180, 0, 28, 43, 180, 0, 112, 46, 184, 0, 115, 181, 0, 109, 42, 43]
abbrev dktX2_passes_0 : List UInt8 := dkwX2_passes_0 ++ dktX2_passes_1
theorem dksX2_passes_0 : cX2_passes.data.toList.drop 0 = dktX2_passes_0 := by decide +kernel
theorem dksX2_passes_1 : cX2_passes.data.toList.drop 22 = dktX2_passes_1 := dk_seg dksX2_passes_0 22 rfl rfl
theorem dksX2_passes_2 : cX2_passes.data.toList.drop 46 = dktX2_passes_2 := dk_seg dksX2_passes_1 24 rfl rfl
theorem dX2_passes_0 : decode cX2_passes 0 = .ok (.aload_n 1, 1) := dk_43 (dk_at dksX2_passes_0 0 rfl rfl)
theorem dX2_passes_1 : decode cX2_passes 1 = .ok (.aload_n 1, 1) := dk_43 (dk_at dksX2_passes_0 1 rfl rfl)
theorem dX2_passes_2 : decode cX2_passes 2 = .ok (.getfield 109, 3) := dk_180 0 109 (dk_at dksX2_passes_0 2 rfl rfl)
theorem dX2_passes_5 : decode cX2_passes 5 = .ok (.aload_n 0, 1) := dk_42 (dk_at dksX2_passes_0 5 rfl rfl)
theorem dX2_passes_6 : decode cX2_passes 6 = .ok (.getfield 28, 3) := dk_180 0 28 (dk_at dksX2_passes_0 6 rfl rfl)
theorem dX2_passes_9 : decode cX2_passes 9 = .ok (.aload_n 1, 1) := dk_43 (dk_at dksX2_passes_0 9 rfl rfl)
theorem dX2_passes_10 : decode cX2_passes 10 = .ok (.getfield 112, 3) := dk_180 0 112 (dk_at dksX2_passes_0 10 rfl rfl)
theorem dX2_passes_13 : decode cX2_passes 13 = .ok (.iaload, 1) := dk_46 (dk_at dksX2_passes_0 13 rfl rfl)
theorem dX2_passes_14 : decode cX2_passes 14 = .ok (.invokestatic 115, 3) := dk_184 0 115 (dk_at dksX2_passes_0 14 rfl rfl)
theorem dX2_passes_17 : decode cX2_passes 17 = .ok (.putfield 109, 3) := dk_181 0 109 (dk_at dksX2_passes_0 17 rfl rfl)
theorem dX2_passes_20 : decode cX2_passes 20 = .ok (.aload_n 0, 1) := dk_42 (dk_at dksX2_passes_0 20 rfl rfl)
theorem dX2_passes_21 : decode cX2_passes 21 = .ok (.aload_n 1, 1) := dk_43 (dk_at dksX2_passes_0 21 rfl rfl)
theorem dX2_passes_22 : decode cX2_passes 22 = .ok (.invokevirtual 118, 3) := dk_182 0 118 (dk_at dksX2_passes_1 0 rfl rfl)
theorem dX2_passes_25 : decode cX2_passes 25 = .ok (.ifCond .eq 7, 3) := dk_153 0 7 (dk_at dksX2_passes_1 3 rfl rfl)
theorem dX2_passes_28 : decode cX2_passes 28 = .ok (.aload_n 1, 1) := dk_43 (dk_at dksX2_passes_1 6 rfl rfl)
theorem dX2_passes_29 : decode cX2_passes 29 = .ok (.invokevirtual 122, 3) := dk_182 0 122 (dk_at dksX2_passes_1 7 rfl rfl)
theorem dX2_passes_32 : decode cX2_passes 32 = .ok (.aload_n 1, 1) := dk_43 (dk_at dksX2_passes_1 10 rfl rfl)
theorem dX2_passes_33 : decode cX2_passes 33 = .ok (.iconst 0, 1) := dk_3 (dk_at dksX2_passes_1 11 rfl rfl)
theorem dX2_passes_34 : decode cX2_passes 34 = .ok (.aload_n 1, 1) := dk_43 (dk_at dksX2_passes_1 12 rfl rfl)
theorem dX2_passes_35 : decode cX2_passes 35 = .ok (.getfield 125, 3) := dk_180 0 125 (dk_at dksX2_passes_1 13 rfl rfl)
theorem dX2_passes_38 : decode cX2_passes 38 = .ok (.iconst 1, 1) := dk_4 (dk_at dksX2_passes_1 16 rfl rfl)
theorem dX2_passes_39 : decode cX2_passes 39 = .ok (.isub, 1) := dk_100 (dk_at dksX2_passes_1 17 rfl rfl)
theorem dX2_passes_40 : decode cX2_passes 40 = .ok (.invokestatic 128, 3) := dk_184 0 128 (dk_at dksX2_passes_1 18 rfl rfl)
theorem dX2_passes_43 : decode cX2_passes 43 = .ok (.putfield 125, 3) := dk_181 0 125 (dk_at dksX2_passes_1 21 rfl rfl)
theorem dX2_passes_46 : decode cX2_passes 46 = .ok (.aload_n 1, 1) := dk_43 (dk_at dksX2_passes_2 0 rfl rfl)
theorem dX2_passes_47 : decode cX2_passes 47 = .ok (.getfield 125, 3) := dk_180 0 125 (dk_at dksX2_passes_2 1 rfl rfl)
theorem dX2_passes_50 : decode cX2_passes 50 = .ok (.ifCond .ne 13, 3) := dk_154 0 13 (dk_at dksX2_passes_2 4 rfl rfl)
theorem dX2_passes_53 : decode cX2_passes 53 = .ok (.aload_n 1, 1) := dk_43 (dk_at dksX2_passes_2 7 rfl rfl)
theorem dX2_passes_54 : decode cX2_passes 54 = .ok (.dup, 1) := dk_89 (dk_at dksX2_passes_2 8 rfl rfl)
theorem dX2_passes_55 : decode cX2_passes 55 = .ok (.getfield 112, 3) := dk_180 0 112 (dk_at dksX2_passes_2 9 rfl rfl)
theorem dX2_passes_58 : decode cX2_passes 58 = .ok (.iconst 1, 1) := dk_4 (dk_at dksX2_passes_2 12 rfl rfl)
theorem dX2_passes_59 : decode cX2_passes 59 = .ok (.isub, 1) := dk_100 (dk_at dksX2_passes_2 13 rfl rfl)
theorem dX2_passes_60 : decode cX2_passes 60 = .ok (.putfield 112, 3) := dk_181 0 112 (dk_at dksX2_passes_2 14 rfl rfl)
theorem dX2_passes_63 : decode cX2_passes 63 = .ok (.return_, 1) := dk_177 (dk_at dksX2_passes_2 17 rfl rfl)
def dkwX2_isAtGate_1 : List UInt8 := [167, 0, 4, 3, 172]
abbrev dktX2_isAtGate_1 : List UInt8 := dkwX2_isAtGate_1 ++ []
def dkwX2_isAtGate_0 : List UInt8 := [42, 43, 182, 0, 102, 77, 44, 198, 0, 18, 44, 182, 0, 106, 43, 180, 0, 109, 160, 0, 7, 4]
abbrev dktX2_isAtGate_0 : List UInt8 := dkwX2_isAtGate_0 ++ dktX2_isAtGate_1
theorem dksX2_isAtGate_0 : cX2_isAtGate.data.toList.drop 0 = dktX2_isAtGate_0 := by decide +kernel
theorem dksX2_isAtGate_1 : cX2_isAtGate.data.toList.drop 22 = dktX2_isAtGate_1 := dk_seg dksX2_isAtGate_0 22 rfl rfl
theorem dX2_isAtGate_0 : decode cX2_isAtGate 0 = .ok (.aload_n 0, 1) := dk_42 (dk_at dksX2_isAtGate_0 0 rfl rfl)
theorem dX2_isAtGate_1 : decode cX2_isAtGate 1 = .ok (.aload_n 1, 1) := dk_43 (dk_at dksX2_isAtGate_0 1 rfl rfl)
theorem dX2_isAtGate_2 : decode cX2_isAtGate 2 = .ok (.invokevirtual 102, 3) := dk_182 0 102 (dk_at dksX2_isAtGate_0 2 rfl rfl)
theorem dX2_isAtGate_5 : decode cX2_isAtGate 5 = .ok (.astore_n 2, 1) := dk_77 (dk_at dksX2_isAtGate_0 5 rfl rfl)
theorem dX2_isAtGate_6 : decode cX2_isAtGate 6 = .ok (.aload_n 2, 1) := dk_44 (dk_at dksX2_isAtGate_0 6 rfl rfl)
theorem dX2_isAtGate_7 : decode cX2_isAtGate 7 = .ok (.ifnull 18, 3) := dk_198 0 18 (dk_at dksX2_isAtGate_0 7 rfl rfl)
theorem dX2_isAtGate_10 : decode cX2_isAtGate 10 = .ok (.aload_n 2, 1) := dk_44 (dk_at dksX2_isAtGate_0 10 rfl rfl)
theorem dX2_isAtGate_11 : decode cX2_isAtGate 11 = .ok (.invokevirtual 106, 3) := dk_182 0 106 (dk_at dksX2_isAtGate_0 11 rfl rfl)
theorem dX2_isAtGate_14 : decode cX2_isAtGate 14 = .ok (.aload_n 1, 1) := dk_43 (dk_at dksX2_isAtGate_0 14 rfl rfl)
theorem dX2_isAtGate_15 : decode cX2_isAtGate 15 = .ok (.getfield 109, 3) := dk_180 0 109 (dk_at dksX2_isAtGate_0 15 rfl rfl)
theorem dX2_isAtGate_18 : decode cX2_isAtGate 18 = .ok (.if_icmp .ne 7, 3) := dk_160 0 7 (dk_at dksX2_isAtGate_0 18 rfl rfl)
theorem dX2_isAtGate_21 : decode cX2_isAtGate 21 = .ok (.iconst 1, 1) := dk_4 (dk_at dksX2_isAtGate_0 21 rfl rfl)
theorem dX2_isAtGate_22 : decode cX2_isAtGate 22 = .ok (.goto 4, 3) := dk_167 0 4 (dk_at dksX2_isAtGate_1 0 rfl rfl)
theorem dX2_isAtGate_25 : decode cX2_isAtGate 25 = .ok (.iconst 0, 1) := dk_3 (dk_at dksX2_isAtGate_1 3 rfl rfl)
theorem dX2_isAtGate_26 : decode cX2_isAtGate 26 = .ok (.ireturn, 1) := dk_172 (dk_at dksX2_isAtGate_1 4 rfl rfl)
def dkwX2_flying_2 : List UInt8 := [167, 255, 222, 27, 172]
abbrev dktX2_flying_2 : List UInt8 := dkwX2_flying_2 ++ []
def dkwX2_flying_1 : List UInt8 := [185, 0, 42, 1, 0, 192, 0, 46, 78, 27, 45, 182, 0, 86, 153, 0, 7, 4, 167, 0, 4, 3, 96, 60]
abbrev dktX2_flying_1 : List UInt8 := dkwX2_flying_1 ++ dktX2_flying_2
def dkwX2_flying_0 : List UInt8 := [3, 60, 187, 0, 80, 89, 42, 183, 0, 82, 182, 0, 85, 77, 44, 185, 0, 36, 1, 0, 153, 0, 31, 44]
abbrev dktX2_flying_0 : List UInt8 := dkwX2_flying_0 ++ dktX2_flying_1
theorem dksX2_flying_0 : cX2_flying.data.toList.drop 0 = dktX2_flying_0 := by decide +kernel
theorem dksX2_flying_1 : cX2_flying.data.toList.drop 24 = dktX2_flying_1 := dk_seg dksX2_flying_0 24 rfl rfl
theorem dksX2_flying_2 : cX2_flying.data.toList.drop 48 = dktX2_flying_2 := dk_seg dksX2_flying_1 24 rfl rfl
theorem dX2_flying_0 : decode cX2_flying 0 = .ok (.iconst 0, 1) := dk_3 (dk_at dksX2_flying_0 0 rfl rfl)
theorem dX2_flying_1 : decode cX2_flying 1 = .ok (.istore_n 1, 1) := dk_60 (dk_at dksX2_flying_0 1 rfl rfl)
theorem dX2_flying_2 : decode cX2_flying 2 = .ok (.new 80, 3) := dk_187 0 80 (dk_at dksX2_flying_0 2 rfl rfl)
theorem dX2_flying_5 : decode cX2_flying 5 = .ok (.dup, 1) := dk_89 (dk_at dksX2_flying_0 5 rfl rfl)
theorem dX2_flying_6 : decode cX2_flying 6 = .ok (.aload_n 0, 1) := dk_42 (dk_at dksX2_flying_0 6 rfl rfl)
theorem dX2_flying_7 : decode cX2_flying 7 = .ok (.invokespecial 82, 3) := dk_183 0 82 (dk_at dksX2_flying_0 7 rfl rfl)
theorem dX2_flying_10 : decode cX2_flying 10 = .ok (.invokevirtual 85, 3) := dk_182 0 85 (dk_at dksX2_flying_0 10 rfl rfl)
theorem dX2_flying_13 : decode cX2_flying 13 = .ok (.astore_n 2, 1) := dk_77 (dk_at dksX2_flying_0 13 rfl rfl)
theorem dX2_flying_14 : decode cX2_flying 14 = .ok (.aload_n 2, 1) := dk_44 (dk_at dksX2_flying_0 14 rfl rfl)
theorem dX2_flying_15 : decode cX2_flying 15 = .ok (.invokeinterface 36 1, 5) := by decide +kernel
theorem dX2_flying_20 : decode cX2_flying 20 = .ok (.ifCond .eq 31, 3) := dk_153 0 31 (dk_at dksX2_flying_0 20 rfl rfl)
theorem dX2_flying_23 : decode cX2_flying 23 = .ok (.aload_n 2, 1) := dk_44 (dk_at dksX2_flying_0 23 rfl rfl)
theorem dX2_flying_24 : decode cX2_flying 24 = .ok (.invokeinterface 42 1, 5) := by decide +kernel
theorem dX2_flying_29 : decode cX2_flying 29 = .ok (.checkcast 46, 3) := dk_192 0 46 (dk_at dksX2_flying_1 5 rfl rfl)
theorem dX2_flying_32 : decode cX2_flying 32 = .ok (.astore_n 3, 1) := dk_78 (dk_at dksX2_flying_1 8 rfl rfl)
theorem dX2_flying_33 : decode cX2_flying 33 = .ok (.iload_n 1, 1) := dk_27 (dk_at dksX2_flying_1 9 rfl rfl)
theorem dX2_flying_34 : decode cX2_flying 34 = .ok (.aload_n 3, 1) := dk_45 (dk_at dksX2_flying_1 10 rfl rfl)
theorem dX2_flying_35 : decode cX2_flying 35 = .ok (.invokevirtual 86, 3) := dk_182 0 86 (dk_at dksX2_flying_1 11 rfl rfl)
theorem dX2_flying_38 : decode cX2_flying 38 = .ok (.ifCond .eq 7, 3) := dk_153 0 7 (dk_at dksX2_flying_1 14 rfl rfl)
theorem dX2_flying_41 : decode cX2_flying 41 = .ok (.iconst 1, 1) := dk_4 (dk_at dksX2_flying_1 17 rfl rfl)
theorem dX2_flying_42 : decode cX2_flying 42 = .ok (.goto 4, 3) := dk_167 0 4 (dk_at dksX2_flying_1 18 rfl rfl)
theorem dX2_flying_45 : decode cX2_flying 45 = .ok (.iconst 0, 1) := dk_3 (dk_at dksX2_flying_1 21 rfl rfl)
theorem dX2_flying_46 : decode cX2_flying 46 = .ok (.iadd, 1) := dk_96 (dk_at dksX2_flying_1 22 rfl rfl)
theorem dX2_flying_47 : decode cX2_flying 47 = .ok (.istore_n 1, 1) := dk_60 (dk_at dksX2_flying_1 23 rfl rfl)
theorem dX2_flying_48 : decode cX2_flying 48 = .ok (.goto (-34), 3) := dk_167 255 222 (dk_at dksX2_flying_2 0 rfl rfl)
theorem dX2_flying_51 : decode cX2_flying 51 = .ok (.iload_n 1, 1) := dk_27 (dk_at dksX2_flying_2 3 rfl rfl)
theorem dX2_flying_52 : decode cX2_flying 52 = .ok (.ireturn, 1) := dk_172 (dk_at dksX2_flying_2 4 rfl rfl)
theorem dJ0_init_0 : decode cJ0_init 0 = .ok (.aload_n 0, 1) := by decide +kernel
theorem dJ0_init_1 : decode cJ0_init 1 = .ok (.invokespecial 1, 3) := by decide +kernel
theorem dJ0_init_4 : decode cJ0_init 4 = .ok (.return_, 1) := by decide +kernel
def dkwJ1_init_0 : List UInt8 := [42, 183, 0, 1, 42, 3, 181, 0, 7, 177]
abbrev dktJ1_init_0 : List UInt8 := dkwJ1_init_0 ++ []
theorem dksJ1_init_0 : cJ1_init.data.toList.drop 0 = dktJ1_init_0 := by decide +kernel
theorem dJ1_init_0 : decode cJ1_init 0 = .ok (.aload_n 0, 1) := dk_42 (dk_at dksJ1_init_0 0 rfl rfl)
theorem dJ1_init_1 : decode cJ1_init 1 = .ok (.invokespecial 1, 3) := dk_183 0 1 (dk_at dksJ1_init_0 1 rfl rfl)
theorem dJ1_init_4 : decode cJ1_init 4 = .ok (.aload_n 0, 1) := dk_42 (dk_at dksJ1_init_0 4 rfl rfl)
theorem dJ1_init_5 : decode cJ1_init 5 = .ok (.iconst 0, 1) := dk_3 (dk_at dksJ1_init_0 5 rfl rfl)
theorem dJ1_init_6 : decode cJ1_init 6 = .ok (.putfield 7, 3) := dk_181 0 7 (dk_at dksJ1_init_0 6 rfl rfl)
theorem dJ1_init_9 : decode cJ1_init 9 = .ok (.return_, 1) := dk_177 (dk_at dksJ1_init_0 9 rfl rfl)
def dkwJ2_init_0 : List UInt8 := [42, 183, 0, 1, 42, 178, 0, 39, 181, 0, 9, 177]
abbrev dktJ2_init_0 : List UInt8 := dkwJ2_init_0 ++ []
theorem dksJ2_init_0 : cJ2_init.data.toList.drop 0 = dktJ2_init_0 := by decide +kernel
theorem dJ2_init_0 : decode cJ2_init 0 = .ok (.aload_n 0, 1) := dk_42 (dk_at dksJ2_init_0 0 rfl rfl)
theorem dJ2_init_1 : decode cJ2_init 1 = .ok (.invokespecial 1, 3) := dk_183 0 1 (dk_at dksJ2_init_0 1 rfl rfl)
theorem dJ2_init_4 : decode cJ2_init 4 = .ok (.aload_n 0, 1) := dk_42 (dk_at dksJ2_init_0 4 rfl rfl)
theorem dJ2_init_5 : decode cJ2_init 5 = .ok (.getstatic 39, 3) := dk_178 0 39 (dk_at dksJ2_init_0 5 rfl rfl)
theorem dJ2_init_8 : decode cJ2_init 8 = .ok (.putfield 9, 3) := dk_181 0 9 (dk_at dksJ2_init_0 8 rfl rfl)
theorem dJ2_init_11 : decode cJ2_init 11 = .ok (.return_, 1) := dk_177 (dk_at dksJ2_init_0 11 rfl rfl)
def dkwJ2_iterator_0 : List UInt8 := [187, 1, 11, 89, 42, 183, 1, 13, 176]
abbrev dktJ2_iterator_0 : List UInt8 := dkwJ2_iterator_0 ++ []
theorem dksJ2_iterator_0 : cJ2_iterator.data.toList.drop 0 = dktJ2_iterator_0 := by decide +kernel
theorem dJ2_iterator_0 : decode cJ2_iterator 0 = .ok (.new 267, 3) := dk_187 1 11 (dk_at dksJ2_iterator_0 0 rfl rfl)
theorem dJ2_iterator_3 : decode cJ2_iterator 3 = .ok (.dup, 1) := dk_89 (dk_at dksJ2_iterator_0 3 rfl rfl)
theorem dJ2_iterator_4 : decode cJ2_iterator 4 = .ok (.aload_n 0, 1) := dk_42 (dk_at dksJ2_iterator_0 4 rfl rfl)
theorem dJ2_iterator_5 : decode cJ2_iterator 5 = .ok (.invokespecial 269, 3) := dk_183 1 13 (dk_at dksJ2_iterator_0 5 rfl rfl)
theorem dJ2_iterator_8 : decode cJ2_iterator 8 = .ok (.areturn, 1) := dk_176 (dk_at dksJ2_iterator_0 8 rfl rfl)
theorem dJ2_size_0 : decode cJ2_size 0 = .ok (.aload_n 0, 1) := by decide +kernel
theorem dJ2_size_1 : decode cJ2_size 1 = .ok (.getfield 48, 3) := by decide +kernel
theorem dJ2_size_4 : decode cJ2_size 4 = .ok (.ireturn, 1) := by decide +kernel
def dkwJ2_get_0 : List UInt8 := [27, 42, 180, 0, 48, 184, 0, 118, 87, 42, 27, 182, 0, 123, 176]
abbrev dktJ2_get_0 : List UInt8 := dkwJ2_get_0 ++ []
theorem dksJ2_get_0 : cJ2_get.data.toList.drop 0 = dktJ2_get_0 := by decide +kernel
theorem dJ2_get_0 : decode cJ2_get 0 = .ok (.iload_n 1, 1) := dk_27 (dk_at dksJ2_get_0 0 rfl rfl)
theorem dJ2_get_1 : decode cJ2_get 1 = .ok (.aload_n 0, 1) := dk_42 (dk_at dksJ2_get_0 1 rfl rfl)
theorem dJ2_get_2 : decode cJ2_get 2 = .ok (.getfield 48, 3) := dk_180 0 48 (dk_at dksJ2_get_0 2 rfl rfl)
theorem dJ2_get_5 : decode cJ2_get 5 = .ok (.invokestatic 118, 3) := dk_184 0 118 (dk_at dksJ2_get_0 5 rfl rfl)
theorem dJ2_get_8 : decode cJ2_get 8 = .ok (.pop, 1) := dk_87 (dk_at dksJ2_get_0 8 rfl rfl)
theorem dJ2_get_9 : decode cJ2_get 9 = .ok (.aload_n 0, 1) := dk_42 (dk_at dksJ2_get_0 9 rfl rfl)
theorem dJ2_get_10 : decode cJ2_get 10 = .ok (.iload_n 1, 1) := dk_27 (dk_at dksJ2_get_0 10 rfl rfl)
theorem dJ2_get_11 : decode cJ2_get 11 = .ok (.invokevirtual 123, 3) := dk_182 0 123 (dk_at dksJ2_get_0 11 rfl rfl)
theorem dJ2_get_14 : decode cJ2_get 14 = .ok (.areturn, 1) := dk_176 (dk_at dksJ2_get_0 14 rfl rfl)
def dkwJ2_elementData_0 : List UInt8 := [42, 180, 0, 9, 27, 50, 176]
abbrev dktJ2_elementData_0 : List UInt8 := dkwJ2_elementData_0 ++ []
theorem dksJ2_elementData_0 : cJ2_elementData.data.toList.drop 0 = dktJ2_elementData_0 := by decide +kernel
theorem dJ2_elementData_0 : decode cJ2_elementData 0 = .ok (.aload_n 0, 1) := dk_42 (dk_at dksJ2_elementData_0 0 rfl rfl)
theorem dJ2_elementData_1 : decode cJ2_elementData 1 = .ok (.getfield 9, 3) := dk_180 0 9 (dk_at dksJ2_elementData_0 1 rfl rfl)
theorem dJ2_elementData_4 : decode cJ2_elementData 4 = .ok (.iload_n 1, 1) := dk_27 (dk_at dksJ2_elementData_0 4 rfl rfl)
theorem dJ2_elementData_5 : decode cJ2_elementData 5 = .ok (.aaload, 1) := dk_50 (dk_at dksJ2_elementData_0 5 rfl rfl)
theorem dJ2_elementData_6 : decode cJ2_elementData 6 = .ok (.areturn, 1) := dk_176 (dk_at dksJ2_elementData_0 6 rfl rfl)
def dkwJ2_add_1 : List UInt8 := [172]
abbrev dktJ2_add_1 : List UInt8 := dkwJ2_add_1 ++ []
def dkwJ2_add_0 : List UInt8 := [42, 89, 180, 0, 63, 4, 96, 181, 0, 63, 42, 43, 42, 180, 0, 9, 42, 180, 0, 48, 182, 0, 131, 4]
abbrev dktJ2_add_0 : List UInt8 := dkwJ2_add_0 ++ dktJ2_add_1
theorem dksJ2_add_0 : cJ2_add.data.toList.drop 0 = dktJ2_add_0 := by decide +kernel
theorem dksJ2_add_1 : cJ2_add.data.toList.drop 24 = dktJ2_add_1 := dk_seg dksJ2_add_0 24 rfl rfl
theorem dJ2_add_0 : decode cJ2_add 0 = .ok (.aload_n 0, 1) := dk_42 (dk_at dksJ2_add_0 0 rfl rfl)
theorem dJ2_add_1 : decode cJ2_add 1 = .ok (.dup, 1) := dk_89 (dk_at dksJ2_add_0 1 rfl rfl)
theorem dJ2_add_2 : decode cJ2_add 2 = .ok (.getfield 63, 3) := dk_180 0 63 (dk_at dksJ2_add_0 2 rfl rfl)
theorem dJ2_add_5 : decode cJ2_add 5 = .ok (.iconst 1, 1) := dk_4 (dk_at dksJ2_add_0 5 rfl rfl)
theorem dJ2_add_6 : decode cJ2_add 6 = .ok (.iadd, 1) := dk_96 (dk_at dksJ2_add_0 6 rfl rfl)
theorem dJ2_add_7 : decode cJ2_add 7 = .ok (.putfield 63, 3) := dk_181 0 63 (dk_at dksJ2_add_0 7 rfl rfl)
theorem dJ2_add_10 : decode cJ2_add 10 = .ok (.aload_n 0, 1) := dk_42 (dk_at dksJ2_add_0 10 rfl rfl)
theorem dJ2_add_11 : decode cJ2_add 11 = .ok (.aload_n 1, 1) := dk_43 (dk_at dksJ2_add_0 11 rfl rfl)
theorem dJ2_add_12 : decode cJ2_add 12 = .ok (.aload_n 0, 1) := dk_42 (dk_at dksJ2_add_0 12 rfl rfl)
theorem dJ2_add_13 : decode cJ2_add 13 = .ok (.getfield 9, 3) := dk_180 0 9 (dk_at dksJ2_add_0 13 rfl rfl)
theorem dJ2_add_16 : decode cJ2_add 16 = .ok (.aload_n 0, 1) := dk_42 (dk_at dksJ2_add_0 16 rfl rfl)
theorem dJ2_add_17 : decode cJ2_add 17 = .ok (.getfield 48, 3) := dk_180 0 48 (dk_at dksJ2_add_0 17 rfl rfl)
theorem dJ2_add_20 : decode cJ2_add 20 = .ok (.invokevirtual 131, 3) := dk_182 0 131 (dk_at dksJ2_add_0 20 rfl rfl)
theorem dJ2_add_23 : decode cJ2_add 23 = .ok (.iconst 1, 1) := dk_4 (dk_at dksJ2_add_0 23 rfl rfl)
theorem dJ2_add_24 : decode cJ2_add 24 = .ok (.ireturn, 1) := dk_172 (dk_at dksJ2_add_1 0 rfl rfl)
def dkwJ2_add_2_0 : List UInt8 := [29, 44, 190, 160, 0, 8, 42, 182, 0, 129, 77, 44, 29, 43, 83, 42, 29, 4, 96, 181, 0, 48, 177]
abbrev dktJ2_add_2_0 : List UInt8 := dkwJ2_add_2_0 ++ []
theorem dksJ2_add_2_0 : cJ2_add_2.data.toList.drop 0 = dktJ2_add_2_0 := by decide +kernel
theorem dJ2_add_2_0 : decode cJ2_add_2 0 = .ok (.iload_n 3, 1) := dk_29 (dk_at dksJ2_add_2_0 0 rfl rfl)
theorem dJ2_add_2_1 : decode cJ2_add_2 1 = .ok (.aload_n 2, 1) := dk_44 (dk_at dksJ2_add_2_0 1 rfl rfl)
theorem dJ2_add_2_2 : decode cJ2_add_2 2 = .ok (.arraylength, 1) := dk_190 (dk_at dksJ2_add_2_0 2 rfl rfl)
theorem dJ2_add_2_3 : decode cJ2_add_2 3 = .ok (.if_icmp .ne 8, 3) := dk_160 0 8 (dk_at dksJ2_add_2_0 3 rfl rfl)
theorem dJ2_add_2_6 : decode cJ2_add_2 6 = .ok (.aload_n 0, 1) := dk_42 (dk_at dksJ2_add_2_0 6 rfl rfl)
theorem dJ2_add_2_7 : decode cJ2_add_2 7 = .ok (.invokevirtual 129, 3) := dk_182 0 129 (dk_at dksJ2_add_2_0 7 rfl rfl)
theorem dJ2_add_2_10 : decode cJ2_add_2 10 = .ok (.astore_n 2, 1) := dk_77 (dk_at dksJ2_add_2_0 10 rfl rfl)
theorem dJ2_add_2_11 : decode cJ2_add_2 11 = .ok (.aload_n 2, 1) := dk_44 (dk_at dksJ2_add_2_0 11 rfl rfl)
theorem dJ2_add_2_12 : decode cJ2_add_2 12 = .ok (.iload_n 3, 1) := dk_29 (dk_at dksJ2_add_2_0 12 rfl rfl)
theorem dJ2_add_2_13 : decode cJ2_add_2 13 = .ok (.aload_n 1, 1) := dk_43 (dk_at dksJ2_add_2_0 13 rfl rfl)
theorem dJ2_add_2_14 : decode cJ2_add_2 14 = .ok (.aastore, 1) := dk_83 (dk_at dksJ2_add_2_0 14 rfl rfl)
theorem dJ2_add_2_15 : decode cJ2_add_2 15 = .ok (.aload_n 0, 1) := dk_42 (dk_at dksJ2_add_2_0 15 rfl rfl)
theorem dJ2_add_2_16 : decode cJ2_add_2 16 = .ok (.iload_n 3, 1) := dk_29 (dk_at dksJ2_add_2_0 16 rfl rfl)
theorem dJ2_add_2_17 : decode cJ2_add_2 17 = .ok (.iconst 1, 1) := dk_4 (dk_at dksJ2_add_2_0 17 rfl rfl)
theorem dJ2_add_2_18 : decode cJ2_add_2 18 = .ok (.iadd, 1) := dk_96 (dk_at dksJ2_add_2_0 18 rfl rfl)
theorem dJ2_add_2_19 : decode cJ2_add_2 19 = .ok (.putfield 48, 3) := dk_181 0 48 (dk_at dksJ2_add_2_0 19 rfl rfl)
theorem dJ2_add_2_22 : decode cJ2_add_2 22 = .ok (.return_, 1) := dk_177 (dk_at dksJ2_add_2_0 22 rfl rfl)
def dkwJ2_grow_0 : List UInt8 := [42, 42, 180, 0, 48, 4, 96, 182, 0, 69, 176]
abbrev dktJ2_grow_0 : List UInt8 := dkwJ2_grow_0 ++ []
theorem dksJ2_grow_0 : cJ2_grow.data.toList.drop 0 = dktJ2_grow_0 := by decide +kernel
theorem dJ2_grow_0 : decode cJ2_grow 0 = .ok (.aload_n 0, 1) := dk_42 (dk_at dksJ2_grow_0 0 rfl rfl)
theorem dJ2_grow_1 : decode cJ2_grow 1 = .ok (.aload_n 0, 1) := dk_42 (dk_at dksJ2_grow_0 1 rfl rfl)
theorem dJ2_grow_2 : decode cJ2_grow 2 = .ok (.getfield 48, 3) := dk_180 0 48 (dk_at dksJ2_grow_0 2 rfl rfl)
theorem dJ2_grow_5 : decode cJ2_grow 5 = .ok (.iconst 1, 1) := dk_4 (dk_at dksJ2_grow_0 5 rfl rfl)
theorem dJ2_grow_6 : decode cJ2_grow 6 = .ok (.iadd, 1) := dk_96 (dk_at dksJ2_grow_0 6 rfl rfl)
theorem dJ2_grow_7 : decode cJ2_grow 7 = .ok (.invokevirtual 69, 3) := dk_182 0 69 (dk_at dksJ2_grow_0 7 rfl rfl)
theorem dJ2_grow_10 : decode cJ2_grow 10 = .ok (.areturn, 1) := dk_176 (dk_at dksJ2_grow_0 10 rfl rfl)
def dkwJ2_grow_2_2 : List UInt8 := [27, 184, 0, 79, 189, 0, 7, 90, 181, 0, 9, 176]
abbrev dktJ2_grow_2_2 : List UInt8 := dkwJ2_grow_2_2 ++ []
def dkwJ2_grow_2_1 : List UInt8 := [28, 4, 122, 184, 0, 73, 62, 42, 42, 180, 0, 9, 29, 184, 0, 66, 90, 181, 0, 9, 176, 42, 16, 10]
abbrev dktJ2_grow_2_1 : List UInt8 := dkwJ2_grow_2_1 ++ dktJ2_grow_2_2
def dkwJ2_grow_2_0 : List UInt8 := [42, 180, 0, 9, 190, 61, 28, 157, 0, 13, 42, 180, 0, 9, 178, 0, 39, 165, 0, 28, 28, 27, 28, 100]
abbrev dktJ2_grow_2_0 : List UInt8 := dkwJ2_grow_2_0 ++ dktJ2_grow_2_1
theorem dksJ2_grow_2_0 : cJ2_grow_2.data.toList.drop 0 = dktJ2_grow_2_0 := by decide +kernel
theorem dksJ2_grow_2_1 : cJ2_grow_2.data.toList.drop 24 = dktJ2_grow_2_1 := dk_seg dksJ2_grow_2_0 24 rfl rfl
theorem dksJ2_grow_2_2 : cJ2_grow_2.data.toList.drop 48 = dktJ2_grow_2_2 := dk_seg dksJ2_grow_2_1 24 rfl rfl
theorem dJ2_grow_2_0 : decode cJ2_grow_2 0 = .ok (.aload_n 0, 1) := dk_42 (dk_at dksJ2_grow_2_0 0 rfl rfl)
theorem dJ2_grow_2_1 : decode cJ2_grow_2 1 = .ok (.getfield 9, 3) := dk_180 0 9 (dk_at dksJ2_grow_2_0 1 rfl rfl)
theorem dJ2_grow_2_4 : decode cJ2_grow_2 4 = .ok (.arraylength, 1) := dk_190 (dk_at dksJ2_grow_2_0 4 rfl rfl)
theorem dJ2_grow_2_5 : decode cJ2_grow_2 5 = .ok (.istore_n 2, 1) := dk_61 (dk_at dksJ2_grow_2_0 5 rfl rfl)
theorem dJ2_grow_2_6 : decode cJ2_grow_2 6 = .ok (.iload_n 2, 1) := dk_28 (dk_at dksJ2_grow_2_0 6 rfl rfl)
theorem dJ2_grow_2_7 : decode cJ2_grow_2 7 = .ok (.ifCond .gt 13, 3) := dk_157 0 13 (dk_at dksJ2_grow_2_0 7 rfl rfl)
theorem dJ2_grow_2_10 : decode cJ2_grow_2 10 = .ok (.aload_n 0, 1) := dk_42 (dk_at dksJ2_grow_2_0 10 rfl rfl)
theorem dJ2_grow_2_11 : decode cJ2_grow_2 11 = .ok (.getfield 9, 3) := dk_180 0 9 (dk_at dksJ2_grow_2_0 11 rfl rfl)
theorem dJ2_grow_2_14 : decode cJ2_grow_2 14 = .ok (.getstatic 39, 3) := dk_178 0 39 (dk_at dksJ2_grow_2_0 14 rfl rfl)
theorem dJ2_grow_2_17 : decode cJ2_grow_2 17 = .ok (.if_acmp .eq 28, 3) := dk_165 0 28 (dk_at dksJ2_grow_2_0 17 rfl rfl)
theorem dJ2_grow_2_20 : decode cJ2_grow_2 20 = .ok (.iload_n 2, 1) := dk_28 (dk_at dksJ2_grow_2_0 20 rfl rfl)
theorem dJ2_grow_2_21 : decode cJ2_grow_2 21 = .ok (.iload_n 1, 1) := dk_27 (dk_at dksJ2_grow_2_0 21 rfl rfl)
theorem dJ2_grow_2_22 : decode cJ2_grow_2 22 = .ok (.iload_n 2, 1) := dk_28 (dk_at dksJ2_grow_2_0 22 rfl rfl)
theorem dJ2_grow_2_23 : decode cJ2_grow_2 23 = .ok (.isub, 1) := dk_100 (dk_at dksJ2_grow_2_0 23 rfl rfl)
theorem dJ2_grow_2_24 : decode cJ2_grow_2 24 = .ok (.iload_n 2, 1) := dk_28 (dk_at dksJ2_grow_2_1 0 rfl rfl)
theorem dJ2_grow_2_25 : decode cJ2_grow_2 25 = .ok (.iconst 1, 1) := dk_4 (dk_at dksJ2_grow_2_1 1 rfl rfl)
theorem dJ2_grow_2_26 : decode cJ2_grow_2 26 = .ok (.ishr, 1) := dk_122 (dk_at dksJ2_grow_2_1 2 rfl rfl)
theorem dJ2_grow_2_27 : decode cJ2_grow_2 27 = .ok (.invokestatic 73, 3) := dk_184 0 73 (dk_at dksJ2_grow_2_1 3 rfl rfl)
theorem dJ2_grow_2_30 : decode cJ2_grow_2 30 = .ok (.istore_n 3, 1) := dk_62 (dk_at dksJ2_grow_2_1 6 rfl rfl)
theorem dJ2_grow_2_31 : decode cJ2_grow_2 31 = .ok (.aload_n 0, 1) := dk_42 (dk_at dksJ2_grow_2_1 7 rfl rfl)
theorem dJ2_grow_2_32 : decode cJ2_grow_2 32 = .ok (.aload_n 0, 1) := dk_42 (dk_at dksJ2_grow_2_1 8 rfl rfl)
theorem dJ2_grow_2_33 : decode cJ2_grow_2 33 = .ok (.getfield 9, 3) := dk_180 0 9 (dk_at dksJ2_grow_2_1 9 rfl rfl)
theorem dJ2_grow_2_36 : decode cJ2_grow_2 36 = .ok (.iload_n 3, 1) := dk_29 (dk_at dksJ2_grow_2_1 12 rfl rfl)
theorem dJ2_grow_2_37 : decode cJ2_grow_2 37 = .ok (.invokestatic 66, 3) := dk_184 0 66 (dk_at dksJ2_grow_2_1 13 rfl rfl)
theorem dJ2_grow_2_40 : decode cJ2_grow_2 40 = .ok (.dup_x1, 1) := dk_90 (dk_at dksJ2_grow_2_1 16 rfl rfl)
theorem dJ2_grow_2_41 : decode cJ2_grow_2 41 = .ok (.putfield 9, 3) := dk_181 0 9 (dk_at dksJ2_grow_2_1 17 rfl rfl)
theorem dJ2_grow_2_44 : decode cJ2_grow_2 44 = .ok (.areturn, 1) := dk_176 (dk_at dksJ2_grow_2_1 20 rfl rfl)
theorem dJ2_grow_2_45 : decode cJ2_grow_2 45 = .ok (.aload_n 0, 1) := dk_42 (dk_at dksJ2_grow_2_1 21 rfl rfl)
theorem dJ2_grow_2_46 : decode cJ2_grow_2 46 = .ok (.bipush 10, 2) := dk_16 10 (dk_at dksJ2_grow_2_1 22 rfl rfl)
theorem dJ2_grow_2_48 : decode cJ2_grow_2 48 = .ok (.iload_n 1, 1) := dk_27 (dk_at dksJ2_grow_2_2 0 rfl rfl)
theorem dJ2_grow_2_49 : decode cJ2_grow_2 49 = .ok (.invokestatic 79, 3) := dk_184 0 79 (dk_at dksJ2_grow_2_2 1 rfl rfl)
theorem dJ2_grow_2_52 : decode cJ2_grow_2 52 = .ok (.anewarray 7, 3) := dk_189 0 7 (dk_at dksJ2_grow_2_2 4 rfl rfl)
theorem dJ2_grow_2_55 : decode cJ2_grow_2 55 = .ok (.dup_x1, 1) := dk_90 (dk_at dksJ2_grow_2_2 7 rfl rfl)
theorem dJ2_grow_2_56 : decode cJ2_grow_2 56 = .ok (.putfield 9, 3) := dk_181 0 9 (dk_at dksJ2_grow_2_2 8 rfl rfl)
theorem dJ2_grow_2_59 : decode cJ2_grow_2 59 = .ok (.areturn, 1) := dk_176 (dk_at dksJ2_grow_2_2 11 rfl rfl)
def dkwJ2_remove_1 : List UInt8 := [45, 176]
abbrev dktJ2_remove_1 : List UInt8 := dkwJ2_remove_1 ++ []
def dkwJ2_remove_0 : List UInt8 := [27, 42, 180, 0, 48, 184, 0, 118, 87, 42, 180, 0, 9, 77, 44, 27, 50, 78, 42, 44, 27, 182, 0, 144]
abbrev dktJ2_remove_0 : List UInt8 := dkwJ2_remove_0 ++ dktJ2_remove_1
theorem dksJ2_remove_0 : cJ2_remove.data.toList.drop 0 = dktJ2_remove_0 := by decide +kernel
theorem dksJ2_remove_1 : cJ2_remove.data.toList.drop 24 = dktJ2_remove_1 := dk_seg dksJ2_remove_0 24 rfl rfl
theorem dJ2_remove_0 : decode cJ2_remove 0 = .ok (.iload_n 1, 1) := dk_27 (dk_at dksJ2_remove_0 0 rfl rfl)
theorem dJ2_remove_1 : decode cJ2_remove 1 = .ok (.aload_n 0, 1) := dk_42 (dk_at dksJ2_remove_0 1 rfl rfl)
theorem dJ2_remove_2 : decode cJ2_remove 2 = .ok (.getfield 48, 3) := dk_180 0 48 (dk_at dksJ2_remove_0 2 rfl rfl)
theorem dJ2_remove_5 : decode cJ2_remove 5 = .ok (.invokestatic 118, 3) := dk_184 0 118 (dk_at dksJ2_remove_0 5 rfl rfl)
theorem dJ2_remove_8 : decode cJ2_remove 8 = .ok (.pop, 1) := dk_87 (dk_at dksJ2_remove_0 8 rfl rfl)
theorem dJ2_remove_9 : decode cJ2_remove 9 = .ok (.aload_n 0, 1) := dk_42 (dk_at dksJ2_remove_0 9 rfl rfl)
theorem dJ2_remove_10 : decode cJ2_remove 10 = .ok (.getfield 9, 3) := dk_180 0 9 (dk_at dksJ2_remove_0 10 rfl rfl)
theorem dJ2_remove_13 : decode cJ2_remove 13 = .ok (.astore_n 2, 1) := dk_77 (dk_at dksJ2_remove_0 13 rfl rfl)
theorem dJ2_remove_14 : decode cJ2_remove 14 = .ok (.aload_n 2, 1) := dk_44 (dk_at dksJ2_remove_0 14 rfl rfl)
theorem dJ2_remove_15 : decode cJ2_remove 15 = .ok (.iload_n 1, 1) := dk_27 (dk_at dksJ2_remove_0 15 rfl rfl)
theorem dJ2_remove_16 : decode cJ2_remove 16 = .ok (.aaload, 1) := dk_50 (dk_at dksJ2_remove_0 16 rfl rfl)
theorem dJ2_remove_17 : decode cJ2_remove 17 = .ok (.astore_n 3, 1) := dk_78 (dk_at dksJ2_remove_0 17 rfl rfl)
theorem dJ2_remove_18 : decode cJ2_remove 18 = .ok (.aload_n 0, 1) := dk_42 (dk_at dksJ2_remove_0 18 rfl rfl)
theorem dJ2_remove_19 : decode cJ2_remove 19 = .ok (.aload_n 2, 1) := dk_44 (dk_at dksJ2_remove_0 19 rfl rfl)
theorem dJ2_remove_20 : decode cJ2_remove 20 = .ok (.iload_n 1, 1) := dk_27 (dk_at dksJ2_remove_0 20 rfl rfl)
theorem dJ2_remove_21 : decode cJ2_remove 21 = .ok (.invokevirtual 144, 3) := dk_182 0 144 (dk_at dksJ2_remove_0 21 rfl rfl)
theorem dJ2_remove_24 : decode cJ2_remove 24 = .ok (.aload_n 3, 1) := dk_45 (dk_at dksJ2_remove_1 0 rfl rfl)
theorem dJ2_remove_25 : decode cJ2_remove 25 = .ok (.areturn, 1) := dk_176 (dk_at dksJ2_remove_1 1 rfl rfl)
def dkwJ2_fastRemove_1 : List UInt8 := [4, 96, 43, 28, 29, 28, 100, 184, 0, 112, 43, 42, 29, 90, 181, 0, 48, 1, 83, 177]
abbrev dktJ2_fastRemove_1 : List UInt8 := dkwJ2_fastRemove_1 ++ []
def dkwJ2_fastRemove_0 : List UInt8 := [42, 89, 180, 0, 63, 4, 96, 181, 0, 63, 42, 180, 0, 48, 4, 100, 89, 62, 28, 164, 0, 15, 43, 28]
abbrev dktJ2_fastRemove_0 : List UInt8 := dkwJ2_fastRemove_0 ++ dktJ2_fastRemove_1
theorem dksJ2_fastRemove_0 : cJ2_fastRemove.data.toList.drop 0 = dktJ2_fastRemove_0 := by decide +kernel
theorem dksJ2_fastRemove_1 : cJ2_fastRemove.data.toList.drop 24 = dktJ2_fastRemove_1 := dk_seg dksJ2_fastRemove_0 24 rfl rfl
theorem dJ2_fastRemove_0 : decode cJ2_fastRemove 0 = .ok (.aload_n 0, 1) := dk_42 (dk_at dksJ2_fastRemove_0 0 rfl rfl)
theorem dJ2_fastRemove_1 : decode cJ2_fastRemove 1 = .ok (.dup, 1) := dk_89 (dk_at dksJ2_fastRemove_0 1 rfl rfl)
theorem dJ2_fastRemove_2 : decode cJ2_fastRemove 2 = .ok (.getfield 63, 3) := dk_180 0 63 (dk_at dksJ2_fastRemove_0 2 rfl rfl)
theorem dJ2_fastRemove_5 : decode cJ2_fastRemove 5 = .ok (.iconst 1, 1) := dk_4 (dk_at dksJ2_fastRemove_0 5 rfl rfl)
theorem dJ2_fastRemove_6 : decode cJ2_fastRemove 6 = .ok (.iadd, 1) := dk_96 (dk_at dksJ2_fastRemove_0 6 rfl rfl)
theorem dJ2_fastRemove_7 : decode cJ2_fastRemove 7 = .ok (.putfield 63, 3) := dk_181 0 63 (dk_at dksJ2_fastRemove_0 7 rfl rfl)
theorem dJ2_fastRemove_10 : decode cJ2_fastRemove 10 = .ok (.aload_n 0, 1) := dk_42 (dk_at dksJ2_fastRemove_0 10 rfl rfl)
theorem dJ2_fastRemove_11 : decode cJ2_fastRemove 11 = .ok (.getfield 48, 3) := dk_180 0 48 (dk_at dksJ2_fastRemove_0 11 rfl rfl)
theorem dJ2_fastRemove_14 : decode cJ2_fastRemove 14 = .ok (.iconst 1, 1) := dk_4 (dk_at dksJ2_fastRemove_0 14 rfl rfl)
theorem dJ2_fastRemove_15 : decode cJ2_fastRemove 15 = .ok (.isub, 1) := dk_100 (dk_at dksJ2_fastRemove_0 15 rfl rfl)
theorem dJ2_fastRemove_16 : decode cJ2_fastRemove 16 = .ok (.dup, 1) := dk_89 (dk_at dksJ2_fastRemove_0 16 rfl rfl)
theorem dJ2_fastRemove_17 : decode cJ2_fastRemove 17 = .ok (.istore_n 3, 1) := dk_62 (dk_at dksJ2_fastRemove_0 17 rfl rfl)
theorem dJ2_fastRemove_18 : decode cJ2_fastRemove 18 = .ok (.iload_n 2, 1) := dk_28 (dk_at dksJ2_fastRemove_0 18 rfl rfl)
theorem dJ2_fastRemove_19 : decode cJ2_fastRemove 19 = .ok (.if_icmp .le 15, 3) := dk_164 0 15 (dk_at dksJ2_fastRemove_0 19 rfl rfl)
theorem dJ2_fastRemove_22 : decode cJ2_fastRemove 22 = .ok (.aload_n 1, 1) := dk_43 (dk_at dksJ2_fastRemove_0 22 rfl rfl)
theorem dJ2_fastRemove_23 : decode cJ2_fastRemove 23 = .ok (.iload_n 2, 1) := dk_28 (dk_at dksJ2_fastRemove_0 23 rfl rfl)
theorem dJ2_fastRemove_24 : decode cJ2_fastRemove 24 = .ok (.iconst 1, 1) := dk_4 (dk_at dksJ2_fastRemove_1 0 rfl rfl)
theorem dJ2_fastRemove_25 : decode cJ2_fastRemove 25 = .ok (.iadd, 1) := dk_96 (dk_at dksJ2_fastRemove_1 1 rfl rfl)
theorem dJ2_fastRemove_26 : decode cJ2_fastRemove 26 = .ok (.aload_n 1, 1) := dk_43 (dk_at dksJ2_fastRemove_1 2 rfl rfl)
theorem dJ2_fastRemove_27 : decode cJ2_fastRemove 27 = .ok (.iload_n 2, 1) := dk_28 (dk_at dksJ2_fastRemove_1 3 rfl rfl)
theorem dJ2_fastRemove_28 : decode cJ2_fastRemove 28 = .ok (.iload_n 3, 1) := dk_29 (dk_at dksJ2_fastRemove_1 4 rfl rfl)
theorem dJ2_fastRemove_29 : decode cJ2_fastRemove 29 = .ok (.iload_n 2, 1) := dk_28 (dk_at dksJ2_fastRemove_1 5 rfl rfl)
theorem dJ2_fastRemove_30 : decode cJ2_fastRemove 30 = .ok (.isub, 1) := dk_100 (dk_at dksJ2_fastRemove_1 6 rfl rfl)
theorem dJ2_fastRemove_31 : decode cJ2_fastRemove 31 = .ok (.invokestatic 112, 3) := dk_184 0 112 (dk_at dksJ2_fastRemove_1 7 rfl rfl)
theorem dJ2_fastRemove_34 : decode cJ2_fastRemove 34 = .ok (.aload_n 1, 1) := dk_43 (dk_at dksJ2_fastRemove_1 10 rfl rfl)
theorem dJ2_fastRemove_35 : decode cJ2_fastRemove 35 = .ok (.aload_n 0, 1) := dk_42 (dk_at dksJ2_fastRemove_1 11 rfl rfl)
theorem dJ2_fastRemove_36 : decode cJ2_fastRemove 36 = .ok (.iload_n 3, 1) := dk_29 (dk_at dksJ2_fastRemove_1 12 rfl rfl)
theorem dJ2_fastRemove_37 : decode cJ2_fastRemove 37 = .ok (.dup_x1, 1) := dk_90 (dk_at dksJ2_fastRemove_1 13 rfl rfl)
theorem dJ2_fastRemove_38 : decode cJ2_fastRemove 38 = .ok (.putfield 48, 3) := dk_181 0 48 (dk_at dksJ2_fastRemove_1 14 rfl rfl)
theorem dJ2_fastRemove_41 : decode cJ2_fastRemove 41 = .ok (.aconst_null, 1) := dk_1 (dk_at dksJ2_fastRemove_1 17 rfl rfl)
theorem dJ2_fastRemove_42 : decode cJ2_fastRemove 42 = .ok (.aastore, 1) := dk_83 (dk_at dksJ2_fastRemove_1 18 rfl rfl)
theorem dJ2_fastRemove_43 : decode cJ2_fastRemove 43 = .ok (.return_, 1) := dk_177 (dk_at dksJ2_fastRemove_1 19 rfl rfl)
def dkwJ2_isEmpty_0 : List UInt8 := [42, 180, 0, 48, 154, 0, 7, 4, 167, 0, 4, 3, 172]
abbrev dktJ2_isEmpty_0 : List UInt8 := dkwJ2_isEmpty_0 ++ []
theorem dksJ2_isEmpty_0 : cJ2_isEmpty.data.toList.drop 0 = dktJ2_isEmpty_0 := by decide +kernel
theorem dJ2_isEmpty_0 : decode cJ2_isEmpty 0 = .ok (.aload_n 0, 1) := dk_42 (dk_at dksJ2_isEmpty_0 0 rfl rfl)
theorem dJ2_isEmpty_1 : decode cJ2_isEmpty 1 = .ok (.getfield 48, 3) := dk_180 0 48 (dk_at dksJ2_isEmpty_0 1 rfl rfl)
theorem dJ2_isEmpty_4 : decode cJ2_isEmpty 4 = .ok (.ifCond .ne 7, 3) := dk_154 0 7 (dk_at dksJ2_isEmpty_0 4 rfl rfl)
theorem dJ2_isEmpty_7 : decode cJ2_isEmpty 7 = .ok (.iconst 1, 1) := dk_4 (dk_at dksJ2_isEmpty_0 7 rfl rfl)
theorem dJ2_isEmpty_8 : decode cJ2_isEmpty 8 = .ok (.goto 4, 3) := dk_167 0 4 (dk_at dksJ2_isEmpty_0 8 rfl rfl)
theorem dJ2_isEmpty_11 : decode cJ2_isEmpty 11 = .ok (.iconst 0, 1) := dk_3 (dk_at dksJ2_isEmpty_0 11 rfl rfl)
theorem dJ2_isEmpty_12 : decode cJ2_isEmpty 12 = .ok (.ireturn, 1) := dk_172 (dk_at dksJ2_isEmpty_0 12 rfl rfl)
def dkwJ12_init_1 : List UInt8 := [181, 0, 22, 177]
abbrev dktJ12_init_1 : List UInt8 := dkwJ12_init_1 ++ []
def dkwJ12_init_0 : List UInt8 := [42, 43, 181, 0, 1, 42, 183, 0, 7, 42, 2, 181, 0, 13, 42, 42, 180, 0, 1, 180, 0, 17]
abbrev dktJ12_init_0 : List UInt8 := dkwJ12_init_0 ++ dktJ12_init_1
theorem dksJ12_init_0 : cJ12_init.data.toList.drop 0 = dktJ12_init_0 := by decide +kernel
theorem dksJ12_init_1 : cJ12_init.data.toList.drop 22 = dktJ12_init_1 := dk_seg dksJ12_init_0 22 rfl rfl
theorem dJ12_init_0 : decode cJ12_init 0 = .ok (.aload_n 0, 1) := dk_42 (dk_at dksJ12_init_0 0 rfl rfl)
theorem dJ12_init_1 : decode cJ12_init 1 = .ok (.aload_n 1, 1) := dk_43 (dk_at dksJ12_init_0 1 rfl rfl)
theorem dJ12_init_2 : decode cJ12_init 2 = .ok (.putfield 1, 3) := dk_181 0 1 (dk_at dksJ12_init_0 2 rfl rfl)
theorem dJ12_init_5 : decode cJ12_init 5 = .ok (.aload_n 0, 1) := dk_42 (dk_at dksJ12_init_0 5 rfl rfl)
theorem dJ12_init_6 : decode cJ12_init 6 = .ok (.invokespecial 7, 3) := dk_183 0 7 (dk_at dksJ12_init_0 6 rfl rfl)
theorem dJ12_init_9 : decode cJ12_init 9 = .ok (.aload_n 0, 1) := dk_42 (dk_at dksJ12_init_0 9 rfl rfl)
theorem dJ12_init_10 : decode cJ12_init 10 = .ok (.iconst (-1), 1) := dk_2 (dk_at dksJ12_init_0 10 rfl rfl)
theorem dJ12_init_11 : decode cJ12_init 11 = .ok (.putfield 13, 3) := dk_181 0 13 (dk_at dksJ12_init_0 11 rfl rfl)
theorem dJ12_init_14 : decode cJ12_init 14 = .ok (.aload_n 0, 1) := dk_42 (dk_at dksJ12_init_0 14 rfl rfl)
theorem dJ12_init_15 : decode cJ12_init 15 = .ok (.aload_n 0, 1) := dk_42 (dk_at dksJ12_init_0 15 rfl rfl)
theorem dJ12_init_16 : decode cJ12_init 16 = .ok (.getfield 1, 3) := dk_180 0 1 (dk_at dksJ12_init_0 16 rfl rfl)
theorem dJ12_init_19 : decode cJ12_init 19 = .ok (.getfield 17, 3) := dk_180 0 17 (dk_at dksJ12_init_0 19 rfl rfl)
theorem dJ12_init_22 : decode cJ12_init 22 = .ok (.putfield 22, 3) := dk_181 0 22 (dk_at dksJ12_init_1 0 rfl rfl)
theorem dJ12_init_25 : decode cJ12_init 25 = .ok (.return_, 1) := dk_177 (dk_at dksJ12_init_1 3 rfl rfl)
def dkwJ12_hasNext_0 : List UInt8 := [42, 180, 0, 25, 42, 180, 0, 1, 180, 0, 28, 159, 0, 7, 4, 167, 0, 4, 3, 172]
abbrev dktJ12_hasNext_0 : List UInt8 := dkwJ12_hasNext_0 ++ []
theorem dksJ12_hasNext_0 : cJ12_hasNext.data.toList.drop 0 = dktJ12_hasNext_0 := by decide +kernel
theorem dJ12_hasNext_0 : decode cJ12_hasNext 0 = .ok (.aload_n 0, 1) := dk_42 (dk_at dksJ12_hasNext_0 0 rfl rfl)
theorem dJ12_hasNext_1 : decode cJ12_hasNext 1 = .ok (.getfield 25, 3) := dk_180 0 25 (dk_at dksJ12_hasNext_0 1 rfl rfl)
theorem dJ12_hasNext_4 : decode cJ12_hasNext 4 = .ok (.aload_n 0, 1) := dk_42 (dk_at dksJ12_hasNext_0 4 rfl rfl)
theorem dJ12_hasNext_5 : decode cJ12_hasNext 5 = .ok (.getfield 1, 3) := dk_180 0 1 (dk_at dksJ12_hasNext_0 5 rfl rfl)
theorem dJ12_hasNext_8 : decode cJ12_hasNext 8 = .ok (.getfield 28, 3) := dk_180 0 28 (dk_at dksJ12_hasNext_0 8 rfl rfl)
theorem dJ12_hasNext_11 : decode cJ12_hasNext 11 = .ok (.if_icmp .eq 7, 3) := dk_159 0 7 (dk_at dksJ12_hasNext_0 11 rfl rfl)
theorem dJ12_hasNext_14 : decode cJ12_hasNext 14 = .ok (.iconst 1, 1) := dk_4 (dk_at dksJ12_hasNext_0 14 rfl rfl)
theorem dJ12_hasNext_15 : decode cJ12_hasNext 15 = .ok (.goto 4, 3) := dk_167 0 4 (dk_at dksJ12_hasNext_0 15 rfl rfl)
theorem dJ12_hasNext_18 : decode cJ12_hasNext 18 = .ok (.iconst 0, 1) := dk_3 (dk_at dksJ12_hasNext_0 18 rfl rfl)
theorem dJ12_hasNext_19 : decode cJ12_hasNext 19 = .ok (.ireturn, 1) := dk_172 (dk_at dksJ12_hasNext_0 19 rfl rfl)
def dkwJ12_next_2 : List UInt8 := [183, 0, 43, 191, 42, 27, 4, 96, 181, 0, 25, 44, 42, 27, 90, 181, 0, 13, 50, 176]
abbrev dktJ12_next_2 : List UInt8 := dkwJ12_next_2 ++ []
def dkwJ12_next_1 : List UInt8 := [183, 0, 36, 191, 42, 180, 0, 1, 180, 0, 37, 77, 27, 44, 190, 161, 0, 11, 187, 0, 41, 89]
abbrev dktJ12_next_1 : List UInt8 := dkwJ12_next_1 ++ dktJ12_next_2
def dkwJ12_next_0 : List UInt8 := [42, 182, 0, 31, 42, 180, 0, 25, 60, 27, 42, 180, 0, 1, 180, 0, 28, 161, 0, 11, 187, 0, 34, 89]
abbrev dktJ12_next_0 : List UInt8 := dkwJ12_next_0 ++ dktJ12_next_1
theorem dksJ12_next_0 : cJ12_next.data.toList.drop 0 = dktJ12_next_0 := by decide +kernel
theorem dksJ12_next_1 : cJ12_next.data.toList.drop 24 = dktJ12_next_1 := dk_seg dksJ12_next_0 24 rfl rfl
theorem dksJ12_next_2 : cJ12_next.data.toList.drop 46 = dktJ12_next_2 := dk_seg dksJ12_next_1 22 rfl rfl
theorem dJ12_next_0 : decode cJ12_next 0 = .ok (.aload_n 0, 1) := dk_42 (dk_at dksJ12_next_0 0 rfl rfl)
theorem dJ12_next_1 : decode cJ12_next 1 = .ok (.invokevirtual 31, 3) := dk_182 0 31 (dk_at dksJ12_next_0 1 rfl rfl)
theorem dJ12_next_4 : decode cJ12_next 4 = .ok (.aload_n 0, 1) := dk_42 (dk_at dksJ12_next_0 4 rfl rfl)
theorem dJ12_next_5 : decode cJ12_next 5 = .ok (.getfield 25, 3) := dk_180 0 25 (dk_at dksJ12_next_0 5 rfl rfl)
theorem dJ12_next_8 : decode cJ12_next 8 = .ok (.istore_n 1, 1) := dk_60 (dk_at dksJ12_next_0 8 rfl rfl)
theorem dJ12_next_9 : decode cJ12_next 9 = .ok (.iload_n 1, 1) := dk_27 (dk_at dksJ12_next_0 9 rfl rfl)
theorem dJ12_next_10 : decode cJ12_next 10 = .ok (.aload_n 0, 1) := dk_42 (dk_at dksJ12_next_0 10 rfl rfl)
theorem dJ12_next_11 : decode cJ12_next 11 = .ok (.getfield 1, 3) := dk_180 0 1 (dk_at dksJ12_next_0 11 rfl rfl)
theorem dJ12_next_14 : decode cJ12_next 14 = .ok (.getfield 28, 3) := dk_180 0 28 (dk_at dksJ12_next_0 14 rfl rfl)
theorem dJ12_next_17 : decode cJ12_next 17 = .ok (.if_icmp .lt 11, 3) := dk_161 0 11 (dk_at dksJ12_next_0 17 rfl rfl)
theorem dJ12_next_20 : decode cJ12_next 20 = .ok (.new 34, 3) := dk_187 0 34 (dk_at dksJ12_next_0 20 rfl rfl)
theorem dJ12_next_23 : decode cJ12_next 23 = .ok (.dup, 1) := dk_89 (dk_at dksJ12_next_0 23 rfl rfl)
theorem dJ12_next_24 : decode cJ12_next 24 = .ok (.invokespecial 36, 3) := dk_183 0 36 (dk_at dksJ12_next_1 0 rfl rfl)
theorem dJ12_next_27 : decode cJ12_next 27 = .ok (.athrow, 1) := dk_191 (dk_at dksJ12_next_1 3 rfl rfl)
theorem dJ12_next_28 : decode cJ12_next 28 = .ok (.aload_n 0, 1) := dk_42 (dk_at dksJ12_next_1 4 rfl rfl)
theorem dJ12_next_29 : decode cJ12_next 29 = .ok (.getfield 1, 3) := dk_180 0 1 (dk_at dksJ12_next_1 5 rfl rfl)
theorem dJ12_next_32 : decode cJ12_next 32 = .ok (.getfield 37, 3) := dk_180 0 37 (dk_at dksJ12_next_1 8 rfl rfl)
theorem dJ12_next_35 : decode cJ12_next 35 = .ok (.astore_n 2, 1) := dk_77 (dk_at dksJ12_next_1 11 rfl rfl)
theorem dJ12_next_36 : decode cJ12_next 36 = .ok (.iload_n 1, 1) := dk_27 (dk_at dksJ12_next_1 12 rfl rfl)
theorem dJ12_next_37 : decode cJ12_next 37 = .ok (.aload_n 2, 1) := dk_44 (dk_at dksJ12_next_1 13 rfl rfl)
theorem dJ12_next_38 : decode cJ12_next 38 = .ok (.arraylength, 1) := dk_190 (dk_at dksJ12_next_1 14 rfl rfl)
theorem dJ12_next_39 : decode cJ12_next 39 = .ok (.if_icmp .lt 11, 3) := dk_161 0 11 (dk_at dksJ12_next_1 15 rfl rfl)
theorem dJ12_next_42 : decode cJ12_next 42 = .ok (.new 41, 3) := dk_187 0 41 (dk_at dksJ12_next_1 18 rfl rfl)
theorem dJ12_next_45 : decode cJ12_next 45 = .ok (.dup, 1) := dk_89 (dk_at dksJ12_next_1 21 rfl rfl)
theorem dJ12_next_46 : decode cJ12_next 46 = .ok (.invokespecial 43, 3) := dk_183 0 43 (dk_at dksJ12_next_2 0 rfl rfl)
theorem dJ12_next_49 : decode cJ12_next 49 = .ok (.athrow, 1) := dk_191 (dk_at dksJ12_next_2 3 rfl rfl)
theorem dJ12_next_50 : decode cJ12_next 50 = .ok (.aload_n 0, 1) := dk_42 (dk_at dksJ12_next_2 4 rfl rfl)
theorem dJ12_next_51 : decode cJ12_next 51 = .ok (.iload_n 1, 1) := dk_27 (dk_at dksJ12_next_2 5 rfl rfl)
theorem dJ12_next_52 : decode cJ12_next 52 = .ok (.iconst 1, 1) := dk_4 (dk_at dksJ12_next_2 6 rfl rfl)
theorem dJ12_next_53 : decode cJ12_next 53 = .ok (.iadd, 1) := dk_96 (dk_at dksJ12_next_2 7 rfl rfl)
theorem dJ12_next_54 : decode cJ12_next 54 = .ok (.putfield 25, 3) := dk_181 0 25 (dk_at dksJ12_next_2 8 rfl rfl)
theorem dJ12_next_57 : decode cJ12_next 57 = .ok (.aload_n 2, 1) := dk_44 (dk_at dksJ12_next_2 11 rfl rfl)
theorem dJ12_next_58 : decode cJ12_next 58 = .ok (.aload_n 0, 1) := dk_42 (dk_at dksJ12_next_2 12 rfl rfl)
theorem dJ12_next_59 : decode cJ12_next 59 = .ok (.iload_n 1, 1) := dk_27 (dk_at dksJ12_next_2 13 rfl rfl)
theorem dJ12_next_60 : decode cJ12_next 60 = .ok (.dup_x1, 1) := dk_90 (dk_at dksJ12_next_2 14 rfl rfl)
theorem dJ12_next_61 : decode cJ12_next 61 = .ok (.putfield 13, 3) := dk_181 0 13 (dk_at dksJ12_next_2 15 rfl rfl)
theorem dJ12_next_64 : decode cJ12_next 64 = .ok (.aaload, 1) := dk_50 (dk_at dksJ12_next_2 18 rfl rfl)
theorem dJ12_next_65 : decode cJ12_next 65 = .ok (.areturn, 1) := dk_176 (dk_at dksJ12_next_2 19 rfl rfl)
def dkwJ12_checkForComodification_0 : List UInt8 := [42, 180, 0, 1, 180, 0, 17, 42, 180, 0, 22, 159, 0, 11, 187, 0, 41, 89, 183, 0, 43, 191, 177]
abbrev dktJ12_checkForComodification_0 : List UInt8 := dkwJ12_checkForComodification_0 ++ []
theorem dksJ12_checkForComodification_0 : cJ12_checkForComodification.data.toList.drop 0 = dktJ12_checkForComodification_0 := by decide +kernel
theorem dJ12_checkForComodification_0 : decode cJ12_checkForComodification 0 = .ok (.aload_n 0, 1) := dk_42 (dk_at dksJ12_checkForComodification_0 0 rfl rfl)
theorem dJ12_checkForComodification_1 : decode cJ12_checkForComodification 1 = .ok (.getfield 1, 3) := dk_180 0 1 (dk_at dksJ12_checkForComodification_0 1 rfl rfl)
theorem dJ12_checkForComodification_4 : decode cJ12_checkForComodification 4 = .ok (.getfield 17, 3) := dk_180 0 17 (dk_at dksJ12_checkForComodification_0 4 rfl rfl)
theorem dJ12_checkForComodification_7 : decode cJ12_checkForComodification 7 = .ok (.aload_n 0, 1) := dk_42 (dk_at dksJ12_checkForComodification_0 7 rfl rfl)
theorem dJ12_checkForComodification_8 : decode cJ12_checkForComodification 8 = .ok (.getfield 22, 3) := dk_180 0 22 (dk_at dksJ12_checkForComodification_0 8 rfl rfl)
theorem dJ12_checkForComodification_11 : decode cJ12_checkForComodification 11 = .ok (.if_icmp .eq 11, 3) := dk_159 0 11 (dk_at dksJ12_checkForComodification_0 11 rfl rfl)
theorem dJ12_checkForComodification_14 : decode cJ12_checkForComodification 14 = .ok (.new 41, 3) := dk_187 0 41 (dk_at dksJ12_checkForComodification_0 14 rfl rfl)
theorem dJ12_checkForComodification_17 : decode cJ12_checkForComodification 17 = .ok (.dup, 1) := dk_89 (dk_at dksJ12_checkForComodification_0 17 rfl rfl)
theorem dJ12_checkForComodification_18 : decode cJ12_checkForComodification 18 = .ok (.invokespecial 43, 3) := dk_183 0 43 (dk_at dksJ12_checkForComodification_0 18 rfl rfl)
theorem dJ12_checkForComodification_21 : decode cJ12_checkForComodification 21 = .ok (.athrow, 1) := dk_191 (dk_at dksJ12_checkForComodification_0 21 rfl rfl)
theorem dJ12_checkForComodification_22 : decode cJ12_checkForComodification 22 = .ok (.return_, 1) := dk_177 (dk_at dksJ12_checkForComodification_0 22 rfl rfl)
def dkwJ14_checkIndex_0 : List UInt8 := [26, 27, 1, 184, 0, 105, 172]
abbrev dktJ14_checkIndex_0 : List UInt8 := dkwJ14_checkIndex_0 ++ []
theorem dksJ14_checkIndex_0 : cJ14_checkIndex.data.toList.drop 0 = dktJ14_checkIndex_0 := by decide +kernel
theorem dJ14_checkIndex_0 : decode cJ14_checkIndex 0 = .ok (.iload_n 0, 1) := dk_26 (dk_at dksJ14_checkIndex_0 0 rfl rfl)
theorem dJ14_checkIndex_1 : decode cJ14_checkIndex 1 = .ok (.iload_n 1, 1) := dk_27 (dk_at dksJ14_checkIndex_0 1 rfl rfl)
theorem dJ14_checkIndex_2 : decode cJ14_checkIndex 2 = .ok (.aconst_null, 1) := dk_1 (dk_at dksJ14_checkIndex_0 2 rfl rfl)
theorem dJ14_checkIndex_3 : decode cJ14_checkIndex 3 = .ok (.invokestatic 105, 3) := dk_184 0 105 (dk_at dksJ14_checkIndex_0 3 rfl rfl)
theorem dJ14_checkIndex_6 : decode cJ14_checkIndex 6 = .ok (.ireturn, 1) := dk_172 (dk_at dksJ14_checkIndex_0 6 rfl rfl)
def dkwJ15_checkIndex_0 : List UInt8 := [26, 155, 0, 8, 26, 27, 161, 0, 10, 44, 26, 27, 184, 0, 95, 191, 26, 172]
abbrev dktJ15_checkIndex_0 : List UInt8 := dkwJ15_checkIndex_0 ++ []
theorem dksJ15_checkIndex_0 : cJ15_checkIndex.data.toList.drop 0 = dktJ15_checkIndex_0 := by decide +kernel
theorem dJ15_checkIndex_0 : decode cJ15_checkIndex 0 = .ok (.iload_n 0, 1) := dk_26 (dk_at dksJ15_checkIndex_0 0 rfl rfl)
theorem dJ15_checkIndex_1 : decode cJ15_checkIndex 1 = .ok (.ifCond .lt 8, 3) := dk_155 0 8 (dk_at dksJ15_checkIndex_0 1 rfl rfl)
theorem dJ15_checkIndex_4 : decode cJ15_checkIndex 4 = .ok (.iload_n 0, 1) := dk_26 (dk_at dksJ15_checkIndex_0 4 rfl rfl)
theorem dJ15_checkIndex_5 : decode cJ15_checkIndex 5 = .ok (.iload_n 1, 1) := dk_27 (dk_at dksJ15_checkIndex_0 5 rfl rfl)
theorem dJ15_checkIndex_6 : decode cJ15_checkIndex 6 = .ok (.if_icmp .lt 10, 3) := dk_161 0 10 (dk_at dksJ15_checkIndex_0 6 rfl rfl)
theorem dJ15_checkIndex_9 : decode cJ15_checkIndex 9 = .ok (.aload_n 2, 1) := dk_44 (dk_at dksJ15_checkIndex_0 9 rfl rfl)
theorem dJ15_checkIndex_10 : decode cJ15_checkIndex 10 = .ok (.iload_n 0, 1) := dk_26 (dk_at dksJ15_checkIndex_0 10 rfl rfl)
theorem dJ15_checkIndex_11 : decode cJ15_checkIndex 11 = .ok (.iload_n 1, 1) := dk_27 (dk_at dksJ15_checkIndex_0 11 rfl rfl)
theorem dJ15_checkIndex_12 : decode cJ15_checkIndex 12 = .ok (.invokestatic 95, 3) := dk_184 0 95 (dk_at dksJ15_checkIndex_0 12 rfl rfl)
theorem dJ15_checkIndex_15 : decode cJ15_checkIndex 15 = .ok (.athrow, 1) := dk_191 (dk_at dksJ15_checkIndex_0 15 rfl rfl)
theorem dJ15_checkIndex_16 : decode cJ15_checkIndex 16 = .ok (.iload_n 0, 1) := dk_26 (dk_at dksJ15_checkIndex_0 16 rfl rfl)
theorem dJ15_checkIndex_17 : decode cJ15_checkIndex 17 = .ok (.ireturn, 1) := dk_172 (dk_at dksJ15_checkIndex_0 17 rfl rfl)
def dkwJ15_checkFromToIndex_0 : List UInt8 := [26, 155, 0, 13, 26, 27, 163, 0, 8, 27, 28, 164, 0, 11, 45, 26, 27, 28, 184, 0, 99, 191, 26, 172]
abbrev dktJ15_checkFromToIndex_0 : List UInt8 := dkwJ15_checkFromToIndex_0 ++ []
theorem dksJ15_checkFromToIndex_0 : cJ15_checkFromToIndex.data.toList.drop 0 = dktJ15_checkFromToIndex_0 := by decide +kernel
theorem dJ15_checkFromToIndex_0 : decode cJ15_checkFromToIndex 0 = .ok (.iload_n 0, 1) := dk_26 (dk_at dksJ15_checkFromToIndex_0 0 rfl rfl)
theorem dJ15_checkFromToIndex_1 : decode cJ15_checkFromToIndex 1 = .ok (.ifCond .lt 13, 3) := dk_155 0 13 (dk_at dksJ15_checkFromToIndex_0 1 rfl rfl)
theorem dJ15_checkFromToIndex_4 : decode cJ15_checkFromToIndex 4 = .ok (.iload_n 0, 1) := dk_26 (dk_at dksJ15_checkFromToIndex_0 4 rfl rfl)
theorem dJ15_checkFromToIndex_5 : decode cJ15_checkFromToIndex 5 = .ok (.iload_n 1, 1) := dk_27 (dk_at dksJ15_checkFromToIndex_0 5 rfl rfl)
theorem dJ15_checkFromToIndex_6 : decode cJ15_checkFromToIndex 6 = .ok (.if_icmp .gt 8, 3) := dk_163 0 8 (dk_at dksJ15_checkFromToIndex_0 6 rfl rfl)
theorem dJ15_checkFromToIndex_9 : decode cJ15_checkFromToIndex 9 = .ok (.iload_n 1, 1) := dk_27 (dk_at dksJ15_checkFromToIndex_0 9 rfl rfl)
theorem dJ15_checkFromToIndex_10 : decode cJ15_checkFromToIndex 10 = .ok (.iload_n 2, 1) := dk_28 (dk_at dksJ15_checkFromToIndex_0 10 rfl rfl)
theorem dJ15_checkFromToIndex_11 : decode cJ15_checkFromToIndex 11 = .ok (.if_icmp .le 11, 3) := dk_164 0 11 (dk_at dksJ15_checkFromToIndex_0 11 rfl rfl)
theorem dJ15_checkFromToIndex_14 : decode cJ15_checkFromToIndex 14 = .ok (.aload_n 3, 1) := dk_45 (dk_at dksJ15_checkFromToIndex_0 14 rfl rfl)
theorem dJ15_checkFromToIndex_15 : decode cJ15_checkFromToIndex 15 = .ok (.iload_n 0, 1) := dk_26 (dk_at dksJ15_checkFromToIndex_0 15 rfl rfl)
theorem dJ15_checkFromToIndex_16 : decode cJ15_checkFromToIndex 16 = .ok (.iload_n 1, 1) := dk_27 (dk_at dksJ15_checkFromToIndex_0 16 rfl rfl)
theorem dJ15_checkFromToIndex_17 : decode cJ15_checkFromToIndex 17 = .ok (.iload_n 2, 1) := dk_28 (dk_at dksJ15_checkFromToIndex_0 17 rfl rfl)
theorem dJ15_checkFromToIndex_18 : decode cJ15_checkFromToIndex 18 = .ok (.invokestatic 99, 3) := dk_184 0 99 (dk_at dksJ15_checkFromToIndex_0 18 rfl rfl)
theorem dJ15_checkFromToIndex_21 : decode cJ15_checkFromToIndex 21 = .ok (.athrow, 1) := dk_191 (dk_at dksJ15_checkFromToIndex_0 21 rfl rfl)
theorem dJ15_checkFromToIndex_22 : decode cJ15_checkFromToIndex 22 = .ok (.iload_n 0, 1) := dk_26 (dk_at dksJ15_checkFromToIndex_0 22 rfl rfl)
theorem dJ15_checkFromToIndex_23 : decode cJ15_checkFromToIndex 23 = .ok (.ireturn, 1) := dk_172 (dk_at dksJ15_checkFromToIndex_0 23 rfl rfl)
def dkwJ15_checkFromIndexSize_1 : List UInt8 := [172]
abbrev dktJ15_checkFromIndexSize_1 : List UInt8 := dkwJ15_checkFromIndexSize_1 ++ []
def dkwJ15_checkFromIndexSize_0 : List UInt8 := [28, 26, 128, 27, 128, 155, 0, 10, 27, 28, 26, 100, 164, 0, 11, 45, 26, 27, 28, 184, 0, 103, 191, 26]
abbrev dktJ15_checkFromIndexSize_0 : List UInt8 := dkwJ15_checkFromIndexSize_0 ++ dktJ15_checkFromIndexSize_1
theorem dksJ15_checkFromIndexSize_0 : cJ15_checkFromIndexSize.data.toList.drop 0 = dktJ15_checkFromIndexSize_0 := by decide +kernel
theorem dksJ15_checkFromIndexSize_1 : cJ15_checkFromIndexSize.data.toList.drop 24 = dktJ15_checkFromIndexSize_1 := dk_seg dksJ15_checkFromIndexSize_0 24 rfl rfl
theorem dJ15_checkFromIndexSize_0 : decode cJ15_checkFromIndexSize 0 = .ok (.iload_n 2, 1) := dk_28 (dk_at dksJ15_checkFromIndexSize_0 0 rfl rfl)
theorem dJ15_checkFromIndexSize_1 : decode cJ15_checkFromIndexSize 1 = .ok (.iload_n 0, 1) := dk_26 (dk_at dksJ15_checkFromIndexSize_0 1 rfl rfl)
theorem dJ15_checkFromIndexSize_2 : decode cJ15_checkFromIndexSize 2 = .ok (.ior, 1) := dk_128 (dk_at dksJ15_checkFromIndexSize_0 2 rfl rfl)
theorem dJ15_checkFromIndexSize_3 : decode cJ15_checkFromIndexSize 3 = .ok (.iload_n 1, 1) := dk_27 (dk_at dksJ15_checkFromIndexSize_0 3 rfl rfl)
theorem dJ15_checkFromIndexSize_4 : decode cJ15_checkFromIndexSize 4 = .ok (.ior, 1) := dk_128 (dk_at dksJ15_checkFromIndexSize_0 4 rfl rfl)
theorem dJ15_checkFromIndexSize_5 : decode cJ15_checkFromIndexSize 5 = .ok (.ifCond .lt 10, 3) := dk_155 0 10 (dk_at dksJ15_checkFromIndexSize_0 5 rfl rfl)
theorem dJ15_checkFromIndexSize_8 : decode cJ15_checkFromIndexSize 8 = .ok (.iload_n 1, 1) := dk_27 (dk_at dksJ15_checkFromIndexSize_0 8 rfl rfl)
theorem dJ15_checkFromIndexSize_9 : decode cJ15_checkFromIndexSize 9 = .ok (.iload_n 2, 1) := dk_28 (dk_at dksJ15_checkFromIndexSize_0 9 rfl rfl)
theorem dJ15_checkFromIndexSize_10 : decode cJ15_checkFromIndexSize 10 = .ok (.iload_n 0, 1) := dk_26 (dk_at dksJ15_checkFromIndexSize_0 10 rfl rfl)
theorem dJ15_checkFromIndexSize_11 : decode cJ15_checkFromIndexSize 11 = .ok (.isub, 1) := dk_100 (dk_at dksJ15_checkFromIndexSize_0 11 rfl rfl)
theorem dJ15_checkFromIndexSize_12 : decode cJ15_checkFromIndexSize 12 = .ok (.if_icmp .le 11, 3) := dk_164 0 11 (dk_at dksJ15_checkFromIndexSize_0 12 rfl rfl)
theorem dJ15_checkFromIndexSize_15 : decode cJ15_checkFromIndexSize 15 = .ok (.aload_n 3, 1) := dk_45 (dk_at dksJ15_checkFromIndexSize_0 15 rfl rfl)
theorem dJ15_checkFromIndexSize_16 : decode cJ15_checkFromIndexSize 16 = .ok (.iload_n 0, 1) := dk_26 (dk_at dksJ15_checkFromIndexSize_0 16 rfl rfl)
theorem dJ15_checkFromIndexSize_17 : decode cJ15_checkFromIndexSize 17 = .ok (.iload_n 1, 1) := dk_27 (dk_at dksJ15_checkFromIndexSize_0 17 rfl rfl)
theorem dJ15_checkFromIndexSize_18 : decode cJ15_checkFromIndexSize 18 = .ok (.iload_n 2, 1) := dk_28 (dk_at dksJ15_checkFromIndexSize_0 18 rfl rfl)
theorem dJ15_checkFromIndexSize_19 : decode cJ15_checkFromIndexSize 19 = .ok (.invokestatic 103, 3) := dk_184 0 103 (dk_at dksJ15_checkFromIndexSize_0 19 rfl rfl)
theorem dJ15_checkFromIndexSize_22 : decode cJ15_checkFromIndexSize 22 = .ok (.athrow, 1) := dk_191 (dk_at dksJ15_checkFromIndexSize_0 22 rfl rfl)
theorem dJ15_checkFromIndexSize_23 : decode cJ15_checkFromIndexSize 23 = .ok (.iload_n 0, 1) := dk_26 (dk_at dksJ15_checkFromIndexSize_0 23 rfl rfl)
theorem dJ15_checkFromIndexSize_24 : decode cJ15_checkFromIndexSize 24 = .ok (.ireturn, 1) := dk_172 (dk_at dksJ15_checkFromIndexSize_1 0 rfl rfl)
def dkwJ17_min_0 : List UInt8 := [26, 27, 163, 0, 7, 26, 167, 0, 4, 27, 172]
abbrev dktJ17_min_0 : List UInt8 := dkwJ17_min_0 ++ []
theorem dksJ17_min_0 : cJ17_min.data.toList.drop 0 = dktJ17_min_0 := by decide +kernel
theorem dJ17_min_0 : decode cJ17_min 0 = .ok (.iload_n 0, 1) := dk_26 (dk_at dksJ17_min_0 0 rfl rfl)
theorem dJ17_min_1 : decode cJ17_min 1 = .ok (.iload_n 1, 1) := dk_27 (dk_at dksJ17_min_0 1 rfl rfl)
theorem dJ17_min_2 : decode cJ17_min 2 = .ok (.if_icmp .gt 7, 3) := dk_163 0 7 (dk_at dksJ17_min_0 2 rfl rfl)
theorem dJ17_min_5 : decode cJ17_min 5 = .ok (.iload_n 0, 1) := dk_26 (dk_at dksJ17_min_0 5 rfl rfl)
theorem dJ17_min_6 : decode cJ17_min 6 = .ok (.goto 4, 3) := dk_167 0 4 (dk_at dksJ17_min_0 6 rfl rfl)
theorem dJ17_min_9 : decode cJ17_min 9 = .ok (.iload_n 1, 1) := dk_27 (dk_at dksJ17_min_0 9 rfl rfl)
theorem dJ17_min_10 : decode cJ17_min 10 = .ok (.ireturn, 1) := dk_172 (dk_at dksJ17_min_0 10 rfl rfl)
def dkwJ17_max_0 : List UInt8 := [26, 27, 161, 0, 7, 26, 167, 0, 4, 27, 172]
abbrev dktJ17_max_0 : List UInt8 := dkwJ17_max_0 ++ []
theorem dksJ17_max_0 : cJ17_max.data.toList.drop 0 = dktJ17_max_0 := by decide +kernel
theorem dJ17_max_0 : decode cJ17_max 0 = .ok (.iload_n 0, 1) := dk_26 (dk_at dksJ17_max_0 0 rfl rfl)
theorem dJ17_max_1 : decode cJ17_max 1 = .ok (.iload_n 1, 1) := dk_27 (dk_at dksJ17_max_0 1 rfl rfl)
theorem dJ17_max_2 : decode cJ17_max 2 = .ok (.if_icmp .lt 7, 3) := dk_161 0 7 (dk_at dksJ17_max_0 2 rfl rfl)
theorem dJ17_max_5 : decode cJ17_max 5 = .ok (.iload_n 0, 1) := dk_26 (dk_at dksJ17_max_0 5 rfl rfl)
theorem dJ17_max_6 : decode cJ17_max 6 = .ok (.goto 4, 3) := dk_167 0 4 (dk_at dksJ17_max_0 6 rfl rfl)
theorem dJ17_max_9 : decode cJ17_max 9 = .ok (.iload_n 1, 1) := dk_27 (dk_at dksJ17_max_0 9 rfl rfl)
theorem dJ17_max_10 : decode cJ17_max 10 = .ok (.ireturn, 1) := dk_172 (dk_at dksJ17_max_0 10 rfl rfl)
def dkwJ17_abs_0 : List UInt8 := [26, 156, 0, 8, 26, 116, 167, 0, 4, 26, 172]
abbrev dktJ17_abs_0 : List UInt8 := dkwJ17_abs_0 ++ []
theorem dksJ17_abs_0 : cJ17_abs.data.toList.drop 0 = dktJ17_abs_0 := by decide +kernel
theorem dJ17_abs_0 : decode cJ17_abs 0 = .ok (.iload_n 0, 1) := dk_26 (dk_at dksJ17_abs_0 0 rfl rfl)
theorem dJ17_abs_1 : decode cJ17_abs 1 = .ok (.ifCond .ge 8, 3) := dk_156 0 8 (dk_at dksJ17_abs_0 1 rfl rfl)
theorem dJ17_abs_4 : decode cJ17_abs 4 = .ok (.iload_n 0, 1) := dk_26 (dk_at dksJ17_abs_0 4 rfl rfl)
theorem dJ17_abs_5 : decode cJ17_abs 5 = .ok (.ineg, 1) := dk_116 (dk_at dksJ17_abs_0 5 rfl rfl)
theorem dJ17_abs_6 : decode cJ17_abs 6 = .ok (.goto 4, 3) := dk_167 0 4 (dk_at dksJ17_abs_0 6 rfl rfl)
theorem dJ17_abs_9 : decode cJ17_abs 9 = .ok (.iload_n 0, 1) := dk_26 (dk_at dksJ17_abs_0 9 rfl rfl)
theorem dJ17_abs_10 : decode cJ17_abs 10 = .ok (.ireturn, 1) := dk_172 (dk_at dksJ17_abs_0 10 rfl rfl)
