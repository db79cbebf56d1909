-- ===== PART A: goes FIRST, ahead of the names: the tables' words, and 'selects' of the private methods out of them =====
/-- a private method of a class that the tables say can be made, by its rows of tables_1 -/
def lw_okq (q : MethodName × Nat) : Prop := (q.1.cls ≠ "java/lang/invoke/MethodHandle" ∧ q.1.cls ≠ "java/lang/invoke/VarHandle") ∧ Cond.instantiable q.1.cls q.2 ∈ tables_1 ∧ Cond.privateMethod q.1 ∈ tables_1 ∧ Cond.instanceMethod q.1 ∈ tables_1
set_option maxRecDepth 100000
theorem lw_t1 {w : Cond} (h : w ∈ tables_1_1) : w ∈ tables_1 := List.mem_append_left _ h
theorem lw_t2 {w : Cond} (h : w ∈ tables_1_2) : w ∈ tables_1 := List.mem_append_right _ (List.mem_append_left _ h)
theorem lw_t3 {w : Cond} (h : w ∈ tables_1_3) : w ∈ tables_1 := List.mem_append_right _ (List.mem_append_right _ (List.mem_append_left _ h))
theorem lw_t4 {w : Cond} (h : w ∈ tables_1_4) : w ∈ tables_1 := List.mem_append_right _ (List.mem_append_right _ (List.mem_append_right _ (List.mem_append_left _ h)))
theorem lw_t5 {w : Cond} (h : w ∈ tables_1_5) : w ∈ tables_1 := List.mem_append_right _ (List.mem_append_right _ (List.mem_append_right _ (List.mem_append_right _ (List.mem_append_left _ h))))
theorem lw_t6 {w : Cond} (h : w ∈ tables_1_6) : w ∈ tables_1 := List.mem_append_right _ (List.mem_append_right _ (List.mem_append_right _ (List.mem_append_right _ (List.mem_append_right _ (List.mem_append_left _ h)))))
theorem lw_t7 {w : Cond} (h : w ∈ tables_1_7) : w ∈ tables_1 := List.mem_append_right _ (List.mem_append_right _ (List.mem_append_right _ (List.mem_append_right _ (List.mem_append_right _ (List.mem_append_right _ (List.mem_append_left _ h))))))
theorem lw_t8 {w : Cond} (h : w ∈ tables_1_8) : w ∈ tables_1 := List.mem_append_right _ (List.mem_append_right _ (List.mem_append_right _ (List.mem_append_right _ (List.mem_append_right _ (List.mem_append_right _ (List.mem_append_right _ (List.mem_append_left _ h)))))))
theorem lw_t9 {w : Cond} (h : w ∈ tables_1_9) : w ∈ tables_1 := List.mem_append_right _ (List.mem_append_right _ (List.mem_append_right _ (List.mem_append_right _ (List.mem_append_right _ (List.mem_append_right _ (List.mem_append_right _ (List.mem_append_right _ (List.mem_append_left _ h))))))))
theorem lw_t10 {w : Cond} (h : w ∈ tables_1_10) : w ∈ tables_1 := List.mem_append_right _ (List.mem_append_right _ (List.mem_append_right _ (List.mem_append_right _ (List.mem_append_right _ (List.mem_append_right _ (List.mem_append_right _ (List.mem_append_right _ (List.mem_append_right _ (List.mem_append_left _ h)))))))))
theorem lw_t11 {w : Cond} (h : w ∈ tables_1_11) : w ∈ tables_1 := List.mem_append_right _ (List.mem_append_right _ (List.mem_append_right _ (List.mem_append_right _ (List.mem_append_right _ (List.mem_append_right _ (List.mem_append_right _ (List.mem_append_right _ (List.mem_append_right _ (List.mem_append_right _ (List.mem_append_left _ h))))))))))
theorem lw_t12 {w : Cond} (h : w ∈ tables_1_12) : w ∈ tables_1 := List.mem_append_right _ (List.mem_append_right _ (List.mem_append_right _ (List.mem_append_right _ (List.mem_append_right _ (List.mem_append_right _ (List.mem_append_right _ (List.mem_append_right _ (List.mem_append_right _ (List.mem_append_right _ (List.mem_append_right _ h))))))))))
theorem lw_p0 : lw_okq (⟨"java/lang/Throwable", "fillInStackTrace", "(I)Ljava/lang/Throwable;"⟩, 6) := ⟨⟨by decide +kernel, by decide +kernel⟩, lw_t2 (List.mem_of_getElem? (i := 95) rfl), lw_t2 (List.mem_of_getElem? (i := 93) rfl), lw_t2 (List.mem_of_getElem? (i := 94) rfl)⟩
theorem lw_p1 : lw_okq (⟨"BalloonSpires$State$Flying$1", "from", "(I)I"⟩, 2) := ⟨⟨by decide +kernel, by decide +kernel⟩, lw_t2 (List.mem_of_getElem? (i := 138) rfl), lw_t2 (List.mem_of_getElem? (i := 136) rfl), lw_t2 (List.mem_of_getElem? (i := 137) rfl)⟩
theorem lw_p2 : lw_okq (⟨"BalloonSpires", "areAlike", "(LBalloonSpires$Balloon;)Z"⟩, 8) := ⟨⟨by decide +kernel, by decide +kernel⟩, lw_t1 (List.mem_of_getElem? (i := 53) rfl), lw_t2 (List.mem_of_getElem? (i := 170) rfl), lw_t2 (List.mem_of_getElem? (i := 171) rfl)⟩
theorem lw_p3 : lw_okq (⟨"BalloonSpires", "hoursOnward", "(II)I"⟩, 8) := ⟨⟨by decide +kernel, by decide +kernel⟩, lw_t1 (List.mem_of_getElem? (i := 53) rfl), lw_t2 (List.mem_of_getElem? (i := 194) rfl), lw_t2 (List.mem_of_getElem? (i := 195) rfl)⟩
theorem lw_p4 : lw_okq (⟨"BalloonSpires", "spreads", "(II[ILjava/util/ArrayDeque;)V"⟩, 8) := ⟨⟨by decide +kernel, by decide +kernel⟩, lw_t1 (List.mem_of_getElem? (i := 53) rfl), lw_t2 (List.mem_of_getElem? (i := 198) rfl), lw_t2 (List.mem_of_getElem? (i := 199) rfl)⟩
theorem lw_p5 : lw_okq (⟨"java/util/ArrayDeque", "grow", "(I)V"⟩, 3) := ⟨⟨by decide +kernel, by decide +kernel⟩, lw_t1 (List.mem_of_getElem? (i := 145) rfl), lw_t2 (List.mem_of_getElem? (i := 228) rfl), lw_t2 (List.mem_of_getElem? (i := 229) rfl)⟩
theorem lw_p6 : lw_okq (⟨"java/util/ArrayDeque", "newCapacity", "(II)I"⟩, 3) := ⟨⟨by decide +kernel, by decide +kernel⟩, lw_t1 (List.mem_of_getElem? (i := 145) rfl), lw_t2 (List.mem_of_getElem? (i := 233) rfl), lw_t2 (List.mem_of_getElem? (i := 234) rfl)⟩
theorem lw_p7 : lw_okq (⟨"BalloonSpires", "hoursByBack", "(II)I"⟩, 8) := ⟨⟨by decide +kernel, by decide +kernel⟩, lw_t1 (List.mem_of_getElem? (i := 53) rfl), lw_t3 (List.mem_of_getElem? (i := 95) rfl), lw_t3 (List.mem_of_getElem? (i := 96) rfl)⟩
theorem lw_p8 : lw_okq (⟨"BalloonSpires", "hoursBack", "(I)[I"⟩, 8) := ⟨⟨by decide +kernel, by decide +kernel⟩, lw_t1 (List.mem_of_getElem? (i := 53) rfl), lw_t3 (List.mem_of_getElem? (i := 99) rfl), lw_t3 (List.mem_of_getElem? (i := 100) rfl)⟩
theorem lw_p9 : lw_okq (⟨"BalloonSpires", "leastBehind", "(I[I)I"⟩, 8) := ⟨⟨by decide +kernel, by decide +kernel⟩, lw_t1 (List.mem_of_getElem? (i := 53) rfl), lw_t3 (List.mem_of_getElem? (i := 103) rfl), lw_t3 (List.mem_of_getElem? (i := 104) rfl)⟩
theorem lw_p10 : lw_okq (⟨"java/util/ArrayList", "add", "(Ljava/lang/Object;[Ljava/lang/Object;I)V"⟩, 3) := ⟨⟨by decide +kernel, by decide +kernel⟩, lw_t1 (List.mem_of_getElem? (i := 67) rfl), lw_t5 (List.mem_of_getElem? (i := 18) rfl), lw_t5 (List.mem_of_getElem? (i := 19) rfl)⟩
theorem lw_p11 : lw_okq (⟨"java/util/ArrayList", "grow", "()[Ljava/lang/Object;"⟩, 3) := ⟨⟨by decide +kernel, by decide +kernel⟩, lw_t1 (List.mem_of_getElem? (i := 67) rfl), lw_t5 (List.mem_of_getElem? (i := 22) rfl), lw_t5 (List.mem_of_getElem? (i := 23) rfl)⟩
theorem lw_p12 : lw_okq (⟨"java/util/ArrayList", "grow", "(I)[Ljava/lang/Object;"⟩, 3) := ⟨⟨by decide +kernel, by decide +kernel⟩, lw_t1 (List.mem_of_getElem? (i := 67) rfl), lw_t5 (List.mem_of_getElem? (i := 26) rfl), lw_t5 (List.mem_of_getElem? (i := 27) rfl)⟩
theorem lw_p13 : lw_okq (⟨"BalloonSpires", "mustBeOn", "(II)V"⟩, 8) := ⟨⟨by decide +kernel, by decide +kernel⟩, lw_t1 (List.mem_of_getElem? (i := 53) rfl), lw_t5 (List.mem_of_getElem? (i := 67) rfl), lw_t5 (List.mem_of_getElem? (i := 68) rfl)⟩
theorem lw_p14 : lw_okq (⟨"BalloonSpires", "inRange", "(III)V"⟩, 8) := ⟨⟨by decide +kernel, by decide +kernel⟩, lw_t1 (List.mem_of_getElem? (i := 53) rfl), lw_t5 (List.mem_of_getElem? (i := 71) rfl), lw_t5 (List.mem_of_getElem? (i := 72) rfl)⟩
theorem lw_p15 : lw_okq (⟨"BalloonSpires", "refuse", "(ZII)V"⟩, 8) := ⟨⟨by decide +kernel, by decide +kernel⟩, lw_t1 (List.mem_of_getElem? (i := 53) rfl), lw_t5 (List.mem_of_getElem? (i := 75) rfl), lw_t5 (List.mem_of_getElem? (i := 76) rfl)⟩
def lw_privs_1 : List (MethodName × Nat) := [(⟨"java/lang/Throwable", "fillInStackTrace", "(I)Ljava/lang/Throwable;"⟩, 6), (⟨"BalloonSpires$State$Flying$1", "from", "(I)I"⟩, 2), (⟨"BalloonSpires", "areAlike", "(LBalloonSpires$Balloon;)Z"⟩, 8), (⟨"BalloonSpires", "hoursOnward", "(II)I"⟩, 8), (⟨"BalloonSpires", "spreads", "(II[ILjava/util/ArrayDeque;)V"⟩, 8), (⟨"java/util/ArrayDeque", "grow", "(I)V"⟩, 3), (⟨"java/util/ArrayDeque", "newCapacity", "(II)I"⟩, 3), (⟨"BalloonSpires", "hoursByBack", "(II)I"⟩, 8), (⟨"BalloonSpires", "hoursBack", "(I)[I"⟩, 8), (⟨"BalloonSpires", "leastBehind", "(I[I)I"⟩, 8), (⟨"java/util/ArrayList", "add", "(Ljava/lang/Object;[Ljava/lang/Object;I)V"⟩, 3), (⟨"java/util/ArrayList", "grow", "()[Ljava/lang/Object;"⟩, 3), (⟨"java/util/ArrayList", "grow", "(I)[Ljava/lang/Object;"⟩, 3), (⟨"BalloonSpires", "mustBeOn", "(II)V"⟩, 8), (⟨"BalloonSpires", "inRange", "(III)V"⟩, 8), (⟨"BalloonSpires", "refuse", "(ZII)V"⟩, 8)]
theorem lw_r1 : ∀ q ∈ lw_privs_1, lw_okq q := List.forall_mem_cons.mpr ⟨lw_p0, List.forall_mem_cons.mpr ⟨lw_p1, List.forall_mem_cons.mpr ⟨lw_p2, List.forall_mem_cons.mpr ⟨lw_p3, List.forall_mem_cons.mpr ⟨lw_p4, List.forall_mem_cons.mpr ⟨lw_p5, List.forall_mem_cons.mpr ⟨lw_p6, List.forall_mem_cons.mpr ⟨lw_p7, List.forall_mem_cons.mpr ⟨lw_p8, List.forall_mem_cons.mpr ⟨lw_p9, List.forall_mem_cons.mpr ⟨lw_p10, List.forall_mem_cons.mpr ⟨lw_p11, List.forall_mem_cons.mpr ⟨lw_p12, List.forall_mem_cons.mpr ⟨lw_p13, List.forall_mem_cons.mpr ⟨lw_p14, List.forall_mem_cons.mpr ⟨lw_p15, fun _ h => absurd h List.not_mem_nil⟩⟩⟩⟩⟩⟩⟩⟩⟩⟩⟩⟩⟩⟩⟩⟩
theorem lw_p16 : lw_okq (⟨"BalloonSpires", "change", "()V"⟩, 8) := ⟨⟨by decide +kernel, by decide +kernel⟩, lw_t1 (List.mem_of_getElem? (i := 53) rfl), lw_t5 (List.mem_of_getElem? (i := 113) rfl), lw_t5 (List.mem_of_getElem? (i := 114) rfl)⟩
theorem lw_p17 : lw_okq (⟨"BalloonSpires", "spireAt", "(I)I"⟩, 8) := ⟨⟨by decide +kernel, by decide +kernel⟩, lw_t1 (List.mem_of_getElem? (i := 53) rfl), lw_t5 (List.mem_of_getElem? (i := 133) rfl), lw_t5 (List.mem_of_getElem? (i := 134) rfl)⟩
theorem lw_p18 : lw_okq (⟨"BalloonSpires", "mustBeBalloon", "(I)V"⟩, 8) := ⟨⟨by decide +kernel, by decide +kernel⟩, lw_t1 (List.mem_of_getElem? (i := 53) rfl), lw_t5 (List.mem_of_getElem? (i := 161) rfl), lw_t5 (List.mem_of_getElem? (i := 162) rfl)⟩
theorem lw_p19 : lw_okq (⟨"BalloonSpires$State", "hourOf", "(LBalloonSpires$Balloon;)I"⟩, 11) := ⟨⟨by decide +kernel, by decide +kernel⟩, lw_t1 (List.mem_of_getElem? (i := 61) rfl), lw_t6 (List.mem_of_getElem? (i := 6) rfl), lw_t6 (List.mem_of_getElem? (i := 7) rfl)⟩
theorem lw_p20 : lw_okq (⟨"java/util/ArrayList", "fastRemove", "([Ljava/lang/Object;I)V"⟩, 3) := ⟨⟨by decide +kernel, by decide +kernel⟩, lw_t1 (List.mem_of_getElem? (i := 67) rfl), lw_t6 (List.mem_of_getElem? (i := 39) rfl), lw_t6 (List.mem_of_getElem? (i := 40) rfl)⟩
theorem lw_p21 : lw_okq (⟨"BalloonSpires", "checkBalloon", "(I)V"⟩, 8) := ⟨⟨by decide +kernel, by decide +kernel⟩, lw_t1 (List.mem_of_getElem? (i := 53) rfl), lw_t6 (List.mem_of_getElem? (i := 55) rfl), lw_t6 (List.mem_of_getElem? (i := 56) rfl)⟩
theorem lw_p22 : lw_okq (⟨"BalloonSpires", "checkSpire", "(I)V"⟩, 8) := ⟨⟨by decide +kernel, by decide +kernel⟩, lw_t1 (List.mem_of_getElem? (i := 53) rfl), lw_t6 (List.mem_of_getElem? (i := 92) rfl), lw_t6 (List.mem_of_getElem? (i := 93) rfl)⟩
theorem lw_p23 : lw_okq (⟨"BalloonSpires", "checkHours", "(II)V"⟩, 8) := ⟨⟨by decide +kernel, by decide +kernel⟩, lw_t1 (List.mem_of_getElem? (i := 53) rfl), lw_t6 (List.mem_of_getElem? (i := 149) rfl), lw_t6 (List.mem_of_getElem? (i := 150) rfl)⟩
theorem lw_p24 : lw_okq (⟨"BalloonSpires", "landing", "(I)LBalloonSpires$Trial;"⟩, 8) := ⟨⟨by decide +kernel, by decide +kernel⟩, lw_t1 (List.mem_of_getElem? (i := 53) rfl), lw_t6 (List.mem_of_getElem? (i := 209) rfl), lw_t6 (List.mem_of_getElem? (i := 210) rfl)⟩
theorem lw_p25 : lw_okq (⟨"BalloonSpires", "gateOf", "(I)I"⟩, 8) := ⟨⟨by decide +kernel, by decide +kernel⟩, lw_t1 (List.mem_of_getElem? (i := 53) rfl), lw_t7 (List.mem_of_getElem? (i := 1) rfl), lw_t7 (List.mem_of_getElem? (i := 2) rfl)⟩
theorem lw_p26 : lw_okq (⟨"BalloonSpires", "pointOf", "(I)I"⟩, 8) := ⟨⟨by decide +kernel, by decide +kernel⟩, lw_t1 (List.mem_of_getElem? (i := 53) rfl), lw_t7 (List.mem_of_getElem? (i := 5) rfl), lw_t7 (List.mem_of_getElem? (i := 6) rfl)⟩
theorem lw_p27 : lw_okq (⟨"BalloonSpires$Reader", "command", "()V"⟩, 5) := ⟨⟨by decide +kernel, by decide +kernel⟩, lw_t7 (List.mem_of_getElem? (i := 95) rfl), lw_t7 (List.mem_of_getElem? (i := 137) rfl), lw_t7 (List.mem_of_getElem? (i := 138) rfl)⟩
theorem lw_p28 : lw_okq (⟨"BalloonSpires$Reader", "word", "()Ljava/lang/String;"⟩, 5) := ⟨⟨by decide +kernel, by decide +kernel⟩, lw_t7 (List.mem_of_getElem? (i := 95) rfl), lw_t7 (List.mem_of_getElem? (i := 143) rfl), lw_t7 (List.mem_of_getElem? (i := 144) rfl)⟩
theorem lw_p29 : lw_okq (⟨"BalloonSpires$Reader", "isSome", "(Ljava/lang/String;Z)Z"⟩, 5) := ⟨⟨by decide +kernel, by decide +kernel⟩, lw_t7 (List.mem_of_getElem? (i := 95) rfl), lw_t7 (List.mem_of_getElem? (i := 175) rfl), lw_t7 (List.mem_of_getElem? (i := 176) rfl)⟩
theorem lw_p30 : lw_okq (⟨"BalloonSpires$Reader", "here", "()C"⟩, 5) := ⟨⟨by decide +kernel, by decide +kernel⟩, lw_t7 (List.mem_of_getElem? (i := 95) rfl), lw_t8 (List.mem_of_getElem? (i := 60) rfl), lw_t8 (List.mem_of_getElem? (i := 61) rfl)⟩
theorem lw_p31 : lw_okq (⟨"BalloonSpires$Reader", "blank", "()V"⟩, 5) := ⟨⟨by decide +kernel, by decide +kernel⟩, lw_t7 (List.mem_of_getElem? (i := 95) rfl), lw_t8 (List.mem_of_getElem? (i := 97) rfl), lw_t8 (List.mem_of_getElem? (i := 98) rfl)⟩
def lw_privs_2 : List (MethodName × Nat) := [(⟨"BalloonSpires", "change", "()V"⟩, 8), (⟨"BalloonSpires", "spireAt", "(I)I"⟩, 8), (⟨"BalloonSpires", "mustBeBalloon", "(I)V"⟩, 8), (⟨"BalloonSpires$State", "hourOf", "(LBalloonSpires$Balloon;)I"⟩, 11), (⟨"java/util/ArrayList", "fastRemove", "([Ljava/lang/Object;I)V"⟩, 3), (⟨"BalloonSpires", "checkBalloon", "(I)V"⟩, 8), (⟨"BalloonSpires", "checkSpire", "(I)V"⟩, 8), (⟨"BalloonSpires", "checkHours", "(II)V"⟩, 8), (⟨"BalloonSpires", "landing", "(I)LBalloonSpires$Trial;"⟩, 8), (⟨"BalloonSpires", "gateOf", "(I)I"⟩, 8), (⟨"BalloonSpires", "pointOf", "(I)I"⟩, 8), (⟨"BalloonSpires$Reader", "command", "()V"⟩, 5), (⟨"BalloonSpires$Reader", "word", "()Ljava/lang/String;"⟩, 5), (⟨"BalloonSpires$Reader", "isSome", "(Ljava/lang/String;Z)Z"⟩, 5), (⟨"BalloonSpires$Reader", "here", "()C"⟩, 5), (⟨"BalloonSpires$Reader", "blank", "()V"⟩, 5)]
theorem lw_r2 : ∀ q ∈ lw_privs_2, lw_okq q := List.forall_mem_cons.mpr ⟨lw_p16, List.forall_mem_cons.mpr ⟨lw_p17, List.forall_mem_cons.mpr ⟨lw_p18, List.forall_mem_cons.mpr ⟨lw_p19, List.forall_mem_cons.mpr ⟨lw_p20, List.forall_mem_cons.mpr ⟨lw_p21, List.forall_mem_cons.mpr ⟨lw_p22, List.forall_mem_cons.mpr ⟨lw_p23, List.forall_mem_cons.mpr ⟨lw_p24, List.forall_mem_cons.mpr ⟨lw_p25, List.forall_mem_cons.mpr ⟨lw_p26, List.forall_mem_cons.mpr ⟨lw_p27, List.forall_mem_cons.mpr ⟨lw_p28, List.forall_mem_cons.mpr ⟨lw_p29, List.forall_mem_cons.mpr ⟨lw_p30, List.forall_mem_cons.mpr ⟨lw_p31, fun _ h => absurd h List.not_mem_nil⟩⟩⟩⟩⟩⟩⟩⟩⟩⟩⟩⟩⟩⟩⟩⟩
theorem lw_p32 : lw_okq (⟨"BalloonSpires$Reader", "takes", "(C)Z"⟩, 5) := ⟨⟨by decide +kernel, by decide +kernel⟩, lw_t7 (List.mem_of_getElem? (i := 95) rfl), lw_t8 (List.mem_of_getElem? (i := 101) rfl), lw_t8 (List.mem_of_getElem? (i := 102) rfl)⟩
theorem lw_p33 : lw_okq (⟨"BalloonSpires$Reader", "rest", "(LBalloonSpires$Command;)V"⟩, 5) := ⟨⟨by decide +kernel, by decide +kernel⟩, lw_t7 (List.mem_of_getElem? (i := 95) rfl), lw_t8 (List.mem_of_getElem? (i := 105) rfl), lw_t8 (List.mem_of_getElem? (i := 106) rfl)⟩
theorem lw_p34 : lw_okq (⟨"BalloonSpires$Reader", "point", "(LBalloonSpires$Command;)V"⟩, 5) := ⟨⟨by decide +kernel, by decide +kernel⟩, lw_t7 (List.mem_of_getElem? (i := 95) rfl), lw_t8 (List.mem_of_getElem? (i := 166) rfl), lw_t8 (List.mem_of_getElem? (i := 167) rfl)⟩
theorem lw_p35 : lw_okq (⟨"BalloonSpires$Reader", "number", "(I)I"⟩, 5) := ⟨⟨by decide +kernel, by decide +kernel⟩, lw_t7 (List.mem_of_getElem? (i := 95) rfl), lw_t8 (List.mem_of_getElem? (i := 170) rfl), lw_t8 (List.mem_of_getElem? (i := 171) rfl)⟩
theorem lw_p36 : lw_okq (⟨"BalloonSpires$Reader", "side", "(Z)I"⟩, 5) := ⟨⟨by decide +kernel, by decide +kernel⟩, lw_t7 (List.mem_of_getElem? (i := 95) rfl), lw_t8 (List.mem_of_getElem? (i := 174) rfl), lw_t8 (List.mem_of_getElem? (i := 175) rfl)⟩
theorem lw_p37 : lw_okq (⟨"BalloonSpires$Reader", "digits", "(LBalloonSpires$Command;I)V"⟩, 5) := ⟨⟨by decide +kernel, by decide +kernel⟩, lw_t7 (List.mem_of_getElem? (i := 95) rfl), lw_t8 (List.mem_of_getElem? (i := 178) rfl), lw_t8 (List.mem_of_getElem? (i := 179) rfl)⟩
theorem lw_p38 : lw_okq (⟨"BalloonSpires", "doAll", "(Ljava/util/ArrayList;)I"⟩, 8) := ⟨⟨by decide +kernel, by decide +kernel⟩, lw_t1 (List.mem_of_getElem? (i := 53) rfl), lw_t8 (List.mem_of_getElem? (i := 182) rfl), lw_t8 (List.mem_of_getElem? (i := 183) rfl)⟩
theorem lw_p39 : lw_okq (⟨"BalloonSpires", "does", "(LBalloonSpires$Command;)I"⟩, 8) := ⟨⟨by decide +kernel, by decide +kernel⟩, lw_t1 (List.mem_of_getElem? (i := 53) rfl), lw_t8 (List.mem_of_getElem? (i := 187) rfl), lw_t8 (List.mem_of_getElem? (i := 188) rfl)⟩
theorem lw_p40 : lw_okq (⟨"BalloonSpires", "writePoint", "(I)V"⟩, 8) := ⟨⟨by decide +kernel, by decide +kernel⟩, lw_t1 (List.mem_of_getElem? (i := 53) rfl), lw_t8 (List.mem_of_getElem? (i := 227) rfl), lw_t8 (List.mem_of_getElem? (i := 228) rfl)⟩
theorem lw_p41 : lw_okq (⟨"BalloonSpires", "sacks", "()I"⟩, 8) := ⟨⟨by decide +kernel, by decide +kernel⟩, lw_t1 (List.mem_of_getElem? (i := 53) rfl), lw_t9 (List.mem_of_getElem? (i := 35) rfl), lw_t9 (List.mem_of_getElem? (i := 36) rfl)⟩
theorem lw_p42 : lw_okq (⟨"BalloonSpires", "seals", "()I"⟩, 8) := ⟨⟨by decide +kernel, by decide +kernel⟩, lw_t1 (List.mem_of_getElem? (i := 53) rfl), lw_t9 (List.mem_of_getElem? (i := 113) rfl), lw_t9 (List.mem_of_getElem? (i := 114) rfl)⟩
theorem lw_p43 : lw_okq (⟨"BalloonSpires", "farms", "()I"⟩, 8) := ⟨⟨by decide +kernel, by decide +kernel⟩, lw_t1 (List.mem_of_getElem? (i := 53) rfl), lw_t9 (List.mem_of_getElem? (i := 130) rfl), lw_t9 (List.mem_of_getElem? (i := 131) rfl)⟩
theorem lw_p44 : lw_okq (⟨"BalloonSpires", "mustBeSome", "()V"⟩, 8) := ⟨⟨by decide +kernel, by decide +kernel⟩, lw_t1 (List.mem_of_getElem? (i := 53) rfl), lw_t9 (List.mem_of_getElem? (i := 155) rfl), lw_t9 (List.mem_of_getElem? (i := 156) rfl)⟩
theorem lw_p45 : lw_okq (⟨"BalloonSpires", "gas", "()I"⟩, 8) := ⟨⟨by decide +kernel, by decide +kernel⟩, lw_t1 (List.mem_of_getElem? (i := 53) rfl), lw_t9 (List.mem_of_getElem? (i := 168) rfl), lw_t9 (List.mem_of_getElem? (i := 169) rfl)⟩
theorem lw_p46 : lw_okq (⟨"BalloonSpiresModel", "keep", "()V"⟩, 20) := ⟨⟨by decide +kernel, by decide +kernel⟩, lw_t9 (List.mem_of_getElem? (i := 224) rfl), lw_t10 (List.mem_of_getElem? (i := 67) rfl), lw_t10 (List.mem_of_getElem? (i := 68) rfl)⟩
theorem lw_p47 : lw_okq (⟨"BalloonSpiresModel", "doEnter", "(IIII)I"⟩, 20) := ⟨⟨by decide +kernel, by decide +kernel⟩, lw_t9 (List.mem_of_getElem? (i := 224) rfl), lw_t10 (List.mem_of_getElem? (i := 72) rfl), lw_t10 (List.mem_of_getElem? (i := 73) rfl)⟩
def lw_privs_3 : List (MethodName × Nat) := [(⟨"BalloonSpires$Reader", "takes", "(C)Z"⟩, 5), (⟨"BalloonSpires$Reader", "rest", "(LBalloonSpires$Command;)V"⟩, 5), (⟨"BalloonSpires$Reader", "point", "(LBalloonSpires$Command;)V"⟩, 5), (⟨"BalloonSpires$Reader", "number", "(I)I"⟩, 5), (⟨"BalloonSpires$Reader", "side", "(Z)I"⟩, 5), (⟨"BalloonSpires$Reader", "digits", "(LBalloonSpires$Command;I)V"⟩, 5), (⟨"BalloonSpires", "doAll", "(Ljava/util/ArrayList;)I"⟩, 8), (⟨"BalloonSpires", "does", "(LBalloonSpires$Command;)I"⟩, 8), (⟨"BalloonSpires", "writePoint", "(I)V"⟩, 8), (⟨"BalloonSpires", "sacks", "()I"⟩, 8), (⟨"BalloonSpires", "seals", "()I"⟩, 8), (⟨"BalloonSpires", "farms", "()I"⟩, 8), (⟨"BalloonSpires", "mustBeSome", "()V"⟩, 8), (⟨"BalloonSpires", "gas", "()I"⟩, 8), (⟨"BalloonSpiresModel", "keep", "()V"⟩, 20), (⟨"BalloonSpiresModel", "doEnter", "(IIII)I"⟩, 20)]
theorem lw_r3 : ∀ q ∈ lw_privs_3, lw_okq q := List.forall_mem_cons.mpr ⟨lw_p32, List.forall_mem_cons.mpr ⟨lw_p33, List.forall_mem_cons.mpr ⟨lw_p34, List.forall_mem_cons.mpr ⟨lw_p35, List.forall_mem_cons.mpr ⟨lw_p36, List.forall_mem_cons.mpr ⟨lw_p37, List.forall_mem_cons.mpr ⟨lw_p38, List.forall_mem_cons.mpr ⟨lw_p39, List.forall_mem_cons.mpr ⟨lw_p40, List.forall_mem_cons.mpr ⟨lw_p41, List.forall_mem_cons.mpr ⟨lw_p42, List.forall_mem_cons.mpr ⟨lw_p43, List.forall_mem_cons.mpr ⟨lw_p44, List.forall_mem_cons.mpr ⟨lw_p45, List.forall_mem_cons.mpr ⟨lw_p46, List.forall_mem_cons.mpr ⟨lw_p47, fun _ h => absurd h List.not_mem_nil⟩⟩⟩⟩⟩⟩⟩⟩⟩⟩⟩⟩⟩⟩⟩⟩
theorem lw_p48 : lw_okq (⟨"BalloonSpiresModel", "refuse", "(II)I"⟩, 20) := ⟨⟨by decide +kernel, by decide +kernel⟩, lw_t9 (List.mem_of_getElem? (i := 224) rfl), lw_t10 (List.mem_of_getElem? (i := 79) rfl), lw_t10 (List.mem_of_getElem? (i := 80) rfl)⟩
theorem lw_p49 : lw_okq (⟨"BalloonSpiresModel", "sets", "(III)V"⟩, 20) := ⟨⟨by decide +kernel, by decide +kernel⟩, lw_t9 (List.mem_of_getElem? (i := 224) rfl), lw_t10 (List.mem_of_getElem? (i := 83) rfl), lw_t10 (List.mem_of_getElem? (i := 84) rfl)⟩
theorem lw_p50 : lw_okq (⟨"BalloonSpiresModel", "ends", "(I)I"⟩, 20) := ⟨⟨by decide +kernel, by decide +kernel⟩, lw_t9 (List.mem_of_getElem? (i := 224) rfl), lw_t10 (List.mem_of_getElem? (i := 87) rfl), lw_t10 (List.mem_of_getElem? (i := 88) rfl)⟩
theorem lw_p51 : lw_okq (⟨"BalloonSpiresModel", "doSpire", "(III)I"⟩, 20) := ⟨⟨by decide +kernel, by decide +kernel⟩, lw_t9 (List.mem_of_getElem? (i := 224) rfl), lw_t10 (List.mem_of_getElem? (i := 95) rfl), lw_t10 (List.mem_of_getElem? (i := 96) rfl)⟩
theorem lw_p52 : lw_okq (⟨"BalloonSpiresModel", "spireOn", "(I)I"⟩, 20) := ⟨⟨by decide +kernel, by decide +kernel⟩, lw_t9 (List.mem_of_getElem? (i := 224) rfl), lw_t10 (List.mem_of_getElem? (i := 108) rfl), lw_t10 (List.mem_of_getElem? (i := 109) rfl)⟩
theorem lw_p53 : lw_okq (⟨"BalloonSpiresModel", "doFarm", "(III)I"⟩, 20) := ⟨⟨by decide +kernel, by decide +kernel⟩, lw_t9 (List.mem_of_getElem? (i := 224) rfl), lw_t10 (List.mem_of_getElem? (i := 116) rfl), lw_t10 (List.mem_of_getElem? (i := 117) rfl)⟩
theorem lw_p54 : lw_okq (⟨"BalloonSpiresModel", "doWind", "(II)I"⟩, 20) := ⟨⟨by decide +kernel, by decide +kernel⟩, lw_t9 (List.mem_of_getElem? (i := 224) rfl), lw_t10 (List.mem_of_getElem? (i := 124) rfl), lw_t10 (List.mem_of_getElem? (i := 125) rfl)⟩
theorem lw_p55 : lw_okq (⟨"BalloonSpiresModel", "doDrop", "(II)I"⟩, 20) := ⟨⟨by decide +kernel, by decide +kernel⟩, lw_t9 (List.mem_of_getElem? (i := 224) rfl), lw_t10 (List.mem_of_getElem? (i := 132) rfl), lw_t10 (List.mem_of_getElem? (i := 133) rfl)⟩
theorem lw_p56 : lw_okq (⟨"BalloonSpiresModel", "isBalloon", "(I)Z"⟩, 20) := ⟨⟨by decide +kernel, by decide +kernel⟩, lw_t9 (List.mem_of_getElem? (i := 224) rfl), lw_t10 (List.mem_of_getElem? (i := 136) rfl), lw_t10 (List.mem_of_getElem? (i := 137) rfl)⟩
theorem lw_p57 : lw_okq (⟨"BalloonSpiresModel", "of", "(II)I"⟩, 20) := ⟨⟨by decide +kernel, by decide +kernel⟩, lw_t9 (List.mem_of_getElem? (i := 224) rfl), lw_t10 (List.mem_of_getElem? (i := 140) rfl), lw_t10 (List.mem_of_getElem? (i := 141) rfl)⟩
theorem lw_p58 : lw_okq (⟨"BalloonSpiresModel", "doVent", "(II)I"⟩, 20) := ⟨⟨by decide +kernel, by decide +kernel⟩, lw_t9 (List.mem_of_getElem? (i := 224) rfl), lw_t10 (List.mem_of_getElem? (i := 148) rfl), lw_t10 (List.mem_of_getElem? (i := 149) rfl)⟩
theorem lw_p59 : lw_okq (⟨"BalloonSpiresModel", "sinks", "(II)I"⟩, 20) := ⟨⟨by decide +kernel, by decide +kernel⟩, lw_t9 (List.mem_of_getElem? (i := 224) rfl), lw_t10 (List.mem_of_getElem? (i := 153) rfl), lw_t10 (List.mem_of_getElem? (i := 154) rfl)⟩
theorem lw_p60 : lw_okq (⟨"BalloonSpiresModel", "pointOf", "(I)I"⟩, 20) := ⟨⟨by decide +kernel, by decide +kernel⟩, lw_t9 (List.mem_of_getElem? (i := 224) rfl), lw_t10 (List.mem_of_getElem? (i := 157) rfl), lw_t10 (List.mem_of_getElem? (i := 158) rfl)⟩
theorem lw_p61 : lw_okq (⟨"BalloonSpiresModel", "doTrade", "(III)I"⟩, 20) := ⟨⟨by decide +kernel, by decide +kernel⟩, lw_t9 (List.mem_of_getElem? (i := 224) rfl), lw_t10 (List.mem_of_getElem? (i := 165) rfl), lw_t10 (List.mem_of_getElem? (i := 166) rfl)⟩
theorem lw_p62 : lw_okq (⟨"BalloonSpiresModel", "doSeal", "(II)I"⟩, 20) := ⟨⟨by decide +kernel, by decide +kernel⟩, lw_t9 (List.mem_of_getElem? (i := 224) rfl), lw_t10 (List.mem_of_getElem? (i := 176) rfl), lw_t10 (List.mem_of_getElem? (i := 177) rfl)⟩
theorem lw_p63 : lw_okq (⟨"BalloonSpiresModel", "doHour", "(I)I"⟩, 20) := ⟨⟨by decide +kernel, by decide +kernel⟩, lw_t9 (List.mem_of_getElem? (i := 224) rfl), lw_t10 (List.mem_of_getElem? (i := 184) rfl), lw_t10 (List.mem_of_getElem? (i := 185) rfl)⟩
def lw_privs_4 : List (MethodName × Nat) := [(⟨"BalloonSpiresModel", "refuse", "(II)I"⟩, 20), (⟨"BalloonSpiresModel", "sets", "(III)V"⟩, 20), (⟨"BalloonSpiresModel", "ends", "(I)I"⟩, 20), (⟨"BalloonSpiresModel", "doSpire", "(III)I"⟩, 20), (⟨"BalloonSpiresModel", "spireOn", "(I)I"⟩, 20), (⟨"BalloonSpiresModel", "doFarm", "(III)I"⟩, 20), (⟨"BalloonSpiresModel", "doWind", "(II)I"⟩, 20), (⟨"BalloonSpiresModel", "doDrop", "(II)I"⟩, 20), (⟨"BalloonSpiresModel", "isBalloon", "(I)Z"⟩, 20), (⟨"BalloonSpiresModel", "of", "(II)I"⟩, 20), (⟨"BalloonSpiresModel", "doVent", "(II)I"⟩, 20), (⟨"BalloonSpiresModel", "sinks", "(II)I"⟩, 20), (⟨"BalloonSpiresModel", "pointOf", "(I)I"⟩, 20), (⟨"BalloonSpiresModel", "doTrade", "(III)I"⟩, 20), (⟨"BalloonSpiresModel", "doSeal", "(II)I"⟩, 20), (⟨"BalloonSpiresModel", "doHour", "(I)I"⟩, 20)]
theorem lw_r4 : ∀ q ∈ lw_privs_4, lw_okq q := List.forall_mem_cons.mpr ⟨lw_p48, List.forall_mem_cons.mpr ⟨lw_p49, List.forall_mem_cons.mpr ⟨lw_p50, List.forall_mem_cons.mpr ⟨lw_p51, List.forall_mem_cons.mpr ⟨lw_p52, List.forall_mem_cons.mpr ⟨lw_p53, List.forall_mem_cons.mpr ⟨lw_p54, List.forall_mem_cons.mpr ⟨lw_p55, List.forall_mem_cons.mpr ⟨lw_p56, List.forall_mem_cons.mpr ⟨lw_p57, List.forall_mem_cons.mpr ⟨lw_p58, List.forall_mem_cons.mpr ⟨lw_p59, List.forall_mem_cons.mpr ⟨lw_p60, List.forall_mem_cons.mpr ⟨lw_p61, List.forall_mem_cons.mpr ⟨lw_p62, List.forall_mem_cons.mpr ⟨lw_p63, fun _ h => absurd h List.not_mem_nil⟩⟩⟩⟩⟩⟩⟩⟩⟩⟩⟩⟩⟩⟩⟩⟩
theorem lw_p64 : lw_okq (⟨"BalloonSpiresModel", "goesHour", "()V"⟩, 20) := ⟨⟨by decide +kernel, by decide +kernel⟩, lw_t9 (List.mem_of_getElem? (i := 224) rfl), lw_t10 (List.mem_of_getElem? (i := 188) rfl), lw_t10 (List.mem_of_getElem? (i := 189) rfl)⟩
theorem lw_p65 : lw_okq (⟨"BalloonSpiresModel", "flies", "(I)V"⟩, 20) := ⟨⟨by decide +kernel, by decide +kernel⟩, lw_t9 (List.mem_of_getElem? (i := 224) rfl), lw_t10 (List.mem_of_getElem? (i := 192) rfl), lw_t10 (List.mem_of_getElem? (i := 193) rfl)⟩
theorem lw_p66 : lw_okq (⟨"BalloonSpiresModel", "drifted", "(II)I"⟩, 20) := ⟨⟨by decide +kernel, by decide +kernel⟩, lw_t9 (List.mem_of_getElem? (i := 224) rfl), lw_t10 (List.mem_of_getElem? (i := 196) rfl), lw_t10 (List.mem_of_getElem? (i := 197) rfl)⟩
theorem lw_p67 : lw_okq (⟨"BalloonSpiresModel", "atGate", "(I)Z"⟩, 20) := ⟨⟨by decide +kernel, by decide +kernel⟩, lw_t9 (List.mem_of_getElem? (i := 224) rfl), lw_t10 (List.mem_of_getElem? (i := 200) rfl), lw_t10 (List.mem_of_getElem? (i := 201) rfl)⟩
theorem lw_p68 : lw_okq (⟨"BalloonSpiresModel", "hasNext", "(I)Z"⟩, 20) := ⟨⟨by decide +kernel, by decide +kernel⟩, lw_t9 (List.mem_of_getElem? (i := 224) rfl), lw_t10 (List.mem_of_getElem? (i := 204) rfl), lw_t10 (List.mem_of_getElem? (i := 205) rfl)⟩
theorem lw_p69 : lw_okq (⟨"BalloonSpiresModel", "gate", "(I)I"⟩, 20) := ⟨⟨by decide +kernel, by decide +kernel⟩, lw_t9 (List.mem_of_getElem? (i := 224) rfl), lw_t10 (List.mem_of_getElem? (i := 208) rfl), lw_t10 (List.mem_of_getElem? (i := 209) rfl)⟩
theorem lw_p70 : lw_okq (⟨"BalloonSpiresModel", "rounds", "(I)V"⟩, 20) := ⟨⟨by decide +kernel, by decide +kernel⟩, lw_t9 (List.mem_of_getElem? (i := 224) rfl), lw_t10 (List.mem_of_getElem? (i := 212) rfl), lw_t10 (List.mem_of_getElem? (i := 213) rfl)⟩
theorem lw_p71 : lw_okq (⟨"BalloonSpiresModel", "doRetire", "(I)I"⟩, 20) := ⟨⟨by decide +kernel, by decide +kernel⟩, lw_t9 (List.mem_of_getElem? (i := 224) rfl), lw_t10 (List.mem_of_getElem? (i := 220) rfl), lw_t10 (List.mem_of_getElem? (i := 221) rfl)⟩
theorem lw_p72 : lw_okq (⟨"BalloonSpiresModel", "balloonsOn", "(I)I"⟩, 20) := ⟨⟨by decide +kernel, by decide +kernel⟩, lw_t9 (List.mem_of_getElem? (i := 224) rfl), lw_t11 (List.mem_of_getElem? (i := 8) rfl), lw_t11 (List.mem_of_getElem? (i := 9) rfl)⟩
theorem lw_p73 : lw_okq (⟨"BalloonSpiresModel", "cannot", "(III)I"⟩, 20) := ⟨⟨by decide +kernel, by decide +kernel⟩, lw_t9 (List.mem_of_getElem? (i := 224) rfl), lw_t11 (List.mem_of_getElem? (i := 24) rfl), lw_t11 (List.mem_of_getElem? (i := 25) rfl)⟩
theorem lw_p74 : lw_okq (⟨"BalloonSpiresModel", "after", "(III)I"⟩, 20) := ⟨⟨by decide +kernel, by decide +kernel⟩, lw_t9 (List.mem_of_getElem? (i := 224) rfl), lw_t11 (List.mem_of_getElem? (i := 28) rfl), lw_t11 (List.mem_of_getElem? (i := 29) rfl)⟩
theorem lw_p75 : lw_okq (⟨"BalloonSpiresModel", "thinks", "()V"⟩, 20) := ⟨⟨by decide +kernel, by decide +kernel⟩, lw_t9 (List.mem_of_getElem? (i := 224) rfl), lw_t11 (List.mem_of_getElem? (i := 32) rfl), lw_t11 (List.mem_of_getElem? (i := 33) rfl)⟩
theorem lw_p76 : lw_okq (⟨"BalloonSpiresModel", "forgets", "()V"⟩, 20) := ⟨⟨by decide +kernel, by decide +kernel⟩, lw_t9 (List.mem_of_getElem? (i := 224) rfl), lw_t11 (List.mem_of_getElem? (i := 36) rfl), lw_t11 (List.mem_of_getElem? (i := 37) rfl)⟩
theorem lw_p77 : lw_okq (⟨"BalloonSpiresModel", "fails", "(I)I"⟩, 20) := ⟨⟨by decide +kernel, by decide +kernel⟩, lw_t9 (List.mem_of_getElem? (i := 224) rfl), lw_t11 (List.mem_of_getElem? (i := 52) rfl), lw_t11 (List.mem_of_getElem? (i := 53) rfl)⟩
theorem lw_p78 : lw_okq (⟨"BalloonSpiresModel", "fewestOf", "(I)I"⟩, 20) := ⟨⟨by decide +kernel, by decide +kernel⟩, lw_t9 (List.mem_of_getElem? (i := 224) rfl), lw_t11 (List.mem_of_getElem? (i := 69) rfl), lw_t11 (List.mem_of_getElem? (i := 70) rfl)⟩
theorem lw_p79 : lw_okq (⟨"BalloonSpiresModel", "hoursTo", "(II)I"⟩, 20) := ⟨⟨by decide +kernel, by decide +kernel⟩, lw_t9 (List.mem_of_getElem? (i := 224) rfl), lw_t11 (List.mem_of_getElem? (i := 73) rfl), lw_t11 (List.mem_of_getElem? (i := 74) rfl)⟩
def lw_privs_5 : List (MethodName × Nat) := [(⟨"BalloonSpiresModel", "goesHour", "()V"⟩, 20), (⟨"BalloonSpiresModel", "flies", "(I)V"⟩, 20), (⟨"BalloonSpiresModel", "drifted", "(II)I"⟩, 20), (⟨"BalloonSpiresModel", "atGate", "(I)Z"⟩, 20), (⟨"BalloonSpiresModel", "hasNext", "(I)Z"⟩, 20), (⟨"BalloonSpiresModel", "gate", "(I)I"⟩, 20), (⟨"BalloonSpiresModel", "rounds", "(I)V"⟩, 20), (⟨"BalloonSpiresModel", "doRetire", "(I)I"⟩, 20), (⟨"BalloonSpiresModel", "balloonsOn", "(I)I"⟩, 20), (⟨"BalloonSpiresModel", "cannot", "(III)I"⟩, 20), (⟨"BalloonSpiresModel", "after", "(III)I"⟩, 20), (⟨"BalloonSpiresModel", "thinks", "()V"⟩, 20), (⟨"BalloonSpiresModel", "forgets", "()V"⟩, 20), (⟨"BalloonSpiresModel", "fails", "(I)I"⟩, 20), (⟨"BalloonSpiresModel", "fewestOf", "(I)I"⟩, 20), (⟨"BalloonSpiresModel", "hoursTo", "(II)I"⟩, 20)]
theorem lw_r5 : ∀ q ∈ lw_privs_5, lw_okq q := List.forall_mem_cons.mpr ⟨lw_p64, List.forall_mem_cons.mpr ⟨lw_p65, List.forall_mem_cons.mpr ⟨lw_p66, List.forall_mem_cons.mpr ⟨lw_p67, List.forall_mem_cons.mpr ⟨lw_p68, List.forall_mem_cons.mpr ⟨lw_p69, List.forall_mem_cons.mpr ⟨lw_p70, List.forall_mem_cons.mpr ⟨lw_p71, List.forall_mem_cons.mpr ⟨lw_p72, List.forall_mem_cons.mpr ⟨lw_p73, List.forall_mem_cons.mpr ⟨lw_p74, List.forall_mem_cons.mpr ⟨lw_p75, List.forall_mem_cons.mpr ⟨lw_p76, List.forall_mem_cons.mpr ⟨lw_p77, List.forall_mem_cons.mpr ⟨lw_p78, List.forall_mem_cons.mpr ⟨lw_p79, fun _ h => absurd h List.not_mem_nil⟩⟩⟩⟩⟩⟩⟩⟩⟩⟩⟩⟩⟩⟩⟩⟩
theorem lw_p80 : lw_okq (⟨"BalloonSpiresModel", "begins", "(I)V"⟩, 20) := ⟨⟨by decide +kernel, by decide +kernel⟩, lw_t9 (List.mem_of_getElem? (i := 224) rfl), lw_t11 (List.mem_of_getElem? (i := 77) rfl), lw_t11 (List.mem_of_getElem? (i := 78) rfl)⟩
theorem lw_p81 : lw_okq (⟨"BalloonSpiresModel", "goesOn", "()V"⟩, 20) := ⟨⟨by decide +kernel, by decide +kernel⟩, lw_t9 (List.mem_of_getElem? (i := 224) rfl), lw_t11 (List.mem_of_getElem? (i := 81) rfl), lw_t11 (List.mem_of_getElem? (i := 82) rfl)⟩
theorem lw_p82 : lw_okq (⟨"BalloonSpiresModel", "isAhead", "(II)Z"⟩, 20) := ⟨⟨by decide +kernel, by decide +kernel⟩, lw_t9 (List.mem_of_getElem? (i := 224) rfl), lw_t11 (List.mem_of_getElem? (i := 102) rfl), lw_t11 (List.mem_of_getElem? (i := 103) rfl)⟩
theorem lw_p83 : lw_okq (⟨"BalloonSpiresModel", "readOrder", "()V"⟩, 20) := ⟨⟨by decide +kernel, by decide +kernel⟩, lw_t9 (List.mem_of_getElem? (i := 224) rfl), lw_t11 (List.mem_of_getElem? (i := 122) rfl), lw_t11 (List.mem_of_getElem? (i := 123) rfl)⟩
theorem lw_p84 : lw_okq (⟨"BalloonSpiresModel", "skip", "(Ljava/lang/String;)V"⟩, 20) := ⟨⟨by decide +kernel, by decide +kernel⟩, lw_t9 (List.mem_of_getElem? (i := 224) rfl), lw_t11 (List.mem_of_getElem? (i := 127) rfl), lw_t11 (List.mem_of_getElem? (i := 128) rfl)⟩
theorem lw_p85 : lw_okq (⟨"BalloonSpiresModel", "sign", "(CC)I"⟩, 20) := ⟨⟨by decide +kernel, by decide +kernel⟩, lw_t9 (List.mem_of_getElem? (i := 224) rfl), lw_t11 (List.mem_of_getElem? (i := 133) rfl), lw_t11 (List.mem_of_getElem? (i := 134) rfl)⟩
theorem lw_p86 : lw_okq (⟨"BalloonSpiresModel", "isHere", "(CC)Z"⟩, 20) := ⟨⟨by decide +kernel, by decide +kernel⟩, lw_t9 (List.mem_of_getElem? (i := 224) rfl), lw_t11 (List.mem_of_getElem? (i := 137) rfl), lw_t11 (List.mem_of_getElem? (i := 138) rfl)⟩
theorem lw_p87 : lw_okq (⟨"BalloonSpiresModel", "point", "(I)V"⟩, 20) := ⟨⟨by decide +kernel, by decide +kernel⟩, lw_t9 (List.mem_of_getElem? (i := 224) rfl), lw_t11 (List.mem_of_getElem? (i := 141) rfl), lw_t11 (List.mem_of_getElem? (i := 142) rfl)⟩
theorem lw_p88 : lw_okq (⟨"BalloonSpiresModel", "digit", "()I"⟩, 20) := ⟨⟨by decide +kernel, by decide +kernel⟩, lw_t9 (List.mem_of_getElem? (i := 224) rfl), lw_t11 (List.mem_of_getElem? (i := 145) rfl), lw_t11 (List.mem_of_getElem? (i := 146) rfl)⟩
theorem lw_p89 : lw_okq (⟨"BalloonSpiresModel", "number", "()I"⟩, 20) := ⟨⟨by decide +kernel, by decide +kernel⟩, lw_t9 (List.mem_of_getElem? (i := 224) rfl), lw_t11 (List.mem_of_getElem? (i := 150) rfl), lw_t11 (List.mem_of_getElem? (i := 151) rfl)⟩
theorem lw_p90 : lw_okq (⟨"BalloonSpiresModel", "readSpireOrSeal", "(I)V"⟩, 20) := ⟨⟨by decide +kernel, by decide +kernel⟩, lw_t9 (List.mem_of_getElem? (i := 224) rfl), lw_t11 (List.mem_of_getElem? (i := 154) rfl), lw_t11 (List.mem_of_getElem? (i := 155) rfl)⟩
theorem lw_p91 : lw_okq (⟨"BalloonSpiresModel", "side", "(Ljava/lang/String;)I"⟩, 20) := ⟨⟨by decide +kernel, by decide +kernel⟩, lw_t9 (List.mem_of_getElem? (i := 224) rfl), lw_t11 (List.mem_of_getElem? (i := 161) rfl), lw_t11 (List.mem_of_getElem? (i := 162) rfl)⟩
theorem lw_p92 : lw_okq (⟨"BalloonSpiresModel", "digits", "(II)V"⟩, 20) := ⟨⟨by decide +kernel, by decide +kernel⟩, lw_t9 (List.mem_of_getElem? (i := 224) rfl), lw_t11 (List.mem_of_getElem? (i := 211) rfl), lw_t11 (List.mem_of_getElem? (i := 212) rfl)⟩
theorem lw_p93 : lw_okq (⟨"BalloonSpiresModel", "does", "(I)V"⟩, 20) := ⟨⟨by decide +kernel, by decide +kernel⟩, lw_t9 (List.mem_of_getElem? (i := 224) rfl), lw_t11 (List.mem_of_getElem? (i := 224) rfl), lw_t11 (List.mem_of_getElem? (i := 225) rfl)⟩
theorem lw_p94 : lw_okq (⟨"BalloonSpiresModel", "saysNumber", "(I)V"⟩, 20) := ⟨⟨by decide +kernel, by decide +kernel⟩, lw_t9 (List.mem_of_getElem? (i := 224) rfl), lw_t11 (List.mem_of_getElem? (i := 236) rfl), lw_t11 (List.mem_of_getElem? (i := 237) rfl)⟩
theorem lw_p95 : lw_okq (⟨"BalloonSpiresModel", "says", "(C)V"⟩, 20) := ⟨⟨by decide +kernel, by decide +kernel⟩, lw_t9 (List.mem_of_getElem? (i := 224) rfl), lw_t12 (List.mem_of_getElem? (i := 0) rfl), lw_t12 (List.mem_of_getElem? (i := 1) rfl)⟩
def lw_privs_6 : List (MethodName × Nat) := [(⟨"BalloonSpiresModel", "begins", "(I)V"⟩, 20), (⟨"BalloonSpiresModel", "goesOn", "()V"⟩, 20), (⟨"BalloonSpiresModel", "isAhead", "(II)Z"⟩, 20), (⟨"BalloonSpiresModel", "readOrder", "()V"⟩, 20), (⟨"BalloonSpiresModel", "skip", "(Ljava/lang/String;)V"⟩, 20), (⟨"BalloonSpiresModel", "sign", "(CC)I"⟩, 20), (⟨"BalloonSpiresModel", "isHere", "(CC)Z"⟩, 20), (⟨"BalloonSpiresModel", "point", "(I)V"⟩, 20), (⟨"BalloonSpiresModel", "digit", "()I"⟩, 20), (⟨"BalloonSpiresModel", "number", "()I"⟩, 20), (⟨"BalloonSpiresModel", "readSpireOrSeal", "(I)V"⟩, 20), (⟨"BalloonSpiresModel", "side", "(Ljava/lang/String;)I"⟩, 20), (⟨"BalloonSpiresModel", "digits", "(II)V"⟩, 20), (⟨"BalloonSpiresModel", "does", "(I)V"⟩, 20), (⟨"BalloonSpiresModel", "saysNumber", "(I)V"⟩, 20), (⟨"BalloonSpiresModel", "says", "(C)V"⟩, 20)]
theorem lw_r6 : ∀ q ∈ lw_privs_6, lw_okq q := List.forall_mem_cons.mpr ⟨lw_p80, List.forall_mem_cons.mpr ⟨lw_p81, List.forall_mem_cons.mpr ⟨lw_p82, List.forall_mem_cons.mpr ⟨lw_p83, List.forall_mem_cons.mpr ⟨lw_p84, List.forall_mem_cons.mpr ⟨lw_p85, List.forall_mem_cons.mpr ⟨lw_p86, List.forall_mem_cons.mpr ⟨lw_p87, List.forall_mem_cons.mpr ⟨lw_p88, List.forall_mem_cons.mpr ⟨lw_p89, List.forall_mem_cons.mpr ⟨lw_p90, List.forall_mem_cons.mpr ⟨lw_p91, List.forall_mem_cons.mpr ⟨lw_p92, List.forall_mem_cons.mpr ⟨lw_p93, List.forall_mem_cons.mpr ⟨lw_p94, List.forall_mem_cons.mpr ⟨lw_p95, fun _ h => absurd h List.not_mem_nil⟩⟩⟩⟩⟩⟩⟩⟩⟩⟩⟩⟩⟩⟩⟩⟩
theorem lw_p96 : lw_okq (⟨"BalloonSpiresModel", "all", "(IZ)I"⟩, 20) := ⟨⟨by decide +kernel, by decide +kernel⟩, lw_t9 (List.mem_of_getElem? (i := 224) rfl), lw_t12 (List.mem_of_getElem? (i := 25) rfl), lw_t12 (List.mem_of_getElem? (i := 26) rfl)⟩
theorem lw_p97 : lw_okq (⟨"BalloonSpiresModel", "fees", "()I"⟩, 20) := ⟨⟨by decide +kernel, by decide +kernel⟩, lw_t9 (List.mem_of_getElem? (i := 224) rfl), lw_t12 (List.mem_of_getElem? (i := 29) rfl), lw_t12 (List.mem_of_getElem? (i := 30) rfl)⟩
def lw_privs_7 : List (MethodName × Nat) := [(⟨"BalloonSpiresModel", "all", "(IZ)I"⟩, 20), (⟨"BalloonSpiresModel", "fees", "()I"⟩, 20)]
theorem lw_r7 : ∀ q ∈ lw_privs_7, lw_okq q := List.forall_mem_cons.mpr ⟨lw_p96, List.forall_mem_cons.mpr ⟨lw_p97, fun _ h => absurd h List.not_mem_nil⟩⟩
def lw_privs : List (MethodName × Nat) := lw_privs_1 ++ (lw_privs_2 ++ (lw_privs_3 ++ (lw_privs_4 ++ (lw_privs_5 ++ (lw_privs_6 ++ (lw_privs_7))))))
def lw_tbl0 : List Cond := k2_sels lw_privs ++ tables_1
/-- private methods of AbstractStringBuilder, called for a StringBuilder -/
def lw_subs : List Cond := [Cond.selects "java/lang/StringBuilder" ⟨"java/lang/AbstractStringBuilder", "ensureCapacityInternal", "(I)V"⟩ ⟨"java/lang/AbstractStringBuilder", "ensureCapacityInternal", "(I)V"⟩, Cond.selects "java/lang/StringBuilder" ⟨"java/lang/AbstractStringBuilder", "newCapacity", "(I)I"⟩ ⟨"java/lang/AbstractStringBuilder", "newCapacity", "(I)I"⟩]
def lw_tbl : List Cond := lw_tbl0 ++ lw_subs
/-- a private method is selected for an object of a class below, too -/
theorem lw_sel_sub {C : String} {y z : MethodName} {s : State} {args : Array Value} (hy : y.cls ≠ "java/lang/invoke/MethodHandle" ∧ y.cls ≠ "java/lang/invoke/VarHandle") (hz : z.cls = y.cls) (hsel : (Cond.selects C z z).before args s = true) (hpriv : (Cond.privateMethod y).before args s = true) (hinst : (Cond.instanceMethod y).before args s = true) (hinz : (Cond.instanceMethod z).before args s = true) : (Cond.selects C y y).before args s = true := by
  obtain ⟨mk, methM, hnamed, hmethM, -, -⟩ := Cond.instanceMethod_spec hinst
  obtain ⟨mz, methZ, hnamedz, -, -, -⟩ := Cond.instanceMethod_spec hinz
  have hfound : s.methodFound? y.cls y.name y.desc = some mk := State.methodFound?_of_named hnamed hy
  have e1 := findClass_of_methodNamed hnamed
  have e2 := findClass_of_methodNamed hnamedz
  rw [hz] at e2
  have hcls : mz.cls = mk.cls := Option.some.inj (e2.symm.trans e1)
  simp only [Cond.before, Cond.holds, Cond.value] at hsel ⊢
  cases hc : s.vm.findClass C with
  | none => rw [hc] at hsel; simp at hsel
  | some c =>
    have hs := selectMethod_private (p := {}) (c := c) hmethM (Cond.privateMethod_at hpriv mk methM hnamed hmethM)
    rw [hc, hnamedz] at hsel
    rw [hfound, hnamed]
    simp only [hs]
    cases hf : s.methodFound? z.cls z.name z.desc with
    | none => rw [hf] at hsel; simp at hsel
    | some r =>
      rw [hf] at hsel
      simp only [] at hsel
      cases hm : selectMethod {} s.vm c r with
      | method m' =>
        rw [hm] at hsel
        simp only [hcls] at hsel
        simp at hsel ⊢
        exact hsel.2
      | _ => rw [hm] at hsel; simp at hsel
theorem lw_privs_ok : ∀ q ∈ lw_privs, lw_okq q := by
  show ∀ q ∈ lw_privs_1 ++ (lw_privs_2 ++ (lw_privs_3 ++ (lw_privs_4 ++ (lw_privs_5 ++ (lw_privs_6 ++ (lw_privs_7)))))), lw_okq q
  exact List.forall_mem_append.mpr ⟨lw_r1, List.forall_mem_append.mpr ⟨lw_r2, List.forall_mem_append.mpr ⟨lw_r3, List.forall_mem_append.mpr ⟨lw_r4, List.forall_mem_append.mpr ⟨lw_r5, List.forall_mem_append.mpr ⟨lw_r6, lw_r7⟩⟩⟩⟩⟩⟩
-- ===== ONE list of words for every method: the tables' words that hold all through a run =====
def lw_all : List Cond := lw_tbl.filter goodWord
/-- a word of the tables by its place: claim/WORDS.tsv -/
theorem lw_w {w : Cond} (i : Nat) (h : lw_tbl[i]? = some w) (g : goodWord w = true) : w ∈ lw_all := List.mem_filter.mpr ⟨List.mem_of_getElem? h, g⟩
theorem lw_all_tbl {w : Cond} (h : w ∈ lw_all) : w ∈ lw_tbl := (List.mem_filter.mp h).1
theorem lw_self : GoodIn lw_all lw_all := fun w h => ⟨h, good_of_word (List.mem_filter.mp h).2⟩
/-- a class's field words, by their places -/
theorem lw_in (ws : List Cond) (ps : List Nat) (hp : ws = ps.filterMap (fun i => lw_tbl[i]?)) (hg : ws.all goodWord = true) : ∀ w ∈ ws, w ∈ lw_all := by
  intro w h
  have h1 := List.all_eq_true.mp hg w h
  rw [hp] at h
  obtain ⟨i, -, hi⟩ := List.mem_filterMap.mp h
  exact lw_w i hi h1
/-- the words of a contract for the method y with code b, L locals, answer r -/
abbrev ws_ (y : MethodName) (b : ByteArray) (L : Nat) (r : Option FieldType) : List Cond := Cond.code y b L r :: lw_all
theorem lw_meth {y : MethodName} {b : ByteArray} {L : Nat} {r : Option FieldType} (h : Cond.code y b L r ∈ lw_all) : GoodIn lw_all (ws_ y b L r) := by
  intro w hw
  rcases List.mem_cons.mp hw with e | e
  · rw [e]
    exact lw_self _ h
  · exact lw_self _ e
theorem lw_app {a c : List Cond} (ha : ∀ w ∈ a, w ∈ lw_all) (hc : GoodIn lw_all c) : GoodIn lw_all (a ++ c) := by
  intro w hw
  rcases List.mem_append.mp hw with e | e
  · exact lw_self w (ha w e)
  · exact hc w e
/-- what a call through an object asks: cwV n hts (lw_V ..) -/
theorem lw_V {own : String} {idx : Nat} {C : String} {y : MethodName} {b : ByteArray} {L : Nat} {r : Option FieldType} (h1 : Cond.methodLink own idx y ∈ lw_all) (h2 : Cond.instanceMethod y ∈ lw_all) (h3 : Cond.selects C y y ∈ lw_all) (h4 : Cond.initialized C ∈ lw_all) (h5 : Cond.code y b L r ∈ lw_all) : GoodIn lw_all (wsV own idx C y (ws_ y b L r)) := by
  refine lw_app ?_ (lw_meth h5)
  intro w hw
  simp only [List.mem_cons, List.not_mem_nil, or_false] at hw
  rcases hw with e | e | e | e
  · rw [e]; exact h1
  · rw [e]; exact h2
  · rw [e]; exact h3
  · rw [e]; exact h4
/-- what a static call asks: va_cwS n hts (lw_S ..) -/
theorem lw_S {own : String} {idx : Nat} {y : MethodName} {b : ByteArray} {L : Nat} {r : Option FieldType} (h1 : Cond.methodLink own idx y ∈ lw_all) (h2 : Cond.static y ∈ lw_all) (h3 : Cond.initialized y.cls ∈ lw_all) (h4 : Cond.code y b L r ∈ lw_all) : GoodIn lw_all (va_wsS own idx y (ws_ y b L r)) := by
  refine lw_app ?_ (lw_meth h4)
  intro w hw
  simp only [List.mem_cons, List.not_mem_nil, or_false] at hw
  rcases hw with e | e | e
  · rw [e]; exact h1
  · rw [e]; exact h2
  · rw [e]; exact h3
/-- the words of a contract for a method WITH HANDLERS (hh: its table) -/
abbrev wsW_ (y : MethodName) (b : ByteArray) (L : Nat) (r : Option FieldType) (hh : List (Nat × Nat × Nat × Nat)) : List Cond := Cond.codeWith y b L r hh :: lw_all
theorem lw_methW {y : MethodName} {b : ByteArray} {L : Nat} {r : Option FieldType} {hh : List (Nat × Nat × Nat × Nat)} (h : Cond.codeWith y b L r hh ∈ lw_all) : GoodIn lw_all (wsW_ y b L r hh) := by
  intro w hw
  rcases List.mem_cons.mp hw with e | e
  · rw [e]
    exact lw_self _ h
  · exact lw_self _ e
/-- any list of words by their places (lw_in), good -/
theorem lw_good {ws : List Cond} (h : ∀ w ∈ ws, w ∈ lw_all) : GoodIn lw_all ws := fun w hw => lw_self w (h w hw)
/-- what a call of a method with handlers asks: vx_cwVW n hts (lw_VW ..), vx_cwSW n hts (lw_SW ..) -/
theorem lw_VW {own : String} {idx : Nat} {C : String} {y : MethodName} {b : ByteArray} {L : Nat} {r : Option FieldType} {hh : List (Nat × Nat × Nat × Nat)} (h1 : Cond.methodLink own idx y ∈ lw_all) (h2 : Cond.instanceMethod y ∈ lw_all) (h3 : Cond.selects C y y ∈ lw_all) (h4 : Cond.initialized C ∈ lw_all) (h5 : Cond.codeWith y b L r hh ∈ lw_all) : GoodIn lw_all (wsV own idx C y (wsW_ y b L r hh)) := by
  refine lw_app ?_ (lw_methW h5)
  intro w hw
  simp only [List.mem_cons, List.not_mem_nil, or_false] at hw
  rcases hw with e | e | e | e
  · rw [e]; exact h1
  · rw [e]; exact h2
  · rw [e]; exact h3
  · rw [e]; exact h4
theorem lw_SW {own : String} {idx : Nat} {y : MethodName} {b : ByteArray} {L : Nat} {r : Option FieldType} {hh : List (Nat × Nat × Nat × Nat)} (h1 : Cond.methodLink own idx y ∈ lw_all) (h2 : Cond.static y ∈ lw_all) (h3 : Cond.initialized y.cls ∈ lw_all) (h4 : Cond.codeWith y b L r hh ∈ lw_all) : GoodIn lw_all (va_wsS own idx y (wsW_ y b L r hh)) := by
  refine lw_app ?_ (lw_methW h4)
  intro w hw
  simp only [List.mem_cons, List.not_mem_nil, or_false] at hw
  rcases hw with e | e | e
  · rw [e]; exact h1
  · rw [e]; exact h2
  · rw [e]; exact h3
/-- a word by its place in its run of the tables -/
theorem lw_at {r : List Cond} (hr : ∀ w ∈ r, w ∈ lw_tbl) {w : Cond} (i : Nat) (h : r[i]? = some w) : w ∈ lw_tbl := hr w (List.mem_of_getElem? h)
theorem lw_g {w : Cond} (h : w ∈ lw_tbl) (g : goodWord w = true) : w ∈ lw_all := List.mem_filter.mpr ⟨h, g⟩
theorem lw_mb : ∀ w ∈ lw_subs, w ∈ lw_tbl := fun w h => List.mem_append_right _ h
theorem lw_ms : ∀ w ∈ k2_sels lw_privs, w ∈ lw_tbl := fun w h => List.mem_append_left _ (show w ∈ k2_sels lw_privs ++ tables_1 from List.mem_append_left _ h)
theorem lw_m1 : ∀ w ∈ tables_1_1, w ∈ lw_tbl := fun w h => List.mem_append_left _ (show w ∈ k2_sels lw_privs ++ tables_1 from List.mem_append_right (k2_sels lw_privs) (show w ∈ tables_1 from List.mem_append_left _ h))
theorem lw_m2 : ∀ w ∈ tables_1_2, w ∈ lw_tbl := fun w h => List.mem_append_left _ (show w ∈ k2_sels lw_privs ++ tables_1 from List.mem_append_right (k2_sels lw_privs) (show w ∈ tables_1 from List.mem_append_right _ (List.mem_append_left _ h)))
theorem lw_m3 : ∀ w ∈ tables_1_3, w ∈ lw_tbl := fun w h => List.mem_append_left _ (show w ∈ k2_sels lw_privs ++ tables_1 from List.mem_append_right (k2_sels lw_privs) (show w ∈ tables_1 from List.mem_append_right _ (List.mem_append_right _ (List.mem_append_left _ h))))
theorem lw_m4 : ∀ w ∈ tables_1_4, w ∈ lw_tbl := fun w h => List.mem_append_left _ (show w ∈ k2_sels lw_privs ++ tables_1 from List.mem_append_right (k2_sels lw_privs) (show w ∈ tables_1 from List.mem_append_right _ (List.mem_append_right _ (List.mem_append_right _ (List.mem_append_left _ h)))))
theorem lw_m5 : ∀ w ∈ tables_1_5, w ∈ lw_tbl := fun w h => List.mem_append_left _ (show w ∈ k2_sels lw_privs ++ tables_1 from List.mem_append_right (k2_sels lw_privs) (show w ∈ tables_1 from List.mem_append_right _ (List.mem_append_right _ (List.mem_append_right _ (List.mem_append_right _ (List.mem_append_left _ h))))))
theorem lw_m6 : ∀ w ∈ tables_1_6, w ∈ lw_tbl := fun w h => List.mem_append_left _ (show w ∈ k2_sels lw_privs ++ tables_1 from List.mem_append_right (k2_sels lw_privs) (show w ∈ tables_1 from List.mem_append_right _ (List.mem_append_right _ (List.mem_append_right _ (List.mem_append_right _ (List.mem_append_right _ (List.mem_append_left _ h)))))))
theorem lw_m7 : ∀ w ∈ tables_1_7, w ∈ lw_tbl := fun w h => List.mem_append_left _ (show w ∈ k2_sels lw_privs ++ tables_1 from List.mem_append_right (k2_sels lw_privs) (show w ∈ tables_1 from List.mem_append_right _ (List.mem_append_right _ (List.mem_append_right _ (List.mem_append_right _ (List.mem_append_right _ (List.mem_append_right _ (List.mem_append_left _ h))))))))
theorem lw_m8 : ∀ w ∈ tables_1_8, w ∈ lw_tbl := fun w h => List.mem_append_left _ (show w ∈ k2_sels lw_privs ++ tables_1 from List.mem_append_right (k2_sels lw_privs) (show w ∈ tables_1 from List.mem_append_right _ (List.mem_append_right _ (List.mem_append_right _ (List.mem_append_right _ (List.mem_append_right _ (List.mem_append_right _ (List.mem_append_right _ (List.mem_append_left _ h)))))))))
theorem lw_m9 : ∀ w ∈ tables_1_9, w ∈ lw_tbl := fun w h => List.mem_append_left _ (show w ∈ k2_sels lw_privs ++ tables_1 from List.mem_append_right (k2_sels lw_privs) (show w ∈ tables_1 from List.mem_append_right _ (List.mem_append_right _ (List.mem_append_right _ (List.mem_append_right _ (List.mem_append_right _ (List.mem_append_right _ (List.mem_append_right _ (List.mem_append_right _ (List.mem_append_left _ h))))))))))
theorem lw_m10 : ∀ w ∈ tables_1_10, w ∈ lw_tbl := fun w h => List.mem_append_left _ (show w ∈ k2_sels lw_privs ++ tables_1 from List.mem_append_right (k2_sels lw_privs) (show w ∈ tables_1 from List.mem_append_right _ (List.mem_append_right _ (List.mem_append_right _ (List.mem_append_right _ (List.mem_append_right _ (List.mem_append_right _ (List.mem_append_right _ (List.mem_append_right _ (List.mem_append_right _ (List.mem_append_left _ h)))))))))))
theorem lw_m11 : ∀ w ∈ tables_1_11, w ∈ lw_tbl := fun w h => List.mem_append_left _ (show w ∈ k2_sels lw_privs ++ tables_1 from List.mem_append_right (k2_sels lw_privs) (show w ∈ tables_1 from List.mem_append_right _ (List.mem_append_right _ (List.mem_append_right _ (List.mem_append_right _ (List.mem_append_right _ (List.mem_append_right _ (List.mem_append_right _ (List.mem_append_right _ (List.mem_append_right _ (List.mem_append_right _ (List.mem_append_left _ h))))))))))))
theorem lw_m12 : ∀ w ∈ tables_1_12, w ∈ lw_tbl := fun w h => List.mem_append_left _ (show w ∈ k2_sels lw_privs ++ tables_1 from List.mem_append_right (k2_sels lw_privs) (show w ∈ tables_1 from List.mem_append_right _ (List.mem_append_right _ (List.mem_append_right _ (List.mem_append_right _ (List.mem_append_right _ (List.mem_append_right _ (List.mem_append_right _ (List.mem_append_right _ (List.mem_append_right _ (List.mem_append_right _ (List.mem_append_right _ h))))))))))))
theorem qs0 : (Cond.selects "java/lang/Throwable" ⟨"java/lang/Throwable", "fillInStackTrace", "(I)Ljava/lang/Throwable;"⟩ ⟨"java/lang/Throwable", "fillInStackTrace", "(I)Ljava/lang/Throwable;"⟩) ∈ lw_all := lw_g (lw_at lw_ms 0 rfl) rfl
theorem qs1 : (Cond.selects "BalloonSpires$State$Flying$1" ⟨"BalloonSpires$State$Flying$1", "from", "(I)I"⟩ ⟨"BalloonSpires$State$Flying$1", "from", "(I)I"⟩) ∈ lw_all := lw_g (lw_at lw_ms 1 rfl) rfl
theorem qs2 : (Cond.selects "BalloonSpires" ⟨"BalloonSpires", "areAlike", "(LBalloonSpires$Balloon;)Z"⟩ ⟨"BalloonSpires", "areAlike", "(LBalloonSpires$Balloon;)Z"⟩) ∈ lw_all := lw_g (lw_at lw_ms 2 rfl) rfl
theorem qs3 : (Cond.selects "BalloonSpires" ⟨"BalloonSpires", "hoursOnward", "(II)I"⟩ ⟨"BalloonSpires", "hoursOnward", "(II)I"⟩) ∈ lw_all := lw_g (lw_at lw_ms 3 rfl) rfl
theorem qs4 : (Cond.selects "BalloonSpires" ⟨"BalloonSpires", "spreads", "(II[ILjava/util/ArrayDeque;)V"⟩ ⟨"BalloonSpires", "spreads", "(II[ILjava/util/ArrayDeque;)V"⟩) ∈ lw_all := lw_g (lw_at lw_ms 4 rfl) rfl
theorem qs5 : (Cond.selects "java/util/ArrayDeque" ⟨"java/util/ArrayDeque", "grow", "(I)V"⟩ ⟨"java/util/ArrayDeque", "grow", "(I)V"⟩) ∈ lw_all := lw_g (lw_at lw_ms 5 rfl) rfl
theorem qs6 : (Cond.selects "java/util/ArrayDeque" ⟨"java/util/ArrayDeque", "newCapacity", "(II)I"⟩ ⟨"java/util/ArrayDeque", "newCapacity", "(II)I"⟩) ∈ lw_all := lw_g (lw_at lw_ms 6 rfl) rfl
theorem qs7 : (Cond.selects "BalloonSpires" ⟨"BalloonSpires", "hoursByBack", "(II)I"⟩ ⟨"BalloonSpires", "hoursByBack", "(II)I"⟩) ∈ lw_all := lw_g (lw_at lw_ms 7 rfl) rfl
theorem qs8 : (Cond.selects "BalloonSpires" ⟨"BalloonSpires", "hoursBack", "(I)[I"⟩ ⟨"BalloonSpires", "hoursBack", "(I)[I"⟩) ∈ lw_all := lw_g (lw_at lw_ms 8 rfl) rfl
theorem qs9 : (Cond.selects "BalloonSpires" ⟨"BalloonSpires", "leastBehind", "(I[I)I"⟩ ⟨"BalloonSpires", "leastBehind", "(I[I)I"⟩) ∈ lw_all := lw_g (lw_at lw_ms 9 rfl) rfl
theorem qs10 : (Cond.selects "java/util/ArrayList" ⟨"java/util/ArrayList", "add", "(Ljava/lang/Object;[Ljava/lang/Object;I)V"⟩ ⟨"java/util/ArrayList", "add", "(Ljava/lang/Object;[Ljava/lang/Object;I)V"⟩) ∈ lw_all := lw_g (lw_at lw_ms 10 rfl) rfl
theorem qs11 : (Cond.selects "java/util/ArrayList" ⟨"java/util/ArrayList", "grow", "()[Ljava/lang/Object;"⟩ ⟨"java/util/ArrayList", "grow", "()[Ljava/lang/Object;"⟩) ∈ lw_all := lw_g (lw_at lw_ms 11 rfl) rfl
theorem qs12 : (Cond.selects "java/util/ArrayList" ⟨"java/util/ArrayList", "grow", "(I)[Ljava/lang/Object;"⟩ ⟨"java/util/ArrayList", "grow", "(I)[Ljava/lang/Object;"⟩) ∈ lw_all := lw_g (lw_at lw_ms 12 rfl) rfl
theorem qs13 : (Cond.selects "BalloonSpires" ⟨"BalloonSpires", "mustBeOn", "(II)V"⟩ ⟨"BalloonSpires", "mustBeOn", "(II)V"⟩) ∈ lw_all := lw_g (lw_at lw_ms 13 rfl) rfl
theorem qs14 : (Cond.selects "BalloonSpires" ⟨"BalloonSpires", "inRange", "(III)V"⟩ ⟨"BalloonSpires", "inRange", "(III)V"⟩) ∈ lw_all := lw_g (lw_at lw_ms 14 rfl) rfl
theorem qs15 : (Cond.selects "BalloonSpires" ⟨"BalloonSpires", "refuse", "(ZII)V"⟩ ⟨"BalloonSpires", "refuse", "(ZII)V"⟩) ∈ lw_all := lw_g (lw_at lw_ms 15 rfl) rfl
theorem qs16 : (Cond.selects "BalloonSpires" ⟨"BalloonSpires", "change", "()V"⟩ ⟨"BalloonSpires", "change", "()V"⟩) ∈ lw_all := lw_g (lw_at lw_ms 16 rfl) rfl
theorem qs17 : (Cond.selects "BalloonSpires" ⟨"BalloonSpires", "spireAt", "(I)I"⟩ ⟨"BalloonSpires", "spireAt", "(I)I"⟩) ∈ lw_all := lw_g (lw_at lw_ms 17 rfl) rfl
theorem qs18 : (Cond.selects "BalloonSpires" ⟨"BalloonSpires", "mustBeBalloon", "(I)V"⟩ ⟨"BalloonSpires", "mustBeBalloon", "(I)V"⟩) ∈ lw_all := lw_g (lw_at lw_ms 18 rfl) rfl
theorem qs19 : (Cond.selects "BalloonSpires$State" ⟨"BalloonSpires$State", "hourOf", "(LBalloonSpires$Balloon;)I"⟩ ⟨"BalloonSpires$State", "hourOf", "(LBalloonSpires$Balloon;)I"⟩) ∈ lw_all := lw_g (lw_at lw_ms 19 rfl) rfl
theorem qs20 : (Cond.selects "java/util/ArrayList" ⟨"java/util/ArrayList", "fastRemove", "([Ljava/lang/Object;I)V"⟩ ⟨"java/util/ArrayList", "fastRemove", "([Ljava/lang/Object;I)V"⟩) ∈ lw_all := lw_g (lw_at lw_ms 20 rfl) rfl
theorem qs21 : (Cond.selects "BalloonSpires" ⟨"BalloonSpires", "checkBalloon", "(I)V"⟩ ⟨"BalloonSpires", "checkBalloon", "(I)V"⟩) ∈ lw_all := lw_g (lw_at lw_ms 21 rfl) rfl
theorem qs22 : (Cond.selects "BalloonSpires" ⟨"BalloonSpires", "checkSpire", "(I)V"⟩ ⟨"BalloonSpires", "checkSpire", "(I)V"⟩) ∈ lw_all := lw_g (lw_at lw_ms 22 rfl) rfl
theorem qs23 : (Cond.selects "BalloonSpires" ⟨"BalloonSpires", "checkHours", "(II)V"⟩ ⟨"BalloonSpires", "checkHours", "(II)V"⟩) ∈ lw_all := lw_g (lw_at lw_ms 23 rfl) rfl
theorem qs24 : (Cond.selects "BalloonSpires" ⟨"BalloonSpires", "landing", "(I)LBalloonSpires$Trial;"⟩ ⟨"BalloonSpires", "landing", "(I)LBalloonSpires$Trial;"⟩) ∈ lw_all := lw_g (lw_at lw_ms 24 rfl) rfl
theorem qs25 : (Cond.selects "BalloonSpires" ⟨"BalloonSpires", "gateOf", "(I)I"⟩ ⟨"BalloonSpires", "gateOf", "(I)I"⟩) ∈ lw_all := lw_g (lw_at lw_ms 25 rfl) rfl
theorem qs26 : (Cond.selects "BalloonSpires" ⟨"BalloonSpires", "pointOf", "(I)I"⟩ ⟨"BalloonSpires", "pointOf", "(I)I"⟩) ∈ lw_all := lw_g (lw_at lw_ms 26 rfl) rfl
theorem qs27 : (Cond.selects "BalloonSpires$Reader" ⟨"BalloonSpires$Reader", "command", "()V"⟩ ⟨"BalloonSpires$Reader", "command", "()V"⟩) ∈ lw_all := lw_g (lw_at lw_ms 27 rfl) rfl
theorem qs28 : (Cond.selects "BalloonSpires$Reader" ⟨"BalloonSpires$Reader", "word", "()Ljava/lang/String;"⟩ ⟨"BalloonSpires$Reader", "word", "()Ljava/lang/String;"⟩) ∈ lw_all := lw_g (lw_at lw_ms 28 rfl) rfl
theorem qs29 : (Cond.selects "BalloonSpires$Reader" ⟨"BalloonSpires$Reader", "isSome", "(Ljava/lang/String;Z)Z"⟩ ⟨"BalloonSpires$Reader", "isSome", "(Ljava/lang/String;Z)Z"⟩) ∈ lw_all := lw_g (lw_at lw_ms 29 rfl) rfl
theorem qs30 : (Cond.selects "BalloonSpires$Reader" ⟨"BalloonSpires$Reader", "here", "()C"⟩ ⟨"BalloonSpires$Reader", "here", "()C"⟩) ∈ lw_all := lw_g (lw_at lw_ms 30 rfl) rfl
theorem qs31 : (Cond.selects "BalloonSpires$Reader" ⟨"BalloonSpires$Reader", "blank", "()V"⟩ ⟨"BalloonSpires$Reader", "blank", "()V"⟩) ∈ lw_all := lw_g (lw_at lw_ms 31 rfl) rfl
theorem qs32 : (Cond.selects "BalloonSpires$Reader" ⟨"BalloonSpires$Reader", "takes", "(C)Z"⟩ ⟨"BalloonSpires$Reader", "takes", "(C)Z"⟩) ∈ lw_all := lw_g (lw_at lw_ms 32 rfl) rfl
theorem qs33 : (Cond.selects "BalloonSpires$Reader" ⟨"BalloonSpires$Reader", "rest", "(LBalloonSpires$Command;)V"⟩ ⟨"BalloonSpires$Reader", "rest", "(LBalloonSpires$Command;)V"⟩) ∈ lw_all := lw_g (lw_at lw_ms 33 rfl) rfl
theorem qs34 : (Cond.selects "BalloonSpires$Reader" ⟨"BalloonSpires$Reader", "point", "(LBalloonSpires$Command;)V"⟩ ⟨"BalloonSpires$Reader", "point", "(LBalloonSpires$Command;)V"⟩) ∈ lw_all := lw_g (lw_at lw_ms 34 rfl) rfl
theorem qs35 : (Cond.selects "BalloonSpires$Reader" ⟨"BalloonSpires$Reader", "number", "(I)I"⟩ ⟨"BalloonSpires$Reader", "number", "(I)I"⟩) ∈ lw_all := lw_g (lw_at lw_ms 35 rfl) rfl
theorem qs36 : (Cond.selects "BalloonSpires$Reader" ⟨"BalloonSpires$Reader", "side", "(Z)I"⟩ ⟨"BalloonSpires$Reader", "side", "(Z)I"⟩) ∈ lw_all := lw_g (lw_at lw_ms 36 rfl) rfl
theorem qs37 : (Cond.selects "BalloonSpires$Reader" ⟨"BalloonSpires$Reader", "digits", "(LBalloonSpires$Command;I)V"⟩ ⟨"BalloonSpires$Reader", "digits", "(LBalloonSpires$Command;I)V"⟩) ∈ lw_all := lw_g (lw_at lw_ms 37 rfl) rfl
theorem qs38 : (Cond.selects "BalloonSpires" ⟨"BalloonSpires", "doAll", "(Ljava/util/ArrayList;)I"⟩ ⟨"BalloonSpires", "doAll", "(Ljava/util/ArrayList;)I"⟩) ∈ lw_all := lw_g (lw_at lw_ms 38 rfl) rfl
theorem qs39 : (Cond.selects "BalloonSpires" ⟨"BalloonSpires", "does", "(LBalloonSpires$Command;)I"⟩ ⟨"BalloonSpires", "does", "(LBalloonSpires$Command;)I"⟩) ∈ lw_all := lw_g (lw_at lw_ms 39 rfl) rfl
theorem qs40 : (Cond.selects "BalloonSpires" ⟨"BalloonSpires", "writePoint", "(I)V"⟩ ⟨"BalloonSpires", "writePoint", "(I)V"⟩) ∈ lw_all := lw_g (lw_at lw_ms 40 rfl) rfl
theorem qs41 : (Cond.selects "BalloonSpires" ⟨"BalloonSpires", "sacks", "()I"⟩ ⟨"BalloonSpires", "sacks", "()I"⟩) ∈ lw_all := lw_g (lw_at lw_ms 41 rfl) rfl
theorem qs42 : (Cond.selects "BalloonSpires" ⟨"BalloonSpires", "seals", "()I"⟩ ⟨"BalloonSpires", "seals", "()I"⟩) ∈ lw_all := lw_g (lw_at lw_ms 42 rfl) rfl
theorem qs43 : (Cond.selects "BalloonSpires" ⟨"BalloonSpires", "farms", "()I"⟩ ⟨"BalloonSpires", "farms", "()I"⟩) ∈ lw_all := lw_g (lw_at lw_ms 43 rfl) rfl
theorem qs44 : (Cond.selects "BalloonSpires" ⟨"BalloonSpires", "mustBeSome", "()V"⟩ ⟨"BalloonSpires", "mustBeSome", "()V"⟩) ∈ lw_all := lw_g (lw_at lw_ms 44 rfl) rfl
theorem qs45 : (Cond.selects "BalloonSpires" ⟨"BalloonSpires", "gas", "()I"⟩ ⟨"BalloonSpires", "gas", "()I"⟩) ∈ lw_all := lw_g (lw_at lw_ms 45 rfl) rfl
theorem qs46 : (Cond.selects "BalloonSpiresModel" ⟨"BalloonSpiresModel", "keep", "()V"⟩ ⟨"BalloonSpiresModel", "keep", "()V"⟩) ∈ lw_all := lw_g (lw_at lw_ms 46 rfl) rfl
theorem qs47 : (Cond.selects "BalloonSpiresModel" ⟨"BalloonSpiresModel", "doEnter", "(IIII)I"⟩ ⟨"BalloonSpiresModel", "doEnter", "(IIII)I"⟩) ∈ lw_all := lw_g (lw_at lw_ms 47 rfl) rfl
theorem qs48 : (Cond.selects "BalloonSpiresModel" ⟨"BalloonSpiresModel", "refuse", "(II)I"⟩ ⟨"BalloonSpiresModel", "refuse", "(II)I"⟩) ∈ lw_all := lw_g (lw_at lw_ms 48 rfl) rfl
theorem qs49 : (Cond.selects "BalloonSpiresModel" ⟨"BalloonSpiresModel", "sets", "(III)V"⟩ ⟨"BalloonSpiresModel", "sets", "(III)V"⟩) ∈ lw_all := lw_g (lw_at lw_ms 49 rfl) rfl
theorem qs50 : (Cond.selects "BalloonSpiresModel" ⟨"BalloonSpiresModel", "ends", "(I)I"⟩ ⟨"BalloonSpiresModel", "ends", "(I)I"⟩) ∈ lw_all := lw_g (lw_at lw_ms 50 rfl) rfl
theorem qs51 : (Cond.selects "BalloonSpiresModel" ⟨"BalloonSpiresModel", "doSpire", "(III)I"⟩ ⟨"BalloonSpiresModel", "doSpire", "(III)I"⟩) ∈ lw_all := lw_g (lw_at lw_ms 51 rfl) rfl
theorem qs52 : (Cond.selects "BalloonSpiresModel" ⟨"BalloonSpiresModel", "spireOn", "(I)I"⟩ ⟨"BalloonSpiresModel", "spireOn", "(I)I"⟩) ∈ lw_all := lw_g (lw_at lw_ms 52 rfl) rfl
theorem qs53 : (Cond.selects "BalloonSpiresModel" ⟨"BalloonSpiresModel", "doFarm", "(III)I"⟩ ⟨"BalloonSpiresModel", "doFarm", "(III)I"⟩) ∈ lw_all := lw_g (lw_at lw_ms 53 rfl) rfl
theorem qs54 : (Cond.selects "BalloonSpiresModel" ⟨"BalloonSpiresModel", "doWind", "(II)I"⟩ ⟨"BalloonSpiresModel", "doWind", "(II)I"⟩) ∈ lw_all := lw_g (lw_at lw_ms 54 rfl) rfl
theorem qs55 : (Cond.selects "BalloonSpiresModel" ⟨"BalloonSpiresModel", "doDrop", "(II)I"⟩ ⟨"BalloonSpiresModel", "doDrop", "(II)I"⟩) ∈ lw_all := lw_g (lw_at lw_ms 55 rfl) rfl
theorem qs56 : (Cond.selects "BalloonSpiresModel" ⟨"BalloonSpiresModel", "isBalloon", "(I)Z"⟩ ⟨"BalloonSpiresModel", "isBalloon", "(I)Z"⟩) ∈ lw_all := lw_g (lw_at lw_ms 56 rfl) rfl
theorem qs57 : (Cond.selects "BalloonSpiresModel" ⟨"BalloonSpiresModel", "of", "(II)I"⟩ ⟨"BalloonSpiresModel", "of", "(II)I"⟩) ∈ lw_all := lw_g (lw_at lw_ms 57 rfl) rfl
theorem qs58 : (Cond.selects "BalloonSpiresModel" ⟨"BalloonSpiresModel", "doVent", "(II)I"⟩ ⟨"BalloonSpiresModel", "doVent", "(II)I"⟩) ∈ lw_all := lw_g (lw_at lw_ms 58 rfl) rfl
theorem qs59 : (Cond.selects "BalloonSpiresModel" ⟨"BalloonSpiresModel", "sinks", "(II)I"⟩ ⟨"BalloonSpiresModel", "sinks", "(II)I"⟩) ∈ lw_all := lw_g (lw_at lw_ms 59 rfl) rfl
theorem qs60 : (Cond.selects "BalloonSpiresModel" ⟨"BalloonSpiresModel", "pointOf", "(I)I"⟩ ⟨"BalloonSpiresModel", "pointOf", "(I)I"⟩) ∈ lw_all := lw_g (lw_at lw_ms 60 rfl) rfl
theorem qs61 : (Cond.selects "BalloonSpiresModel" ⟨"BalloonSpiresModel", "doTrade", "(III)I"⟩ ⟨"BalloonSpiresModel", "doTrade", "(III)I"⟩) ∈ lw_all := lw_g (lw_at lw_ms 61 rfl) rfl
theorem qs62 : (Cond.selects "BalloonSpiresModel" ⟨"BalloonSpiresModel", "doSeal", "(II)I"⟩ ⟨"BalloonSpiresModel", "doSeal", "(II)I"⟩) ∈ lw_all := lw_g (lw_at lw_ms 62 rfl) rfl
theorem qs63 : (Cond.selects "BalloonSpiresModel" ⟨"BalloonSpiresModel", "doHour", "(I)I"⟩ ⟨"BalloonSpiresModel", "doHour", "(I)I"⟩) ∈ lw_all := lw_g (lw_at lw_ms 63 rfl) rfl
theorem qs64 : (Cond.selects "BalloonSpiresModel" ⟨"BalloonSpiresModel", "goesHour", "()V"⟩ ⟨"BalloonSpiresModel", "goesHour", "()V"⟩) ∈ lw_all := lw_g (lw_at lw_ms 64 rfl) rfl
theorem qs65 : (Cond.selects "BalloonSpiresModel" ⟨"BalloonSpiresModel", "flies", "(I)V"⟩ ⟨"BalloonSpiresModel", "flies", "(I)V"⟩) ∈ lw_all := lw_g (lw_at lw_ms 65 rfl) rfl
theorem qs66 : (Cond.selects "BalloonSpiresModel" ⟨"BalloonSpiresModel", "drifted", "(II)I"⟩ ⟨"BalloonSpiresModel", "drifted", "(II)I"⟩) ∈ lw_all := lw_g (lw_at lw_ms 66 rfl) rfl
theorem qs67 : (Cond.selects "BalloonSpiresModel" ⟨"BalloonSpiresModel", "atGate", "(I)Z"⟩ ⟨"BalloonSpiresModel", "atGate", "(I)Z"⟩) ∈ lw_all := lw_g (lw_at lw_ms 67 rfl) rfl
theorem qs68 : (Cond.selects "BalloonSpiresModel" ⟨"BalloonSpiresModel", "hasNext", "(I)Z"⟩ ⟨"BalloonSpiresModel", "hasNext", "(I)Z"⟩) ∈ lw_all := lw_g (lw_at lw_ms 68 rfl) rfl
theorem qs69 : (Cond.selects "BalloonSpiresModel" ⟨"BalloonSpiresModel", "gate", "(I)I"⟩ ⟨"BalloonSpiresModel", "gate", "(I)I"⟩) ∈ lw_all := lw_g (lw_at lw_ms 69 rfl) rfl
theorem qs70 : (Cond.selects "BalloonSpiresModel" ⟨"BalloonSpiresModel", "rounds", "(I)V"⟩ ⟨"BalloonSpiresModel", "rounds", "(I)V"⟩) ∈ lw_all := lw_g (lw_at lw_ms 70 rfl) rfl
theorem qs71 : (Cond.selects "BalloonSpiresModel" ⟨"BalloonSpiresModel", "doRetire", "(I)I"⟩ ⟨"BalloonSpiresModel", "doRetire", "(I)I"⟩) ∈ lw_all := lw_g (lw_at lw_ms 71 rfl) rfl
theorem qs72 : (Cond.selects "BalloonSpiresModel" ⟨"BalloonSpiresModel", "balloonsOn", "(I)I"⟩ ⟨"BalloonSpiresModel", "balloonsOn", "(I)I"⟩) ∈ lw_all := lw_g (lw_at lw_ms 72 rfl) rfl
theorem qs73 : (Cond.selects "BalloonSpiresModel" ⟨"BalloonSpiresModel", "cannot", "(III)I"⟩ ⟨"BalloonSpiresModel", "cannot", "(III)I"⟩) ∈ lw_all := lw_g (lw_at lw_ms 73 rfl) rfl
theorem qs74 : (Cond.selects "BalloonSpiresModel" ⟨"BalloonSpiresModel", "after", "(III)I"⟩ ⟨"BalloonSpiresModel", "after", "(III)I"⟩) ∈ lw_all := lw_g (lw_at lw_ms 74 rfl) rfl
theorem qs75 : (Cond.selects "BalloonSpiresModel" ⟨"BalloonSpiresModel", "thinks", "()V"⟩ ⟨"BalloonSpiresModel", "thinks", "()V"⟩) ∈ lw_all := lw_g (lw_at lw_ms 75 rfl) rfl
theorem qs76 : (Cond.selects "BalloonSpiresModel" ⟨"BalloonSpiresModel", "forgets", "()V"⟩ ⟨"BalloonSpiresModel", "forgets", "()V"⟩) ∈ lw_all := lw_g (lw_at lw_ms 76 rfl) rfl
theorem qs77 : (Cond.selects "BalloonSpiresModel" ⟨"BalloonSpiresModel", "fails", "(I)I"⟩ ⟨"BalloonSpiresModel", "fails", "(I)I"⟩) ∈ lw_all := lw_g (lw_at lw_ms 77 rfl) rfl
theorem qs78 : (Cond.selects "BalloonSpiresModel" ⟨"BalloonSpiresModel", "fewestOf", "(I)I"⟩ ⟨"BalloonSpiresModel", "fewestOf", "(I)I"⟩) ∈ lw_all := lw_g (lw_at lw_ms 78 rfl) rfl
theorem qs79 : (Cond.selects "BalloonSpiresModel" ⟨"BalloonSpiresModel", "hoursTo", "(II)I"⟩ ⟨"BalloonSpiresModel", "hoursTo", "(II)I"⟩) ∈ lw_all := lw_g (lw_at lw_ms 79 rfl) rfl
theorem qs80 : (Cond.selects "BalloonSpiresModel" ⟨"BalloonSpiresModel", "begins", "(I)V"⟩ ⟨"BalloonSpiresModel", "begins", "(I)V"⟩) ∈ lw_all := lw_g (lw_at lw_ms 80 rfl) rfl
theorem qs81 : (Cond.selects "BalloonSpiresModel" ⟨"BalloonSpiresModel", "goesOn", "()V"⟩ ⟨"BalloonSpiresModel", "goesOn", "()V"⟩) ∈ lw_all := lw_g (lw_at lw_ms 81 rfl) rfl
theorem qs82 : (Cond.selects "BalloonSpiresModel" ⟨"BalloonSpiresModel", "isAhead", "(II)Z"⟩ ⟨"BalloonSpiresModel", "isAhead", "(II)Z"⟩) ∈ lw_all := lw_g (lw_at lw_ms 82 rfl) rfl
theorem qs83 : (Cond.selects "BalloonSpiresModel" ⟨"BalloonSpiresModel", "readOrder", "()V"⟩ ⟨"BalloonSpiresModel", "readOrder", "()V"⟩) ∈ lw_all := lw_g (lw_at lw_ms 83 rfl) rfl
theorem qs84 : (Cond.selects "BalloonSpiresModel" ⟨"BalloonSpiresModel", "skip", "(Ljava/lang/String;)V"⟩ ⟨"BalloonSpiresModel", "skip", "(Ljava/lang/String;)V"⟩) ∈ lw_all := lw_g (lw_at lw_ms 84 rfl) rfl
theorem qs85 : (Cond.selects "BalloonSpiresModel" ⟨"BalloonSpiresModel", "sign", "(CC)I"⟩ ⟨"BalloonSpiresModel", "sign", "(CC)I"⟩) ∈ lw_all := lw_g (lw_at lw_ms 85 rfl) rfl
theorem qs86 : (Cond.selects "BalloonSpiresModel" ⟨"BalloonSpiresModel", "isHere", "(CC)Z"⟩ ⟨"BalloonSpiresModel", "isHere", "(CC)Z"⟩) ∈ lw_all := lw_g (lw_at lw_ms 86 rfl) rfl
theorem qs87 : (Cond.selects "BalloonSpiresModel" ⟨"BalloonSpiresModel", "point", "(I)V"⟩ ⟨"BalloonSpiresModel", "point", "(I)V"⟩) ∈ lw_all := lw_g (lw_at lw_ms 87 rfl) rfl
theorem qs88 : (Cond.selects "BalloonSpiresModel" ⟨"BalloonSpiresModel", "digit", "()I"⟩ ⟨"BalloonSpiresModel", "digit", "()I"⟩) ∈ lw_all := lw_g (lw_at lw_ms 88 rfl) rfl
theorem qs89 : (Cond.selects "BalloonSpiresModel" ⟨"BalloonSpiresModel", "number", "()I"⟩ ⟨"BalloonSpiresModel", "number", "()I"⟩) ∈ lw_all := lw_g (lw_at lw_ms 89 rfl) rfl
theorem qs90 : (Cond.selects "BalloonSpiresModel" ⟨"BalloonSpiresModel", "readSpireOrSeal", "(I)V"⟩ ⟨"BalloonSpiresModel", "readSpireOrSeal", "(I)V"⟩) ∈ lw_all := lw_g (lw_at lw_ms 90 rfl) rfl
theorem qs91 : (Cond.selects "BalloonSpiresModel" ⟨"BalloonSpiresModel", "side", "(Ljava/lang/String;)I"⟩ ⟨"BalloonSpiresModel", "side", "(Ljava/lang/String;)I"⟩) ∈ lw_all := lw_g (lw_at lw_ms 91 rfl) rfl
theorem qs92 : (Cond.selects "BalloonSpiresModel" ⟨"BalloonSpiresModel", "digits", "(II)V"⟩ ⟨"BalloonSpiresModel", "digits", "(II)V"⟩) ∈ lw_all := lw_g (lw_at lw_ms 92 rfl) rfl
theorem qs93 : (Cond.selects "BalloonSpiresModel" ⟨"BalloonSpiresModel", "does", "(I)V"⟩ ⟨"BalloonSpiresModel", "does", "(I)V"⟩) ∈ lw_all := lw_g (lw_at lw_ms 93 rfl) rfl
theorem qs94 : (Cond.selects "BalloonSpiresModel" ⟨"BalloonSpiresModel", "saysNumber", "(I)V"⟩ ⟨"BalloonSpiresModel", "saysNumber", "(I)V"⟩) ∈ lw_all := lw_g (lw_at lw_ms 94 rfl) rfl
theorem qs95 : (Cond.selects "BalloonSpiresModel" ⟨"BalloonSpiresModel", "says", "(C)V"⟩ ⟨"BalloonSpiresModel", "says", "(C)V"⟩) ∈ lw_all := lw_g (lw_at lw_ms 95 rfl) rfl
theorem qs96 : (Cond.selects "BalloonSpiresModel" ⟨"BalloonSpiresModel", "all", "(IZ)I"⟩ ⟨"BalloonSpiresModel", "all", "(IZ)I"⟩) ∈ lw_all := lw_g (lw_at lw_ms 96 rfl) rfl
theorem qs97 : (Cond.selects "BalloonSpiresModel" ⟨"BalloonSpiresModel", "fees", "()I"⟩ ⟨"BalloonSpiresModel", "fees", "()I"⟩) ∈ lw_all := lw_g (lw_at lw_ms 97 rfl) rfl
