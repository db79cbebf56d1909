set_option maxRecDepth 100000
def dkwJ3_init_0 : List UInt8 := [42, 183, 0, 42, 42, 16, 17, 189, 0, 47, 181, 0, 3, 177]
abbrev dktJ3_init_0 : List UInt8 := dkwJ3_init_0 ++ []
theorem dksJ3_init_0 : cJ3_init.data.toList.drop 0 = dktJ3_init_0 := by decide +kernel
theorem dJ3_init_0 : decode cJ3_init 0 = .ok (.aload_n 0, 1) := dk_42 (dk_at dksJ3_init_0 0 rfl rfl)
theorem dJ3_init_1 : decode cJ3_init 1 = .ok (.invokespecial 42, 3) := dk_183 0 42 (dk_at dksJ3_init_0 1 rfl rfl)
theorem dJ3_init_4 : decode cJ3_init 4 = .ok (.aload_n 0, 1) := dk_42 (dk_at dksJ3_init_0 4 rfl rfl)
theorem dJ3_init_5 : decode cJ3_init 5 = .ok (.bipush 17, 2) := dk_16 17 (dk_at dksJ3_init_0 5 rfl rfl)
theorem dJ3_init_7 : decode cJ3_init 7 = .ok (.anewarray 47, 3) := dk_189 0 47 (dk_at dksJ3_init_0 7 rfl rfl)
theorem dJ3_init_10 : decode cJ3_init 10 = .ok (.putfield 3, 3) := dk_181 0 3 (dk_at dksJ3_init_0 10 rfl rfl)
theorem dJ3_init_13 : decode cJ3_init 13 = .ok (.return_, 1) := dk_177 (dk_at dksJ3_init_0 13 rfl rfl)
def dkwJ3_nonNullElementAt_0 : List UInt8 := [42, 27, 50, 77, 44, 199, 0, 11, 187, 0, 62, 89, 183, 0, 64, 191, 44, 176]
abbrev dktJ3_nonNullElementAt_0 : List UInt8 := dkwJ3_nonNullElementAt_0 ++ []
theorem dksJ3_nonNullElementAt_0 : cJ3_nonNullElementAt.data.toList.drop 0 = dktJ3_nonNullElementAt_0 := by decide +kernel
theorem dJ3_nonNullElementAt_0 : decode cJ3_nonNullElementAt 0 = .ok (.aload_n 0, 1) := dk_42 (dk_at dksJ3_nonNullElementAt_0 0 rfl rfl)
theorem dJ3_nonNullElementAt_1 : decode cJ3_nonNullElementAt 1 = .ok (.iload_n 1, 1) := dk_27 (dk_at dksJ3_nonNullElementAt_0 1 rfl rfl)
theorem dJ3_nonNullElementAt_2 : decode cJ3_nonNullElementAt 2 = .ok (.aaload, 1) := dk_50 (dk_at dksJ3_nonNullElementAt_0 2 rfl rfl)
theorem dJ3_nonNullElementAt_3 : decode cJ3_nonNullElementAt 3 = .ok (.astore_n 2, 1) := dk_77 (dk_at dksJ3_nonNullElementAt_0 3 rfl rfl)
theorem dJ3_nonNullElementAt_4 : decode cJ3_nonNullElementAt 4 = .ok (.aload_n 2, 1) := dk_44 (dk_at dksJ3_nonNullElementAt_0 4 rfl rfl)
theorem dJ3_nonNullElementAt_5 : decode cJ3_nonNullElementAt 5 = .ok (.ifnonnull 11, 3) := dk_199 0 11 (dk_at dksJ3_nonNullElementAt_0 5 rfl rfl)
theorem dJ3_nonNullElementAt_8 : decode cJ3_nonNullElementAt 8 = .ok (.new 62, 3) := dk_187 0 62 (dk_at dksJ3_nonNullElementAt_0 8 rfl rfl)
theorem dJ3_nonNullElementAt_11 : decode cJ3_nonNullElementAt 11 = .ok (.dup, 1) := dk_89 (dk_at dksJ3_nonNullElementAt_0 11 rfl rfl)
theorem dJ3_nonNullElementAt_12 : decode cJ3_nonNullElementAt 12 = .ok (.invokespecial 64, 3) := dk_183 0 64 (dk_at dksJ3_nonNullElementAt_0 12 rfl rfl)
theorem dJ3_nonNullElementAt_15 : decode cJ3_nonNullElementAt 15 = .ok (.athrow, 1) := dk_191 (dk_at dksJ3_nonNullElementAt_0 15 rfl rfl)
theorem dJ3_nonNullElementAt_16 : decode cJ3_nonNullElementAt 16 = .ok (.aload_n 2, 1) := dk_44 (dk_at dksJ3_nonNullElementAt_0 16 rfl rfl)
theorem dJ3_nonNullElementAt_17 : decode cJ3_nonNullElementAt 17 = .ok (.areturn, 1) := dk_176 (dk_at dksJ3_nonNullElementAt_0 17 rfl rfl)
def dkwJ3_inc_0 : List UInt8 := [132, 0, 1, 26, 27, 161, 0, 5, 3, 59, 26, 172]
abbrev dktJ3_inc_0 : List UInt8 := dkwJ3_inc_0 ++ []
theorem dksJ3_inc_0 : cJ3_inc.data.toList.drop 0 = dktJ3_inc_0 := by decide +kernel
theorem dJ3_inc_0 : decode cJ3_inc 0 = .ok (.iinc 0 1, 3) := dk_132 0 1 (dk_at dksJ3_inc_0 0 rfl rfl)
theorem dJ3_inc_3 : decode cJ3_inc 3 = .ok (.iload_n 0, 1) := dk_26 (dk_at dksJ3_inc_0 3 rfl rfl)
theorem dJ3_inc_4 : decode cJ3_inc 4 = .ok (.iload_n 1, 1) := dk_27 (dk_at dksJ3_inc_0 4 rfl rfl)
theorem dJ3_inc_5 : decode cJ3_inc 5 = .ok (.if_icmp .lt 5, 3) := dk_161 0 5 (dk_at dksJ3_inc_0 5 rfl rfl)
theorem dJ3_inc_8 : decode cJ3_inc 8 = .ok (.iconst 0, 1) := dk_3 (dk_at dksJ3_inc_0 8 rfl rfl)
theorem dJ3_inc_9 : decode cJ3_inc 9 = .ok (.istore_n 0, 1) := dk_59 (dk_at dksJ3_inc_0 9 rfl rfl)
theorem dJ3_inc_10 : decode cJ3_inc 10 = .ok (.iload_n 0, 1) := dk_26 (dk_at dksJ3_inc_0 10 rfl rfl)
theorem dJ3_inc_11 : decode cJ3_inc 11 = .ok (.ireturn, 1) := dk_172 (dk_at dksJ3_inc_0 11 rfl rfl)
def dkwJ3_addLast_2 : List UInt8 := [182, 0, 71, 177]
abbrev dktJ3_addLast_2 : List UInt8 := dkwJ3_addLast_2 ++ []
def dkwJ3_addLast_1 : List UInt8 := [42, 180, 0, 24, 42, 42, 180, 0, 20, 44, 190, 184, 0, 74, 90, 181, 0, 20, 160, 0, 8, 42, 4]
abbrev dktJ3_addLast_1 : List UInt8 := dkwJ3_addLast_1 ++ dktJ3_addLast_2
def dkwJ3_addLast_0 : List UInt8 := [43, 199, 0, 11, 187, 0, 65, 89, 183, 0, 67, 191, 42, 180, 0, 3, 77, 44, 42, 180, 0, 20, 43, 83]
abbrev dktJ3_addLast_0 : List UInt8 := dkwJ3_addLast_0 ++ dktJ3_addLast_1
theorem dksJ3_addLast_0 : cJ3_addLast.data.toList.drop 0 = dktJ3_addLast_0 := by decide +kernel
theorem dksJ3_addLast_1 : cJ3_addLast.data.toList.drop 24 = dktJ3_addLast_1 := dk_seg dksJ3_addLast_0 24 rfl rfl
theorem dksJ3_addLast_2 : cJ3_addLast.data.toList.drop 47 = dktJ3_addLast_2 := dk_seg dksJ3_addLast_1 23 rfl rfl
theorem dJ3_addLast_0 : decode cJ3_addLast 0 = .ok (.aload_n 1, 1) := dk_43 (dk_at dksJ3_addLast_0 0 rfl rfl)
theorem dJ3_addLast_1 : decode cJ3_addLast 1 = .ok (.ifnonnull 11, 3) := dk_199 0 11 (dk_at dksJ3_addLast_0 1 rfl rfl)
theorem dJ3_addLast_4 : decode cJ3_addLast 4 = .ok (.new 65, 3) := dk_187 0 65 (dk_at dksJ3_addLast_0 4 rfl rfl)
theorem dJ3_addLast_7 : decode cJ3_addLast 7 = .ok (.dup, 1) := dk_89 (dk_at dksJ3_addLast_0 7 rfl rfl)
theorem dJ3_addLast_8 : decode cJ3_addLast 8 = .ok (.invokespecial 67, 3) := dk_183 0 67 (dk_at dksJ3_addLast_0 8 rfl rfl)
theorem dJ3_addLast_11 : decode cJ3_addLast 11 = .ok (.athrow, 1) := dk_191 (dk_at dksJ3_addLast_0 11 rfl rfl)
theorem dJ3_addLast_12 : decode cJ3_addLast 12 = .ok (.aload_n 0, 1) := dk_42 (dk_at dksJ3_addLast_0 12 rfl rfl)
theorem dJ3_addLast_13 : decode cJ3_addLast 13 = .ok (.getfield 3, 3) := dk_180 0 3 (dk_at dksJ3_addLast_0 13 rfl rfl)
theorem dJ3_addLast_16 : decode cJ3_addLast 16 = .ok (.astore_n 2, 1) := dk_77 (dk_at dksJ3_addLast_0 16 rfl rfl)
theorem dJ3_addLast_17 : decode cJ3_addLast 17 = .ok (.aload_n 2, 1) := dk_44 (dk_at dksJ3_addLast_0 17 rfl rfl)
theorem dJ3_addLast_18 : decode cJ3_addLast 18 = .ok (.aload_n 0, 1) := dk_42 (dk_at dksJ3_addLast_0 18 rfl rfl)
theorem dJ3_addLast_19 : decode cJ3_addLast 19 = .ok (.getfield 20, 3) := dk_180 0 20 (dk_at dksJ3_addLast_0 19 rfl rfl)
theorem dJ3_addLast_22 : decode cJ3_addLast 22 = .ok (.aload_n 1, 1) := dk_43 (dk_at dksJ3_addLast_0 22 rfl rfl)
theorem dJ3_addLast_23 : decode cJ3_addLast 23 = .ok (.aastore, 1) := dk_83 (dk_at dksJ3_addLast_0 23 rfl rfl)
theorem dJ3_addLast_24 : decode cJ3_addLast 24 = .ok (.aload_n 0, 1) := dk_42 (dk_at dksJ3_addLast_1 0 rfl rfl)
theorem dJ3_addLast_25 : decode cJ3_addLast 25 = .ok (.getfield 24, 3) := dk_180 0 24 (dk_at dksJ3_addLast_1 1 rfl rfl)
theorem dJ3_addLast_28 : decode cJ3_addLast 28 = .ok (.aload_n 0, 1) := dk_42 (dk_at dksJ3_addLast_1 4 rfl rfl)
theorem dJ3_addLast_29 : decode cJ3_addLast 29 = .ok (.aload_n 0, 1) := dk_42 (dk_at dksJ3_addLast_1 5 rfl rfl)
theorem dJ3_addLast_30 : decode cJ3_addLast 30 = .ok (.getfield 20, 3) := dk_180 0 20 (dk_at dksJ3_addLast_1 6 rfl rfl)
theorem dJ3_addLast_33 : decode cJ3_addLast 33 = .ok (.aload_n 2, 1) := dk_44 (dk_at dksJ3_addLast_1 9 rfl rfl)
theorem dJ3_addLast_34 : decode cJ3_addLast 34 = .ok (.arraylength, 1) := dk_190 (dk_at dksJ3_addLast_1 10 rfl rfl)
theorem dJ3_addLast_35 : decode cJ3_addLast 35 = .ok (.invokestatic 74, 3) := dk_184 0 74 (dk_at dksJ3_addLast_1 11 rfl rfl)
theorem dJ3_addLast_38 : decode cJ3_addLast 38 = .ok (.dup_x1, 1) := dk_90 (dk_at dksJ3_addLast_1 14 rfl rfl)
theorem dJ3_addLast_39 : decode cJ3_addLast 39 = .ok (.putfield 20, 3) := dk_181 0 20 (dk_at dksJ3_addLast_1 15 rfl rfl)
theorem dJ3_addLast_42 : decode cJ3_addLast 42 = .ok (.if_icmp .ne 8, 3) := dk_160 0 8 (dk_at dksJ3_addLast_1 18 rfl rfl)
theorem dJ3_addLast_45 : decode cJ3_addLast 45 = .ok (.aload_n 0, 1) := dk_42 (dk_at dksJ3_addLast_1 21 rfl rfl)
theorem dJ3_addLast_46 : decode cJ3_addLast 46 = .ok (.iconst 1, 1) := dk_4 (dk_at dksJ3_addLast_1 22 rfl rfl)
theorem dJ3_addLast_47 : decode cJ3_addLast 47 = .ok (.invokevirtual 71, 3) := dk_182 0 71 (dk_at dksJ3_addLast_2 0 rfl rfl)
theorem dJ3_addLast_50 : decode cJ3_addLast 50 = .ok (.return_, 1) := dk_177 (dk_at dksJ3_addLast_2 3 rfl rfl)
def dkwJ3_grow_7 : List UInt8 := [177]
abbrev dktJ3_grow_7 : List UInt8 := dkwJ3_grow_7 ++ []
def dkwJ3_grow_6 : List UInt8 := [181, 0, 24, 54, 8, 21, 7, 21, 8, 162, 0, 15, 25, 5, 21, 7, 1, 83, 132, 7, 1, 167, 255, 240]
abbrev dktJ3_grow_6 : List UInt8 := dkwJ3_grow_6 ++ dktJ3_grow_7
def dkwJ3_grow_5 : List UInt8 := [42, 180, 0, 24, 100, 184, 0, 27, 42, 180, 0, 24, 54, 7, 42, 89, 180, 0, 24, 21, 6, 96, 90]
abbrev dktJ3_grow_5 : List UInt8 := dkwJ3_grow_5 ++ dktJ3_grow_6
def dkwJ3_grow_4 : List UInt8 := [198, 0, 71, 29, 28, 100, 54, 6, 25, 5, 42, 180, 0, 24, 25, 5, 42, 180, 0, 24, 21, 6, 96, 28]
abbrev dktJ3_grow_4 : List UInt8 := dkwJ3_grow_4 ++ dktJ3_grow_5
def dkwJ3_grow_3 : List UInt8 := [180, 0, 24, 161, 0, 24, 42, 180, 0, 20, 42, 180, 0, 24, 160, 0, 81, 25, 5, 42, 180, 0, 24, 50]
abbrev dktJ3_grow_3 : List UInt8 := dkwJ3_grow_3 ++ dktJ3_grow_4
def dkwJ3_grow_2 : List UInt8 := [182, 0, 10, 62, 42, 42, 180, 0, 3, 29, 184, 0, 14, 90, 181, 0, 3, 58, 5, 42, 180, 0, 20, 42]
abbrev dktJ3_grow_2 : List UInt8 := dkwJ3_grow_2 ++ dktJ3_grow_3
def dkwJ3_grow_1 : List UInt8 := [21, 4, 27, 161, 0, 15, 28, 21, 4, 96, 89, 62, 18, 9, 100, 158, 0, 11, 42, 27, 21, 4]
abbrev dktJ3_grow_1 : List UInt8 := dkwJ3_grow_1 ++ dktJ3_grow_2
def dkwJ3_grow_0 : List UInt8 := [42, 180, 0, 3, 190, 61, 28, 16, 64, 162, 0, 9, 28, 5, 96, 167, 0, 6, 28, 4, 122, 54, 4]
abbrev dktJ3_grow_0 : List UInt8 := dkwJ3_grow_0 ++ dktJ3_grow_1
theorem dksJ3_grow_0 : cJ3_grow.data.toList.drop 0 = dktJ3_grow_0 := by decide +kernel
theorem dksJ3_grow_1 : cJ3_grow.data.toList.drop 23 = dktJ3_grow_1 := dk_seg dksJ3_grow_0 23 rfl rfl
theorem dksJ3_grow_2 : cJ3_grow.data.toList.drop 45 = dktJ3_grow_2 := dk_seg dksJ3_grow_1 22 rfl rfl
theorem dksJ3_grow_3 : cJ3_grow.data.toList.drop 69 = dktJ3_grow_3 := dk_seg dksJ3_grow_2 24 rfl rfl
theorem dksJ3_grow_4 : cJ3_grow.data.toList.drop 93 = dktJ3_grow_4 := dk_seg dksJ3_grow_3 24 rfl rfl
theorem dksJ3_grow_5 : cJ3_grow.data.toList.drop 117 = dktJ3_grow_5 := dk_seg dksJ3_grow_4 24 rfl rfl
theorem dksJ3_grow_6 : cJ3_grow.data.toList.drop 140 = dktJ3_grow_6 := dk_seg dksJ3_grow_5 23 rfl rfl
theorem dksJ3_grow_7 : cJ3_grow.data.toList.drop 164 = dktJ3_grow_7 := dk_seg dksJ3_grow_6 24 rfl rfl
theorem dJ3_grow_0 : decode cJ3_grow 0 = .ok (.aload_n 0, 1) := dk_42 (dk_at dksJ3_grow_0 0 rfl rfl)
theorem dJ3_grow_1 : decode cJ3_grow 1 = .ok (.getfield 3, 3) := dk_180 0 3 (dk_at dksJ3_grow_0 1 rfl rfl)
theorem dJ3_grow_4 : decode cJ3_grow 4 = .ok (.arraylength, 1) := dk_190 (dk_at dksJ3_grow_0 4 rfl rfl)
theorem dJ3_grow_5 : decode cJ3_grow 5 = .ok (.istore_n 2, 1) := dk_61 (dk_at dksJ3_grow_0 5 rfl rfl)
theorem dJ3_grow_6 : decode cJ3_grow 6 = .ok (.iload_n 2, 1) := dk_28 (dk_at dksJ3_grow_0 6 rfl rfl)
theorem dJ3_grow_7 : decode cJ3_grow 7 = .ok (.bipush 64, 2) := dk_16 64 (dk_at dksJ3_grow_0 7 rfl rfl)
theorem dJ3_grow_9 : decode cJ3_grow 9 = .ok (.if_icmp .ge 9, 3) := dk_162 0 9 (dk_at dksJ3_grow_0 9 rfl rfl)
theorem dJ3_grow_12 : decode cJ3_grow 12 = .ok (.iload_n 2, 1) := dk_28 (dk_at dksJ3_grow_0 12 rfl rfl)
theorem dJ3_grow_13 : decode cJ3_grow 13 = .ok (.iconst 2, 1) := dk_5 (dk_at dksJ3_grow_0 13 rfl rfl)
theorem dJ3_grow_14 : decode cJ3_grow 14 = .ok (.iadd, 1) := dk_96 (dk_at dksJ3_grow_0 14 rfl rfl)
theorem dJ3_grow_15 : decode cJ3_grow 15 = .ok (.goto 6, 3) := dk_167 0 6 (dk_at dksJ3_grow_0 15 rfl rfl)
theorem dJ3_grow_18 : decode cJ3_grow 18 = .ok (.iload_n 2, 1) := dk_28 (dk_at dksJ3_grow_0 18 rfl rfl)
theorem dJ3_grow_19 : decode cJ3_grow 19 = .ok (.iconst 1, 1) := dk_4 (dk_at dksJ3_grow_0 19 rfl rfl)
theorem dJ3_grow_20 : decode cJ3_grow 20 = .ok (.ishr, 1) := dk_122 (dk_at dksJ3_grow_0 20 rfl rfl)
theorem dJ3_grow_21 : decode cJ3_grow 21 = .ok (.istore 4, 2) := dk_54 4 (dk_at dksJ3_grow_0 21 rfl rfl)
theorem dJ3_grow_23 : decode cJ3_grow 23 = .ok (.iload 4, 2) := dk_21 4 (dk_at dksJ3_grow_1 0 rfl rfl)
theorem dJ3_grow_25 : decode cJ3_grow 25 = .ok (.iload_n 1, 1) := dk_27 (dk_at dksJ3_grow_1 2 rfl rfl)
theorem dJ3_grow_26 : decode cJ3_grow 26 = .ok (.if_icmp .lt 15, 3) := dk_161 0 15 (dk_at dksJ3_grow_1 3 rfl rfl)
theorem dJ3_grow_29 : decode cJ3_grow 29 = .ok (.iload_n 2, 1) := dk_28 (dk_at dksJ3_grow_1 6 rfl rfl)
theorem dJ3_grow_30 : decode cJ3_grow 30 = .ok (.iload 4, 2) := dk_21 4 (dk_at dksJ3_grow_1 7 rfl rfl)
theorem dJ3_grow_32 : decode cJ3_grow 32 = .ok (.iadd, 1) := dk_96 (dk_at dksJ3_grow_1 9 rfl rfl)
theorem dJ3_grow_33 : decode cJ3_grow 33 = .ok (.dup, 1) := dk_89 (dk_at dksJ3_grow_1 10 rfl rfl)
theorem dJ3_grow_34 : decode cJ3_grow 34 = .ok (.istore_n 3, 1) := dk_62 (dk_at dksJ3_grow_1 11 rfl rfl)
theorem dJ3_grow_35 : decode cJ3_grow 35 = .ok (.ldc 9, 2) := dk_18 9 (dk_at dksJ3_grow_1 12 rfl rfl)
theorem dJ3_grow_37 : decode cJ3_grow 37 = .ok (.isub, 1) := dk_100 (dk_at dksJ3_grow_1 14 rfl rfl)
theorem dJ3_grow_38 : decode cJ3_grow 38 = .ok (.ifCond .le 11, 3) := dk_158 0 11 (dk_at dksJ3_grow_1 15 rfl rfl)
theorem dJ3_grow_41 : decode cJ3_grow 41 = .ok (.aload_n 0, 1) := dk_42 (dk_at dksJ3_grow_1 18 rfl rfl)
theorem dJ3_grow_42 : decode cJ3_grow 42 = .ok (.iload_n 1, 1) := dk_27 (dk_at dksJ3_grow_1 19 rfl rfl)
theorem dJ3_grow_43 : decode cJ3_grow 43 = .ok (.iload 4, 2) := dk_21 4 (dk_at dksJ3_grow_1 20 rfl rfl)
theorem dJ3_grow_45 : decode cJ3_grow 45 = .ok (.invokevirtual 10, 3) := dk_182 0 10 (dk_at dksJ3_grow_2 0 rfl rfl)
theorem dJ3_grow_48 : decode cJ3_grow 48 = .ok (.istore_n 3, 1) := dk_62 (dk_at dksJ3_grow_2 3 rfl rfl)
theorem dJ3_grow_49 : decode cJ3_grow 49 = .ok (.aload_n 0, 1) := dk_42 (dk_at dksJ3_grow_2 4 rfl rfl)
theorem dJ3_grow_50 : decode cJ3_grow 50 = .ok (.aload_n 0, 1) := dk_42 (dk_at dksJ3_grow_2 5 rfl rfl)
theorem dJ3_grow_51 : decode cJ3_grow 51 = .ok (.getfield 3, 3) := dk_180 0 3 (dk_at dksJ3_grow_2 6 rfl rfl)
theorem dJ3_grow_54 : decode cJ3_grow 54 = .ok (.iload_n 3, 1) := dk_29 (dk_at dksJ3_grow_2 9 rfl rfl)
theorem dJ3_grow_55 : decode cJ3_grow 55 = .ok (.invokestatic 14, 3) := dk_184 0 14 (dk_at dksJ3_grow_2 10 rfl rfl)
theorem dJ3_grow_58 : decode cJ3_grow 58 = .ok (.dup_x1, 1) := dk_90 (dk_at dksJ3_grow_2 13 rfl rfl)
theorem dJ3_grow_59 : decode cJ3_grow 59 = .ok (.putfield 3, 3) := dk_181 0 3 (dk_at dksJ3_grow_2 14 rfl rfl)
theorem dJ3_grow_62 : decode cJ3_grow 62 = .ok (.astore 5, 2) := dk_58 5 (dk_at dksJ3_grow_2 17 rfl rfl)
theorem dJ3_grow_64 : decode cJ3_grow 64 = .ok (.aload_n 0, 1) := dk_42 (dk_at dksJ3_grow_2 19 rfl rfl)
theorem dJ3_grow_65 : decode cJ3_grow 65 = .ok (.getfield 20, 3) := dk_180 0 20 (dk_at dksJ3_grow_2 20 rfl rfl)
theorem dJ3_grow_68 : decode cJ3_grow 68 = .ok (.aload_n 0, 1) := dk_42 (dk_at dksJ3_grow_2 23 rfl rfl)
theorem dJ3_grow_69 : decode cJ3_grow 69 = .ok (.getfield 24, 3) := dk_180 0 24 (dk_at dksJ3_grow_3 0 rfl rfl)
theorem dJ3_grow_72 : decode cJ3_grow 72 = .ok (.if_icmp .lt 24, 3) := dk_161 0 24 (dk_at dksJ3_grow_3 3 rfl rfl)
theorem dJ3_grow_75 : decode cJ3_grow 75 = .ok (.aload_n 0, 1) := dk_42 (dk_at dksJ3_grow_3 6 rfl rfl)
theorem dJ3_grow_76 : decode cJ3_grow 76 = .ok (.getfield 20, 3) := dk_180 0 20 (dk_at dksJ3_grow_3 7 rfl rfl)
theorem dJ3_grow_79 : decode cJ3_grow 79 = .ok (.aload_n 0, 1) := dk_42 (dk_at dksJ3_grow_3 10 rfl rfl)
theorem dJ3_grow_80 : decode cJ3_grow 80 = .ok (.getfield 24, 3) := dk_180 0 24 (dk_at dksJ3_grow_3 11 rfl rfl)
theorem dJ3_grow_83 : decode cJ3_grow 83 = .ok (.if_icmp .ne 81, 3) := dk_160 0 81 (dk_at dksJ3_grow_3 14 rfl rfl)
theorem dJ3_grow_86 : decode cJ3_grow 86 = .ok (.aload 5, 2) := dk_25 5 (dk_at dksJ3_grow_3 17 rfl rfl)
theorem dJ3_grow_88 : decode cJ3_grow 88 = .ok (.aload_n 0, 1) := dk_42 (dk_at dksJ3_grow_3 19 rfl rfl)
theorem dJ3_grow_89 : decode cJ3_grow 89 = .ok (.getfield 24, 3) := dk_180 0 24 (dk_at dksJ3_grow_3 20 rfl rfl)
theorem dJ3_grow_92 : decode cJ3_grow 92 = .ok (.aaload, 1) := dk_50 (dk_at dksJ3_grow_3 23 rfl rfl)
theorem dJ3_grow_93 : decode cJ3_grow 93 = .ok (.ifnull 71, 3) := dk_198 0 71 (dk_at dksJ3_grow_4 0 rfl rfl)
theorem dJ3_grow_96 : decode cJ3_grow 96 = .ok (.iload_n 3, 1) := dk_29 (dk_at dksJ3_grow_4 3 rfl rfl)
theorem dJ3_grow_97 : decode cJ3_grow 97 = .ok (.iload_n 2, 1) := dk_28 (dk_at dksJ3_grow_4 4 rfl rfl)
theorem dJ3_grow_98 : decode cJ3_grow 98 = .ok (.isub, 1) := dk_100 (dk_at dksJ3_grow_4 5 rfl rfl)
theorem dJ3_grow_99 : decode cJ3_grow 99 = .ok (.istore 6, 2) := dk_54 6 (dk_at dksJ3_grow_4 6 rfl rfl)
theorem dJ3_grow_101 : decode cJ3_grow 101 = .ok (.aload 5, 2) := dk_25 5 (dk_at dksJ3_grow_4 8 rfl rfl)
theorem dJ3_grow_103 : decode cJ3_grow 103 = .ok (.aload_n 0, 1) := dk_42 (dk_at dksJ3_grow_4 10 rfl rfl)
theorem dJ3_grow_104 : decode cJ3_grow 104 = .ok (.getfield 24, 3) := dk_180 0 24 (dk_at dksJ3_grow_4 11 rfl rfl)
theorem dJ3_grow_107 : decode cJ3_grow 107 = .ok (.aload 5, 2) := dk_25 5 (dk_at dksJ3_grow_4 14 rfl rfl)
theorem dJ3_grow_109 : decode cJ3_grow 109 = .ok (.aload_n 0, 1) := dk_42 (dk_at dksJ3_grow_4 16 rfl rfl)
theorem dJ3_grow_110 : decode cJ3_grow 110 = .ok (.getfield 24, 3) := dk_180 0 24 (dk_at dksJ3_grow_4 17 rfl rfl)
theorem dJ3_grow_113 : decode cJ3_grow 113 = .ok (.iload 6, 2) := dk_21 6 (dk_at dksJ3_grow_4 20 rfl rfl)
theorem dJ3_grow_115 : decode cJ3_grow 115 = .ok (.iadd, 1) := dk_96 (dk_at dksJ3_grow_4 22 rfl rfl)
theorem dJ3_grow_116 : decode cJ3_grow 116 = .ok (.iload_n 2, 1) := dk_28 (dk_at dksJ3_grow_4 23 rfl rfl)
theorem dJ3_grow_117 : decode cJ3_grow 117 = .ok (.aload_n 0, 1) := dk_42 (dk_at dksJ3_grow_5 0 rfl rfl)
theorem dJ3_grow_118 : decode cJ3_grow 118 = .ok (.getfield 24, 3) := dk_180 0 24 (dk_at dksJ3_grow_5 1 rfl rfl)
theorem dJ3_grow_121 : decode cJ3_grow 121 = .ok (.isub, 1) := dk_100 (dk_at dksJ3_grow_5 4 rfl rfl)
theorem dJ3_grow_122 : decode cJ3_grow 122 = .ok (.invokestatic 27, 3) := dk_184 0 27 (dk_at dksJ3_grow_5 5 rfl rfl)
theorem dJ3_grow_125 : decode cJ3_grow 125 = .ok (.aload_n 0, 1) := dk_42 (dk_at dksJ3_grow_5 8 rfl rfl)
theorem dJ3_grow_126 : decode cJ3_grow 126 = .ok (.getfield 24, 3) := dk_180 0 24 (dk_at dksJ3_grow_5 9 rfl rfl)
theorem dJ3_grow_129 : decode cJ3_grow 129 = .ok (.istore 7, 2) := dk_54 7 (dk_at dksJ3_grow_5 12 rfl rfl)
theorem dJ3_grow_131 : decode cJ3_grow 131 = .ok (.aload_n 0, 1) := dk_42 (dk_at dksJ3_grow_5 14 rfl rfl)
theorem dJ3_grow_132 : decode cJ3_grow 132 = .ok (.dup, 1) := dk_89 (dk_at dksJ3_grow_5 15 rfl rfl)
theorem dJ3_grow_133 : decode cJ3_grow 133 = .ok (.getfield 24, 3) := dk_180 0 24 (dk_at dksJ3_grow_5 16 rfl rfl)
theorem dJ3_grow_136 : decode cJ3_grow 136 = .ok (.iload 6, 2) := dk_21 6 (dk_at dksJ3_grow_5 19 rfl rfl)
theorem dJ3_grow_138 : decode cJ3_grow 138 = .ok (.iadd, 1) := dk_96 (dk_at dksJ3_grow_5 21 rfl rfl)
theorem dJ3_grow_139 : decode cJ3_grow 139 = .ok (.dup_x1, 1) := dk_90 (dk_at dksJ3_grow_5 22 rfl rfl)
theorem dJ3_grow_140 : decode cJ3_grow 140 = .ok (.putfield 24, 3) := dk_181 0 24 (dk_at dksJ3_grow_6 0 rfl rfl)
theorem dJ3_grow_143 : decode cJ3_grow 143 = .ok (.istore 8, 2) := dk_54 8 (dk_at dksJ3_grow_6 3 rfl rfl)
theorem dJ3_grow_145 : decode cJ3_grow 145 = .ok (.iload 7, 2) := dk_21 7 (dk_at dksJ3_grow_6 5 rfl rfl)
theorem dJ3_grow_147 : decode cJ3_grow 147 = .ok (.iload 8, 2) := dk_21 8 (dk_at dksJ3_grow_6 7 rfl rfl)
theorem dJ3_grow_149 : decode cJ3_grow 149 = .ok (.if_icmp .ge 15, 3) := dk_162 0 15 (dk_at dksJ3_grow_6 9 rfl rfl)
theorem dJ3_grow_152 : decode cJ3_grow 152 = .ok (.aload 5, 2) := dk_25 5 (dk_at dksJ3_grow_6 12 rfl rfl)
theorem dJ3_grow_154 : decode cJ3_grow 154 = .ok (.iload 7, 2) := dk_21 7 (dk_at dksJ3_grow_6 14 rfl rfl)
theorem dJ3_grow_156 : decode cJ3_grow 156 = .ok (.aconst_null, 1) := dk_1 (dk_at dksJ3_grow_6 16 rfl rfl)
theorem dJ3_grow_157 : decode cJ3_grow 157 = .ok (.aastore, 1) := dk_83 (dk_at dksJ3_grow_6 17 rfl rfl)
theorem dJ3_grow_158 : decode cJ3_grow 158 = .ok (.iinc 7 1, 3) := dk_132 7 1 (dk_at dksJ3_grow_6 18 rfl rfl)
theorem dJ3_grow_161 : decode cJ3_grow 161 = .ok (.goto (-16), 3) := dk_167 255 240 (dk_at dksJ3_grow_6 21 rfl rfl)
theorem dJ3_grow_164 : decode cJ3_grow 164 = .ok (.return_, 1) := dk_177 (dk_at dksJ3_grow_7 0 rfl rfl)
def dkwJ3_newCapacity_2 : List UInt8 := [18, 9, 100, 156, 0, 9, 29, 28, 96, 167, 0, 5, 18, 9, 172]
abbrev dktJ3_newCapacity_2 : List UInt8 := dkwJ3_newCapacity_2 ++ []
def dkwJ3_newCapacity_1 : List UInt8 := [187, 0, 33, 89, 18, 35, 183, 0, 37, 191, 18, 41, 172, 27, 28, 164, 0, 6, 21, 4, 172, 29, 28, 96]
abbrev dktJ3_newCapacity_1 : List UInt8 := dkwJ3_newCapacity_1 ++ dktJ3_newCapacity_2
def dkwJ3_newCapacity_0 : List UInt8 := [42, 180, 0, 3, 190, 62, 29, 27, 96, 89, 54, 4, 18, 9, 100, 158, 0, 21, 21, 4, 156, 0, 13]
abbrev dktJ3_newCapacity_0 : List UInt8 := dkwJ3_newCapacity_0 ++ dktJ3_newCapacity_1
theorem dksJ3_newCapacity_0 : cJ3_newCapacity.data.toList.drop 0 = dktJ3_newCapacity_0 := by decide +kernel
theorem dksJ3_newCapacity_1 : cJ3_newCapacity.data.toList.drop 23 = dktJ3_newCapacity_1 := dk_seg dksJ3_newCapacity_0 23 rfl rfl
theorem dksJ3_newCapacity_2 : cJ3_newCapacity.data.toList.drop 47 = dktJ3_newCapacity_2 := dk_seg dksJ3_newCapacity_1 24 rfl rfl
theorem dJ3_newCapacity_0 : decode cJ3_newCapacity 0 = .ok (.aload_n 0, 1) := dk_42 (dk_at dksJ3_newCapacity_0 0 rfl rfl)
theorem dJ3_newCapacity_1 : decode cJ3_newCapacity 1 = .ok (.getfield 3, 3) := dk_180 0 3 (dk_at dksJ3_newCapacity_0 1 rfl rfl)
theorem dJ3_newCapacity_4 : decode cJ3_newCapacity 4 = .ok (.arraylength, 1) := dk_190 (dk_at dksJ3_newCapacity_0 4 rfl rfl)
theorem dJ3_newCapacity_5 : decode cJ3_newCapacity 5 = .ok (.istore_n 3, 1) := dk_62 (dk_at dksJ3_newCapacity_0 5 rfl rfl)
theorem dJ3_newCapacity_6 : decode cJ3_newCapacity 6 = .ok (.iload_n 3, 1) := dk_29 (dk_at dksJ3_newCapacity_0 6 rfl rfl)
theorem dJ3_newCapacity_7 : decode cJ3_newCapacity 7 = .ok (.iload_n 1, 1) := dk_27 (dk_at dksJ3_newCapacity_0 7 rfl rfl)
theorem dJ3_newCapacity_8 : decode cJ3_newCapacity 8 = .ok (.iadd, 1) := dk_96 (dk_at dksJ3_newCapacity_0 8 rfl rfl)
theorem dJ3_newCapacity_9 : decode cJ3_newCapacity 9 = .ok (.dup, 1) := dk_89 (dk_at dksJ3_newCapacity_0 9 rfl rfl)
theorem dJ3_newCapacity_10 : decode cJ3_newCapacity 10 = .ok (.istore 4, 2) := dk_54 4 (dk_at dksJ3_newCapacity_0 10 rfl rfl)
theorem dJ3_newCapacity_12 : decode cJ3_newCapacity 12 = .ok (.ldc 9, 2) := dk_18 9 (dk_at dksJ3_newCapacity_0 12 rfl rfl)
theorem dJ3_newCapacity_14 : decode cJ3_newCapacity 14 = .ok (.isub, 1) := dk_100 (dk_at dksJ3_newCapacity_0 14 rfl rfl)
theorem dJ3_newCapacity_15 : decode cJ3_newCapacity 15 = .ok (.ifCond .le 21, 3) := dk_158 0 21 (dk_at dksJ3_newCapacity_0 15 rfl rfl)
theorem dJ3_newCapacity_18 : decode cJ3_newCapacity 18 = .ok (.iload 4, 2) := dk_21 4 (dk_at dksJ3_newCapacity_0 18 rfl rfl)
theorem dJ3_newCapacity_20 : decode cJ3_newCapacity 20 = .ok (.ifCond .ge 13, 3) := dk_156 0 13 (dk_at dksJ3_newCapacity_0 20 rfl rfl)
theorem dJ3_newCapacity_23 : decode cJ3_newCapacity 23 = .ok (.new 33, 3) := dk_187 0 33 (dk_at dksJ3_newCapacity_1 0 rfl rfl)
theorem dJ3_newCapacity_26 : decode cJ3_newCapacity 26 = .ok (.dup, 1) := dk_89 (dk_at dksJ3_newCapacity_1 3 rfl rfl)
theorem dJ3_newCapacity_27 : decode cJ3_newCapacity 27 = .ok (.ldc 35, 2) := dk_18 35 (dk_at dksJ3_newCapacity_1 4 rfl rfl)
theorem dJ3_newCapacity_29 : decode cJ3_newCapacity 29 = .ok (.invokespecial 37, 3) := dk_183 0 37 (dk_at dksJ3_newCapacity_1 6 rfl rfl)
theorem dJ3_newCapacity_32 : decode cJ3_newCapacity 32 = .ok (.athrow, 1) := dk_191 (dk_at dksJ3_newCapacity_1 9 rfl rfl)
theorem dJ3_newCapacity_33 : decode cJ3_newCapacity 33 = .ok (.ldc 41, 2) := dk_18 41 (dk_at dksJ3_newCapacity_1 10 rfl rfl)
theorem dJ3_newCapacity_35 : decode cJ3_newCapacity 35 = .ok (.ireturn, 1) := dk_172 (dk_at dksJ3_newCapacity_1 12 rfl rfl)
theorem dJ3_newCapacity_36 : decode cJ3_newCapacity 36 = .ok (.iload_n 1, 1) := dk_27 (dk_at dksJ3_newCapacity_1 13 rfl rfl)
theorem dJ3_newCapacity_37 : decode cJ3_newCapacity 37 = .ok (.iload_n 2, 1) := dk_28 (dk_at dksJ3_newCapacity_1 14 rfl rfl)
theorem dJ3_newCapacity_38 : decode cJ3_newCapacity 38 = .ok (.if_icmp .le 6, 3) := dk_164 0 6 (dk_at dksJ3_newCapacity_1 15 rfl rfl)
theorem dJ3_newCapacity_41 : decode cJ3_newCapacity 41 = .ok (.iload 4, 2) := dk_21 4 (dk_at dksJ3_newCapacity_1 18 rfl rfl)
theorem dJ3_newCapacity_43 : decode cJ3_newCapacity 43 = .ok (.ireturn, 1) := dk_172 (dk_at dksJ3_newCapacity_1 20 rfl rfl)
theorem dJ3_newCapacity_44 : decode cJ3_newCapacity 44 = .ok (.iload_n 3, 1) := dk_29 (dk_at dksJ3_newCapacity_1 21 rfl rfl)
theorem dJ3_newCapacity_45 : decode cJ3_newCapacity 45 = .ok (.iload_n 2, 1) := dk_28 (dk_at dksJ3_newCapacity_1 22 rfl rfl)
theorem dJ3_newCapacity_46 : decode cJ3_newCapacity 46 = .ok (.iadd, 1) := dk_96 (dk_at dksJ3_newCapacity_1 23 rfl rfl)
theorem dJ3_newCapacity_47 : decode cJ3_newCapacity 47 = .ok (.ldc 9, 2) := dk_18 9 (dk_at dksJ3_newCapacity_2 0 rfl rfl)
theorem dJ3_newCapacity_49 : decode cJ3_newCapacity 49 = .ok (.isub, 1) := dk_100 (dk_at dksJ3_newCapacity_2 2 rfl rfl)
theorem dJ3_newCapacity_50 : decode cJ3_newCapacity 50 = .ok (.ifCond .ge 9, 3) := dk_156 0 9 (dk_at dksJ3_newCapacity_2 3 rfl rfl)
theorem dJ3_newCapacity_53 : decode cJ3_newCapacity 53 = .ok (.iload_n 3, 1) := dk_29 (dk_at dksJ3_newCapacity_2 6 rfl rfl)
theorem dJ3_newCapacity_54 : decode cJ3_newCapacity 54 = .ok (.iload_n 2, 1) := dk_28 (dk_at dksJ3_newCapacity_2 7 rfl rfl)
theorem dJ3_newCapacity_55 : decode cJ3_newCapacity 55 = .ok (.iadd, 1) := dk_96 (dk_at dksJ3_newCapacity_2 8 rfl rfl)
theorem dJ3_newCapacity_56 : decode cJ3_newCapacity 56 = .ok (.goto 5, 3) := dk_167 0 5 (dk_at dksJ3_newCapacity_2 9 rfl rfl)
theorem dJ3_newCapacity_59 : decode cJ3_newCapacity 59 = .ok (.ldc 9, 2) := dk_18 9 (dk_at dksJ3_newCapacity_2 12 rfl rfl)
theorem dJ3_newCapacity_61 : decode cJ3_newCapacity 61 = .ok (.ireturn, 1) := dk_172 (dk_at dksJ3_newCapacity_2 14 rfl rfl)
def dkwJ3_isEmpty_0 : List UInt8 := [42, 180, 0, 24, 42, 180, 0, 20, 160, 0, 7, 4, 167, 0, 4, 3, 172]
abbrev dktJ3_isEmpty_0 : List UInt8 := dkwJ3_isEmpty_0 ++ []
theorem dksJ3_isEmpty_0 : cJ3_isEmpty.data.toList.drop 0 = dktJ3_isEmpty_0 := by decide +kernel
theorem dJ3_isEmpty_0 : decode cJ3_isEmpty 0 = .ok (.aload_n 0, 1) := dk_42 (dk_at dksJ3_isEmpty_0 0 rfl rfl)
theorem dJ3_isEmpty_1 : decode cJ3_isEmpty 1 = .ok (.getfield 24, 3) := dk_180 0 24 (dk_at dksJ3_isEmpty_0 1 rfl rfl)
theorem dJ3_isEmpty_4 : decode cJ3_isEmpty 4 = .ok (.aload_n 0, 1) := dk_42 (dk_at dksJ3_isEmpty_0 4 rfl rfl)
theorem dJ3_isEmpty_5 : decode cJ3_isEmpty 5 = .ok (.getfield 20, 3) := dk_180 0 20 (dk_at dksJ3_isEmpty_0 5 rfl rfl)
theorem dJ3_isEmpty_8 : decode cJ3_isEmpty 8 = .ok (.if_icmp .ne 7, 3) := dk_160 0 7 (dk_at dksJ3_isEmpty_0 8 rfl rfl)
theorem dJ3_isEmpty_11 : decode cJ3_isEmpty 11 = .ok (.iconst 1, 1) := dk_4 (dk_at dksJ3_isEmpty_0 11 rfl rfl)
theorem dJ3_isEmpty_12 : decode cJ3_isEmpty 12 = .ok (.goto 4, 3) := dk_167 0 4 (dk_at dksJ3_isEmpty_0 12 rfl rfl)
theorem dJ3_isEmpty_15 : decode cJ3_isEmpty 15 = .ok (.iconst 0, 1) := dk_3 (dk_at dksJ3_isEmpty_0 15 rfl rfl)
theorem dJ3_isEmpty_16 : decode cJ3_isEmpty 16 = .ok (.ireturn, 1) := dk_172 (dk_at dksJ3_isEmpty_0 16 rfl rfl)
def dkwJ3_removeFirst_0 : List UInt8 := [42, 182, 0, 93, 76, 43, 199, 0, 11, 187, 0, 97, 89, 183, 0, 99, 191, 43, 176]
abbrev dktJ3_removeFirst_0 : List UInt8 := dkwJ3_removeFirst_0 ++ []
theorem dksJ3_removeFirst_0 : cJ3_removeFirst.data.toList.drop 0 = dktJ3_removeFirst_0 := by decide +kernel
theorem dJ3_removeFirst_0 : decode cJ3_removeFirst 0 = .ok (.aload_n 0, 1) := dk_42 (dk_at dksJ3_removeFirst_0 0 rfl rfl)
theorem dJ3_removeFirst_1 : decode cJ3_removeFirst 1 = .ok (.invokevirtual 93, 3) := dk_182 0 93 (dk_at dksJ3_removeFirst_0 1 rfl rfl)
theorem dJ3_removeFirst_4 : decode cJ3_removeFirst 4 = .ok (.astore_n 1, 1) := dk_76 (dk_at dksJ3_removeFirst_0 4 rfl rfl)
theorem dJ3_removeFirst_5 : decode cJ3_removeFirst 5 = .ok (.aload_n 1, 1) := dk_43 (dk_at dksJ3_removeFirst_0 5 rfl rfl)
theorem dJ3_removeFirst_6 : decode cJ3_removeFirst 6 = .ok (.ifnonnull 11, 3) := dk_199 0 11 (dk_at dksJ3_removeFirst_0 6 rfl rfl)
theorem dJ3_removeFirst_9 : decode cJ3_removeFirst 9 = .ok (.new 97, 3) := dk_187 0 97 (dk_at dksJ3_removeFirst_0 9 rfl rfl)
theorem dJ3_removeFirst_12 : decode cJ3_removeFirst 12 = .ok (.dup, 1) := dk_89 (dk_at dksJ3_removeFirst_0 12 rfl rfl)
theorem dJ3_removeFirst_13 : decode cJ3_removeFirst 13 = .ok (.invokespecial 99, 3) := dk_183 0 99 (dk_at dksJ3_removeFirst_0 13 rfl rfl)
theorem dJ3_removeFirst_16 : decode cJ3_removeFirst 16 = .ok (.athrow, 1) := dk_191 (dk_at dksJ3_removeFirst_0 16 rfl rfl)
theorem dJ3_removeFirst_17 : decode cJ3_removeFirst 17 = .ok (.aload_n 1, 1) := dk_43 (dk_at dksJ3_removeFirst_0 17 rfl rfl)
theorem dJ3_removeFirst_18 : decode cJ3_removeFirst 18 = .ok (.areturn, 1) := dk_176 (dk_at dksJ3_removeFirst_0 18 rfl rfl)
def dkwJ3_pollFirst_1 : List UInt8 := [42, 28, 43, 190, 184, 0, 74, 181, 0, 24, 45, 176]
abbrev dktJ3_pollFirst_1 : List UInt8 := dkwJ3_pollFirst_1 ++ []
def dkwJ3_pollFirst_0 : List UInt8 := [42, 180, 0, 3, 89, 76, 42, 180, 0, 24, 89, 61, 184, 0, 103, 78, 45, 198, 0, 17, 43, 28, 1, 83]
abbrev dktJ3_pollFirst_0 : List UInt8 := dkwJ3_pollFirst_0 ++ dktJ3_pollFirst_1
theorem dksJ3_pollFirst_0 : cJ3_pollFirst.data.toList.drop 0 = dktJ3_pollFirst_0 := by decide +kernel
theorem dksJ3_pollFirst_1 : cJ3_pollFirst.data.toList.drop 24 = dktJ3_pollFirst_1 := dk_seg dksJ3_pollFirst_0 24 rfl rfl
theorem dJ3_pollFirst_0 : decode cJ3_pollFirst 0 = .ok (.aload_n 0, 1) := dk_42 (dk_at dksJ3_pollFirst_0 0 rfl rfl)
theorem dJ3_pollFirst_1 : decode cJ3_pollFirst 1 = .ok (.getfield 3, 3) := dk_180 0 3 (dk_at dksJ3_pollFirst_0 1 rfl rfl)
theorem dJ3_pollFirst_4 : decode cJ3_pollFirst 4 = .ok (.dup, 1) := dk_89 (dk_at dksJ3_pollFirst_0 4 rfl rfl)
theorem dJ3_pollFirst_5 : decode cJ3_pollFirst 5 = .ok (.astore_n 1, 1) := dk_76 (dk_at dksJ3_pollFirst_0 5 rfl rfl)
theorem dJ3_pollFirst_6 : decode cJ3_pollFirst 6 = .ok (.aload_n 0, 1) := dk_42 (dk_at dksJ3_pollFirst_0 6 rfl rfl)
theorem dJ3_pollFirst_7 : decode cJ3_pollFirst 7 = .ok (.getfield 24, 3) := dk_180 0 24 (dk_at dksJ3_pollFirst_0 7 rfl rfl)
theorem dJ3_pollFirst_10 : decode cJ3_pollFirst 10 = .ok (.dup, 1) := dk_89 (dk_at dksJ3_pollFirst_0 10 rfl rfl)
theorem dJ3_pollFirst_11 : decode cJ3_pollFirst 11 = .ok (.istore_n 2, 1) := dk_61 (dk_at dksJ3_pollFirst_0 11 rfl rfl)
theorem dJ3_pollFirst_12 : decode cJ3_pollFirst 12 = .ok (.invokestatic 103, 3) := dk_184 0 103 (dk_at dksJ3_pollFirst_0 12 rfl rfl)
theorem dJ3_pollFirst_15 : decode cJ3_pollFirst 15 = .ok (.astore_n 3, 1) := dk_78 (dk_at dksJ3_pollFirst_0 15 rfl rfl)
theorem dJ3_pollFirst_16 : decode cJ3_pollFirst 16 = .ok (.aload_n 3, 1) := dk_45 (dk_at dksJ3_pollFirst_0 16 rfl rfl)
theorem dJ3_pollFirst_17 : decode cJ3_pollFirst 17 = .ok (.ifnull 17, 3) := dk_198 0 17 (dk_at dksJ3_pollFirst_0 17 rfl rfl)
theorem dJ3_pollFirst_20 : decode cJ3_pollFirst 20 = .ok (.aload_n 1, 1) := dk_43 (dk_at dksJ3_pollFirst_0 20 rfl rfl)
theorem dJ3_pollFirst_21 : decode cJ3_pollFirst 21 = .ok (.iload_n 2, 1) := dk_28 (dk_at dksJ3_pollFirst_0 21 rfl rfl)
theorem dJ3_pollFirst_22 : decode cJ3_pollFirst 22 = .ok (.aconst_null, 1) := dk_1 (dk_at dksJ3_pollFirst_0 22 rfl rfl)
theorem dJ3_pollFirst_23 : decode cJ3_pollFirst 23 = .ok (.aastore, 1) := dk_83 (dk_at dksJ3_pollFirst_0 23 rfl rfl)
theorem dJ3_pollFirst_24 : decode cJ3_pollFirst 24 = .ok (.aload_n 0, 1) := dk_42 (dk_at dksJ3_pollFirst_1 0 rfl rfl)
theorem dJ3_pollFirst_25 : decode cJ3_pollFirst 25 = .ok (.iload_n 2, 1) := dk_28 (dk_at dksJ3_pollFirst_1 1 rfl rfl)
theorem dJ3_pollFirst_26 : decode cJ3_pollFirst 26 = .ok (.aload_n 1, 1) := dk_43 (dk_at dksJ3_pollFirst_1 2 rfl rfl)
theorem dJ3_pollFirst_27 : decode cJ3_pollFirst 27 = .ok (.arraylength, 1) := dk_190 (dk_at dksJ3_pollFirst_1 3 rfl rfl)
theorem dJ3_pollFirst_28 : decode cJ3_pollFirst 28 = .ok (.invokestatic 74, 3) := dk_184 0 74 (dk_at dksJ3_pollFirst_1 4 rfl rfl)
theorem dJ3_pollFirst_31 : decode cJ3_pollFirst 31 = .ok (.putfield 24, 3) := dk_181 0 24 (dk_at dksJ3_pollFirst_1 7 rfl rfl)
theorem dJ3_pollFirst_34 : decode cJ3_pollFirst 34 = .ok (.aload_n 3, 1) := dk_45 (dk_at dksJ3_pollFirst_1 10 rfl rfl)
theorem dJ3_pollFirst_35 : decode cJ3_pollFirst 35 = .ok (.areturn, 1) := dk_176 (dk_at dksJ3_pollFirst_1 11 rfl rfl)
def dkwJ3_elementAt_0 : List UInt8 := [42, 27, 50, 176]
abbrev dktJ3_elementAt_0 : List UInt8 := dkwJ3_elementAt_0 ++ []
theorem dksJ3_elementAt_0 : cJ3_elementAt.data.toList.drop 0 = dktJ3_elementAt_0 := by decide +kernel
theorem dJ3_elementAt_0 : decode cJ3_elementAt 0 = .ok (.aload_n 0, 1) := dk_42 (dk_at dksJ3_elementAt_0 0 rfl rfl)
theorem dJ3_elementAt_1 : decode cJ3_elementAt 1 = .ok (.iload_n 1, 1) := dk_27 (dk_at dksJ3_elementAt_0 1 rfl rfl)
theorem dJ3_elementAt_2 : decode cJ3_elementAt 2 = .ok (.aaload, 1) := dk_50 (dk_at dksJ3_elementAt_0 2 rfl rfl)
theorem dJ3_elementAt_3 : decode cJ3_elementAt 3 = .ok (.areturn, 1) := dk_176 (dk_at dksJ3_elementAt_0 3 rfl rfl)
def dkwJ3_size_0 : List UInt8 := [42, 180, 0, 20, 42, 180, 0, 24, 42, 180, 0, 3, 190, 184, 0, 127, 172]
abbrev dktJ3_size_0 : List UInt8 := dkwJ3_size_0 ++ []
theorem dksJ3_size_0 : cJ3_size.data.toList.drop 0 = dktJ3_size_0 := by decide +kernel
theorem dJ3_size_0 : decode cJ3_size 0 = .ok (.aload_n 0, 1) := dk_42 (dk_at dksJ3_size_0 0 rfl rfl)
theorem dJ3_size_1 : decode cJ3_size 1 = .ok (.getfield 20, 3) := dk_180 0 20 (dk_at dksJ3_size_0 1 rfl rfl)
theorem dJ3_size_4 : decode cJ3_size 4 = .ok (.aload_n 0, 1) := dk_42 (dk_at dksJ3_size_0 4 rfl rfl)
theorem dJ3_size_5 : decode cJ3_size 5 = .ok (.getfield 24, 3) := dk_180 0 24 (dk_at dksJ3_size_0 5 rfl rfl)
theorem dJ3_size_8 : decode cJ3_size 8 = .ok (.aload_n 0, 1) := dk_42 (dk_at dksJ3_size_0 8 rfl rfl)
theorem dJ3_size_9 : decode cJ3_size 9 = .ok (.getfield 3, 3) := dk_180 0 3 (dk_at dksJ3_size_0 9 rfl rfl)
theorem dJ3_size_12 : decode cJ3_size 12 = .ok (.arraylength, 1) := dk_190 (dk_at dksJ3_size_0 12 rfl rfl)
theorem dJ3_size_13 : decode cJ3_size 13 = .ok (.invokestatic 127, 3) := dk_184 0 127 (dk_at dksJ3_size_0 13 rfl rfl)
theorem dJ3_size_16 : decode cJ3_size 16 = .ok (.ireturn, 1) := dk_172 (dk_at dksJ3_size_0 16 rfl rfl)
def dkwJ3_sub_0 : List UInt8 := [26, 27, 100, 89, 59, 156, 0, 7, 26, 28, 96, 59, 26, 172]
abbrev dktJ3_sub_0 : List UInt8 := dkwJ3_sub_0 ++ []
theorem dksJ3_sub_0 : cJ3_sub.data.toList.drop 0 = dktJ3_sub_0 := by decide +kernel
theorem dJ3_sub_0 : decode cJ3_sub 0 = .ok (.iload_n 0, 1) := dk_26 (dk_at dksJ3_sub_0 0 rfl rfl)
theorem dJ3_sub_1 : decode cJ3_sub 1 = .ok (.iload_n 1, 1) := dk_27 (dk_at dksJ3_sub_0 1 rfl rfl)
theorem dJ3_sub_2 : decode cJ3_sub 2 = .ok (.isub, 1) := dk_100 (dk_at dksJ3_sub_0 2 rfl rfl)
theorem dJ3_sub_3 : decode cJ3_sub 3 = .ok (.dup, 1) := dk_89 (dk_at dksJ3_sub_0 3 rfl rfl)
theorem dJ3_sub_4 : decode cJ3_sub 4 = .ok (.istore_n 0, 1) := dk_59 (dk_at dksJ3_sub_0 4 rfl rfl)
theorem dJ3_sub_5 : decode cJ3_sub 5 = .ok (.ifCond .ge 7, 3) := dk_156 0 7 (dk_at dksJ3_sub_0 5 rfl rfl)
theorem dJ3_sub_8 : decode cJ3_sub 8 = .ok (.iload_n 0, 1) := dk_26 (dk_at dksJ3_sub_0 8 rfl rfl)
theorem dJ3_sub_9 : decode cJ3_sub 9 = .ok (.iload_n 2, 1) := dk_28 (dk_at dksJ3_sub_0 9 rfl rfl)
theorem dJ3_sub_10 : decode cJ3_sub 10 = .ok (.iadd, 1) := dk_96 (dk_at dksJ3_sub_0 10 rfl rfl)
theorem dJ3_sub_11 : decode cJ3_sub 11 = .ok (.istore_n 0, 1) := dk_59 (dk_at dksJ3_sub_0 11 rfl rfl)
theorem dJ3_sub_12 : decode cJ3_sub 12 = .ok (.iload_n 0, 1) := dk_26 (dk_at dksJ3_sub_0 12 rfl rfl)
theorem dJ3_sub_13 : decode cJ3_sub 13 = .ok (.ireturn, 1) := dk_172 (dk_at dksJ3_sub_0 13 rfl rfl)
def dkwJ3_iterator_0 : List UInt8 := [187, 0, 131, 89, 42, 183, 0, 133, 176]
abbrev dktJ3_iterator_0 : List UInt8 := dkwJ3_iterator_0 ++ []
theorem dksJ3_iterator_0 : cJ3_iterator.data.toList.drop 0 = dktJ3_iterator_0 := by decide +kernel
theorem dJ3_iterator_0 : decode cJ3_iterator 0 = .ok (.new 131, 3) := dk_187 0 131 (dk_at dksJ3_iterator_0 0 rfl rfl)
theorem dJ3_iterator_3 : decode cJ3_iterator 3 = .ok (.dup, 1) := dk_89 (dk_at dksJ3_iterator_0 3 rfl rfl)
theorem dJ3_iterator_4 : decode cJ3_iterator 4 = .ok (.aload_n 0, 1) := dk_42 (dk_at dksJ3_iterator_0 4 rfl rfl)
theorem dJ3_iterator_5 : decode cJ3_iterator 5 = .ok (.invokespecial 133, 3) := dk_183 0 133 (dk_at dksJ3_iterator_0 5 rfl rfl)
theorem dJ3_iterator_8 : decode cJ3_iterator 8 = .ok (.areturn, 1) := dk_176 (dk_at dksJ3_iterator_0 8 rfl rfl)
def dkwJ3_removeLast_0 : List UInt8 := [42, 182, 0, 100, 76, 43, 199, 0, 11, 187, 0, 97, 89, 183, 0, 99, 191, 43, 176]
abbrev dktJ3_removeLast_0 : List UInt8 := dkwJ3_removeLast_0 ++ []
theorem dksJ3_removeLast_0 : cJ3_removeLast.data.toList.drop 0 = dktJ3_removeLast_0 := by decide +kernel
theorem dJ3_removeLast_0 : decode cJ3_removeLast 0 = .ok (.aload_n 0, 1) := dk_42 (dk_at dksJ3_removeLast_0 0 rfl rfl)
theorem dJ3_removeLast_1 : decode cJ3_removeLast 1 = .ok (.invokevirtual 100, 3) := dk_182 0 100 (dk_at dksJ3_removeLast_0 1 rfl rfl)
theorem dJ3_removeLast_4 : decode cJ3_removeLast 4 = .ok (.astore_n 1, 1) := dk_76 (dk_at dksJ3_removeLast_0 4 rfl rfl)
theorem dJ3_removeLast_5 : decode cJ3_removeLast 5 = .ok (.aload_n 1, 1) := dk_43 (dk_at dksJ3_removeLast_0 5 rfl rfl)
theorem dJ3_removeLast_6 : decode cJ3_removeLast 6 = .ok (.ifnonnull 11, 3) := dk_199 0 11 (dk_at dksJ3_removeLast_0 6 rfl rfl)
theorem dJ3_removeLast_9 : decode cJ3_removeLast 9 = .ok (.new 97, 3) := dk_187 0 97 (dk_at dksJ3_removeLast_0 9 rfl rfl)
theorem dJ3_removeLast_12 : decode cJ3_removeLast 12 = .ok (.dup, 1) := dk_89 (dk_at dksJ3_removeLast_0 12 rfl rfl)
theorem dJ3_removeLast_13 : decode cJ3_removeLast 13 = .ok (.invokespecial 99, 3) := dk_183 0 99 (dk_at dksJ3_removeLast_0 13 rfl rfl)
theorem dJ3_removeLast_16 : decode cJ3_removeLast 16 = .ok (.athrow, 1) := dk_191 (dk_at dksJ3_removeLast_0 16 rfl rfl)
theorem dJ3_removeLast_17 : decode cJ3_removeLast 17 = .ok (.aload_n 1, 1) := dk_43 (dk_at dksJ3_removeLast_0 17 rfl rfl)
theorem dJ3_removeLast_18 : decode cJ3_removeLast 18 = .ok (.areturn, 1) := dk_176 (dk_at dksJ3_removeLast_0 18 rfl rfl)
def dkwJ3_pollLast_1 : List UInt8 := [198, 0, 12, 43, 42, 28, 90, 181, 0, 20, 1, 83, 45, 176]
abbrev dktJ3_pollLast_1 : List UInt8 := dkwJ3_pollLast_1 ++ []
def dkwJ3_pollLast_0 : List UInt8 := [42, 180, 0, 3, 89, 76, 42, 180, 0, 20, 43, 190, 184, 0, 68, 89, 61, 184, 0, 103, 78, 45]
abbrev dktJ3_pollLast_0 : List UInt8 := dkwJ3_pollLast_0 ++ dktJ3_pollLast_1
theorem dksJ3_pollLast_0 : cJ3_pollLast.data.toList.drop 0 = dktJ3_pollLast_0 := by decide +kernel
theorem dksJ3_pollLast_1 : cJ3_pollLast.data.toList.drop 22 = dktJ3_pollLast_1 := dk_seg dksJ3_pollLast_0 22 rfl rfl
theorem dJ3_pollLast_0 : decode cJ3_pollLast 0 = .ok (.aload_n 0, 1) := dk_42 (dk_at dksJ3_pollLast_0 0 rfl rfl)
theorem dJ3_pollLast_1 : decode cJ3_pollLast 1 = .ok (.getfield 3, 3) := dk_180 0 3 (dk_at dksJ3_pollLast_0 1 rfl rfl)
theorem dJ3_pollLast_4 : decode cJ3_pollLast 4 = .ok (.dup, 1) := dk_89 (dk_at dksJ3_pollLast_0 4 rfl rfl)
theorem dJ3_pollLast_5 : decode cJ3_pollLast 5 = .ok (.astore_n 1, 1) := dk_76 (dk_at dksJ3_pollLast_0 5 rfl rfl)
theorem dJ3_pollLast_6 : decode cJ3_pollLast 6 = .ok (.aload_n 0, 1) := dk_42 (dk_at dksJ3_pollLast_0 6 rfl rfl)
theorem dJ3_pollLast_7 : decode cJ3_pollLast 7 = .ok (.getfield 20, 3) := dk_180 0 20 (dk_at dksJ3_pollLast_0 7 rfl rfl)
theorem dJ3_pollLast_10 : decode cJ3_pollLast 10 = .ok (.aload_n 1, 1) := dk_43 (dk_at dksJ3_pollLast_0 10 rfl rfl)
theorem dJ3_pollLast_11 : decode cJ3_pollLast 11 = .ok (.arraylength, 1) := dk_190 (dk_at dksJ3_pollLast_0 11 rfl rfl)
theorem dJ3_pollLast_12 : decode cJ3_pollLast 12 = .ok (.invokestatic 68, 3) := dk_184 0 68 (dk_at dksJ3_pollLast_0 12 rfl rfl)
theorem dJ3_pollLast_15 : decode cJ3_pollLast 15 = .ok (.dup, 1) := dk_89 (dk_at dksJ3_pollLast_0 15 rfl rfl)
theorem dJ3_pollLast_16 : decode cJ3_pollLast 16 = .ok (.istore_n 2, 1) := dk_61 (dk_at dksJ3_pollLast_0 16 rfl rfl)
theorem dJ3_pollLast_17 : decode cJ3_pollLast 17 = .ok (.invokestatic 103, 3) := dk_184 0 103 (dk_at dksJ3_pollLast_0 17 rfl rfl)
theorem dJ3_pollLast_20 : decode cJ3_pollLast 20 = .ok (.astore_n 3, 1) := dk_78 (dk_at dksJ3_pollLast_0 20 rfl rfl)
theorem dJ3_pollLast_21 : decode cJ3_pollLast 21 = .ok (.aload_n 3, 1) := dk_45 (dk_at dksJ3_pollLast_0 21 rfl rfl)
theorem dJ3_pollLast_22 : decode cJ3_pollLast 22 = .ok (.ifnull 12, 3) := dk_198 0 12 (dk_at dksJ3_pollLast_1 0 rfl rfl)
theorem dJ3_pollLast_25 : decode cJ3_pollLast 25 = .ok (.aload_n 1, 1) := dk_43 (dk_at dksJ3_pollLast_1 3 rfl rfl)
theorem dJ3_pollLast_26 : decode cJ3_pollLast 26 = .ok (.aload_n 0, 1) := dk_42 (dk_at dksJ3_pollLast_1 4 rfl rfl)
theorem dJ3_pollLast_27 : decode cJ3_pollLast 27 = .ok (.iload_n 2, 1) := dk_28 (dk_at dksJ3_pollLast_1 5 rfl rfl)
theorem dJ3_pollLast_28 : decode cJ3_pollLast 28 = .ok (.dup_x1, 1) := dk_90 (dk_at dksJ3_pollLast_1 6 rfl rfl)
theorem dJ3_pollLast_29 : decode cJ3_pollLast 29 = .ok (.putfield 20, 3) := dk_181 0 20 (dk_at dksJ3_pollLast_1 7 rfl rfl)
theorem dJ3_pollLast_32 : decode cJ3_pollLast 32 = .ok (.aconst_null, 1) := dk_1 (dk_at dksJ3_pollLast_1 10 rfl rfl)
theorem dJ3_pollLast_33 : decode cJ3_pollLast 33 = .ok (.aastore, 1) := dk_83 (dk_at dksJ3_pollLast_1 11 rfl rfl)
theorem dJ3_pollLast_34 : decode cJ3_pollLast 34 = .ok (.aload_n 3, 1) := dk_45 (dk_at dksJ3_pollLast_1 12 rfl rfl)
theorem dJ3_pollLast_35 : decode cJ3_pollLast 35 = .ok (.areturn, 1) := dk_176 (dk_at dksJ3_pollLast_1 13 rfl rfl)
def dkwJ3_dec_0 : List UInt8 := [132, 0, 255, 26, 156, 0, 7, 27, 4, 100, 59, 26, 172]
abbrev dktJ3_dec_0 : List UInt8 := dkwJ3_dec_0 ++ []
theorem dksJ3_dec_0 : cJ3_dec.data.toList.drop 0 = dktJ3_dec_0 := by decide +kernel
theorem dJ3_dec_0 : decode cJ3_dec 0 = .ok (.iinc 0 (-1), 3) := dk_132 0 255 (dk_at dksJ3_dec_0 0 rfl rfl)
theorem dJ3_dec_3 : decode cJ3_dec 3 = .ok (.iload_n 0, 1) := dk_26 (dk_at dksJ3_dec_0 3 rfl rfl)
theorem dJ3_dec_4 : decode cJ3_dec 4 = .ok (.ifCond .ge 7, 3) := dk_156 0 7 (dk_at dksJ3_dec_0 4 rfl rfl)
theorem dJ3_dec_7 : decode cJ3_dec 7 = .ok (.iload_n 1, 1) := dk_27 (dk_at dksJ3_dec_0 7 rfl rfl)
theorem dJ3_dec_8 : decode cJ3_dec 8 = .ok (.iconst 1, 1) := dk_4 (dk_at dksJ3_dec_0 8 rfl rfl)
theorem dJ3_dec_9 : decode cJ3_dec 9 = .ok (.isub, 1) := dk_100 (dk_at dksJ3_dec_0 9 rfl rfl)
theorem dJ3_dec_10 : decode cJ3_dec 10 = .ok (.istore_n 0, 1) := dk_59 (dk_at dksJ3_dec_0 10 rfl rfl)
theorem dJ3_dec_11 : decode cJ3_dec 11 = .ok (.iload_n 0, 1) := dk_26 (dk_at dksJ3_dec_0 11 rfl rfl)
theorem dJ3_dec_12 : decode cJ3_dec 12 = .ok (.ireturn, 1) := dk_172 (dk_at dksJ3_dec_0 12 rfl rfl)
def dkwJ3_clear_1 : List UInt8 := [181, 0, 24, 177]
abbrev dktJ3_clear_1 : List UInt8 := dkwJ3_clear_1 ++ []
def dkwJ3_clear_0 : List UInt8 := [42, 180, 0, 3, 42, 180, 0, 24, 42, 180, 0, 20, 184, 0, 181, 42, 42, 3, 90, 181, 0, 20]
abbrev dktJ3_clear_0 : List UInt8 := dkwJ3_clear_0 ++ dktJ3_clear_1
theorem dksJ3_clear_0 : cJ3_clear.data.toList.drop 0 = dktJ3_clear_0 := by decide +kernel
theorem dksJ3_clear_1 : cJ3_clear.data.toList.drop 22 = dktJ3_clear_1 := dk_seg dksJ3_clear_0 22 rfl rfl
theorem dJ3_clear_0 : decode cJ3_clear 0 = .ok (.aload_n 0, 1) := dk_42 (dk_at dksJ3_clear_0 0 rfl rfl)
theorem dJ3_clear_1 : decode cJ3_clear 1 = .ok (.getfield 3, 3) := dk_180 0 3 (dk_at dksJ3_clear_0 1 rfl rfl)
theorem dJ3_clear_4 : decode cJ3_clear 4 = .ok (.aload_n 0, 1) := dk_42 (dk_at dksJ3_clear_0 4 rfl rfl)
theorem dJ3_clear_5 : decode cJ3_clear 5 = .ok (.getfield 24, 3) := dk_180 0 24 (dk_at dksJ3_clear_0 5 rfl rfl)
theorem dJ3_clear_8 : decode cJ3_clear 8 = .ok (.aload_n 0, 1) := dk_42 (dk_at dksJ3_clear_0 8 rfl rfl)
theorem dJ3_clear_9 : decode cJ3_clear 9 = .ok (.getfield 20, 3) := dk_180 0 20 (dk_at dksJ3_clear_0 9 rfl rfl)
theorem dJ3_clear_12 : decode cJ3_clear 12 = .ok (.invokestatic 181, 3) := dk_184 0 181 (dk_at dksJ3_clear_0 12 rfl rfl)
theorem dJ3_clear_15 : decode cJ3_clear 15 = .ok (.aload_n 0, 1) := dk_42 (dk_at dksJ3_clear_0 15 rfl rfl)
theorem dJ3_clear_16 : decode cJ3_clear 16 = .ok (.aload_n 0, 1) := dk_42 (dk_at dksJ3_clear_0 16 rfl rfl)
theorem dJ3_clear_17 : decode cJ3_clear 17 = .ok (.iconst 0, 1) := dk_3 (dk_at dksJ3_clear_0 17 rfl rfl)
theorem dJ3_clear_18 : decode cJ3_clear 18 = .ok (.dup_x1, 1) := dk_90 (dk_at dksJ3_clear_0 18 rfl rfl)
theorem dJ3_clear_19 : decode cJ3_clear 19 = .ok (.putfield 20, 3) := dk_181 0 20 (dk_at dksJ3_clear_0 19 rfl rfl)
theorem dJ3_clear_22 : decode cJ3_clear 22 = .ok (.putfield 24, 3) := dk_181 0 24 (dk_at dksJ3_clear_1 0 rfl rfl)
theorem dJ3_clear_25 : decode cJ3_clear 25 = .ok (.return_, 1) := dk_177 (dk_at dksJ3_clear_1 3 rfl rfl)
def dkwJ3_circularClear_1 : List UInt8 := [167, 255, 244, 29, 28, 160, 0, 6, 167, 0, 10, 3, 60, 28, 62, 167, 255, 229, 177]
abbrev dktJ3_circularClear_1 : List UInt8 := dkwJ3_circularClear_1 ++ []
def dkwJ3_circularClear_0 : List UInt8 := [27, 28, 163, 0, 7, 28, 167, 0, 5, 42, 190, 62, 27, 29, 162, 0, 13, 42, 27, 1, 83, 132, 1, 1]
abbrev dktJ3_circularClear_0 : List UInt8 := dkwJ3_circularClear_0 ++ dktJ3_circularClear_1
theorem dksJ3_circularClear_0 : cJ3_circularClear.data.toList.drop 0 = dktJ3_circularClear_0 := by decide +kernel
theorem dksJ3_circularClear_1 : cJ3_circularClear.data.toList.drop 24 = dktJ3_circularClear_1 := dk_seg dksJ3_circularClear_0 24 rfl rfl
theorem dJ3_circularClear_0 : decode cJ3_circularClear 0 = .ok (.iload_n 1, 1) := dk_27 (dk_at dksJ3_circularClear_0 0 rfl rfl)
theorem dJ3_circularClear_1 : decode cJ3_circularClear 1 = .ok (.iload_n 2, 1) := dk_28 (dk_at dksJ3_circularClear_0 1 rfl rfl)
theorem dJ3_circularClear_2 : decode cJ3_circularClear 2 = .ok (.if_icmp .gt 7, 3) := dk_163 0 7 (dk_at dksJ3_circularClear_0 2 rfl rfl)
theorem dJ3_circularClear_5 : decode cJ3_circularClear 5 = .ok (.iload_n 2, 1) := dk_28 (dk_at dksJ3_circularClear_0 5 rfl rfl)
theorem dJ3_circularClear_6 : decode cJ3_circularClear 6 = .ok (.goto 5, 3) := dk_167 0 5 (dk_at dksJ3_circularClear_0 6 rfl rfl)
theorem dJ3_circularClear_9 : decode cJ3_circularClear 9 = .ok (.aload_n 0, 1) := dk_42 (dk_at dksJ3_circularClear_0 9 rfl rfl)
theorem dJ3_circularClear_10 : decode cJ3_circularClear 10 = .ok (.arraylength, 1) := dk_190 (dk_at dksJ3_circularClear_0 10 rfl rfl)
theorem dJ3_circularClear_11 : decode cJ3_circularClear 11 = .ok (.istore_n 3, 1) := dk_62 (dk_at dksJ3_circularClear_0 11 rfl rfl)
theorem dJ3_circularClear_12 : decode cJ3_circularClear 12 = .ok (.iload_n 1, 1) := dk_27 (dk_at dksJ3_circularClear_0 12 rfl rfl)
theorem dJ3_circularClear_13 : decode cJ3_circularClear 13 = .ok (.iload_n 3, 1) := dk_29 (dk_at dksJ3_circularClear_0 13 rfl rfl)
theorem dJ3_circularClear_14 : decode cJ3_circularClear 14 = .ok (.if_icmp .ge 13, 3) := dk_162 0 13 (dk_at dksJ3_circularClear_0 14 rfl rfl)
theorem dJ3_circularClear_17 : decode cJ3_circularClear 17 = .ok (.aload_n 0, 1) := dk_42 (dk_at dksJ3_circularClear_0 17 rfl rfl)
theorem dJ3_circularClear_18 : decode cJ3_circularClear 18 = .ok (.iload_n 1, 1) := dk_27 (dk_at dksJ3_circularClear_0 18 rfl rfl)
theorem dJ3_circularClear_19 : decode cJ3_circularClear 19 = .ok (.aconst_null, 1) := dk_1 (dk_at dksJ3_circularClear_0 19 rfl rfl)
theorem dJ3_circularClear_20 : decode cJ3_circularClear 20 = .ok (.aastore, 1) := dk_83 (dk_at dksJ3_circularClear_0 20 rfl rfl)
theorem dJ3_circularClear_21 : decode cJ3_circularClear 21 = .ok (.iinc 1 1, 3) := dk_132 1 1 (dk_at dksJ3_circularClear_0 21 rfl rfl)
theorem dJ3_circularClear_24 : decode cJ3_circularClear 24 = .ok (.goto (-12), 3) := dk_167 255 244 (dk_at dksJ3_circularClear_1 0 rfl rfl)
theorem dJ3_circularClear_27 : decode cJ3_circularClear 27 = .ok (.iload_n 3, 1) := dk_29 (dk_at dksJ3_circularClear_1 3 rfl rfl)
theorem dJ3_circularClear_28 : decode cJ3_circularClear 28 = .ok (.iload_n 2, 1) := dk_28 (dk_at dksJ3_circularClear_1 4 rfl rfl)
theorem dJ3_circularClear_29 : decode cJ3_circularClear 29 = .ok (.if_icmp .ne 6, 3) := dk_160 0 6 (dk_at dksJ3_circularClear_1 5 rfl rfl)
theorem dJ3_circularClear_32 : decode cJ3_circularClear 32 = .ok (.goto 10, 3) := dk_167 0 10 (dk_at dksJ3_circularClear_1 8 rfl rfl)
theorem dJ3_circularClear_35 : decode cJ3_circularClear 35 = .ok (.iconst 0, 1) := dk_3 (dk_at dksJ3_circularClear_1 11 rfl rfl)
theorem dJ3_circularClear_36 : decode cJ3_circularClear 36 = .ok (.istore_n 1, 1) := dk_60 (dk_at dksJ3_circularClear_1 12 rfl rfl)
theorem dJ3_circularClear_37 : decode cJ3_circularClear 37 = .ok (.iload_n 2, 1) := dk_28 (dk_at dksJ3_circularClear_1 13 rfl rfl)
theorem dJ3_circularClear_38 : decode cJ3_circularClear 38 = .ok (.istore_n 3, 1) := dk_62 (dk_at dksJ3_circularClear_1 14 rfl rfl)
theorem dJ3_circularClear_39 : decode cJ3_circularClear 39 = .ok (.goto (-27), 3) := dk_167 255 229 (dk_at dksJ3_circularClear_1 15 rfl rfl)
theorem dJ3_circularClear_42 : decode cJ3_circularClear 42 = .ok (.return_, 1) := dk_177 (dk_at dksJ3_circularClear_1 18 rfl rfl)
def dkwJ4_init_1 : List UInt8 := [167, 0, 16, 42, 27, 184, 0, 26, 181, 0, 15, 42, 4, 181, 0, 22, 177]
abbrev dktJ4_init_1 : List UInt8 := dkwJ4_init_1 ++ []
def dkwJ4_init_0 : List UInt8 := [42, 183, 0, 3, 178, 0, 18, 153, 0, 18, 42, 27, 188, 8, 181, 0, 15, 42, 3, 181, 0, 22]
abbrev dktJ4_init_0 : List UInt8 := dkwJ4_init_0 ++ dktJ4_init_1
theorem dksJ4_init_0 : cJ4_init.data.toList.drop 0 = dktJ4_init_0 := by decide +kernel
theorem dksJ4_init_1 : cJ4_init.data.toList.drop 22 = dktJ4_init_1 := dk_seg dksJ4_init_0 22 rfl rfl
theorem dJ4_init_0 : decode cJ4_init 0 = .ok (.aload_n 0, 1) := dk_42 (dk_at dksJ4_init_0 0 rfl rfl)
theorem dJ4_init_1 : decode cJ4_init 1 = .ok (.invokespecial 3, 3) := dk_183 0 3 (dk_at dksJ4_init_0 1 rfl rfl)
theorem dJ4_init_4 : decode cJ4_init 4 = .ok (.getstatic 18, 3) := dk_178 0 18 (dk_at dksJ4_init_0 4 rfl rfl)
theorem dJ4_init_7 : decode cJ4_init 7 = .ok (.ifCond .eq 18, 3) := dk_153 0 18 (dk_at dksJ4_init_0 7 rfl rfl)
theorem dJ4_init_10 : decode cJ4_init 10 = .ok (.aload_n 0, 1) := dk_42 (dk_at dksJ4_init_0 10 rfl rfl)
theorem dJ4_init_11 : decode cJ4_init 11 = .ok (.iload_n 1, 1) := dk_27 (dk_at dksJ4_init_0 11 rfl rfl)
theorem dJ4_init_12 : decode cJ4_init 12 = .ok (.newarray .byte, 2) := dk_188_8 (dk_at dksJ4_init_0 12 rfl rfl)
theorem dJ4_init_14 : decode cJ4_init 14 = .ok (.putfield 15, 3) := dk_181 0 15 (dk_at dksJ4_init_0 14 rfl rfl)
theorem dJ4_init_17 : decode cJ4_init 17 = .ok (.aload_n 0, 1) := dk_42 (dk_at dksJ4_init_0 17 rfl rfl)
theorem dJ4_init_18 : decode cJ4_init 18 = .ok (.iconst 0, 1) := dk_3 (dk_at dksJ4_init_0 18 rfl rfl)
theorem dJ4_init_19 : decode cJ4_init 19 = .ok (.putfield 22, 3) := dk_181 0 22 (dk_at dksJ4_init_0 19 rfl rfl)
theorem dJ4_init_22 : decode cJ4_init 22 = .ok (.goto 16, 3) := dk_167 0 16 (dk_at dksJ4_init_1 0 rfl rfl)
theorem dJ4_init_25 : decode cJ4_init 25 = .ok (.aload_n 0, 1) := dk_42 (dk_at dksJ4_init_1 3 rfl rfl)
theorem dJ4_init_26 : decode cJ4_init 26 = .ok (.iload_n 1, 1) := dk_27 (dk_at dksJ4_init_1 4 rfl rfl)
theorem dJ4_init_27 : decode cJ4_init 27 = .ok (.invokestatic 26, 3) := dk_184 0 26 (dk_at dksJ4_init_1 5 rfl rfl)
theorem dJ4_init_30 : decode cJ4_init 30 = .ok (.putfield 15, 3) := dk_181 0 15 (dk_at dksJ4_init_1 8 rfl rfl)
theorem dJ4_init_33 : decode cJ4_init 33 = .ok (.aload_n 0, 1) := dk_42 (dk_at dksJ4_init_1 11 rfl rfl)
theorem dJ4_init_34 : decode cJ4_init 34 = .ok (.iconst 1, 1) := dk_4 (dk_at dksJ4_init_1 12 rfl rfl)
theorem dJ4_init_35 : decode cJ4_init 35 = .ok (.putfield 22, 3) := dk_181 0 22 (dk_at dksJ4_init_1 13 rfl rfl)
theorem dJ4_init_38 : decode cJ4_init 38 = .ok (.return_, 1) := dk_177 (dk_at dksJ4_init_1 16 rfl rfl)
def dkwJ4_setLength_3 : List UInt8 := [164, 0, 8, 42, 4, 181, 0, 73, 42, 27, 181, 0, 79, 177]
abbrev dktJ4_setLength_3 : List UInt8 := dkwJ4_setLength_3 ++ []
def dkwJ4_setLength_2 : List UInt8 := [167, 0, 31, 42, 180, 0, 15, 42, 180, 0, 79, 27, 184, 0, 137, 167, 0, 16, 42, 180, 0, 79, 27]
abbrev dktJ4_setLength_2 : List UInt8 := dkwJ4_setLength_2 ++ dktJ4_setLength_3
def dkwJ4_setLength_1 : List UInt8 := [162, 0, 40, 42, 182, 0, 83, 153, 0, 18, 42, 180, 0, 15, 42, 180, 0, 79, 27, 184, 0, 133]
abbrev dktJ4_setLength_1 : List UInt8 := dkwJ4_setLength_1 ++ dktJ4_setLength_2
def dkwJ4_setLength_0 : List UInt8 := [27, 156, 0, 12, 187, 0, 129, 89, 27, 183, 0, 131, 191, 42, 27, 182, 0, 100, 42, 180, 0, 79, 27]
abbrev dktJ4_setLength_0 : List UInt8 := dkwJ4_setLength_0 ++ dktJ4_setLength_1
theorem dksJ4_setLength_0 : cJ4_setLength.data.toList.drop 0 = dktJ4_setLength_0 := by decide +kernel
theorem dksJ4_setLength_1 : cJ4_setLength.data.toList.drop 23 = dktJ4_setLength_1 := dk_seg dksJ4_setLength_0 23 rfl rfl
theorem dksJ4_setLength_2 : cJ4_setLength.data.toList.drop 45 = dktJ4_setLength_2 := dk_seg dksJ4_setLength_1 22 rfl rfl
theorem dksJ4_setLength_3 : cJ4_setLength.data.toList.drop 68 = dktJ4_setLength_3 := dk_seg dksJ4_setLength_2 23 rfl rfl
theorem dJ4_setLength_0 : decode cJ4_setLength 0 = .ok (.iload_n 1, 1) := dk_27 (dk_at dksJ4_setLength_0 0 rfl rfl)
theorem dJ4_setLength_1 : decode cJ4_setLength 1 = .ok (.ifCond .ge 12, 3) := dk_156 0 12 (dk_at dksJ4_setLength_0 1 rfl rfl)
theorem dJ4_setLength_4 : decode cJ4_setLength 4 = .ok (.new 129, 3) := dk_187 0 129 (dk_at dksJ4_setLength_0 4 rfl rfl)
theorem dJ4_setLength_7 : decode cJ4_setLength 7 = .ok (.dup, 1) := dk_89 (dk_at dksJ4_setLength_0 7 rfl rfl)
theorem dJ4_setLength_8 : decode cJ4_setLength 8 = .ok (.iload_n 1, 1) := dk_27 (dk_at dksJ4_setLength_0 8 rfl rfl)
theorem dJ4_setLength_9 : decode cJ4_setLength 9 = .ok (.invokespecial 131, 3) := dk_183 0 131 (dk_at dksJ4_setLength_0 9 rfl rfl)
theorem dJ4_setLength_12 : decode cJ4_setLength 12 = .ok (.athrow, 1) := dk_191 (dk_at dksJ4_setLength_0 12 rfl rfl)
theorem dJ4_setLength_13 : decode cJ4_setLength 13 = .ok (.aload_n 0, 1) := dk_42 (dk_at dksJ4_setLength_0 13 rfl rfl)
theorem dJ4_setLength_14 : decode cJ4_setLength 14 = .ok (.iload_n 1, 1) := dk_27 (dk_at dksJ4_setLength_0 14 rfl rfl)
theorem dJ4_setLength_15 : decode cJ4_setLength 15 = .ok (.invokevirtual 100, 3) := dk_182 0 100 (dk_at dksJ4_setLength_0 15 rfl rfl)
theorem dJ4_setLength_18 : decode cJ4_setLength 18 = .ok (.aload_n 0, 1) := dk_42 (dk_at dksJ4_setLength_0 18 rfl rfl)
theorem dJ4_setLength_19 : decode cJ4_setLength 19 = .ok (.getfield 79, 3) := dk_180 0 79 (dk_at dksJ4_setLength_0 19 rfl rfl)
theorem dJ4_setLength_22 : decode cJ4_setLength 22 = .ok (.iload_n 1, 1) := dk_27 (dk_at dksJ4_setLength_0 22 rfl rfl)
theorem dJ4_setLength_23 : decode cJ4_setLength 23 = .ok (.if_icmp .ge 40, 3) := dk_162 0 40 (dk_at dksJ4_setLength_1 0 rfl rfl)
theorem dJ4_setLength_26 : decode cJ4_setLength 26 = .ok (.aload_n 0, 1) := dk_42 (dk_at dksJ4_setLength_1 3 rfl rfl)
theorem dJ4_setLength_27 : decode cJ4_setLength 27 = .ok (.invokevirtual 83, 3) := dk_182 0 83 (dk_at dksJ4_setLength_1 4 rfl rfl)
theorem dJ4_setLength_30 : decode cJ4_setLength 30 = .ok (.ifCond .eq 18, 3) := dk_153 0 18 (dk_at dksJ4_setLength_1 7 rfl rfl)
theorem dJ4_setLength_33 : decode cJ4_setLength 33 = .ok (.aload_n 0, 1) := dk_42 (dk_at dksJ4_setLength_1 10 rfl rfl)
theorem dJ4_setLength_34 : decode cJ4_setLength 34 = .ok (.getfield 15, 3) := dk_180 0 15 (dk_at dksJ4_setLength_1 11 rfl rfl)
theorem dJ4_setLength_37 : decode cJ4_setLength 37 = .ok (.aload_n 0, 1) := dk_42 (dk_at dksJ4_setLength_1 14 rfl rfl)
theorem dJ4_setLength_38 : decode cJ4_setLength 38 = .ok (.getfield 79, 3) := dk_180 0 79 (dk_at dksJ4_setLength_1 15 rfl rfl)
theorem dJ4_setLength_41 : decode cJ4_setLength 41 = .ok (.iload_n 1, 1) := dk_27 (dk_at dksJ4_setLength_1 18 rfl rfl)
theorem dJ4_setLength_42 : decode cJ4_setLength 42 = .ok (.invokestatic 133, 3) := dk_184 0 133 (dk_at dksJ4_setLength_1 19 rfl rfl)
theorem dJ4_setLength_45 : decode cJ4_setLength 45 = .ok (.goto 31, 3) := dk_167 0 31 (dk_at dksJ4_setLength_2 0 rfl rfl)
theorem dJ4_setLength_48 : decode cJ4_setLength 48 = .ok (.aload_n 0, 1) := dk_42 (dk_at dksJ4_setLength_2 3 rfl rfl)
theorem dJ4_setLength_49 : decode cJ4_setLength 49 = .ok (.getfield 15, 3) := dk_180 0 15 (dk_at dksJ4_setLength_2 4 rfl rfl)
theorem dJ4_setLength_52 : decode cJ4_setLength 52 = .ok (.aload_n 0, 1) := dk_42 (dk_at dksJ4_setLength_2 7 rfl rfl)
theorem dJ4_setLength_53 : decode cJ4_setLength 53 = .ok (.getfield 79, 3) := dk_180 0 79 (dk_at dksJ4_setLength_2 8 rfl rfl)
theorem dJ4_setLength_56 : decode cJ4_setLength 56 = .ok (.iload_n 1, 1) := dk_27 (dk_at dksJ4_setLength_2 11 rfl rfl)
theorem dJ4_setLength_57 : decode cJ4_setLength 57 = .ok (.invokestatic 137, 3) := dk_184 0 137 (dk_at dksJ4_setLength_2 12 rfl rfl)
theorem dJ4_setLength_60 : decode cJ4_setLength 60 = .ok (.goto 16, 3) := dk_167 0 16 (dk_at dksJ4_setLength_2 15 rfl rfl)
theorem dJ4_setLength_63 : decode cJ4_setLength 63 = .ok (.aload_n 0, 1) := dk_42 (dk_at dksJ4_setLength_2 18 rfl rfl)
theorem dJ4_setLength_64 : decode cJ4_setLength 64 = .ok (.getfield 79, 3) := dk_180 0 79 (dk_at dksJ4_setLength_2 19 rfl rfl)
theorem dJ4_setLength_67 : decode cJ4_setLength 67 = .ok (.iload_n 1, 1) := dk_27 (dk_at dksJ4_setLength_2 22 rfl rfl)
theorem dJ4_setLength_68 : decode cJ4_setLength 68 = .ok (.if_icmp .le 8, 3) := dk_164 0 8 (dk_at dksJ4_setLength_3 0 rfl rfl)
theorem dJ4_setLength_71 : decode cJ4_setLength 71 = .ok (.aload_n 0, 1) := dk_42 (dk_at dksJ4_setLength_3 3 rfl rfl)
theorem dJ4_setLength_72 : decode cJ4_setLength 72 = .ok (.iconst 1, 1) := dk_4 (dk_at dksJ4_setLength_3 4 rfl rfl)
theorem dJ4_setLength_73 : decode cJ4_setLength 73 = .ok (.putfield 73, 3) := dk_181 0 73 (dk_at dksJ4_setLength_3 5 rfl rfl)
theorem dJ4_setLength_76 : decode cJ4_setLength 76 = .ok (.aload_n 0, 1) := dk_42 (dk_at dksJ4_setLength_3 8 rfl rfl)
theorem dJ4_setLength_77 : decode cJ4_setLength 77 = .ok (.iload_n 1, 1) := dk_27 (dk_at dksJ4_setLength_3 9 rfl rfl)
theorem dJ4_setLength_78 : decode cJ4_setLength 78 = .ok (.putfield 79, 3) := dk_181 0 79 (dk_at dksJ4_setLength_3 10 rfl rfl)
theorem dJ4_setLength_81 : decode cJ4_setLength 81 = .ok (.return_, 1) := dk_177 (dk_at dksJ4_setLength_3 13 rfl rfl)
def dkwJ4_append_1 : List UInt8 := [42, 42, 180, 0, 79, 43, 182, 0, 208, 42, 89, 180, 0, 79, 28, 96, 181, 0, 79, 42, 176]
abbrev dktJ4_append_1 : List UInt8 := dkwJ4_append_1 ++ []
def dkwJ4_append_0 : List UInt8 := [43, 199, 0, 8, 42, 182, 0, 204, 176, 43, 182, 0, 32, 61, 42, 42, 180, 0, 79, 28, 96, 182, 0, 100]
abbrev dktJ4_append_0 : List UInt8 := dkwJ4_append_0 ++ dktJ4_append_1
theorem dksJ4_append_0 : cJ4_append.data.toList.drop 0 = dktJ4_append_0 := by decide +kernel
theorem dksJ4_append_1 : cJ4_append.data.toList.drop 24 = dktJ4_append_1 := dk_seg dksJ4_append_0 24 rfl rfl
theorem dJ4_append_0 : decode cJ4_append 0 = .ok (.aload_n 1, 1) := dk_43 (dk_at dksJ4_append_0 0 rfl rfl)
theorem dJ4_append_1 : decode cJ4_append 1 = .ok (.ifnonnull 8, 3) := dk_199 0 8 (dk_at dksJ4_append_0 1 rfl rfl)
theorem dJ4_append_4 : decode cJ4_append 4 = .ok (.aload_n 0, 1) := dk_42 (dk_at dksJ4_append_0 4 rfl rfl)
theorem dJ4_append_5 : decode cJ4_append 5 = .ok (.invokevirtual 204, 3) := dk_182 0 204 (dk_at dksJ4_append_0 5 rfl rfl)
theorem dJ4_append_8 : decode cJ4_append 8 = .ok (.areturn, 1) := dk_176 (dk_at dksJ4_append_0 8 rfl rfl)
theorem dJ4_append_9 : decode cJ4_append 9 = .ok (.aload_n 1, 1) := dk_43 (dk_at dksJ4_append_0 9 rfl rfl)
theorem dJ4_append_10 : decode cJ4_append 10 = .ok (.invokevirtual 32, 3) := dk_182 0 32 (dk_at dksJ4_append_0 10 rfl rfl)
theorem dJ4_append_13 : decode cJ4_append 13 = .ok (.istore_n 2, 1) := dk_61 (dk_at dksJ4_append_0 13 rfl rfl)
theorem dJ4_append_14 : decode cJ4_append 14 = .ok (.aload_n 0, 1) := dk_42 (dk_at dksJ4_append_0 14 rfl rfl)
theorem dJ4_append_15 : decode cJ4_append 15 = .ok (.aload_n 0, 1) := dk_42 (dk_at dksJ4_append_0 15 rfl rfl)
theorem dJ4_append_16 : decode cJ4_append 16 = .ok (.getfield 79, 3) := dk_180 0 79 (dk_at dksJ4_append_0 16 rfl rfl)
theorem dJ4_append_19 : decode cJ4_append 19 = .ok (.iload_n 2, 1) := dk_28 (dk_at dksJ4_append_0 19 rfl rfl)
theorem dJ4_append_20 : decode cJ4_append 20 = .ok (.iadd, 1) := dk_96 (dk_at dksJ4_append_0 20 rfl rfl)
theorem dJ4_append_21 : decode cJ4_append 21 = .ok (.invokevirtual 100, 3) := dk_182 0 100 (dk_at dksJ4_append_0 21 rfl rfl)
theorem dJ4_append_24 : decode cJ4_append 24 = .ok (.aload_n 0, 1) := dk_42 (dk_at dksJ4_append_1 0 rfl rfl)
theorem dJ4_append_25 : decode cJ4_append 25 = .ok (.aload_n 0, 1) := dk_42 (dk_at dksJ4_append_1 1 rfl rfl)
theorem dJ4_append_26 : decode cJ4_append 26 = .ok (.getfield 79, 3) := dk_180 0 79 (dk_at dksJ4_append_1 2 rfl rfl)
theorem dJ4_append_29 : decode cJ4_append 29 = .ok (.aload_n 1, 1) := dk_43 (dk_at dksJ4_append_1 5 rfl rfl)
theorem dJ4_append_30 : decode cJ4_append 30 = .ok (.invokevirtual 208, 3) := dk_182 0 208 (dk_at dksJ4_append_1 6 rfl rfl)
theorem dJ4_append_33 : decode cJ4_append 33 = .ok (.aload_n 0, 1) := dk_42 (dk_at dksJ4_append_1 9 rfl rfl)
theorem dJ4_append_34 : decode cJ4_append 34 = .ok (.dup, 1) := dk_89 (dk_at dksJ4_append_1 10 rfl rfl)
theorem dJ4_append_35 : decode cJ4_append 35 = .ok (.getfield 79, 3) := dk_180 0 79 (dk_at dksJ4_append_1 11 rfl rfl)
theorem dJ4_append_38 : decode cJ4_append 38 = .ok (.iload_n 2, 1) := dk_28 (dk_at dksJ4_append_1 14 rfl rfl)
theorem dJ4_append_39 : decode cJ4_append 39 = .ok (.iadd, 1) := dk_96 (dk_at dksJ4_append_1 15 rfl rfl)
theorem dJ4_append_40 : decode cJ4_append 40 = .ok (.putfield 79, 3) := dk_181 0 79 (dk_at dksJ4_append_1 16 rfl rfl)
theorem dJ4_append_43 : decode cJ4_append 43 = .ok (.aload_n 0, 1) := dk_42 (dk_at dksJ4_append_1 19 rfl rfl)
theorem dJ4_append_44 : decode cJ4_append 44 = .ok (.areturn, 1) := dk_176 (dk_at dksJ4_append_1 20 rfl rfl)
def dkwJ4_appendNull_3 : List UInt8 := [184, 0, 226, 60, 42, 27, 181, 0, 79, 42, 176]
abbrev dktJ4_appendNull_3 : List UInt8 := dkwJ4_appendNull_3 ++ []
def dkwJ4_appendNull_2 : List UInt8 := [16, 108, 84, 44, 27, 132, 1, 1, 16, 108, 84, 167, 0, 17, 44, 27, 16, 110, 16, 117, 16, 108, 16, 108]
abbrev dktJ4_appendNull_2 : List UInt8 := dkwJ4_appendNull_2 ++ dktJ4_appendNull_3
def dkwJ4_appendNull_1 : List UInt8 := [153, 0, 38, 44, 27, 132, 1, 1, 16, 110, 84, 44, 27, 132, 1, 1, 16, 117, 84, 44, 27, 132, 1, 1]
abbrev dktJ4_appendNull_1 : List UInt8 := dkwJ4_appendNull_1 ++ dktJ4_appendNull_2
def dkwJ4_appendNull_0 : List UInt8 := [42, 42, 180, 0, 79, 7, 96, 182, 0, 100, 42, 180, 0, 79, 60, 42, 180, 0, 15, 77, 42, 182, 0, 83]
abbrev dktJ4_appendNull_0 : List UInt8 := dkwJ4_appendNull_0 ++ dktJ4_appendNull_1
theorem dksJ4_appendNull_0 : cJ4_appendNull.data.toList.drop 0 = dktJ4_appendNull_0 := by decide +kernel
theorem dksJ4_appendNull_1 : cJ4_appendNull.data.toList.drop 24 = dktJ4_appendNull_1 := dk_seg dksJ4_appendNull_0 24 rfl rfl
theorem dksJ4_appendNull_2 : cJ4_appendNull.data.toList.drop 48 = dktJ4_appendNull_2 := dk_seg dksJ4_appendNull_1 24 rfl rfl
theorem dksJ4_appendNull_3 : cJ4_appendNull.data.toList.drop 72 = dktJ4_appendNull_3 := dk_seg dksJ4_appendNull_2 24 rfl rfl
theorem dJ4_appendNull_0 : decode cJ4_appendNull 0 = .ok (.aload_n 0, 1) := dk_42 (dk_at dksJ4_appendNull_0 0 rfl rfl)
theorem dJ4_appendNull_1 : decode cJ4_appendNull 1 = .ok (.aload_n 0, 1) := dk_42 (dk_at dksJ4_appendNull_0 1 rfl rfl)
theorem dJ4_appendNull_2 : decode cJ4_appendNull 2 = .ok (.getfield 79, 3) := dk_180 0 79 (dk_at dksJ4_appendNull_0 2 rfl rfl)
theorem dJ4_appendNull_5 : decode cJ4_appendNull 5 = .ok (.iconst 4, 1) := dk_7 (dk_at dksJ4_appendNull_0 5 rfl rfl)
theorem dJ4_appendNull_6 : decode cJ4_appendNull 6 = .ok (.iadd, 1) := dk_96 (dk_at dksJ4_appendNull_0 6 rfl rfl)
theorem dJ4_appendNull_7 : decode cJ4_appendNull 7 = .ok (.invokevirtual 100, 3) := dk_182 0 100 (dk_at dksJ4_appendNull_0 7 rfl rfl)
theorem dJ4_appendNull_10 : decode cJ4_appendNull 10 = .ok (.aload_n 0, 1) := dk_42 (dk_at dksJ4_appendNull_0 10 rfl rfl)
theorem dJ4_appendNull_11 : decode cJ4_appendNull 11 = .ok (.getfield 79, 3) := dk_180 0 79 (dk_at dksJ4_appendNull_0 11 rfl rfl)
theorem dJ4_appendNull_14 : decode cJ4_appendNull 14 = .ok (.istore_n 1, 1) := dk_60 (dk_at dksJ4_appendNull_0 14 rfl rfl)
theorem dJ4_appendNull_15 : decode cJ4_appendNull 15 = .ok (.aload_n 0, 1) := dk_42 (dk_at dksJ4_appendNull_0 15 rfl rfl)
theorem dJ4_appendNull_16 : decode cJ4_appendNull 16 = .ok (.getfield 15, 3) := dk_180 0 15 (dk_at dksJ4_appendNull_0 16 rfl rfl)
theorem dJ4_appendNull_19 : decode cJ4_appendNull 19 = .ok (.astore_n 2, 1) := dk_77 (dk_at dksJ4_appendNull_0 19 rfl rfl)
theorem dJ4_appendNull_20 : decode cJ4_appendNull 20 = .ok (.aload_n 0, 1) := dk_42 (dk_at dksJ4_appendNull_0 20 rfl rfl)
theorem dJ4_appendNull_21 : decode cJ4_appendNull 21 = .ok (.invokevirtual 83, 3) := dk_182 0 83 (dk_at dksJ4_appendNull_0 21 rfl rfl)
theorem dJ4_appendNull_24 : decode cJ4_appendNull 24 = .ok (.ifCond .eq 38, 3) := dk_153 0 38 (dk_at dksJ4_appendNull_1 0 rfl rfl)
theorem dJ4_appendNull_27 : decode cJ4_appendNull 27 = .ok (.aload_n 2, 1) := dk_44 (dk_at dksJ4_appendNull_1 3 rfl rfl)
theorem dJ4_appendNull_28 : decode cJ4_appendNull 28 = .ok (.iload_n 1, 1) := dk_27 (dk_at dksJ4_appendNull_1 4 rfl rfl)
theorem dJ4_appendNull_29 : decode cJ4_appendNull 29 = .ok (.iinc 1 1, 3) := dk_132 1 1 (dk_at dksJ4_appendNull_1 5 rfl rfl)
theorem dJ4_appendNull_32 : decode cJ4_appendNull 32 = .ok (.bipush 110, 2) := dk_16 110 (dk_at dksJ4_appendNull_1 8 rfl rfl)
theorem dJ4_appendNull_34 : decode cJ4_appendNull 34 = .ok (.bastore, 1) := dk_84 (dk_at dksJ4_appendNull_1 10 rfl rfl)
theorem dJ4_appendNull_35 : decode cJ4_appendNull 35 = .ok (.aload_n 2, 1) := dk_44 (dk_at dksJ4_appendNull_1 11 rfl rfl)
theorem dJ4_appendNull_36 : decode cJ4_appendNull 36 = .ok (.iload_n 1, 1) := dk_27 (dk_at dksJ4_appendNull_1 12 rfl rfl)
theorem dJ4_appendNull_37 : decode cJ4_appendNull 37 = .ok (.iinc 1 1, 3) := dk_132 1 1 (dk_at dksJ4_appendNull_1 13 rfl rfl)
theorem dJ4_appendNull_40 : decode cJ4_appendNull 40 = .ok (.bipush 117, 2) := dk_16 117 (dk_at dksJ4_appendNull_1 16 rfl rfl)
theorem dJ4_appendNull_42 : decode cJ4_appendNull 42 = .ok (.bastore, 1) := dk_84 (dk_at dksJ4_appendNull_1 18 rfl rfl)
theorem dJ4_appendNull_43 : decode cJ4_appendNull 43 = .ok (.aload_n 2, 1) := dk_44 (dk_at dksJ4_appendNull_1 19 rfl rfl)
theorem dJ4_appendNull_44 : decode cJ4_appendNull 44 = .ok (.iload_n 1, 1) := dk_27 (dk_at dksJ4_appendNull_1 20 rfl rfl)
theorem dJ4_appendNull_45 : decode cJ4_appendNull 45 = .ok (.iinc 1 1, 3) := dk_132 1 1 (dk_at dksJ4_appendNull_1 21 rfl rfl)
theorem dJ4_appendNull_48 : decode cJ4_appendNull 48 = .ok (.bipush 108, 2) := dk_16 108 (dk_at dksJ4_appendNull_2 0 rfl rfl)
theorem dJ4_appendNull_50 : decode cJ4_appendNull 50 = .ok (.bastore, 1) := dk_84 (dk_at dksJ4_appendNull_2 2 rfl rfl)
theorem dJ4_appendNull_51 : decode cJ4_appendNull 51 = .ok (.aload_n 2, 1) := dk_44 (dk_at dksJ4_appendNull_2 3 rfl rfl)
theorem dJ4_appendNull_52 : decode cJ4_appendNull 52 = .ok (.iload_n 1, 1) := dk_27 (dk_at dksJ4_appendNull_2 4 rfl rfl)
theorem dJ4_appendNull_53 : decode cJ4_appendNull 53 = .ok (.iinc 1 1, 3) := dk_132 1 1 (dk_at dksJ4_appendNull_2 5 rfl rfl)
theorem dJ4_appendNull_56 : decode cJ4_appendNull 56 = .ok (.bipush 108, 2) := dk_16 108 (dk_at dksJ4_appendNull_2 8 rfl rfl)
theorem dJ4_appendNull_58 : decode cJ4_appendNull 58 = .ok (.bastore, 1) := dk_84 (dk_at dksJ4_appendNull_2 10 rfl rfl)
theorem dJ4_appendNull_59 : decode cJ4_appendNull 59 = .ok (.goto 17, 3) := dk_167 0 17 (dk_at dksJ4_appendNull_2 11 rfl rfl)
theorem dJ4_appendNull_62 : decode cJ4_appendNull 62 = .ok (.aload_n 2, 1) := dk_44 (dk_at dksJ4_appendNull_2 14 rfl rfl)
theorem dJ4_appendNull_63 : decode cJ4_appendNull 63 = .ok (.iload_n 1, 1) := dk_27 (dk_at dksJ4_appendNull_2 15 rfl rfl)
theorem dJ4_appendNull_64 : decode cJ4_appendNull 64 = .ok (.bipush 110, 2) := dk_16 110 (dk_at dksJ4_appendNull_2 16 rfl rfl)
theorem dJ4_appendNull_66 : decode cJ4_appendNull 66 = .ok (.bipush 117, 2) := dk_16 117 (dk_at dksJ4_appendNull_2 18 rfl rfl)
theorem dJ4_appendNull_68 : decode cJ4_appendNull 68 = .ok (.bipush 108, 2) := dk_16 108 (dk_at dksJ4_appendNull_2 20 rfl rfl)
theorem dJ4_appendNull_70 : decode cJ4_appendNull 70 = .ok (.bipush 108, 2) := dk_16 108 (dk_at dksJ4_appendNull_2 22 rfl rfl)
theorem dJ4_appendNull_72 : decode cJ4_appendNull 72 = .ok (.invokestatic 226, 3) := dk_184 0 226 (dk_at dksJ4_appendNull_3 0 rfl rfl)
theorem dJ4_appendNull_75 : decode cJ4_appendNull 75 = .ok (.istore_n 1, 1) := dk_60 (dk_at dksJ4_appendNull_3 3 rfl rfl)
theorem dJ4_appendNull_76 : decode cJ4_appendNull 76 = .ok (.aload_n 0, 1) := dk_42 (dk_at dksJ4_appendNull_3 4 rfl rfl)
theorem dJ4_appendNull_77 : decode cJ4_appendNull 77 = .ok (.iload_n 1, 1) := dk_27 (dk_at dksJ4_appendNull_3 5 rfl rfl)
theorem dJ4_appendNull_78 : decode cJ4_appendNull 78 = .ok (.putfield 79, 3) := dk_181 0 79 (dk_at dksJ4_appendNull_3 6 rfl rfl)
theorem dJ4_appendNull_81 : decode cJ4_appendNull 81 = .ok (.aload_n 0, 1) := dk_42 (dk_at dksJ4_appendNull_3 9 rfl rfl)
theorem dJ4_appendNull_82 : decode cJ4_appendNull 82 = .ok (.areturn, 1) := dk_176 (dk_at dksJ4_appendNull_3 10 rfl rfl)
def dkwJ4_ensureCapacityInternal_1 : List UInt8 := [182, 0, 104, 42, 180, 0, 22, 120, 184, 0, 108, 181, 0, 15, 177]
abbrev dktJ4_ensureCapacityInternal_1 : List UInt8 := dkwJ4_ensureCapacityInternal_1 ++ []
def dkwJ4_ensureCapacityInternal_0 : List UInt8 := [42, 180, 0, 15, 190, 42, 180, 0, 22, 122, 61, 27, 28, 100, 158, 0, 24, 42, 42, 180, 0, 15, 42, 27]
abbrev dktJ4_ensureCapacityInternal_0 : List UInt8 := dkwJ4_ensureCapacityInternal_0 ++ dktJ4_ensureCapacityInternal_1
theorem dksJ4_ensureCapacityInternal_0 : cJ4_ensureCapacityInternal.data.toList.drop 0 = dktJ4_ensureCapacityInternal_0 := by decide +kernel
theorem dksJ4_ensureCapacityInternal_1 : cJ4_ensureCapacityInternal.data.toList.drop 24 = dktJ4_ensureCapacityInternal_1 := dk_seg dksJ4_ensureCapacityInternal_0 24 rfl rfl
theorem dJ4_ensureCapacityInternal_0 : decode cJ4_ensureCapacityInternal 0 = .ok (.aload_n 0, 1) := dk_42 (dk_at dksJ4_ensureCapacityInternal_0 0 rfl rfl)
theorem dJ4_ensureCapacityInternal_1 : decode cJ4_ensureCapacityInternal 1 = .ok (.getfield 15, 3) := dk_180 0 15 (dk_at dksJ4_ensureCapacityInternal_0 1 rfl rfl)
theorem dJ4_ensureCapacityInternal_4 : decode cJ4_ensureCapacityInternal 4 = .ok (.arraylength, 1) := dk_190 (dk_at dksJ4_ensureCapacityInternal_0 4 rfl rfl)
theorem dJ4_ensureCapacityInternal_5 : decode cJ4_ensureCapacityInternal 5 = .ok (.aload_n 0, 1) := dk_42 (dk_at dksJ4_ensureCapacityInternal_0 5 rfl rfl)
theorem dJ4_ensureCapacityInternal_6 : decode cJ4_ensureCapacityInternal 6 = .ok (.getfield 22, 3) := dk_180 0 22 (dk_at dksJ4_ensureCapacityInternal_0 6 rfl rfl)
theorem dJ4_ensureCapacityInternal_9 : decode cJ4_ensureCapacityInternal 9 = .ok (.ishr, 1) := dk_122 (dk_at dksJ4_ensureCapacityInternal_0 9 rfl rfl)
theorem dJ4_ensureCapacityInternal_10 : decode cJ4_ensureCapacityInternal 10 = .ok (.istore_n 2, 1) := dk_61 (dk_at dksJ4_ensureCapacityInternal_0 10 rfl rfl)
theorem dJ4_ensureCapacityInternal_11 : decode cJ4_ensureCapacityInternal 11 = .ok (.iload_n 1, 1) := dk_27 (dk_at dksJ4_ensureCapacityInternal_0 11 rfl rfl)
theorem dJ4_ensureCapacityInternal_12 : decode cJ4_ensureCapacityInternal 12 = .ok (.iload_n 2, 1) := dk_28 (dk_at dksJ4_ensureCapacityInternal_0 12 rfl rfl)
theorem dJ4_ensureCapacityInternal_13 : decode cJ4_ensureCapacityInternal 13 = .ok (.isub, 1) := dk_100 (dk_at dksJ4_ensureCapacityInternal_0 13 rfl rfl)
theorem dJ4_ensureCapacityInternal_14 : decode cJ4_ensureCapacityInternal 14 = .ok (.ifCond .le 24, 3) := dk_158 0 24 (dk_at dksJ4_ensureCapacityInternal_0 14 rfl rfl)
theorem dJ4_ensureCapacityInternal_17 : decode cJ4_ensureCapacityInternal 17 = .ok (.aload_n 0, 1) := dk_42 (dk_at dksJ4_ensureCapacityInternal_0 17 rfl rfl)
theorem dJ4_ensureCapacityInternal_18 : decode cJ4_ensureCapacityInternal 18 = .ok (.aload_n 0, 1) := dk_42 (dk_at dksJ4_ensureCapacityInternal_0 18 rfl rfl)
theorem dJ4_ensureCapacityInternal_19 : decode cJ4_ensureCapacityInternal 19 = .ok (.getfield 15, 3) := dk_180 0 15 (dk_at dksJ4_ensureCapacityInternal_0 19 rfl rfl)
theorem dJ4_ensureCapacityInternal_22 : decode cJ4_ensureCapacityInternal 22 = .ok (.aload_n 0, 1) := dk_42 (dk_at dksJ4_ensureCapacityInternal_0 22 rfl rfl)
theorem dJ4_ensureCapacityInternal_23 : decode cJ4_ensureCapacityInternal 23 = .ok (.iload_n 1, 1) := dk_27 (dk_at dksJ4_ensureCapacityInternal_0 23 rfl rfl)
theorem dJ4_ensureCapacityInternal_24 : decode cJ4_ensureCapacityInternal 24 = .ok (.invokevirtual 104, 3) := dk_182 0 104 (dk_at dksJ4_ensureCapacityInternal_1 0 rfl rfl)
theorem dJ4_ensureCapacityInternal_27 : decode cJ4_ensureCapacityInternal 27 = .ok (.aload_n 0, 1) := dk_42 (dk_at dksJ4_ensureCapacityInternal_1 3 rfl rfl)
theorem dJ4_ensureCapacityInternal_28 : decode cJ4_ensureCapacityInternal 28 = .ok (.getfield 22, 3) := dk_180 0 22 (dk_at dksJ4_ensureCapacityInternal_1 4 rfl rfl)
theorem dJ4_ensureCapacityInternal_31 : decode cJ4_ensureCapacityInternal 31 = .ok (.ishl, 1) := dk_120 (dk_at dksJ4_ensureCapacityInternal_1 7 rfl rfl)
theorem dJ4_ensureCapacityInternal_32 : decode cJ4_ensureCapacityInternal 32 = .ok (.invokestatic 108, 3) := dk_184 0 108 (dk_at dksJ4_ensureCapacityInternal_1 8 rfl rfl)
theorem dJ4_ensureCapacityInternal_35 : decode cJ4_ensureCapacityInternal 35 = .ok (.putfield 15, 3) := dk_181 0 15 (dk_at dksJ4_ensureCapacityInternal_1 11 rfl rfl)
theorem dJ4_ensureCapacityInternal_38 : decode cJ4_ensureCapacityInternal 38 = .ok (.return_, 1) := dk_177 (dk_at dksJ4_ensureCapacityInternal_1 14 rfl rfl)
def dkwJ4_newCapacity_2 : List UInt8 := [183, 0, 124, 191, 21, 5, 42, 180, 0, 22, 122, 172]
abbrev dktJ4_newCapacity_2 : List UInt8 := dkwJ4_newCapacity_2 ++ []
def dkwJ4_newCapacity_1 : List UInt8 := [180, 0, 22, 120, 96, 184, 0, 114, 54, 5, 21, 5, 18, 39, 160, 0, 13, 187, 0, 120, 89, 18, 122]
abbrev dktJ4_newCapacity_1 : List UInt8 := dkwJ4_newCapacity_1 ++ dktJ4_newCapacity_2
def dkwJ4_newCapacity_0 : List UInt8 := [42, 180, 0, 15, 190, 61, 27, 42, 180, 0, 22, 120, 62, 29, 28, 100, 54, 4, 28, 21, 4, 28, 5, 42]
abbrev dktJ4_newCapacity_0 : List UInt8 := dkwJ4_newCapacity_0 ++ dktJ4_newCapacity_1
theorem dksJ4_newCapacity_0 : cJ4_newCapacity.data.toList.drop 0 = dktJ4_newCapacity_0 := by decide +kernel
theorem dksJ4_newCapacity_1 : cJ4_newCapacity.data.toList.drop 24 = dktJ4_newCapacity_1 := dk_seg dksJ4_newCapacity_0 24 rfl rfl
theorem dksJ4_newCapacity_2 : cJ4_newCapacity.data.toList.drop 47 = dktJ4_newCapacity_2 := dk_seg dksJ4_newCapacity_1 23 rfl rfl
theorem dJ4_newCapacity_0 : decode cJ4_newCapacity 0 = .ok (.aload_n 0, 1) := dk_42 (dk_at dksJ4_newCapacity_0 0 rfl rfl)
theorem dJ4_newCapacity_1 : decode cJ4_newCapacity 1 = .ok (.getfield 15, 3) := dk_180 0 15 (dk_at dksJ4_newCapacity_0 1 rfl rfl)
theorem dJ4_newCapacity_4 : decode cJ4_newCapacity 4 = .ok (.arraylength, 1) := dk_190 (dk_at dksJ4_newCapacity_0 4 rfl rfl)
theorem dJ4_newCapacity_5 : decode cJ4_newCapacity 5 = .ok (.istore_n 2, 1) := dk_61 (dk_at dksJ4_newCapacity_0 5 rfl rfl)
theorem dJ4_newCapacity_6 : decode cJ4_newCapacity 6 = .ok (.iload_n 1, 1) := dk_27 (dk_at dksJ4_newCapacity_0 6 rfl rfl)
theorem dJ4_newCapacity_7 : decode cJ4_newCapacity 7 = .ok (.aload_n 0, 1) := dk_42 (dk_at dksJ4_newCapacity_0 7 rfl rfl)
theorem dJ4_newCapacity_8 : decode cJ4_newCapacity 8 = .ok (.getfield 22, 3) := dk_180 0 22 (dk_at dksJ4_newCapacity_0 8 rfl rfl)
theorem dJ4_newCapacity_11 : decode cJ4_newCapacity 11 = .ok (.ishl, 1) := dk_120 (dk_at dksJ4_newCapacity_0 11 rfl rfl)
theorem dJ4_newCapacity_12 : decode cJ4_newCapacity 12 = .ok (.istore_n 3, 1) := dk_62 (dk_at dksJ4_newCapacity_0 12 rfl rfl)
theorem dJ4_newCapacity_13 : decode cJ4_newCapacity 13 = .ok (.iload_n 3, 1) := dk_29 (dk_at dksJ4_newCapacity_0 13 rfl rfl)
theorem dJ4_newCapacity_14 : decode cJ4_newCapacity 14 = .ok (.iload_n 2, 1) := dk_28 (dk_at dksJ4_newCapacity_0 14 rfl rfl)
theorem dJ4_newCapacity_15 : decode cJ4_newCapacity 15 = .ok (.isub, 1) := dk_100 (dk_at dksJ4_newCapacity_0 15 rfl rfl)
theorem dJ4_newCapacity_16 : decode cJ4_newCapacity 16 = .ok (.istore 4, 2) := dk_54 4 (dk_at dksJ4_newCapacity_0 16 rfl rfl)
theorem dJ4_newCapacity_18 : decode cJ4_newCapacity 18 = .ok (.iload_n 2, 1) := dk_28 (dk_at dksJ4_newCapacity_0 18 rfl rfl)
theorem dJ4_newCapacity_19 : decode cJ4_newCapacity 19 = .ok (.iload 4, 2) := dk_21 4 (dk_at dksJ4_newCapacity_0 19 rfl rfl)
theorem dJ4_newCapacity_21 : decode cJ4_newCapacity 21 = .ok (.iload_n 2, 1) := dk_28 (dk_at dksJ4_newCapacity_0 21 rfl rfl)
theorem dJ4_newCapacity_22 : decode cJ4_newCapacity 22 = .ok (.iconst 2, 1) := dk_5 (dk_at dksJ4_newCapacity_0 22 rfl rfl)
theorem dJ4_newCapacity_23 : decode cJ4_newCapacity 23 = .ok (.aload_n 0, 1) := dk_42 (dk_at dksJ4_newCapacity_0 23 rfl rfl)
theorem dJ4_newCapacity_24 : decode cJ4_newCapacity 24 = .ok (.getfield 22, 3) := dk_180 0 22 (dk_at dksJ4_newCapacity_1 0 rfl rfl)
theorem dJ4_newCapacity_27 : decode cJ4_newCapacity 27 = .ok (.ishl, 1) := dk_120 (dk_at dksJ4_newCapacity_1 3 rfl rfl)
theorem dJ4_newCapacity_28 : decode cJ4_newCapacity 28 = .ok (.iadd, 1) := dk_96 (dk_at dksJ4_newCapacity_1 4 rfl rfl)
theorem dJ4_newCapacity_29 : decode cJ4_newCapacity 29 = .ok (.invokestatic 114, 3) := dk_184 0 114 (dk_at dksJ4_newCapacity_1 5 rfl rfl)
theorem dJ4_newCapacity_32 : decode cJ4_newCapacity 32 = .ok (.istore 5, 2) := dk_54 5 (dk_at dksJ4_newCapacity_1 8 rfl rfl)
theorem dJ4_newCapacity_34 : decode cJ4_newCapacity 34 = .ok (.iload 5, 2) := dk_21 5 (dk_at dksJ4_newCapacity_1 10 rfl rfl)
theorem dJ4_newCapacity_36 : decode cJ4_newCapacity 36 = .ok (.ldc 39, 2) := dk_18 39 (dk_at dksJ4_newCapacity_1 12 rfl rfl)
theorem dJ4_newCapacity_38 : decode cJ4_newCapacity 38 = .ok (.if_icmp .ne 13, 3) := dk_160 0 13 (dk_at dksJ4_newCapacity_1 14 rfl rfl)
theorem dJ4_newCapacity_41 : decode cJ4_newCapacity 41 = .ok (.new 120, 3) := dk_187 0 120 (dk_at dksJ4_newCapacity_1 17 rfl rfl)
theorem dJ4_newCapacity_44 : decode cJ4_newCapacity 44 = .ok (.dup, 1) := dk_89 (dk_at dksJ4_newCapacity_1 20 rfl rfl)
theorem dJ4_newCapacity_45 : decode cJ4_newCapacity 45 = .ok (.ldc 122, 2) := dk_18 122 (dk_at dksJ4_newCapacity_1 21 rfl rfl)
theorem dJ4_newCapacity_47 : decode cJ4_newCapacity 47 = .ok (.invokespecial 124, 3) := dk_183 0 124 (dk_at dksJ4_newCapacity_2 0 rfl rfl)
theorem dJ4_newCapacity_50 : decode cJ4_newCapacity 50 = .ok (.athrow, 1) := dk_191 (dk_at dksJ4_newCapacity_2 3 rfl rfl)
theorem dJ4_newCapacity_51 : decode cJ4_newCapacity 51 = .ok (.iload 5, 2) := dk_21 5 (dk_at dksJ4_newCapacity_2 4 rfl rfl)
theorem dJ4_newCapacity_53 : decode cJ4_newCapacity 53 = .ok (.aload_n 0, 1) := dk_42 (dk_at dksJ4_newCapacity_2 6 rfl rfl)
theorem dJ4_newCapacity_54 : decode cJ4_newCapacity 54 = .ok (.getfield 22, 3) := dk_180 0 22 (dk_at dksJ4_newCapacity_2 7 rfl rfl)
theorem dJ4_newCapacity_57 : decode cJ4_newCapacity 57 = .ok (.ishr, 1) := dk_122 (dk_at dksJ4_newCapacity_2 10 rfl rfl)
theorem dJ4_newCapacity_58 : decode cJ4_newCapacity 58 = .ok (.ireturn, 1) := dk_172 (dk_at dksJ4_newCapacity_2 11 rfl rfl)
def dkwJ4_isLatin1_0 : List UInt8 := [178, 0, 18, 153, 0, 14, 42, 180, 0, 22, 154, 0, 7, 4, 167, 0, 4, 3, 172]
abbrev dktJ4_isLatin1_0 : List UInt8 := dkwJ4_isLatin1_0 ++ []
theorem dksJ4_isLatin1_0 : cJ4_isLatin1.data.toList.drop 0 = dktJ4_isLatin1_0 := by decide +kernel
theorem dJ4_isLatin1_0 : decode cJ4_isLatin1 0 = .ok (.getstatic 18, 3) := dk_178 0 18 (dk_at dksJ4_isLatin1_0 0 rfl rfl)
theorem dJ4_isLatin1_3 : decode cJ4_isLatin1 3 = .ok (.ifCond .eq 14, 3) := dk_153 0 14 (dk_at dksJ4_isLatin1_0 3 rfl rfl)
theorem dJ4_isLatin1_6 : decode cJ4_isLatin1 6 = .ok (.aload_n 0, 1) := dk_42 (dk_at dksJ4_isLatin1_0 6 rfl rfl)
theorem dJ4_isLatin1_7 : decode cJ4_isLatin1 7 = .ok (.getfield 22, 3) := dk_180 0 22 (dk_at dksJ4_isLatin1_0 7 rfl rfl)
theorem dJ4_isLatin1_10 : decode cJ4_isLatin1 10 = .ok (.ifCond .ne 7, 3) := dk_154 0 7 (dk_at dksJ4_isLatin1_0 10 rfl rfl)
theorem dJ4_isLatin1_13 : decode cJ4_isLatin1 13 = .ok (.iconst 1, 1) := dk_4 (dk_at dksJ4_isLatin1_0 13 rfl rfl)
theorem dJ4_isLatin1_14 : decode cJ4_isLatin1 14 = .ok (.goto 4, 3) := dk_167 0 4 (dk_at dksJ4_isLatin1_0 14 rfl rfl)
theorem dJ4_isLatin1_17 : decode cJ4_isLatin1 17 = .ok (.iconst 0, 1) := dk_3 (dk_at dksJ4_isLatin1_0 17 rfl rfl)
theorem dJ4_isLatin1_18 : decode cJ4_isLatin1 18 = .ok (.ireturn, 1) := dk_172 (dk_at dksJ4_isLatin1_0 18 rfl rfl)
def dkwJ4_putStringAt_0 : List UInt8 := [42, 44, 182, 1, 141, 44, 42, 180, 0, 15, 27, 42, 180, 0, 22, 182, 1, 143, 177]
abbrev dktJ4_putStringAt_0 : List UInt8 := dkwJ4_putStringAt_0 ++ []
theorem dksJ4_putStringAt_0 : cJ4_putStringAt.data.toList.drop 0 = dktJ4_putStringAt_0 := by decide +kernel
theorem dJ4_putStringAt_0 : decode cJ4_putStringAt 0 = .ok (.aload_n 0, 1) := dk_42 (dk_at dksJ4_putStringAt_0 0 rfl rfl)
theorem dJ4_putStringAt_1 : decode cJ4_putStringAt 1 = .ok (.aload_n 2, 1) := dk_44 (dk_at dksJ4_putStringAt_0 1 rfl rfl)
theorem dJ4_putStringAt_2 : decode cJ4_putStringAt 2 = .ok (.invokevirtual 397, 3) := dk_182 1 141 (dk_at dksJ4_putStringAt_0 2 rfl rfl)
theorem dJ4_putStringAt_5 : decode cJ4_putStringAt 5 = .ok (.aload_n 2, 1) := dk_44 (dk_at dksJ4_putStringAt_0 5 rfl rfl)
theorem dJ4_putStringAt_6 : decode cJ4_putStringAt 6 = .ok (.aload_n 0, 1) := dk_42 (dk_at dksJ4_putStringAt_0 6 rfl rfl)
theorem dJ4_putStringAt_7 : decode cJ4_putStringAt 7 = .ok (.getfield 15, 3) := dk_180 0 15 (dk_at dksJ4_putStringAt_0 7 rfl rfl)
theorem dJ4_putStringAt_10 : decode cJ4_putStringAt 10 = .ok (.iload_n 1, 1) := dk_27 (dk_at dksJ4_putStringAt_0 10 rfl rfl)
theorem dJ4_putStringAt_11 : decode cJ4_putStringAt 11 = .ok (.aload_n 0, 1) := dk_42 (dk_at dksJ4_putStringAt_0 11 rfl rfl)
theorem dJ4_putStringAt_12 : decode cJ4_putStringAt 12 = .ok (.getfield 22, 3) := dk_180 0 22 (dk_at dksJ4_putStringAt_0 12 rfl rfl)
theorem dJ4_putStringAt_15 : decode cJ4_putStringAt 15 = .ok (.invokevirtual 399, 3) := dk_182 1 143 (dk_at dksJ4_putStringAt_0 15 rfl rfl)
theorem dJ4_putStringAt_18 : decode cJ4_putStringAt 18 = .ok (.return_, 1) := dk_177 (dk_at dksJ4_putStringAt_0 18 rfl rfl)
def dkwJ4_inflateIfNeededFor_0 : List UInt8 := [178, 0, 18, 153, 0, 18, 42, 180, 0, 22, 43, 182, 0, 40, 159, 0, 7, 42, 182, 0, 195, 177]
abbrev dktJ4_inflateIfNeededFor_0 : List UInt8 := dkwJ4_inflateIfNeededFor_0 ++ []
theorem dksJ4_inflateIfNeededFor_0 : cJ4_inflateIfNeededFor.data.toList.drop 0 = dktJ4_inflateIfNeededFor_0 := by decide +kernel
theorem dJ4_inflateIfNeededFor_0 : decode cJ4_inflateIfNeededFor 0 = .ok (.getstatic 18, 3) := dk_178 0 18 (dk_at dksJ4_inflateIfNeededFor_0 0 rfl rfl)
theorem dJ4_inflateIfNeededFor_3 : decode cJ4_inflateIfNeededFor 3 = .ok (.ifCond .eq 18, 3) := dk_153 0 18 (dk_at dksJ4_inflateIfNeededFor_0 3 rfl rfl)
theorem dJ4_inflateIfNeededFor_6 : decode cJ4_inflateIfNeededFor 6 = .ok (.aload_n 0, 1) := dk_42 (dk_at dksJ4_inflateIfNeededFor_0 6 rfl rfl)
theorem dJ4_inflateIfNeededFor_7 : decode cJ4_inflateIfNeededFor 7 = .ok (.getfield 22, 3) := dk_180 0 22 (dk_at dksJ4_inflateIfNeededFor_0 7 rfl rfl)
theorem dJ4_inflateIfNeededFor_10 : decode cJ4_inflateIfNeededFor 10 = .ok (.aload_n 1, 1) := dk_43 (dk_at dksJ4_inflateIfNeededFor_0 10 rfl rfl)
theorem dJ4_inflateIfNeededFor_11 : decode cJ4_inflateIfNeededFor 11 = .ok (.invokevirtual 40, 3) := dk_182 0 40 (dk_at dksJ4_inflateIfNeededFor_0 11 rfl rfl)
theorem dJ4_inflateIfNeededFor_14 : decode cJ4_inflateIfNeededFor 14 = .ok (.if_icmp .eq 7, 3) := dk_159 0 7 (dk_at dksJ4_inflateIfNeededFor_0 14 rfl rfl)
theorem dJ4_inflateIfNeededFor_17 : decode cJ4_inflateIfNeededFor 17 = .ok (.aload_n 0, 1) := dk_42 (dk_at dksJ4_inflateIfNeededFor_0 17 rfl rfl)
theorem dJ4_inflateIfNeededFor_18 : decode cJ4_inflateIfNeededFor 18 = .ok (.invokevirtual 195, 3) := dk_182 0 195 (dk_at dksJ4_inflateIfNeededFor_0 18 rfl rfl)
theorem dJ4_inflateIfNeededFor_21 : decode cJ4_inflateIfNeededFor 21 = .ok (.return_, 1) := dk_177 (dk_at dksJ4_inflateIfNeededFor_0 21 rfl rfl)
def dkwJ4_inflate_1 : List UInt8 := [42, 180, 0, 79, 184, 0, 125, 42, 43, 181, 0, 15, 42, 4, 181, 0, 22, 177]
abbrev dktJ4_inflate_1 : List UInt8 := dkwJ4_inflate_1 ++ []
def dkwJ4_inflate_0 : List UInt8 := [42, 182, 0, 83, 154, 0, 4, 177, 42, 180, 0, 15, 190, 184, 0, 26, 76, 42, 180, 0, 15, 3, 43, 3]
abbrev dktJ4_inflate_0 : List UInt8 := dkwJ4_inflate_0 ++ dktJ4_inflate_1
theorem dksJ4_inflate_0 : cJ4_inflate.data.toList.drop 0 = dktJ4_inflate_0 := by decide +kernel
theorem dksJ4_inflate_1 : cJ4_inflate.data.toList.drop 24 = dktJ4_inflate_1 := dk_seg dksJ4_inflate_0 24 rfl rfl
theorem dJ4_inflate_0 : decode cJ4_inflate 0 = .ok (.aload_n 0, 1) := dk_42 (dk_at dksJ4_inflate_0 0 rfl rfl)
theorem dJ4_inflate_1 : decode cJ4_inflate 1 = .ok (.invokevirtual 83, 3) := dk_182 0 83 (dk_at dksJ4_inflate_0 1 rfl rfl)
theorem dJ4_inflate_4 : decode cJ4_inflate 4 = .ok (.ifCond .ne 4, 3) := dk_154 0 4 (dk_at dksJ4_inflate_0 4 rfl rfl)
theorem dJ4_inflate_7 : decode cJ4_inflate 7 = .ok (.return_, 1) := dk_177 (dk_at dksJ4_inflate_0 7 rfl rfl)
theorem dJ4_inflate_8 : decode cJ4_inflate 8 = .ok (.aload_n 0, 1) := dk_42 (dk_at dksJ4_inflate_0 8 rfl rfl)
theorem dJ4_inflate_9 : decode cJ4_inflate 9 = .ok (.getfield 15, 3) := dk_180 0 15 (dk_at dksJ4_inflate_0 9 rfl rfl)
theorem dJ4_inflate_12 : decode cJ4_inflate 12 = .ok (.arraylength, 1) := dk_190 (dk_at dksJ4_inflate_0 12 rfl rfl)
theorem dJ4_inflate_13 : decode cJ4_inflate 13 = .ok (.invokestatic 26, 3) := dk_184 0 26 (dk_at dksJ4_inflate_0 13 rfl rfl)
theorem dJ4_inflate_16 : decode cJ4_inflate 16 = .ok (.astore_n 1, 1) := dk_76 (dk_at dksJ4_inflate_0 16 rfl rfl)
theorem dJ4_inflate_17 : decode cJ4_inflate 17 = .ok (.aload_n 0, 1) := dk_42 (dk_at dksJ4_inflate_0 17 rfl rfl)
theorem dJ4_inflate_18 : decode cJ4_inflate 18 = .ok (.getfield 15, 3) := dk_180 0 15 (dk_at dksJ4_inflate_0 18 rfl rfl)
theorem dJ4_inflate_21 : decode cJ4_inflate 21 = .ok (.iconst 0, 1) := dk_3 (dk_at dksJ4_inflate_0 21 rfl rfl)
theorem dJ4_inflate_22 : decode cJ4_inflate 22 = .ok (.aload_n 1, 1) := dk_43 (dk_at dksJ4_inflate_0 22 rfl rfl)
theorem dJ4_inflate_23 : decode cJ4_inflate 23 = .ok (.iconst 0, 1) := dk_3 (dk_at dksJ4_inflate_0 23 rfl rfl)
theorem dJ4_inflate_24 : decode cJ4_inflate 24 = .ok (.aload_n 0, 1) := dk_42 (dk_at dksJ4_inflate_1 0 rfl rfl)
theorem dJ4_inflate_25 : decode cJ4_inflate 25 = .ok (.getfield 79, 3) := dk_180 0 79 (dk_at dksJ4_inflate_1 1 rfl rfl)
theorem dJ4_inflate_28 : decode cJ4_inflate 28 = .ok (.invokestatic 125, 3) := dk_184 0 125 (dk_at dksJ4_inflate_1 4 rfl rfl)
theorem dJ4_inflate_31 : decode cJ4_inflate 31 = .ok (.aload_n 0, 1) := dk_42 (dk_at dksJ4_inflate_1 7 rfl rfl)
theorem dJ4_inflate_32 : decode cJ4_inflate 32 = .ok (.aload_n 1, 1) := dk_43 (dk_at dksJ4_inflate_1 8 rfl rfl)
theorem dJ4_inflate_33 : decode cJ4_inflate 33 = .ok (.putfield 15, 3) := dk_181 0 15 (dk_at dksJ4_inflate_1 9 rfl rfl)
theorem dJ4_inflate_36 : decode cJ4_inflate 36 = .ok (.aload_n 0, 1) := dk_42 (dk_at dksJ4_inflate_1 12 rfl rfl)
theorem dJ4_inflate_37 : decode cJ4_inflate 37 = .ok (.iconst 1, 1) := dk_4 (dk_at dksJ4_inflate_1 13 rfl rfl)
theorem dJ4_inflate_38 : decode cJ4_inflate 38 = .ok (.putfield 22, 3) := dk_181 0 22 (dk_at dksJ4_inflate_1 14 rfl rfl)
theorem dJ4_inflate_41 : decode cJ4_inflate 41 = .ok (.return_, 1) := dk_177 (dk_at dksJ4_inflate_1 17 rfl rfl)
def dkwJ4_append_2_2 : List UInt8 := [42, 29, 181, 0, 79, 42, 176]
abbrev dktJ4_append_2_2 : List UInt8 := dkwJ4_append_2_2 ++ []
def dkwJ4_append_2_1 : List UInt8 := [27, 29, 42, 180, 0, 15, 184, 0, 248, 87, 167, 0, 14, 27, 28, 29, 42, 180, 0, 15, 184, 0, 251, 87]
abbrev dktJ4_append_2_1 : List UInt8 := dkwJ4_append_2_1 ++ dktJ4_append_2_2
def dkwJ4_append_2_0 : List UInt8 := [42, 180, 0, 79, 61, 28, 27, 184, 0, 245, 96, 62, 42, 29, 182, 0, 100, 42, 182, 0, 83, 153, 0, 16]
abbrev dktJ4_append_2_0 : List UInt8 := dkwJ4_append_2_0 ++ dktJ4_append_2_1
theorem dksJ4_append_2_0 : cJ4_append_2.data.toList.drop 0 = dktJ4_append_2_0 := by decide +kernel
theorem dksJ4_append_2_1 : cJ4_append_2.data.toList.drop 24 = dktJ4_append_2_1 := dk_seg dksJ4_append_2_0 24 rfl rfl
theorem dksJ4_append_2_2 : cJ4_append_2.data.toList.drop 48 = dktJ4_append_2_2 := dk_seg dksJ4_append_2_1 24 rfl rfl
theorem dJ4_append_2_0 : decode cJ4_append_2 0 = .ok (.aload_n 0, 1) := dk_42 (dk_at dksJ4_append_2_0 0 rfl rfl)
theorem dJ4_append_2_1 : decode cJ4_append_2 1 = .ok (.getfield 79, 3) := dk_180 0 79 (dk_at dksJ4_append_2_0 1 rfl rfl)
theorem dJ4_append_2_4 : decode cJ4_append_2 4 = .ok (.istore_n 2, 1) := dk_61 (dk_at dksJ4_append_2_0 4 rfl rfl)
theorem dJ4_append_2_5 : decode cJ4_append_2 5 = .ok (.iload_n 2, 1) := dk_28 (dk_at dksJ4_append_2_0 5 rfl rfl)
theorem dJ4_append_2_6 : decode cJ4_append_2 6 = .ok (.iload_n 1, 1) := dk_27 (dk_at dksJ4_append_2_0 6 rfl rfl)
theorem dJ4_append_2_7 : decode cJ4_append_2 7 = .ok (.invokestatic 245, 3) := dk_184 0 245 (dk_at dksJ4_append_2_0 7 rfl rfl)
theorem dJ4_append_2_10 : decode cJ4_append_2 10 = .ok (.iadd, 1) := dk_96 (dk_at dksJ4_append_2_0 10 rfl rfl)
theorem dJ4_append_2_11 : decode cJ4_append_2 11 = .ok (.istore_n 3, 1) := dk_62 (dk_at dksJ4_append_2_0 11 rfl rfl)
theorem dJ4_append_2_12 : decode cJ4_append_2 12 = .ok (.aload_n 0, 1) := dk_42 (dk_at dksJ4_append_2_0 12 rfl rfl)
theorem dJ4_append_2_13 : decode cJ4_append_2 13 = .ok (.iload_n 3, 1) := dk_29 (dk_at dksJ4_append_2_0 13 rfl rfl)
theorem dJ4_append_2_14 : decode cJ4_append_2 14 = .ok (.invokevirtual 100, 3) := dk_182 0 100 (dk_at dksJ4_append_2_0 14 rfl rfl)
theorem dJ4_append_2_17 : decode cJ4_append_2 17 = .ok (.aload_n 0, 1) := dk_42 (dk_at dksJ4_append_2_0 17 rfl rfl)
theorem dJ4_append_2_18 : decode cJ4_append_2 18 = .ok (.invokevirtual 83, 3) := dk_182 0 83 (dk_at dksJ4_append_2_0 18 rfl rfl)
theorem dJ4_append_2_21 : decode cJ4_append_2 21 = .ok (.ifCond .eq 16, 3) := dk_153 0 16 (dk_at dksJ4_append_2_0 21 rfl rfl)
theorem dJ4_append_2_24 : decode cJ4_append_2 24 = .ok (.iload_n 1, 1) := dk_27 (dk_at dksJ4_append_2_1 0 rfl rfl)
theorem dJ4_append_2_25 : decode cJ4_append_2 25 = .ok (.iload_n 3, 1) := dk_29 (dk_at dksJ4_append_2_1 1 rfl rfl)
theorem dJ4_append_2_26 : decode cJ4_append_2 26 = .ok (.aload_n 0, 1) := dk_42 (dk_at dksJ4_append_2_1 2 rfl rfl)
theorem dJ4_append_2_27 : decode cJ4_append_2 27 = .ok (.getfield 15, 3) := dk_180 0 15 (dk_at dksJ4_append_2_1 3 rfl rfl)
theorem dJ4_append_2_30 : decode cJ4_append_2 30 = .ok (.invokestatic 248, 3) := dk_184 0 248 (dk_at dksJ4_append_2_1 6 rfl rfl)
theorem dJ4_append_2_33 : decode cJ4_append_2 33 = .ok (.pop, 1) := dk_87 (dk_at dksJ4_append_2_1 9 rfl rfl)
theorem dJ4_append_2_34 : decode cJ4_append_2 34 = .ok (.goto 14, 3) := dk_167 0 14 (dk_at dksJ4_append_2_1 10 rfl rfl)
theorem dJ4_append_2_37 : decode cJ4_append_2 37 = .ok (.iload_n 1, 1) := dk_27 (dk_at dksJ4_append_2_1 13 rfl rfl)
theorem dJ4_append_2_38 : decode cJ4_append_2 38 = .ok (.iload_n 2, 1) := dk_28 (dk_at dksJ4_append_2_1 14 rfl rfl)
theorem dJ4_append_2_39 : decode cJ4_append_2 39 = .ok (.iload_n 3, 1) := dk_29 (dk_at dksJ4_append_2_1 15 rfl rfl)
theorem dJ4_append_2_40 : decode cJ4_append_2 40 = .ok (.aload_n 0, 1) := dk_42 (dk_at dksJ4_append_2_1 16 rfl rfl)
theorem dJ4_append_2_41 : decode cJ4_append_2 41 = .ok (.getfield 15, 3) := dk_180 0 15 (dk_at dksJ4_append_2_1 17 rfl rfl)
theorem dJ4_append_2_44 : decode cJ4_append_2 44 = .ok (.invokestatic 251, 3) := dk_184 0 251 (dk_at dksJ4_append_2_1 20 rfl rfl)
theorem dJ4_append_2_47 : decode cJ4_append_2 47 = .ok (.pop, 1) := dk_87 (dk_at dksJ4_append_2_1 23 rfl rfl)
theorem dJ4_append_2_48 : decode cJ4_append_2 48 = .ok (.aload_n 0, 1) := dk_42 (dk_at dksJ4_append_2_2 0 rfl rfl)
theorem dJ4_append_2_49 : decode cJ4_append_2 49 = .ok (.iload_n 3, 1) := dk_29 (dk_at dksJ4_append_2_2 1 rfl rfl)
theorem dJ4_append_2_50 : decode cJ4_append_2 50 = .ok (.putfield 79, 3) := dk_181 0 79 (dk_at dksJ4_append_2_2 2 rfl rfl)
theorem dJ4_append_2_53 : decode cJ4_append_2 53 = .ok (.aload_n 0, 1) := dk_42 (dk_at dksJ4_append_2_2 5 rfl rfl)
theorem dJ4_append_2_54 : decode cJ4_append_2 54 = .ok (.areturn, 1) := dk_176 (dk_at dksJ4_append_2_2 6 rfl rfl)
theorem dJ4_getValue_0 : decode cJ4_getValue 0 = .ok (.aload_n 0, 1) := by decide +kernel
theorem dJ4_getValue_1 : decode cJ4_getValue 1 = .ok (.getfield 15, 3) := by decide +kernel
theorem dJ4_getValue_4 : decode cJ4_getValue 4 = .ok (.areturn, 1) := by decide +kernel
theorem dJ4_length_0 : decode cJ4_length 0 = .ok (.aload_n 0, 1) := by decide +kernel
theorem dJ4_length_1 : decode cJ4_length 1 = .ok (.getfield 79, 3) := by decide +kernel
theorem dJ4_length_4 : decode cJ4_length 4 = .ok (.ireturn, 1) := by decide +kernel
def dkwJ4_append_3_3 : List UInt8 := [181, 0, 79, 27, 184, 0, 197, 42, 176]
abbrev dktJ4_append_3_3 : List UInt8 := dkwJ4_append_3_3 ++ []
def dkwJ4_append_3_2 : List UInt8 := [182, 0, 83, 153, 0, 7, 42, 182, 0, 195, 42, 180, 0, 15, 42, 89, 180, 0, 79, 90, 4, 96]
abbrev dktJ4_append_3_2 : List UInt8 := dkwJ4_append_3_2 ++ dktJ4_append_3_3
def dkwJ4_append_3_1 : List UInt8 := [42, 180, 0, 15, 42, 89, 180, 0, 79, 90, 4, 96, 181, 0, 79, 27, 145, 84, 167, 0, 33, 42]
abbrev dktJ4_append_3_1 : List UInt8 := dkwJ4_append_3_1 ++ dktJ4_append_3_2
def dkwJ4_append_3_0 : List UInt8 := [42, 42, 180, 0, 79, 4, 96, 182, 0, 100, 42, 182, 0, 83, 153, 0, 31, 27, 184, 0, 191, 153, 0, 24]
abbrev dktJ4_append_3_0 : List UInt8 := dkwJ4_append_3_0 ++ dktJ4_append_3_1
theorem dksJ4_append_3_0 : cJ4_append_3.data.toList.drop 0 = dktJ4_append_3_0 := by decide +kernel
theorem dksJ4_append_3_1 : cJ4_append_3.data.toList.drop 24 = dktJ4_append_3_1 := dk_seg dksJ4_append_3_0 24 rfl rfl
theorem dksJ4_append_3_2 : cJ4_append_3.data.toList.drop 46 = dktJ4_append_3_2 := dk_seg dksJ4_append_3_1 22 rfl rfl
theorem dksJ4_append_3_3 : cJ4_append_3.data.toList.drop 68 = dktJ4_append_3_3 := dk_seg dksJ4_append_3_2 22 rfl rfl
theorem dJ4_append_3_0 : decode cJ4_append_3 0 = .ok (.aload_n 0, 1) := dk_42 (dk_at dksJ4_append_3_0 0 rfl rfl)
theorem dJ4_append_3_1 : decode cJ4_append_3 1 = .ok (.aload_n 0, 1) := dk_42 (dk_at dksJ4_append_3_0 1 rfl rfl)
theorem dJ4_append_3_2 : decode cJ4_append_3 2 = .ok (.getfield 79, 3) := dk_180 0 79 (dk_at dksJ4_append_3_0 2 rfl rfl)
theorem dJ4_append_3_5 : decode cJ4_append_3 5 = .ok (.iconst 1, 1) := dk_4 (dk_at dksJ4_append_3_0 5 rfl rfl)
theorem dJ4_append_3_6 : decode cJ4_append_3 6 = .ok (.iadd, 1) := dk_96 (dk_at dksJ4_append_3_0 6 rfl rfl)
theorem dJ4_append_3_7 : decode cJ4_append_3 7 = .ok (.invokevirtual 100, 3) := dk_182 0 100 (dk_at dksJ4_append_3_0 7 rfl rfl)
theorem dJ4_append_3_10 : decode cJ4_append_3 10 = .ok (.aload_n 0, 1) := dk_42 (dk_at dksJ4_append_3_0 10 rfl rfl)
theorem dJ4_append_3_11 : decode cJ4_append_3 11 = .ok (.invokevirtual 83, 3) := dk_182 0 83 (dk_at dksJ4_append_3_0 11 rfl rfl)
theorem dJ4_append_3_14 : decode cJ4_append_3 14 = .ok (.ifCond .eq 31, 3) := dk_153 0 31 (dk_at dksJ4_append_3_0 14 rfl rfl)
theorem dJ4_append_3_17 : decode cJ4_append_3 17 = .ok (.iload_n 1, 1) := dk_27 (dk_at dksJ4_append_3_0 17 rfl rfl)
theorem dJ4_append_3_18 : decode cJ4_append_3 18 = .ok (.invokestatic 191, 3) := dk_184 0 191 (dk_at dksJ4_append_3_0 18 rfl rfl)
theorem dJ4_append_3_21 : decode cJ4_append_3 21 = .ok (.ifCond .eq 24, 3) := dk_153 0 24 (dk_at dksJ4_append_3_0 21 rfl rfl)
theorem dJ4_append_3_24 : decode cJ4_append_3 24 = .ok (.aload_n 0, 1) := dk_42 (dk_at dksJ4_append_3_1 0 rfl rfl)
theorem dJ4_append_3_25 : decode cJ4_append_3 25 = .ok (.getfield 15, 3) := dk_180 0 15 (dk_at dksJ4_append_3_1 1 rfl rfl)
theorem dJ4_append_3_28 : decode cJ4_append_3 28 = .ok (.aload_n 0, 1) := dk_42 (dk_at dksJ4_append_3_1 4 rfl rfl)
theorem dJ4_append_3_29 : decode cJ4_append_3 29 = .ok (.dup, 1) := dk_89 (dk_at dksJ4_append_3_1 5 rfl rfl)
theorem dJ4_append_3_30 : decode cJ4_append_3 30 = .ok (.getfield 79, 3) := dk_180 0 79 (dk_at dksJ4_append_3_1 6 rfl rfl)
theorem dJ4_append_3_33 : decode cJ4_append_3 33 = .ok (.dup_x1, 1) := dk_90 (dk_at dksJ4_append_3_1 9 rfl rfl)
theorem dJ4_append_3_34 : decode cJ4_append_3 34 = .ok (.iconst 1, 1) := dk_4 (dk_at dksJ4_append_3_1 10 rfl rfl)
theorem dJ4_append_3_35 : decode cJ4_append_3 35 = .ok (.iadd, 1) := dk_96 (dk_at dksJ4_append_3_1 11 rfl rfl)
theorem dJ4_append_3_36 : decode cJ4_append_3 36 = .ok (.putfield 79, 3) := dk_181 0 79 (dk_at dksJ4_append_3_1 12 rfl rfl)
theorem dJ4_append_3_39 : decode cJ4_append_3 39 = .ok (.iload_n 1, 1) := dk_27 (dk_at dksJ4_append_3_1 15 rfl rfl)
theorem dJ4_append_3_40 : decode cJ4_append_3 40 = .ok (.i2b, 1) := dk_145 (dk_at dksJ4_append_3_1 16 rfl rfl)
theorem dJ4_append_3_41 : decode cJ4_append_3 41 = .ok (.bastore, 1) := dk_84 (dk_at dksJ4_append_3_1 17 rfl rfl)
theorem dJ4_append_3_42 : decode cJ4_append_3 42 = .ok (.goto 33, 3) := dk_167 0 33 (dk_at dksJ4_append_3_1 18 rfl rfl)
theorem dJ4_append_3_45 : decode cJ4_append_3 45 = .ok (.aload_n 0, 1) := dk_42 (dk_at dksJ4_append_3_1 21 rfl rfl)
theorem dJ4_append_3_46 : decode cJ4_append_3 46 = .ok (.invokevirtual 83, 3) := dk_182 0 83 (dk_at dksJ4_append_3_2 0 rfl rfl)
theorem dJ4_append_3_49 : decode cJ4_append_3 49 = .ok (.ifCond .eq 7, 3) := dk_153 0 7 (dk_at dksJ4_append_3_2 3 rfl rfl)
theorem dJ4_append_3_52 : decode cJ4_append_3 52 = .ok (.aload_n 0, 1) := dk_42 (dk_at dksJ4_append_3_2 6 rfl rfl)
theorem dJ4_append_3_53 : decode cJ4_append_3 53 = .ok (.invokevirtual 195, 3) := dk_182 0 195 (dk_at dksJ4_append_3_2 7 rfl rfl)
theorem dJ4_append_3_56 : decode cJ4_append_3 56 = .ok (.aload_n 0, 1) := dk_42 (dk_at dksJ4_append_3_2 10 rfl rfl)
theorem dJ4_append_3_57 : decode cJ4_append_3 57 = .ok (.getfield 15, 3) := dk_180 0 15 (dk_at dksJ4_append_3_2 11 rfl rfl)
theorem dJ4_append_3_60 : decode cJ4_append_3 60 = .ok (.aload_n 0, 1) := dk_42 (dk_at dksJ4_append_3_2 14 rfl rfl)
theorem dJ4_append_3_61 : decode cJ4_append_3 61 = .ok (.dup, 1) := dk_89 (dk_at dksJ4_append_3_2 15 rfl rfl)
theorem dJ4_append_3_62 : decode cJ4_append_3 62 = .ok (.getfield 79, 3) := dk_180 0 79 (dk_at dksJ4_append_3_2 16 rfl rfl)
theorem dJ4_append_3_65 : decode cJ4_append_3 65 = .ok (.dup_x1, 1) := dk_90 (dk_at dksJ4_append_3_2 19 rfl rfl)
theorem dJ4_append_3_66 : decode cJ4_append_3 66 = .ok (.iconst 1, 1) := dk_4 (dk_at dksJ4_append_3_2 20 rfl rfl)
theorem dJ4_append_3_67 : decode cJ4_append_3 67 = .ok (.iadd, 1) := dk_96 (dk_at dksJ4_append_3_2 21 rfl rfl)
theorem dJ4_append_3_68 : decode cJ4_append_3 68 = .ok (.putfield 79, 3) := dk_181 0 79 (dk_at dksJ4_append_3_3 0 rfl rfl)
theorem dJ4_append_3_71 : decode cJ4_append_3 71 = .ok (.iload_n 1, 1) := dk_27 (dk_at dksJ4_append_3_3 3 rfl rfl)
theorem dJ4_append_3_72 : decode cJ4_append_3 72 = .ok (.invokestatic 197, 3) := dk_184 0 197 (dk_at dksJ4_append_3_3 4 rfl rfl)
theorem dJ4_append_3_75 : decode cJ4_append_3 75 = .ok (.aload_n 0, 1) := dk_42 (dk_at dksJ4_append_3_3 7 rfl rfl)
theorem dJ4_append_3_76 : decode cJ4_append_3 76 = .ok (.areturn, 1) := dk_176 (dk_at dksJ4_append_3_3 8 rfl rfl)
def dkwJ4_charAt_1 : List UInt8 := [21, 4, 184, 0, 144, 28, 154, 0, 12, 45, 27, 51, 17, 0, 255, 126, 146, 172, 45, 27, 184, 0, 148, 172]
abbrev dktJ4_charAt_1 : List UInt8 := dkwJ4_charAt_1 ++ []
def dkwJ4_charAt_0 : List UInt8 := [42, 180, 0, 22, 61, 42, 180, 0, 15, 78, 42, 180, 0, 79, 45, 190, 28, 122, 184, 0, 138, 54, 4, 27]
abbrev dktJ4_charAt_0 : List UInt8 := dkwJ4_charAt_0 ++ dktJ4_charAt_1
theorem dksJ4_charAt_0 : cJ4_charAt.data.toList.drop 0 = dktJ4_charAt_0 := by decide +kernel
theorem dksJ4_charAt_1 : cJ4_charAt.data.toList.drop 24 = dktJ4_charAt_1 := dk_seg dksJ4_charAt_0 24 rfl rfl
theorem dJ4_charAt_0 : decode cJ4_charAt 0 = .ok (.aload_n 0, 1) := dk_42 (dk_at dksJ4_charAt_0 0 rfl rfl)
theorem dJ4_charAt_1 : decode cJ4_charAt 1 = .ok (.getfield 22, 3) := dk_180 0 22 (dk_at dksJ4_charAt_0 1 rfl rfl)
theorem dJ4_charAt_4 : decode cJ4_charAt 4 = .ok (.istore_n 2, 1) := dk_61 (dk_at dksJ4_charAt_0 4 rfl rfl)
theorem dJ4_charAt_5 : decode cJ4_charAt 5 = .ok (.aload_n 0, 1) := dk_42 (dk_at dksJ4_charAt_0 5 rfl rfl)
theorem dJ4_charAt_6 : decode cJ4_charAt 6 = .ok (.getfield 15, 3) := dk_180 0 15 (dk_at dksJ4_charAt_0 6 rfl rfl)
theorem dJ4_charAt_9 : decode cJ4_charAt 9 = .ok (.astore_n 3, 1) := dk_78 (dk_at dksJ4_charAt_0 9 rfl rfl)
theorem dJ4_charAt_10 : decode cJ4_charAt 10 = .ok (.aload_n 0, 1) := dk_42 (dk_at dksJ4_charAt_0 10 rfl rfl)
theorem dJ4_charAt_11 : decode cJ4_charAt 11 = .ok (.getfield 79, 3) := dk_180 0 79 (dk_at dksJ4_charAt_0 11 rfl rfl)
theorem dJ4_charAt_14 : decode cJ4_charAt 14 = .ok (.aload_n 3, 1) := dk_45 (dk_at dksJ4_charAt_0 14 rfl rfl)
theorem dJ4_charAt_15 : decode cJ4_charAt 15 = .ok (.arraylength, 1) := dk_190 (dk_at dksJ4_charAt_0 15 rfl rfl)
theorem dJ4_charAt_16 : decode cJ4_charAt 16 = .ok (.iload_n 2, 1) := dk_28 (dk_at dksJ4_charAt_0 16 rfl rfl)
theorem dJ4_charAt_17 : decode cJ4_charAt 17 = .ok (.ishr, 1) := dk_122 (dk_at dksJ4_charAt_0 17 rfl rfl)
theorem dJ4_charAt_18 : decode cJ4_charAt 18 = .ok (.invokestatic 138, 3) := dk_184 0 138 (dk_at dksJ4_charAt_0 18 rfl rfl)
theorem dJ4_charAt_21 : decode cJ4_charAt 21 = .ok (.istore 4, 2) := dk_54 4 (dk_at dksJ4_charAt_0 21 rfl rfl)
theorem dJ4_charAt_23 : decode cJ4_charAt 23 = .ok (.iload_n 1, 1) := dk_27 (dk_at dksJ4_charAt_0 23 rfl rfl)
theorem dJ4_charAt_24 : decode cJ4_charAt 24 = .ok (.iload 4, 2) := dk_21 4 (dk_at dksJ4_charAt_1 0 rfl rfl)
theorem dJ4_charAt_26 : decode cJ4_charAt 26 = .ok (.invokestatic 144, 3) := dk_184 0 144 (dk_at dksJ4_charAt_1 2 rfl rfl)
theorem dJ4_charAt_29 : decode cJ4_charAt 29 = .ok (.iload_n 2, 1) := dk_28 (dk_at dksJ4_charAt_1 5 rfl rfl)
theorem dJ4_charAt_30 : decode cJ4_charAt 30 = .ok (.ifCond .ne 12, 3) := dk_154 0 12 (dk_at dksJ4_charAt_1 6 rfl rfl)
theorem dJ4_charAt_33 : decode cJ4_charAt 33 = .ok (.aload_n 3, 1) := dk_45 (dk_at dksJ4_charAt_1 9 rfl rfl)
theorem dJ4_charAt_34 : decode cJ4_charAt 34 = .ok (.iload_n 1, 1) := dk_27 (dk_at dksJ4_charAt_1 10 rfl rfl)
theorem dJ4_charAt_35 : decode cJ4_charAt 35 = .ok (.baload, 1) := dk_51 (dk_at dksJ4_charAt_1 11 rfl rfl)
theorem dJ4_charAt_36 : decode cJ4_charAt 36 = .ok (.sipush 255, 3) := dk_17 0 255 (dk_at dksJ4_charAt_1 12 rfl rfl)
theorem dJ4_charAt_39 : decode cJ4_charAt 39 = .ok (.iand, 1) := dk_126 (dk_at dksJ4_charAt_1 15 rfl rfl)
theorem dJ4_charAt_40 : decode cJ4_charAt 40 = .ok (.i2c, 1) := dk_146 (dk_at dksJ4_charAt_1 16 rfl rfl)
theorem dJ4_charAt_41 : decode cJ4_charAt 41 = .ok (.ireturn, 1) := dk_172 (dk_at dksJ4_charAt_1 17 rfl rfl)
theorem dJ4_charAt_42 : decode cJ4_charAt 42 = .ok (.aload_n 3, 1) := dk_45 (dk_at dksJ4_charAt_1 18 rfl rfl)
theorem dJ4_charAt_43 : decode cJ4_charAt 43 = .ok (.iload_n 1, 1) := dk_27 (dk_at dksJ4_charAt_1 19 rfl rfl)
theorem dJ4_charAt_44 : decode cJ4_charAt 44 = .ok (.invokestatic 148, 3) := dk_184 0 148 (dk_at dksJ4_charAt_1 20 rfl rfl)
theorem dJ4_charAt_47 : decode cJ4_charAt 47 = .ok (.ireturn, 1) := dk_172 (dk_at dksJ4_charAt_1 23 rfl rfl)
def dkwJ5_init_0 : List UInt8 := [42, 16, 16, 183, 0, 1, 177]
abbrev dktJ5_init_0 : List UInt8 := dkwJ5_init_0 ++ []
theorem dksJ5_init_0 : cJ5_init.data.toList.drop 0 = dktJ5_init_0 := by decide +kernel
theorem dJ5_init_0 : decode cJ5_init 0 = .ok (.aload_n 0, 1) := dk_42 (dk_at dksJ5_init_0 0 rfl rfl)
theorem dJ5_init_1 : decode cJ5_init 1 = .ok (.bipush 16, 2) := dk_16 16 (dk_at dksJ5_init_0 1 rfl rfl)
theorem dJ5_init_3 : decode cJ5_init 3 = .ok (.invokespecial 1, 3) := dk_183 0 1 (dk_at dksJ5_init_0 3 rfl rfl)
theorem dJ5_init_6 : decode cJ5_init 6 = .ok (.return_, 1) := dk_177 (dk_at dksJ5_init_0 6 rfl rfl)
def dkwJ5_setLength_0 : List UInt8 := [42, 27, 183, 1, 77, 177]
abbrev dktJ5_setLength_0 : List UInt8 := dkwJ5_setLength_0 ++ []
theorem dksJ5_setLength_0 : cJ5_setLength.data.toList.drop 0 = dktJ5_setLength_0 := by decide +kernel
theorem dJ5_setLength_0 : decode cJ5_setLength 0 = .ok (.aload_n 0, 1) := dk_42 (dk_at dksJ5_setLength_0 0 rfl rfl)
theorem dJ5_setLength_1 : decode cJ5_setLength 1 = .ok (.iload_n 1, 1) := dk_27 (dk_at dksJ5_setLength_0 1 rfl rfl)
theorem dJ5_setLength_2 : decode cJ5_setLength 2 = .ok (.invokespecial 333, 3) := dk_183 1 77 (dk_at dksJ5_setLength_0 2 rfl rfl)
theorem dJ5_setLength_5 : decode cJ5_setLength 5 = .ok (.return_, 1) := dk_177 (dk_at dksJ5_setLength_0 5 rfl rfl)
def dkwJ5_append_0 : List UInt8 := [42, 43, 183, 0, 29, 87, 42, 176]
abbrev dktJ5_append_0 : List UInt8 := dkwJ5_append_0 ++ []
theorem dksJ5_append_0 : cJ5_append.data.toList.drop 0 = dktJ5_append_0 := by decide +kernel
theorem dJ5_append_0 : decode cJ5_append 0 = .ok (.aload_n 0, 1) := dk_42 (dk_at dksJ5_append_0 0 rfl rfl)
theorem dJ5_append_1 : decode cJ5_append 1 = .ok (.aload_n 1, 1) := dk_43 (dk_at dksJ5_append_0 1 rfl rfl)
theorem dJ5_append_2 : decode cJ5_append 2 = .ok (.invokespecial 29, 3) := dk_183 0 29 (dk_at dksJ5_append_0 2 rfl rfl)
theorem dJ5_append_5 : decode cJ5_append 5 = .ok (.pop, 1) := dk_87 (dk_at dksJ5_append_0 5 rfl rfl)
theorem dJ5_append_6 : decode cJ5_append 6 = .ok (.aload_n 0, 1) := dk_42 (dk_at dksJ5_append_0 6 rfl rfl)
theorem dJ5_append_7 : decode cJ5_append 7 = .ok (.areturn, 1) := dk_176 (dk_at dksJ5_append_0 7 rfl rfl)
def dkwJ5_append_2_0 : List UInt8 := [42, 27, 183, 0, 53, 87, 42, 176]
abbrev dktJ5_append_2_0 : List UInt8 := dkwJ5_append_2_0 ++ []
theorem dksJ5_append_2_0 : cJ5_append_2.data.toList.drop 0 = dktJ5_append_2_0 := by decide +kernel
theorem dJ5_append_2_0 : decode cJ5_append_2 0 = .ok (.aload_n 0, 1) := dk_42 (dk_at dksJ5_append_2_0 0 rfl rfl)
theorem dJ5_append_2_1 : decode cJ5_append_2 1 = .ok (.iload_n 1, 1) := dk_27 (dk_at dksJ5_append_2_0 1 rfl rfl)
theorem dJ5_append_2_2 : decode cJ5_append_2 2 = .ok (.invokespecial 53, 3) := dk_183 0 53 (dk_at dksJ5_append_2_0 2 rfl rfl)
theorem dJ5_append_2_5 : decode cJ5_append_2 5 = .ok (.pop, 1) := dk_87 (dk_at dksJ5_append_2_0 5 rfl rfl)
theorem dJ5_append_2_6 : decode cJ5_append_2 6 = .ok (.aload_n 0, 1) := dk_42 (dk_at dksJ5_append_2_0 6 rfl rfl)
theorem dJ5_append_2_7 : decode cJ5_append_2 7 = .ok (.areturn, 1) := dk_176 (dk_at dksJ5_append_2_0 7 rfl rfl)
def dkwJ5_toString_0 : List UInt8 := [187, 0, 18, 89, 42, 183, 0, 137, 176]
abbrev dktJ5_toString_0 : List UInt8 := dkwJ5_toString_0 ++ []
theorem dksJ5_toString_0 : cJ5_toString.data.toList.drop 0 = dktJ5_toString_0 := by decide +kernel
theorem dJ5_toString_0 : decode cJ5_toString 0 = .ok (.new 18, 3) := dk_187 0 18 (dk_at dksJ5_toString_0 0 rfl rfl)
theorem dJ5_toString_3 : decode cJ5_toString 3 = .ok (.dup, 1) := dk_89 (dk_at dksJ5_toString_0 3 rfl rfl)
theorem dJ5_toString_4 : decode cJ5_toString 4 = .ok (.aload_n 0, 1) := dk_42 (dk_at dksJ5_toString_0 4 rfl rfl)
theorem dJ5_toString_5 : decode cJ5_toString 5 = .ok (.invokespecial 137, 3) := dk_183 0 137 (dk_at dksJ5_toString_0 5 rfl rfl)
theorem dJ5_toString_8 : decode cJ5_toString 8 = .ok (.areturn, 1) := dk_176 (dk_at dksJ5_toString_0 8 rfl rfl)
theorem dJ5_length_0 : decode cJ5_length 0 = .ok (.aload_n 0, 1) := by decide +kernel
theorem dJ5_length_1 : decode cJ5_length 1 = .ok (.invokespecial 343, 3) := by decide +kernel
theorem dJ5_length_4 : decode cJ5_length 4 = .ok (.ireturn, 1) := by decide +kernel
def dkwJ5_append_3_0 : List UInt8 := [42, 27, 183, 0, 50, 87, 42, 176]
abbrev dktJ5_append_3_0 : List UInt8 := dkwJ5_append_3_0 ++ []
theorem dksJ5_append_3_0 : cJ5_append_3.data.toList.drop 0 = dktJ5_append_3_0 := by decide +kernel
theorem dJ5_append_3_0 : decode cJ5_append_3 0 = .ok (.aload_n 0, 1) := dk_42 (dk_at dksJ5_append_3_0 0 rfl rfl)
theorem dJ5_append_3_1 : decode cJ5_append_3 1 = .ok (.iload_n 1, 1) := dk_27 (dk_at dksJ5_append_3_0 1 rfl rfl)
theorem dJ5_append_3_2 : decode cJ5_append_3 2 = .ok (.invokespecial 50, 3) := dk_183 0 50 (dk_at dksJ5_append_3_0 2 rfl rfl)
theorem dJ5_append_3_5 : decode cJ5_append_3 5 = .ok (.pop, 1) := dk_87 (dk_at dksJ5_append_3_0 5 rfl rfl)
theorem dJ5_append_3_6 : decode cJ5_append_3 6 = .ok (.aload_n 0, 1) := dk_42 (dk_at dksJ5_append_3_0 6 rfl rfl)
theorem dJ5_append_3_7 : decode cJ5_append_3 7 = .ok (.areturn, 1) := dk_176 (dk_at dksJ5_append_3_0 7 rfl rfl)
def dkwJ5_charAt_0 : List UInt8 := [42, 27, 183, 1, 73, 172]
abbrev dktJ5_charAt_0 : List UInt8 := dkwJ5_charAt_0 ++ []
theorem dksJ5_charAt_0 : cJ5_charAt.data.toList.drop 0 = dktJ5_charAt_0 := by decide +kernel
theorem dJ5_charAt_0 : decode cJ5_charAt 0 = .ok (.aload_n 0, 1) := dk_42 (dk_at dksJ5_charAt_0 0 rfl rfl)
theorem dJ5_charAt_1 : decode cJ5_charAt 1 = .ok (.iload_n 1, 1) := dk_27 (dk_at dksJ5_charAt_0 1 rfl rfl)
theorem dJ5_charAt_2 : decode cJ5_charAt 2 = .ok (.invokespecial 329, 3) := dk_183 1 73 (dk_at dksJ5_charAt_0 2 rfl rfl)
theorem dJ5_charAt_5 : decode cJ5_charAt 5 = .ok (.ireturn, 1) := dk_172 (dk_at dksJ5_charAt_0 5 rfl rfl)
def dkwJ6_checkBoundsBeginEnd_0 : List UInt8 := [26, 27, 28, 178, 4, 29, 184, 4, 38, 87, 177]
abbrev dktJ6_checkBoundsBeginEnd_0 : List UInt8 := dkwJ6_checkBoundsBeginEnd_0 ++ []
theorem dksJ6_checkBoundsBeginEnd_0 : cJ6_checkBoundsBeginEnd.data.toList.drop 0 = dktJ6_checkBoundsBeginEnd_0 := by decide +kernel
theorem dJ6_checkBoundsBeginEnd_0 : decode cJ6_checkBoundsBeginEnd 0 = .ok (.iload_n 0, 1) := dk_26 (dk_at dksJ6_checkBoundsBeginEnd_0 0 rfl rfl)
theorem dJ6_checkBoundsBeginEnd_1 : decode cJ6_checkBoundsBeginEnd 1 = .ok (.iload_n 1, 1) := dk_27 (dk_at dksJ6_checkBoundsBeginEnd_0 1 rfl rfl)
theorem dJ6_checkBoundsBeginEnd_2 : decode cJ6_checkBoundsBeginEnd 2 = .ok (.iload_n 2, 1) := dk_28 (dk_at dksJ6_checkBoundsBeginEnd_0 2 rfl rfl)
theorem dJ6_checkBoundsBeginEnd_3 : decode cJ6_checkBoundsBeginEnd 3 = .ok (.getstatic 1053, 3) := dk_178 4 29 (dk_at dksJ6_checkBoundsBeginEnd_0 3 rfl rfl)
theorem dJ6_checkBoundsBeginEnd_6 : decode cJ6_checkBoundsBeginEnd 6 = .ok (.invokestatic 1062, 3) := dk_184 4 38 (dk_at dksJ6_checkBoundsBeginEnd_0 6 rfl rfl)
theorem dJ6_checkBoundsBeginEnd_9 : decode cJ6_checkBoundsBeginEnd 9 = .ok (.pop, 1) := dk_87 (dk_at dksJ6_checkBoundsBeginEnd_0 9 rfl rfl)
theorem dJ6_checkBoundsBeginEnd_10 : decode cJ6_checkBoundsBeginEnd 10 = .ok (.return_, 1) := dk_177 (dk_at dksJ6_checkBoundsBeginEnd_0 10 rfl rfl)
def dkwJ6_length_0 : List UInt8 := [42, 180, 0, 9, 190, 42, 182, 1, 79, 122, 172]
abbrev dktJ6_length_0 : List UInt8 := dkwJ6_length_0 ++ []
theorem dksJ6_length_0 : cJ6_length.data.toList.drop 0 = dktJ6_length_0 := by decide +kernel
theorem dJ6_length_0 : decode cJ6_length 0 = .ok (.aload_n 0, 1) := dk_42 (dk_at dksJ6_length_0 0 rfl rfl)
theorem dJ6_length_1 : decode cJ6_length 1 = .ok (.getfield 9, 3) := dk_180 0 9 (dk_at dksJ6_length_0 1 rfl rfl)
theorem dJ6_length_4 : decode cJ6_length 4 = .ok (.arraylength, 1) := dk_190 (dk_at dksJ6_length_0 4 rfl rfl)
theorem dJ6_length_5 : decode cJ6_length 5 = .ok (.aload_n 0, 1) := dk_42 (dk_at dksJ6_length_0 5 rfl rfl)
theorem dJ6_length_6 : decode cJ6_length 6 = .ok (.invokevirtual 335, 3) := dk_182 1 79 (dk_at dksJ6_length_0 6 rfl rfl)
theorem dJ6_length_9 : decode cJ6_length 9 = .ok (.ishr, 1) := dk_122 (dk_at dksJ6_length_0 9 rfl rfl)
theorem dJ6_length_10 : decode cJ6_length 10 = .ok (.ireturn, 1) := dk_172 (dk_at dksJ6_length_0 10 rfl rfl)
def dkwJ6_coder_0 : List UInt8 := [178, 0, 38, 153, 0, 10, 42, 180, 0, 15, 167, 0, 4, 4, 172]
abbrev dktJ6_coder_0 : List UInt8 := dkwJ6_coder_0 ++ []
theorem dksJ6_coder_0 : cJ6_coder.data.toList.drop 0 = dktJ6_coder_0 := by decide +kernel
theorem dJ6_coder_0 : decode cJ6_coder 0 = .ok (.getstatic 38, 3) := dk_178 0 38 (dk_at dksJ6_coder_0 0 rfl rfl)
theorem dJ6_coder_3 : decode cJ6_coder 3 = .ok (.ifCond .eq 10, 3) := dk_153 0 10 (dk_at dksJ6_coder_0 3 rfl rfl)
theorem dJ6_coder_6 : decode cJ6_coder 6 = .ok (.aload_n 0, 1) := dk_42 (dk_at dksJ6_coder_0 6 rfl rfl)
theorem dJ6_coder_7 : decode cJ6_coder 7 = .ok (.getfield 15, 3) := dk_180 0 15 (dk_at dksJ6_coder_0 7 rfl rfl)
theorem dJ6_coder_10 : decode cJ6_coder 10 = .ok (.goto 4, 3) := dk_167 0 4 (dk_at dksJ6_coder_0 10 rfl rfl)
theorem dJ6_coder_13 : decode cJ6_coder 13 = .ok (.iconst 1, 1) := dk_4 (dk_at dksJ6_coder_0 13 rfl rfl)
theorem dJ6_coder_14 : decode cJ6_coder 14 = .ok (.ireturn, 1) := dk_172 (dk_at dksJ6_coder_0 14 rfl rfl)
def dkwJ6_checkBoundsOffCount_0 : List UInt8 := [26, 27, 28, 178, 4, 29, 184, 4, 41, 172]
abbrev dktJ6_checkBoundsOffCount_0 : List UInt8 := dkwJ6_checkBoundsOffCount_0 ++ []
theorem dksJ6_checkBoundsOffCount_0 : cJ6_checkBoundsOffCount.data.toList.drop 0 = dktJ6_checkBoundsOffCount_0 := by decide +kernel
theorem dJ6_checkBoundsOffCount_0 : decode cJ6_checkBoundsOffCount 0 = .ok (.iload_n 0, 1) := dk_26 (dk_at dksJ6_checkBoundsOffCount_0 0 rfl rfl)
theorem dJ6_checkBoundsOffCount_1 : decode cJ6_checkBoundsOffCount 1 = .ok (.iload_n 1, 1) := dk_27 (dk_at dksJ6_checkBoundsOffCount_0 1 rfl rfl)
theorem dJ6_checkBoundsOffCount_2 : decode cJ6_checkBoundsOffCount 2 = .ok (.iload_n 2, 1) := dk_28 (dk_at dksJ6_checkBoundsOffCount_0 2 rfl rfl)
theorem dJ6_checkBoundsOffCount_3 : decode cJ6_checkBoundsOffCount 3 = .ok (.getstatic 1053, 3) := dk_178 4 29 (dk_at dksJ6_checkBoundsOffCount_0 3 rfl rfl)
theorem dJ6_checkBoundsOffCount_6 : decode cJ6_checkBoundsOffCount 6 = .ok (.invokestatic 1065, 3) := dk_184 4 41 (dk_at dksJ6_checkBoundsOffCount_0 6 rfl rfl)
theorem dJ6_checkBoundsOffCount_9 : decode cJ6_checkBoundsOffCount 9 = .ok (.ireturn, 1) := dk_172 (dk_at dksJ6_checkBoundsOffCount_0 9 rfl rfl)
def dkwJ6_getBytes_1 : List UInt8 := [184, 0, 212, 167, 0, 18, 42, 180, 0, 9, 3, 43, 28, 42, 180, 0, 9, 190, 184, 0, 106, 177]
abbrev dktJ6_getBytes_1 : List UInt8 := dkwJ6_getBytes_1 ++ []
def dkwJ6_getBytes_0 : List UInt8 := [42, 182, 1, 79, 29, 160, 0, 23, 42, 180, 0, 9, 3, 43, 28, 29, 120, 42, 180, 0, 9, 190]
abbrev dktJ6_getBytes_0 : List UInt8 := dkwJ6_getBytes_0 ++ dktJ6_getBytes_1
theorem dksJ6_getBytes_0 : cJ6_getBytes.data.toList.drop 0 = dktJ6_getBytes_0 := by decide +kernel
theorem dksJ6_getBytes_1 : cJ6_getBytes.data.toList.drop 22 = dktJ6_getBytes_1 := dk_seg dksJ6_getBytes_0 22 rfl rfl
theorem dJ6_getBytes_0 : decode cJ6_getBytes 0 = .ok (.aload_n 0, 1) := dk_42 (dk_at dksJ6_getBytes_0 0 rfl rfl)
theorem dJ6_getBytes_1 : decode cJ6_getBytes 1 = .ok (.invokevirtual 335, 3) := dk_182 1 79 (dk_at dksJ6_getBytes_0 1 rfl rfl)
theorem dJ6_getBytes_4 : decode cJ6_getBytes 4 = .ok (.iload_n 3, 1) := dk_29 (dk_at dksJ6_getBytes_0 4 rfl rfl)
theorem dJ6_getBytes_5 : decode cJ6_getBytes 5 = .ok (.if_icmp .ne 23, 3) := dk_160 0 23 (dk_at dksJ6_getBytes_0 5 rfl rfl)
theorem dJ6_getBytes_8 : decode cJ6_getBytes 8 = .ok (.aload_n 0, 1) := dk_42 (dk_at dksJ6_getBytes_0 8 rfl rfl)
theorem dJ6_getBytes_9 : decode cJ6_getBytes 9 = .ok (.getfield 9, 3) := dk_180 0 9 (dk_at dksJ6_getBytes_0 9 rfl rfl)
theorem dJ6_getBytes_12 : decode cJ6_getBytes 12 = .ok (.iconst 0, 1) := dk_3 (dk_at dksJ6_getBytes_0 12 rfl rfl)
theorem dJ6_getBytes_13 : decode cJ6_getBytes 13 = .ok (.aload_n 1, 1) := dk_43 (dk_at dksJ6_getBytes_0 13 rfl rfl)
theorem dJ6_getBytes_14 : decode cJ6_getBytes 14 = .ok (.iload_n 2, 1) := dk_28 (dk_at dksJ6_getBytes_0 14 rfl rfl)
theorem dJ6_getBytes_15 : decode cJ6_getBytes 15 = .ok (.iload_n 3, 1) := dk_29 (dk_at dksJ6_getBytes_0 15 rfl rfl)
theorem dJ6_getBytes_16 : decode cJ6_getBytes 16 = .ok (.ishl, 1) := dk_120 (dk_at dksJ6_getBytes_0 16 rfl rfl)
theorem dJ6_getBytes_17 : decode cJ6_getBytes 17 = .ok (.aload_n 0, 1) := dk_42 (dk_at dksJ6_getBytes_0 17 rfl rfl)
theorem dJ6_getBytes_18 : decode cJ6_getBytes 18 = .ok (.getfield 9, 3) := dk_180 0 9 (dk_at dksJ6_getBytes_0 18 rfl rfl)
theorem dJ6_getBytes_21 : decode cJ6_getBytes 21 = .ok (.arraylength, 1) := dk_190 (dk_at dksJ6_getBytes_0 21 rfl rfl)
theorem dJ6_getBytes_22 : decode cJ6_getBytes 22 = .ok (.invokestatic 212, 3) := dk_184 0 212 (dk_at dksJ6_getBytes_1 0 rfl rfl)
theorem dJ6_getBytes_25 : decode cJ6_getBytes 25 = .ok (.goto 18, 3) := dk_167 0 18 (dk_at dksJ6_getBytes_1 3 rfl rfl)
theorem dJ6_getBytes_28 : decode cJ6_getBytes 28 = .ok (.aload_n 0, 1) := dk_42 (dk_at dksJ6_getBytes_1 6 rfl rfl)
theorem dJ6_getBytes_29 : decode cJ6_getBytes 29 = .ok (.getfield 9, 3) := dk_180 0 9 (dk_at dksJ6_getBytes_1 7 rfl rfl)
theorem dJ6_getBytes_32 : decode cJ6_getBytes 32 = .ok (.iconst 0, 1) := dk_3 (dk_at dksJ6_getBytes_1 10 rfl rfl)
theorem dJ6_getBytes_33 : decode cJ6_getBytes 33 = .ok (.aload_n 1, 1) := dk_43 (dk_at dksJ6_getBytes_1 11 rfl rfl)
theorem dJ6_getBytes_34 : decode cJ6_getBytes 34 = .ok (.iload_n 2, 1) := dk_28 (dk_at dksJ6_getBytes_1 12 rfl rfl)
theorem dJ6_getBytes_35 : decode cJ6_getBytes 35 = .ok (.aload_n 0, 1) := dk_42 (dk_at dksJ6_getBytes_1 13 rfl rfl)
theorem dJ6_getBytes_36 : decode cJ6_getBytes 36 = .ok (.getfield 9, 3) := dk_180 0 9 (dk_at dksJ6_getBytes_1 14 rfl rfl)
theorem dJ6_getBytes_39 : decode cJ6_getBytes 39 = .ok (.arraylength, 1) := dk_190 (dk_at dksJ6_getBytes_1 17 rfl rfl)
theorem dJ6_getBytes_40 : decode cJ6_getBytes 40 = .ok (.invokestatic 106, 3) := dk_184 0 106 (dk_at dksJ6_getBytes_1 18 rfl rfl)
theorem dJ6_getBytes_43 : decode cJ6_getBytes 43 = .ok (.return_, 1) := dk_177 (dk_at dksJ6_getBytes_1 21 rfl rfl)
def dkwJ6_init_0 : List UInt8 := [42, 43, 1, 183, 1, 233, 177]
abbrev dktJ6_init_0 : List UInt8 := dkwJ6_init_0 ++ []
theorem dksJ6_init_0 : cJ6_init.data.toList.drop 0 = dktJ6_init_0 := by decide +kernel
theorem dJ6_init_0 : decode cJ6_init 0 = .ok (.aload_n 0, 1) := dk_42 (dk_at dksJ6_init_0 0 rfl rfl)
theorem dJ6_init_1 : decode cJ6_init 1 = .ok (.aload_n 1, 1) := dk_43 (dk_at dksJ6_init_0 1 rfl rfl)
theorem dJ6_init_2 : decode cJ6_init 2 = .ok (.aconst_null, 1) := dk_1 (dk_at dksJ6_init_0 2 rfl rfl)
theorem dJ6_init_3 : decode cJ6_init 3 = .ok (.invokespecial 489, 3) := dk_183 1 233 (dk_at dksJ6_init_0 3 rfl rfl)
theorem dJ6_init_6 : decode cJ6_init 6 = .ok (.return_, 1) := dk_177 (dk_at dksJ6_init_0 6 rfl rfl)
def dkwJ6_init_2_4 : List UInt8 := [181, 0, 9, 177]
abbrev dktJ6_init_2_4 : List UInt8 := dkwJ6_init_2_4 ++ []
def dkwJ6_init_2_3 : List UInt8 := [184, 0, 47, 181, 0, 15, 177, 42, 4, 181, 0, 15, 42, 45, 3, 21, 4, 4, 120, 184, 0, 54]
abbrev dktJ6_init_2_3 : List UInt8 := dkwJ6_init_2_3 ++ dktJ6_init_2_4
def dkwJ6_init_2_2 : List UInt8 := [180, 4, 24, 153, 0, 28, 42, 45, 3, 21, 4, 184, 4, 27, 181, 0, 9, 42, 42, 180, 0, 9, 21, 4]
abbrev dktJ6_init_2_2 : List UInt8 := dkwJ6_init_2_2 ++ dktJ6_init_2_3
def dkwJ6_init_2_1 : List UInt8 := [181, 0, 15, 42, 45, 3, 21, 4, 184, 0, 54, 181, 0, 9, 167, 0, 59, 178, 0, 38, 153, 0, 35, 43]
abbrev dktJ6_init_2_1 : List UInt8 := dkwJ6_init_2_1 ++ dktJ6_init_2_2
def dkwJ6_init_2_0 : List UInt8 := [42, 183, 0, 1, 43, 182, 2, 40, 78, 43, 182, 2, 37, 54, 4, 43, 182, 4, 23, 153, 0, 22, 42, 3]
abbrev dktJ6_init_2_0 : List UInt8 := dkwJ6_init_2_0 ++ dktJ6_init_2_1
theorem dksJ6_init_2_0 : cJ6_init_2.data.toList.drop 0 = dktJ6_init_2_0 := by decide +kernel
theorem dksJ6_init_2_1 : cJ6_init_2.data.toList.drop 24 = dktJ6_init_2_1 := dk_seg dksJ6_init_2_0 24 rfl rfl
theorem dksJ6_init_2_2 : cJ6_init_2.data.toList.drop 48 = dktJ6_init_2_2 := dk_seg dksJ6_init_2_1 24 rfl rfl
theorem dksJ6_init_2_3 : cJ6_init_2.data.toList.drop 72 = dktJ6_init_2_3 := dk_seg dksJ6_init_2_2 24 rfl rfl
theorem dksJ6_init_2_4 : cJ6_init_2.data.toList.drop 94 = dktJ6_init_2_4 := dk_seg dksJ6_init_2_3 22 rfl rfl
theorem dJ6_init_2_0 : decode cJ6_init_2 0 = .ok (.aload_n 0, 1) := dk_42 (dk_at dksJ6_init_2_0 0 rfl rfl)
theorem dJ6_init_2_1 : decode cJ6_init_2 1 = .ok (.invokespecial 1, 3) := dk_183 0 1 (dk_at dksJ6_init_2_0 1 rfl rfl)
theorem dJ6_init_2_4 : decode cJ6_init_2 4 = .ok (.aload_n 1, 1) := dk_43 (dk_at dksJ6_init_2_0 4 rfl rfl)
theorem dJ6_init_2_5 : decode cJ6_init_2 5 = .ok (.invokevirtual 552, 3) := dk_182 2 40 (dk_at dksJ6_init_2_0 5 rfl rfl)
theorem dJ6_init_2_8 : decode cJ6_init_2 8 = .ok (.astore_n 3, 1) := dk_78 (dk_at dksJ6_init_2_0 8 rfl rfl)
theorem dJ6_init_2_9 : decode cJ6_init_2 9 = .ok (.aload_n 1, 1) := dk_43 (dk_at dksJ6_init_2_0 9 rfl rfl)
theorem dJ6_init_2_10 : decode cJ6_init_2 10 = .ok (.invokevirtual 549, 3) := dk_182 2 37 (dk_at dksJ6_init_2_0 10 rfl rfl)
theorem dJ6_init_2_13 : decode cJ6_init_2 13 = .ok (.istore 4, 2) := dk_54 4 (dk_at dksJ6_init_2_0 13 rfl rfl)
theorem dJ6_init_2_15 : decode cJ6_init_2 15 = .ok (.aload_n 1, 1) := dk_43 (dk_at dksJ6_init_2_0 15 rfl rfl)
theorem dJ6_init_2_16 : decode cJ6_init_2 16 = .ok (.invokevirtual 1047, 3) := dk_182 4 23 (dk_at dksJ6_init_2_0 16 rfl rfl)
theorem dJ6_init_2_19 : decode cJ6_init_2 19 = .ok (.ifCond .eq 22, 3) := dk_153 0 22 (dk_at dksJ6_init_2_0 19 rfl rfl)
theorem dJ6_init_2_22 : decode cJ6_init_2 22 = .ok (.aload_n 0, 1) := dk_42 (dk_at dksJ6_init_2_0 22 rfl rfl)
theorem dJ6_init_2_23 : decode cJ6_init_2 23 = .ok (.iconst 0, 1) := dk_3 (dk_at dksJ6_init_2_0 23 rfl rfl)
theorem dJ6_init_2_24 : decode cJ6_init_2 24 = .ok (.putfield 15, 3) := dk_181 0 15 (dk_at dksJ6_init_2_1 0 rfl rfl)
theorem dJ6_init_2_27 : decode cJ6_init_2 27 = .ok (.aload_n 0, 1) := dk_42 (dk_at dksJ6_init_2_1 3 rfl rfl)
theorem dJ6_init_2_28 : decode cJ6_init_2 28 = .ok (.aload_n 3, 1) := dk_45 (dk_at dksJ6_init_2_1 4 rfl rfl)
theorem dJ6_init_2_29 : decode cJ6_init_2 29 = .ok (.iconst 0, 1) := dk_3 (dk_at dksJ6_init_2_1 5 rfl rfl)
theorem dJ6_init_2_30 : decode cJ6_init_2 30 = .ok (.iload 4, 2) := dk_21 4 (dk_at dksJ6_init_2_1 6 rfl rfl)
theorem dJ6_init_2_32 : decode cJ6_init_2 32 = .ok (.invokestatic 54, 3) := dk_184 0 54 (dk_at dksJ6_init_2_1 8 rfl rfl)
theorem dJ6_init_2_35 : decode cJ6_init_2 35 = .ok (.putfield 9, 3) := dk_181 0 9 (dk_at dksJ6_init_2_1 11 rfl rfl)
theorem dJ6_init_2_38 : decode cJ6_init_2 38 = .ok (.goto 59, 3) := dk_167 0 59 (dk_at dksJ6_init_2_1 14 rfl rfl)
theorem dJ6_init_2_41 : decode cJ6_init_2 41 = .ok (.getstatic 38, 3) := dk_178 0 38 (dk_at dksJ6_init_2_1 17 rfl rfl)
theorem dJ6_init_2_44 : decode cJ6_init_2 44 = .ok (.ifCond .eq 35, 3) := dk_153 0 35 (dk_at dksJ6_init_2_1 20 rfl rfl)
theorem dJ6_init_2_47 : decode cJ6_init_2 47 = .ok (.aload_n 1, 1) := dk_43 (dk_at dksJ6_init_2_1 23 rfl rfl)
theorem dJ6_init_2_48 : decode cJ6_init_2 48 = .ok (.getfield 1048, 3) := dk_180 4 24 (dk_at dksJ6_init_2_2 0 rfl rfl)
theorem dJ6_init_2_51 : decode cJ6_init_2 51 = .ok (.ifCond .eq 28, 3) := dk_153 0 28 (dk_at dksJ6_init_2_2 3 rfl rfl)
theorem dJ6_init_2_54 : decode cJ6_init_2 54 = .ok (.aload_n 0, 1) := dk_42 (dk_at dksJ6_init_2_2 6 rfl rfl)
theorem dJ6_init_2_55 : decode cJ6_init_2 55 = .ok (.aload_n 3, 1) := dk_45 (dk_at dksJ6_init_2_2 7 rfl rfl)
theorem dJ6_init_2_56 : decode cJ6_init_2 56 = .ok (.iconst 0, 1) := dk_3 (dk_at dksJ6_init_2_2 8 rfl rfl)
theorem dJ6_init_2_57 : decode cJ6_init_2 57 = .ok (.iload 4, 2) := dk_21 4 (dk_at dksJ6_init_2_2 9 rfl rfl)
theorem dJ6_init_2_59 : decode cJ6_init_2 59 = .ok (.invokestatic 1051, 3) := dk_184 4 27 (dk_at dksJ6_init_2_2 11 rfl rfl)
theorem dJ6_init_2_62 : decode cJ6_init_2 62 = .ok (.putfield 9, 3) := dk_181 0 9 (dk_at dksJ6_init_2_2 14 rfl rfl)
theorem dJ6_init_2_65 : decode cJ6_init_2 65 = .ok (.aload_n 0, 1) := dk_42 (dk_at dksJ6_init_2_2 17 rfl rfl)
theorem dJ6_init_2_66 : decode cJ6_init_2 66 = .ok (.aload_n 0, 1) := dk_42 (dk_at dksJ6_init_2_2 18 rfl rfl)
theorem dJ6_init_2_67 : decode cJ6_init_2 67 = .ok (.getfield 9, 3) := dk_180 0 9 (dk_at dksJ6_init_2_2 19 rfl rfl)
theorem dJ6_init_2_70 : decode cJ6_init_2 70 = .ok (.iload 4, 2) := dk_21 4 (dk_at dksJ6_init_2_2 22 rfl rfl)
theorem dJ6_init_2_72 : decode cJ6_init_2 72 = .ok (.invokestatic 47, 3) := dk_184 0 47 (dk_at dksJ6_init_2_3 0 rfl rfl)
theorem dJ6_init_2_75 : decode cJ6_init_2 75 = .ok (.putfield 15, 3) := dk_181 0 15 (dk_at dksJ6_init_2_3 3 rfl rfl)
theorem dJ6_init_2_78 : decode cJ6_init_2 78 = .ok (.return_, 1) := dk_177 (dk_at dksJ6_init_2_3 6 rfl rfl)
theorem dJ6_init_2_79 : decode cJ6_init_2 79 = .ok (.aload_n 0, 1) := dk_42 (dk_at dksJ6_init_2_3 7 rfl rfl)
theorem dJ6_init_2_80 : decode cJ6_init_2 80 = .ok (.iconst 1, 1) := dk_4 (dk_at dksJ6_init_2_3 8 rfl rfl)
theorem dJ6_init_2_81 : decode cJ6_init_2 81 = .ok (.putfield 15, 3) := dk_181 0 15 (dk_at dksJ6_init_2_3 9 rfl rfl)
theorem dJ6_init_2_84 : decode cJ6_init_2 84 = .ok (.aload_n 0, 1) := dk_42 (dk_at dksJ6_init_2_3 12 rfl rfl)
theorem dJ6_init_2_85 : decode cJ6_init_2 85 = .ok (.aload_n 3, 1) := dk_45 (dk_at dksJ6_init_2_3 13 rfl rfl)
theorem dJ6_init_2_86 : decode cJ6_init_2 86 = .ok (.iconst 0, 1) := dk_3 (dk_at dksJ6_init_2_3 14 rfl rfl)
theorem dJ6_init_2_87 : decode cJ6_init_2 87 = .ok (.iload 4, 2) := dk_21 4 (dk_at dksJ6_init_2_3 15 rfl rfl)
theorem dJ6_init_2_89 : decode cJ6_init_2 89 = .ok (.iconst 1, 1) := dk_4 (dk_at dksJ6_init_2_3 17 rfl rfl)
theorem dJ6_init_2_90 : decode cJ6_init_2 90 = .ok (.ishl, 1) := dk_120 (dk_at dksJ6_init_2_3 18 rfl rfl)
theorem dJ6_init_2_91 : decode cJ6_init_2 91 = .ok (.invokestatic 54, 3) := dk_184 0 54 (dk_at dksJ6_init_2_3 19 rfl rfl)
theorem dJ6_init_2_94 : decode cJ6_init_2 94 = .ok (.putfield 9, 3) := dk_181 0 9 (dk_at dksJ6_init_2_4 0 rfl rfl)
theorem dJ6_init_2_97 : decode cJ6_init_2 97 = .ok (.return_, 1) := dk_177 (dk_at dksJ6_init_2_4 3 rfl rfl)
def dkwJ6_checkIndex_0 : List UInt8 := [26, 27, 178, 4, 29, 184, 4, 35, 87, 177]
abbrev dktJ6_checkIndex_0 : List UInt8 := dkwJ6_checkIndex_0 ++ []
theorem dksJ6_checkIndex_0 : cJ6_checkIndex.data.toList.drop 0 = dktJ6_checkIndex_0 := by decide +kernel
theorem dJ6_checkIndex_0 : decode cJ6_checkIndex 0 = .ok (.iload_n 0, 1) := dk_26 (dk_at dksJ6_checkIndex_0 0 rfl rfl)
theorem dJ6_checkIndex_1 : decode cJ6_checkIndex 1 = .ok (.iload_n 1, 1) := dk_27 (dk_at dksJ6_checkIndex_0 1 rfl rfl)
theorem dJ6_checkIndex_2 : decode cJ6_checkIndex 2 = .ok (.getstatic 1053, 3) := dk_178 4 29 (dk_at dksJ6_checkIndex_0 2 rfl rfl)
theorem dJ6_checkIndex_5 : decode cJ6_checkIndex 5 = .ok (.invokestatic 1059, 3) := dk_184 4 35 (dk_at dksJ6_checkIndex_0 5 rfl rfl)
theorem dJ6_checkIndex_8 : decode cJ6_checkIndex 8 = .ok (.pop, 1) := dk_87 (dk_at dksJ6_checkIndex_0 8 rfl rfl)
theorem dJ6_checkIndex_9 : decode cJ6_checkIndex 9 = .ok (.return_, 1) := dk_177 (dk_at dksJ6_checkIndex_0 9 rfl rfl)
def dkwJ6_substring_2 : List UInt8 := [180, 0, 9, 27, 21, 4, 184, 2, 177, 176]
abbrev dktJ6_substring_2 : List UInt8 := dkwJ6_substring_2 ++ []
def dkwJ6_substring_1 : List UInt8 := [100, 54, 4, 42, 182, 1, 236, 153, 0, 16, 42, 180, 0, 9, 27, 21, 4, 184, 2, 173, 167, 0, 13, 42]
abbrev dktJ6_substring_1 : List UInt8 := dkwJ6_substring_1 ++ dktJ6_substring_2
def dkwJ6_substring_0 : List UInt8 := [42, 182, 1, 249, 62, 27, 28, 29, 184, 2, 9, 27, 154, 0, 10, 28, 29, 160, 0, 5, 42, 176, 28, 27]
abbrev dktJ6_substring_0 : List UInt8 := dkwJ6_substring_0 ++ dktJ6_substring_1
theorem dksJ6_substring_0 : cJ6_substring.data.toList.drop 0 = dktJ6_substring_0 := by decide +kernel
theorem dksJ6_substring_1 : cJ6_substring.data.toList.drop 24 = dktJ6_substring_1 := dk_seg dksJ6_substring_0 24 rfl rfl
theorem dksJ6_substring_2 : cJ6_substring.data.toList.drop 48 = dktJ6_substring_2 := dk_seg dksJ6_substring_1 24 rfl rfl
theorem dJ6_substring_0 : decode cJ6_substring 0 = .ok (.aload_n 0, 1) := dk_42 (dk_at dksJ6_substring_0 0 rfl rfl)
theorem dJ6_substring_1 : decode cJ6_substring 1 = .ok (.invokevirtual 505, 3) := dk_182 1 249 (dk_at dksJ6_substring_0 1 rfl rfl)
theorem dJ6_substring_4 : decode cJ6_substring 4 = .ok (.istore_n 3, 1) := dk_62 (dk_at dksJ6_substring_0 4 rfl rfl)
theorem dJ6_substring_5 : decode cJ6_substring 5 = .ok (.iload_n 1, 1) := dk_27 (dk_at dksJ6_substring_0 5 rfl rfl)
theorem dJ6_substring_6 : decode cJ6_substring 6 = .ok (.iload_n 2, 1) := dk_28 (dk_at dksJ6_substring_0 6 rfl rfl)
theorem dJ6_substring_7 : decode cJ6_substring 7 = .ok (.iload_n 3, 1) := dk_29 (dk_at dksJ6_substring_0 7 rfl rfl)
theorem dJ6_substring_8 : decode cJ6_substring 8 = .ok (.invokestatic 521, 3) := dk_184 2 9 (dk_at dksJ6_substring_0 8 rfl rfl)
theorem dJ6_substring_11 : decode cJ6_substring 11 = .ok (.iload_n 1, 1) := dk_27 (dk_at dksJ6_substring_0 11 rfl rfl)
theorem dJ6_substring_12 : decode cJ6_substring 12 = .ok (.ifCond .ne 10, 3) := dk_154 0 10 (dk_at dksJ6_substring_0 12 rfl rfl)
theorem dJ6_substring_15 : decode cJ6_substring 15 = .ok (.iload_n 2, 1) := dk_28 (dk_at dksJ6_substring_0 15 rfl rfl)
theorem dJ6_substring_16 : decode cJ6_substring 16 = .ok (.iload_n 3, 1) := dk_29 (dk_at dksJ6_substring_0 16 rfl rfl)
theorem dJ6_substring_17 : decode cJ6_substring 17 = .ok (.if_icmp .ne 5, 3) := dk_160 0 5 (dk_at dksJ6_substring_0 17 rfl rfl)
theorem dJ6_substring_20 : decode cJ6_substring 20 = .ok (.aload_n 0, 1) := dk_42 (dk_at dksJ6_substring_0 20 rfl rfl)
theorem dJ6_substring_21 : decode cJ6_substring 21 = .ok (.areturn, 1) := dk_176 (dk_at dksJ6_substring_0 21 rfl rfl)
theorem dJ6_substring_22 : decode cJ6_substring 22 = .ok (.iload_n 2, 1) := dk_28 (dk_at dksJ6_substring_0 22 rfl rfl)
theorem dJ6_substring_23 : decode cJ6_substring 23 = .ok (.iload_n 1, 1) := dk_27 (dk_at dksJ6_substring_0 23 rfl rfl)
theorem dJ6_substring_24 : decode cJ6_substring 24 = .ok (.isub, 1) := dk_100 (dk_at dksJ6_substring_1 0 rfl rfl)
theorem dJ6_substring_25 : decode cJ6_substring 25 = .ok (.istore 4, 2) := dk_54 4 (dk_at dksJ6_substring_1 1 rfl rfl)
theorem dJ6_substring_27 : decode cJ6_substring 27 = .ok (.aload_n 0, 1) := dk_42 (dk_at dksJ6_substring_1 3 rfl rfl)
theorem dJ6_substring_28 : decode cJ6_substring 28 = .ok (.invokevirtual 492, 3) := dk_182 1 236 (dk_at dksJ6_substring_1 4 rfl rfl)
theorem dJ6_substring_31 : decode cJ6_substring 31 = .ok (.ifCond .eq 16, 3) := dk_153 0 16 (dk_at dksJ6_substring_1 7 rfl rfl)
theorem dJ6_substring_34 : decode cJ6_substring 34 = .ok (.aload_n 0, 1) := dk_42 (dk_at dksJ6_substring_1 10 rfl rfl)
theorem dJ6_substring_35 : decode cJ6_substring 35 = .ok (.getfield 9, 3) := dk_180 0 9 (dk_at dksJ6_substring_1 11 rfl rfl)
theorem dJ6_substring_38 : decode cJ6_substring 38 = .ok (.iload_n 1, 1) := dk_27 (dk_at dksJ6_substring_1 14 rfl rfl)
theorem dJ6_substring_39 : decode cJ6_substring 39 = .ok (.iload 4, 2) := dk_21 4 (dk_at dksJ6_substring_1 15 rfl rfl)
theorem dJ6_substring_41 : decode cJ6_substring 41 = .ok (.invokestatic 685, 3) := dk_184 2 173 (dk_at dksJ6_substring_1 17 rfl rfl)
theorem dJ6_substring_44 : decode cJ6_substring 44 = .ok (.goto 13, 3) := dk_167 0 13 (dk_at dksJ6_substring_1 20 rfl rfl)
theorem dJ6_substring_47 : decode cJ6_substring 47 = .ok (.aload_n 0, 1) := dk_42 (dk_at dksJ6_substring_1 23 rfl rfl)
theorem dJ6_substring_48 : decode cJ6_substring 48 = .ok (.getfield 9, 3) := dk_180 0 9 (dk_at dksJ6_substring_2 0 rfl rfl)
theorem dJ6_substring_51 : decode cJ6_substring 51 = .ok (.iload_n 1, 1) := dk_27 (dk_at dksJ6_substring_2 3 rfl rfl)
theorem dJ6_substring_52 : decode cJ6_substring 52 = .ok (.iload 4, 2) := dk_21 4 (dk_at dksJ6_substring_2 4 rfl rfl)
theorem dJ6_substring_54 : decode cJ6_substring 54 = .ok (.invokestatic 689, 3) := dk_184 2 177 (dk_at dksJ6_substring_2 6 rfl rfl)
theorem dJ6_substring_57 : decode cJ6_substring 57 = .ok (.areturn, 1) := dk_176 (dk_at dksJ6_substring_2 9 rfl rfl)
def dkwJ6_isLatin1_0 : List UInt8 := [178, 0, 38, 153, 0, 14, 42, 180, 0, 15, 154, 0, 7, 4, 167, 0, 4, 3, 172]
abbrev dktJ6_isLatin1_0 : List UInt8 := dkwJ6_isLatin1_0 ++ []
theorem dksJ6_isLatin1_0 : cJ6_isLatin1.data.toList.drop 0 = dktJ6_isLatin1_0 := by decide +kernel
theorem dJ6_isLatin1_0 : decode cJ6_isLatin1 0 = .ok (.getstatic 38, 3) := dk_178 0 38 (dk_at dksJ6_isLatin1_0 0 rfl rfl)
theorem dJ6_isLatin1_3 : decode cJ6_isLatin1 3 = .ok (.ifCond .eq 14, 3) := dk_153 0 14 (dk_at dksJ6_isLatin1_0 3 rfl rfl)
theorem dJ6_isLatin1_6 : decode cJ6_isLatin1 6 = .ok (.aload_n 0, 1) := dk_42 (dk_at dksJ6_isLatin1_0 6 rfl rfl)
theorem dJ6_isLatin1_7 : decode cJ6_isLatin1 7 = .ok (.getfield 15, 3) := dk_180 0 15 (dk_at dksJ6_isLatin1_0 7 rfl rfl)
theorem dJ6_isLatin1_10 : decode cJ6_isLatin1 10 = .ok (.ifCond .ne 7, 3) := dk_154 0 7 (dk_at dksJ6_isLatin1_0 10 rfl rfl)
theorem dJ6_isLatin1_13 : decode cJ6_isLatin1 13 = .ok (.iconst 1, 1) := dk_4 (dk_at dksJ6_isLatin1_0 13 rfl rfl)
theorem dJ6_isLatin1_14 : decode cJ6_isLatin1 14 = .ok (.goto 4, 3) := dk_167 0 4 (dk_at dksJ6_isLatin1_0 14 rfl rfl)
theorem dJ6_isLatin1_17 : decode cJ6_isLatin1 17 = .ok (.iconst 0, 1) := dk_3 (dk_at dksJ6_isLatin1_0 17 rfl rfl)
theorem dJ6_isLatin1_18 : decode cJ6_isLatin1 18 = .ok (.ireturn, 1) := dk_172 (dk_at dksJ6_isLatin1_0 18 rfl rfl)
def dkwJ6_init_3_0 : List UInt8 := [42, 183, 0, 1, 42, 43, 181, 0, 9, 42, 28, 181, 0, 15, 177]
abbrev dktJ6_init_3_0 : List UInt8 := dkwJ6_init_3_0 ++ []
theorem dksJ6_init_3_0 : cJ6_init_3.data.toList.drop 0 = dktJ6_init_3_0 := by decide +kernel
theorem dJ6_init_3_0 : decode cJ6_init_3 0 = .ok (.aload_n 0, 1) := dk_42 (dk_at dksJ6_init_3_0 0 rfl rfl)
theorem dJ6_init_3_1 : decode cJ6_init_3 1 = .ok (.invokespecial 1, 3) := dk_183 0 1 (dk_at dksJ6_init_3_0 1 rfl rfl)
theorem dJ6_init_3_4 : decode cJ6_init_3 4 = .ok (.aload_n 0, 1) := dk_42 (dk_at dksJ6_init_3_0 4 rfl rfl)
theorem dJ6_init_3_5 : decode cJ6_init_3 5 = .ok (.aload_n 1, 1) := dk_43 (dk_at dksJ6_init_3_0 5 rfl rfl)
theorem dJ6_init_3_6 : decode cJ6_init_3 6 = .ok (.putfield 9, 3) := dk_181 0 9 (dk_at dksJ6_init_3_0 6 rfl rfl)
theorem dJ6_init_3_9 : decode cJ6_init_3 9 = .ok (.aload_n 0, 1) := dk_42 (dk_at dksJ6_init_3_0 9 rfl rfl)
theorem dJ6_init_3_10 : decode cJ6_init_3 10 = .ok (.iload_n 2, 1) := dk_28 (dk_at dksJ6_init_3_0 10 rfl rfl)
theorem dJ6_init_3_11 : decode cJ6_init_3 11 = .ok (.putfield 15, 3) := dk_181 0 15 (dk_at dksJ6_init_3_0 11 rfl rfl)
theorem dJ6_init_3_14 : decode cJ6_init_3 14 = .ok (.return_, 1) := dk_177 (dk_at dksJ6_init_3_0 14 rfl rfl)
def dkwJ6_equals_2 : List UInt8 := [184, 2, 29, 153, 0, 7, 4, 167, 0, 4, 3, 172]
abbrev dktJ6_equals_2 : List UInt8 := dkwJ6_equals_2 ++ []
def dkwJ6_equals_1 : List UInt8 := [153, 0, 14, 42, 180, 0, 15, 44, 180, 0, 15, 160, 0, 21, 42, 180, 0, 9, 44, 180, 0, 9]
abbrev dktJ6_equals_1 : List UInt8 := dkwJ6_equals_1 ++ dktJ6_equals_2
def dkwJ6_equals_0 : List UInt8 := [42, 43, 166, 0, 5, 4, 172, 43, 193, 0, 10, 153, 0, 43, 43, 192, 0, 10, 77, 178, 0, 38]
abbrev dktJ6_equals_0 : List UInt8 := dkwJ6_equals_0 ++ dktJ6_equals_1
theorem dksJ6_equals_0 : cJ6_equals.data.toList.drop 0 = dktJ6_equals_0 := by decide +kernel
theorem dksJ6_equals_1 : cJ6_equals.data.toList.drop 22 = dktJ6_equals_1 := dk_seg dksJ6_equals_0 22 rfl rfl
theorem dksJ6_equals_2 : cJ6_equals.data.toList.drop 44 = dktJ6_equals_2 := dk_seg dksJ6_equals_1 22 rfl rfl
theorem dJ6_equals_0 : decode cJ6_equals 0 = .ok (.aload_n 0, 1) := dk_42 (dk_at dksJ6_equals_0 0 rfl rfl)
theorem dJ6_equals_1 : decode cJ6_equals 1 = .ok (.aload_n 1, 1) := dk_43 (dk_at dksJ6_equals_0 1 rfl rfl)
theorem dJ6_equals_2 : decode cJ6_equals 2 = .ok (.if_acmp .ne 5, 3) := dk_166 0 5 (dk_at dksJ6_equals_0 2 rfl rfl)
theorem dJ6_equals_5 : decode cJ6_equals 5 = .ok (.iconst 1, 1) := dk_4 (dk_at dksJ6_equals_0 5 rfl rfl)
theorem dJ6_equals_6 : decode cJ6_equals 6 = .ok (.ireturn, 1) := dk_172 (dk_at dksJ6_equals_0 6 rfl rfl)
theorem dJ6_equals_7 : decode cJ6_equals 7 = .ok (.aload_n 1, 1) := dk_43 (dk_at dksJ6_equals_0 7 rfl rfl)
theorem dJ6_equals_8 : decode cJ6_equals 8 = .ok (.instanceof 10, 3) := dk_193 0 10 (dk_at dksJ6_equals_0 8 rfl rfl)
theorem dJ6_equals_11 : decode cJ6_equals 11 = .ok (.ifCond .eq 43, 3) := dk_153 0 43 (dk_at dksJ6_equals_0 11 rfl rfl)
theorem dJ6_equals_14 : decode cJ6_equals 14 = .ok (.aload_n 1, 1) := dk_43 (dk_at dksJ6_equals_0 14 rfl rfl)
theorem dJ6_equals_15 : decode cJ6_equals 15 = .ok (.checkcast 10, 3) := dk_192 0 10 (dk_at dksJ6_equals_0 15 rfl rfl)
theorem dJ6_equals_18 : decode cJ6_equals 18 = .ok (.astore_n 2, 1) := dk_77 (dk_at dksJ6_equals_0 18 rfl rfl)
theorem dJ6_equals_19 : decode cJ6_equals 19 = .ok (.getstatic 38, 3) := dk_178 0 38 (dk_at dksJ6_equals_0 19 rfl rfl)
theorem dJ6_equals_22 : decode cJ6_equals 22 = .ok (.ifCond .eq 14, 3) := dk_153 0 14 (dk_at dksJ6_equals_1 0 rfl rfl)
theorem dJ6_equals_25 : decode cJ6_equals 25 = .ok (.aload_n 0, 1) := dk_42 (dk_at dksJ6_equals_1 3 rfl rfl)
theorem dJ6_equals_26 : decode cJ6_equals 26 = .ok (.getfield 15, 3) := dk_180 0 15 (dk_at dksJ6_equals_1 4 rfl rfl)
theorem dJ6_equals_29 : decode cJ6_equals 29 = .ok (.aload_n 2, 1) := dk_44 (dk_at dksJ6_equals_1 7 rfl rfl)
theorem dJ6_equals_30 : decode cJ6_equals 30 = .ok (.getfield 15, 3) := dk_180 0 15 (dk_at dksJ6_equals_1 8 rfl rfl)
theorem dJ6_equals_33 : decode cJ6_equals 33 = .ok (.if_icmp .ne 21, 3) := dk_160 0 21 (dk_at dksJ6_equals_1 11 rfl rfl)
theorem dJ6_equals_36 : decode cJ6_equals 36 = .ok (.aload_n 0, 1) := dk_42 (dk_at dksJ6_equals_1 14 rfl rfl)
theorem dJ6_equals_37 : decode cJ6_equals 37 = .ok (.getfield 9, 3) := dk_180 0 9 (dk_at dksJ6_equals_1 15 rfl rfl)
theorem dJ6_equals_40 : decode cJ6_equals 40 = .ok (.aload_n 2, 1) := dk_44 (dk_at dksJ6_equals_1 18 rfl rfl)
theorem dJ6_equals_41 : decode cJ6_equals 41 = .ok (.getfield 9, 3) := dk_180 0 9 (dk_at dksJ6_equals_1 19 rfl rfl)
theorem dJ6_equals_44 : decode cJ6_equals 44 = .ok (.invokestatic 541, 3) := dk_184 2 29 (dk_at dksJ6_equals_2 0 rfl rfl)
theorem dJ6_equals_47 : decode cJ6_equals 47 = .ok (.ifCond .eq 7, 3) := dk_153 0 7 (dk_at dksJ6_equals_2 3 rfl rfl)
theorem dJ6_equals_50 : decode cJ6_equals 50 = .ok (.iconst 1, 1) := dk_4 (dk_at dksJ6_equals_2 6 rfl rfl)
theorem dJ6_equals_51 : decode cJ6_equals 51 = .ok (.goto 4, 3) := dk_167 0 4 (dk_at dksJ6_equals_2 7 rfl rfl)
theorem dJ6_equals_54 : decode cJ6_equals 54 = .ok (.iconst 0, 1) := dk_3 (dk_at dksJ6_equals_2 10 rfl rfl)
theorem dJ6_equals_55 : decode cJ6_equals 55 = .ok (.ireturn, 1) := dk_172 (dk_at dksJ6_equals_2 11 rfl rfl)
def dkwJ6_startsWith_0 : List UInt8 := [42, 43, 3, 182, 2, 112, 172]
abbrev dktJ6_startsWith_0 : List UInt8 := dkwJ6_startsWith_0 ++ []
theorem dksJ6_startsWith_0 : cJ6_startsWith.data.toList.drop 0 = dktJ6_startsWith_0 := by decide +kernel
theorem dJ6_startsWith_0 : decode cJ6_startsWith 0 = .ok (.aload_n 0, 1) := dk_42 (dk_at dksJ6_startsWith_0 0 rfl rfl)
theorem dJ6_startsWith_1 : decode cJ6_startsWith 1 = .ok (.aload_n 1, 1) := dk_43 (dk_at dksJ6_startsWith_0 1 rfl rfl)
theorem dJ6_startsWith_2 : decode cJ6_startsWith 2 = .ok (.iconst 0, 1) := dk_3 (dk_at dksJ6_startsWith_0 2 rfl rfl)
theorem dJ6_startsWith_3 : decode cJ6_startsWith 3 = .ok (.invokevirtual 624, 3) := dk_182 2 112 (dk_at dksJ6_startsWith_0 3 rfl rfl)
theorem dJ6_startsWith_6 : decode cJ6_startsWith 6 = .ok (.ireturn, 1) := dk_172 (dk_at dksJ6_startsWith_0 6 rfl rfl)
def dkwJ6_startsWith_2_5 : List UInt8 := [159, 255, 229, 3, 172, 4, 172]
abbrev dktJ6_startsWith_2_5 : List UInt8 := dkwJ6_startsWith_2_5 ++ []
def dkwJ6_startsWith_2_4 : List UInt8 := [162, 0, 28, 45, 28, 132, 2, 1, 184, 1, 104, 25, 4, 21, 5, 132, 5, 1, 51, 17, 0, 255, 126]
abbrev dktJ6_startsWith_2_4 : List UInt8 := dkwJ6_startsWith_2_4 ++ dktJ6_startsWith_2_5
def dkwJ6_startsWith_2_3 : List UInt8 := [184, 2, 95, 156, 0, 7, 4, 167, 0, 4, 3, 172, 21, 7, 154, 0, 5, 3, 172, 21, 5, 21, 6]
abbrev dktJ6_startsWith_2_3 : List UInt8 := dkwJ6_startsWith_2_3 ++ dktJ6_startsWith_2_4
def dkwJ6_startsWith_2_2 : List UInt8 := [182, 1, 79, 160, 0, 32, 21, 7, 4, 160, 0, 7, 28, 4, 120, 61, 45, 28, 25, 4, 3, 21, 6]
abbrev dktJ6_startsWith_2_2 : List UInt8 := dkwJ6_startsWith_2_2 ++ dktJ6_startsWith_2_3
def dkwJ6_startsWith_2_1 : List UInt8 := [43, 180, 0, 9, 58, 4, 3, 54, 5, 25, 4, 190, 54, 6, 42, 182, 1, 79, 54, 7, 21, 7, 43]
abbrev dktJ6_startsWith_2_1 : List UInt8 := dkwJ6_startsWith_2_1 ++ dktJ6_startsWith_2_2
def dkwJ6_startsWith_2_0 : List UInt8 := [28, 155, 0, 16, 28, 42, 182, 1, 249, 43, 182, 1, 249, 100, 164, 0, 5, 3, 172, 42, 180, 0, 9, 78]
abbrev dktJ6_startsWith_2_0 : List UInt8 := dkwJ6_startsWith_2_0 ++ dktJ6_startsWith_2_1
theorem dksJ6_startsWith_2_0 : cJ6_startsWith_2.data.toList.drop 0 = dktJ6_startsWith_2_0 := by decide +kernel
theorem dksJ6_startsWith_2_1 : cJ6_startsWith_2.data.toList.drop 24 = dktJ6_startsWith_2_1 := dk_seg dksJ6_startsWith_2_0 24 rfl rfl
theorem dksJ6_startsWith_2_2 : cJ6_startsWith_2.data.toList.drop 47 = dktJ6_startsWith_2_2 := dk_seg dksJ6_startsWith_2_1 23 rfl rfl
theorem dksJ6_startsWith_2_3 : cJ6_startsWith_2.data.toList.drop 70 = dktJ6_startsWith_2_3 := dk_seg dksJ6_startsWith_2_2 23 rfl rfl
theorem dksJ6_startsWith_2_4 : cJ6_startsWith_2.data.toList.drop 93 = dktJ6_startsWith_2_4 := dk_seg dksJ6_startsWith_2_3 23 rfl rfl
theorem dksJ6_startsWith_2_5 : cJ6_startsWith_2.data.toList.drop 116 = dktJ6_startsWith_2_5 := dk_seg dksJ6_startsWith_2_4 23 rfl rfl
theorem dJ6_startsWith_2_0 : decode cJ6_startsWith_2 0 = .ok (.iload_n 2, 1) := dk_28 (dk_at dksJ6_startsWith_2_0 0 rfl rfl)
theorem dJ6_startsWith_2_1 : decode cJ6_startsWith_2 1 = .ok (.ifCond .lt 16, 3) := dk_155 0 16 (dk_at dksJ6_startsWith_2_0 1 rfl rfl)
theorem dJ6_startsWith_2_4 : decode cJ6_startsWith_2 4 = .ok (.iload_n 2, 1) := dk_28 (dk_at dksJ6_startsWith_2_0 4 rfl rfl)
theorem dJ6_startsWith_2_5 : decode cJ6_startsWith_2 5 = .ok (.aload_n 0, 1) := dk_42 (dk_at dksJ6_startsWith_2_0 5 rfl rfl)
theorem dJ6_startsWith_2_6 : decode cJ6_startsWith_2 6 = .ok (.invokevirtual 505, 3) := dk_182 1 249 (dk_at dksJ6_startsWith_2_0 6 rfl rfl)
theorem dJ6_startsWith_2_9 : decode cJ6_startsWith_2 9 = .ok (.aload_n 1, 1) := dk_43 (dk_at dksJ6_startsWith_2_0 9 rfl rfl)
theorem dJ6_startsWith_2_10 : decode cJ6_startsWith_2 10 = .ok (.invokevirtual 505, 3) := dk_182 1 249 (dk_at dksJ6_startsWith_2_0 10 rfl rfl)
theorem dJ6_startsWith_2_13 : decode cJ6_startsWith_2 13 = .ok (.isub, 1) := dk_100 (dk_at dksJ6_startsWith_2_0 13 rfl rfl)
theorem dJ6_startsWith_2_14 : decode cJ6_startsWith_2 14 = .ok (.if_icmp .le 5, 3) := dk_164 0 5 (dk_at dksJ6_startsWith_2_0 14 rfl rfl)
theorem dJ6_startsWith_2_17 : decode cJ6_startsWith_2 17 = .ok (.iconst 0, 1) := dk_3 (dk_at dksJ6_startsWith_2_0 17 rfl rfl)
theorem dJ6_startsWith_2_18 : decode cJ6_startsWith_2 18 = .ok (.ireturn, 1) := dk_172 (dk_at dksJ6_startsWith_2_0 18 rfl rfl)
theorem dJ6_startsWith_2_19 : decode cJ6_startsWith_2 19 = .ok (.aload_n 0, 1) := dk_42 (dk_at dksJ6_startsWith_2_0 19 rfl rfl)
theorem dJ6_startsWith_2_20 : decode cJ6_startsWith_2 20 = .ok (.getfield 9, 3) := dk_180 0 9 (dk_at dksJ6_startsWith_2_0 20 rfl rfl)
theorem dJ6_startsWith_2_23 : decode cJ6_startsWith_2 23 = .ok (.astore_n 3, 1) := dk_78 (dk_at dksJ6_startsWith_2_0 23 rfl rfl)
theorem dJ6_startsWith_2_24 : decode cJ6_startsWith_2 24 = .ok (.aload_n 1, 1) := dk_43 (dk_at dksJ6_startsWith_2_1 0 rfl rfl)
theorem dJ6_startsWith_2_25 : decode cJ6_startsWith_2 25 = .ok (.getfield 9, 3) := dk_180 0 9 (dk_at dksJ6_startsWith_2_1 1 rfl rfl)
theorem dJ6_startsWith_2_28 : decode cJ6_startsWith_2 28 = .ok (.astore 4, 2) := dk_58 4 (dk_at dksJ6_startsWith_2_1 4 rfl rfl)
theorem dJ6_startsWith_2_30 : decode cJ6_startsWith_2 30 = .ok (.iconst 0, 1) := dk_3 (dk_at dksJ6_startsWith_2_1 6 rfl rfl)
theorem dJ6_startsWith_2_31 : decode cJ6_startsWith_2 31 = .ok (.istore 5, 2) := dk_54 5 (dk_at dksJ6_startsWith_2_1 7 rfl rfl)
theorem dJ6_startsWith_2_33 : decode cJ6_startsWith_2 33 = .ok (.aload 4, 2) := dk_25 4 (dk_at dksJ6_startsWith_2_1 9 rfl rfl)
theorem dJ6_startsWith_2_35 : decode cJ6_startsWith_2 35 = .ok (.arraylength, 1) := dk_190 (dk_at dksJ6_startsWith_2_1 11 rfl rfl)
theorem dJ6_startsWith_2_36 : decode cJ6_startsWith_2 36 = .ok (.istore 6, 2) := dk_54 6 (dk_at dksJ6_startsWith_2_1 12 rfl rfl)
theorem dJ6_startsWith_2_38 : decode cJ6_startsWith_2 38 = .ok (.aload_n 0, 1) := dk_42 (dk_at dksJ6_startsWith_2_1 14 rfl rfl)
theorem dJ6_startsWith_2_39 : decode cJ6_startsWith_2 39 = .ok (.invokevirtual 335, 3) := dk_182 1 79 (dk_at dksJ6_startsWith_2_1 15 rfl rfl)
theorem dJ6_startsWith_2_42 : decode cJ6_startsWith_2 42 = .ok (.istore 7, 2) := dk_54 7 (dk_at dksJ6_startsWith_2_1 18 rfl rfl)
theorem dJ6_startsWith_2_44 : decode cJ6_startsWith_2 44 = .ok (.iload 7, 2) := dk_21 7 (dk_at dksJ6_startsWith_2_1 20 rfl rfl)
theorem dJ6_startsWith_2_46 : decode cJ6_startsWith_2 46 = .ok (.aload_n 1, 1) := dk_43 (dk_at dksJ6_startsWith_2_1 22 rfl rfl)
theorem dJ6_startsWith_2_47 : decode cJ6_startsWith_2 47 = .ok (.invokevirtual 335, 3) := dk_182 1 79 (dk_at dksJ6_startsWith_2_2 0 rfl rfl)
theorem dJ6_startsWith_2_50 : decode cJ6_startsWith_2 50 = .ok (.if_icmp .ne 32, 3) := dk_160 0 32 (dk_at dksJ6_startsWith_2_2 3 rfl rfl)
theorem dJ6_startsWith_2_53 : decode cJ6_startsWith_2 53 = .ok (.iload 7, 2) := dk_21 7 (dk_at dksJ6_startsWith_2_2 6 rfl rfl)
theorem dJ6_startsWith_2_55 : decode cJ6_startsWith_2 55 = .ok (.iconst 1, 1) := dk_4 (dk_at dksJ6_startsWith_2_2 8 rfl rfl)
theorem dJ6_startsWith_2_56 : decode cJ6_startsWith_2 56 = .ok (.if_icmp .ne 7, 3) := dk_160 0 7 (dk_at dksJ6_startsWith_2_2 9 rfl rfl)
theorem dJ6_startsWith_2_59 : decode cJ6_startsWith_2 59 = .ok (.iload_n 2, 1) := dk_28 (dk_at dksJ6_startsWith_2_2 12 rfl rfl)
theorem dJ6_startsWith_2_60 : decode cJ6_startsWith_2 60 = .ok (.iconst 1, 1) := dk_4 (dk_at dksJ6_startsWith_2_2 13 rfl rfl)
theorem dJ6_startsWith_2_61 : decode cJ6_startsWith_2 61 = .ok (.ishl, 1) := dk_120 (dk_at dksJ6_startsWith_2_2 14 rfl rfl)
theorem dJ6_startsWith_2_62 : decode cJ6_startsWith_2 62 = .ok (.istore_n 2, 1) := dk_61 (dk_at dksJ6_startsWith_2_2 15 rfl rfl)
theorem dJ6_startsWith_2_63 : decode cJ6_startsWith_2 63 = .ok (.aload_n 3, 1) := dk_45 (dk_at dksJ6_startsWith_2_2 16 rfl rfl)
theorem dJ6_startsWith_2_64 : decode cJ6_startsWith_2 64 = .ok (.iload_n 2, 1) := dk_28 (dk_at dksJ6_startsWith_2_2 17 rfl rfl)
theorem dJ6_startsWith_2_65 : decode cJ6_startsWith_2 65 = .ok (.aload 4, 2) := dk_25 4 (dk_at dksJ6_startsWith_2_2 18 rfl rfl)
theorem dJ6_startsWith_2_67 : decode cJ6_startsWith_2 67 = .ok (.iconst 0, 1) := dk_3 (dk_at dksJ6_startsWith_2_2 20 rfl rfl)
theorem dJ6_startsWith_2_68 : decode cJ6_startsWith_2 68 = .ok (.iload 6, 2) := dk_21 6 (dk_at dksJ6_startsWith_2_2 21 rfl rfl)
theorem dJ6_startsWith_2_70 : decode cJ6_startsWith_2 70 = .ok (.invokestatic 607, 3) := dk_184 2 95 (dk_at dksJ6_startsWith_2_3 0 rfl rfl)
theorem dJ6_startsWith_2_73 : decode cJ6_startsWith_2 73 = .ok (.ifCond .ge 7, 3) := dk_156 0 7 (dk_at dksJ6_startsWith_2_3 3 rfl rfl)
theorem dJ6_startsWith_2_76 : decode cJ6_startsWith_2 76 = .ok (.iconst 1, 1) := dk_4 (dk_at dksJ6_startsWith_2_3 6 rfl rfl)
theorem dJ6_startsWith_2_77 : decode cJ6_startsWith_2 77 = .ok (.goto 4, 3) := dk_167 0 4 (dk_at dksJ6_startsWith_2_3 7 rfl rfl)
theorem dJ6_startsWith_2_80 : decode cJ6_startsWith_2 80 = .ok (.iconst 0, 1) := dk_3 (dk_at dksJ6_startsWith_2_3 10 rfl rfl)
theorem dJ6_startsWith_2_81 : decode cJ6_startsWith_2 81 = .ok (.ireturn, 1) := dk_172 (dk_at dksJ6_startsWith_2_3 11 rfl rfl)
theorem dJ6_startsWith_2_82 : decode cJ6_startsWith_2 82 = .ok (.iload 7, 2) := dk_21 7 (dk_at dksJ6_startsWith_2_3 12 rfl rfl)
theorem dJ6_startsWith_2_84 : decode cJ6_startsWith_2 84 = .ok (.ifCond .ne 5, 3) := dk_154 0 5 (dk_at dksJ6_startsWith_2_3 14 rfl rfl)
theorem dJ6_startsWith_2_87 : decode cJ6_startsWith_2 87 = .ok (.iconst 0, 1) := dk_3 (dk_at dksJ6_startsWith_2_3 17 rfl rfl)
theorem dJ6_startsWith_2_88 : decode cJ6_startsWith_2 88 = .ok (.ireturn, 1) := dk_172 (dk_at dksJ6_startsWith_2_3 18 rfl rfl)
theorem dJ6_startsWith_2_89 : decode cJ6_startsWith_2 89 = .ok (.iload 5, 2) := dk_21 5 (dk_at dksJ6_startsWith_2_3 19 rfl rfl)
theorem dJ6_startsWith_2_91 : decode cJ6_startsWith_2 91 = .ok (.iload 6, 2) := dk_21 6 (dk_at dksJ6_startsWith_2_3 21 rfl rfl)
theorem dJ6_startsWith_2_93 : decode cJ6_startsWith_2 93 = .ok (.if_icmp .ge 28, 3) := dk_162 0 28 (dk_at dksJ6_startsWith_2_4 0 rfl rfl)
theorem dJ6_startsWith_2_96 : decode cJ6_startsWith_2 96 = .ok (.aload_n 3, 1) := dk_45 (dk_at dksJ6_startsWith_2_4 3 rfl rfl)
theorem dJ6_startsWith_2_97 : decode cJ6_startsWith_2 97 = .ok (.iload_n 2, 1) := dk_28 (dk_at dksJ6_startsWith_2_4 4 rfl rfl)
theorem dJ6_startsWith_2_98 : decode cJ6_startsWith_2 98 = .ok (.iinc 2 1, 3) := dk_132 2 1 (dk_at dksJ6_startsWith_2_4 5 rfl rfl)
theorem dJ6_startsWith_2_101 : decode cJ6_startsWith_2 101 = .ok (.invokestatic 360, 3) := dk_184 1 104 (dk_at dksJ6_startsWith_2_4 8 rfl rfl)
theorem dJ6_startsWith_2_104 : decode cJ6_startsWith_2 104 = .ok (.aload 4, 2) := dk_25 4 (dk_at dksJ6_startsWith_2_4 11 rfl rfl)
theorem dJ6_startsWith_2_106 : decode cJ6_startsWith_2 106 = .ok (.iload 5, 2) := dk_21 5 (dk_at dksJ6_startsWith_2_4 13 rfl rfl)
theorem dJ6_startsWith_2_108 : decode cJ6_startsWith_2 108 = .ok (.iinc 5 1, 3) := dk_132 5 1 (dk_at dksJ6_startsWith_2_4 15 rfl rfl)
theorem dJ6_startsWith_2_111 : decode cJ6_startsWith_2 111 = .ok (.baload, 1) := dk_51 (dk_at dksJ6_startsWith_2_4 18 rfl rfl)
theorem dJ6_startsWith_2_112 : decode cJ6_startsWith_2 112 = .ok (.sipush 255, 3) := dk_17 0 255 (dk_at dksJ6_startsWith_2_4 19 rfl rfl)
theorem dJ6_startsWith_2_115 : decode cJ6_startsWith_2 115 = .ok (.iand, 1) := dk_126 (dk_at dksJ6_startsWith_2_4 22 rfl rfl)
theorem dJ6_startsWith_2_116 : decode cJ6_startsWith_2 116 = .ok (.if_icmp .eq (-27), 3) := dk_159 255 229 (dk_at dksJ6_startsWith_2_5 0 rfl rfl)
theorem dJ6_startsWith_2_119 : decode cJ6_startsWith_2 119 = .ok (.iconst 0, 1) := dk_3 (dk_at dksJ6_startsWith_2_5 3 rfl rfl)
theorem dJ6_startsWith_2_120 : decode cJ6_startsWith_2 120 = .ok (.ireturn, 1) := dk_172 (dk_at dksJ6_startsWith_2_5 4 rfl rfl)
theorem dJ6_startsWith_2_121 : decode cJ6_startsWith_2 121 = .ok (.iconst 1, 1) := dk_4 (dk_at dksJ6_startsWith_2_5 5 rfl rfl)
theorem dJ6_startsWith_2_122 : decode cJ6_startsWith_2 122 = .ok (.ireturn, 1) := dk_172 (dk_at dksJ6_startsWith_2_5 6 rfl rfl)
def dkwJ6_charAt_1 : List UInt8 := [172]
abbrev dktJ6_charAt_1 : List UInt8 := dkwJ6_charAt_1 ++ []
def dkwJ6_charAt_0 : List UInt8 := [42, 182, 1, 236, 153, 0, 12, 42, 180, 0, 9, 27, 184, 1, 239, 172, 42, 180, 0, 9, 27, 184, 1, 242]
abbrev dktJ6_charAt_0 : List UInt8 := dkwJ6_charAt_0 ++ dktJ6_charAt_1
theorem dksJ6_charAt_0 : cJ6_charAt.data.toList.drop 0 = dktJ6_charAt_0 := by decide +kernel
theorem dksJ6_charAt_1 : cJ6_charAt.data.toList.drop 24 = dktJ6_charAt_1 := dk_seg dksJ6_charAt_0 24 rfl rfl
theorem dJ6_charAt_0 : decode cJ6_charAt 0 = .ok (.aload_n 0, 1) := dk_42 (dk_at dksJ6_charAt_0 0 rfl rfl)
theorem dJ6_charAt_1 : decode cJ6_charAt 1 = .ok (.invokevirtual 492, 3) := dk_182 1 236 (dk_at dksJ6_charAt_0 1 rfl rfl)
theorem dJ6_charAt_4 : decode cJ6_charAt 4 = .ok (.ifCond .eq 12, 3) := dk_153 0 12 (dk_at dksJ6_charAt_0 4 rfl rfl)
theorem dJ6_charAt_7 : decode cJ6_charAt 7 = .ok (.aload_n 0, 1) := dk_42 (dk_at dksJ6_charAt_0 7 rfl rfl)
theorem dJ6_charAt_8 : decode cJ6_charAt 8 = .ok (.getfield 9, 3) := dk_180 0 9 (dk_at dksJ6_charAt_0 8 rfl rfl)
theorem dJ6_charAt_11 : decode cJ6_charAt 11 = .ok (.iload_n 1, 1) := dk_27 (dk_at dksJ6_charAt_0 11 rfl rfl)
theorem dJ6_charAt_12 : decode cJ6_charAt 12 = .ok (.invokestatic 495, 3) := dk_184 1 239 (dk_at dksJ6_charAt_0 12 rfl rfl)
theorem dJ6_charAt_15 : decode cJ6_charAt 15 = .ok (.ireturn, 1) := dk_172 (dk_at dksJ6_charAt_0 15 rfl rfl)
theorem dJ6_charAt_16 : decode cJ6_charAt 16 = .ok (.aload_n 0, 1) := dk_42 (dk_at dksJ6_charAt_0 16 rfl rfl)
theorem dJ6_charAt_17 : decode cJ6_charAt 17 = .ok (.getfield 9, 3) := dk_180 0 9 (dk_at dksJ6_charAt_0 17 rfl rfl)
theorem dJ6_charAt_20 : decode cJ6_charAt 20 = .ok (.iload_n 1, 1) := dk_27 (dk_at dksJ6_charAt_0 20 rfl rfl)
theorem dJ6_charAt_21 : decode cJ6_charAt 21 = .ok (.invokestatic 498, 3) := dk_184 1 242 (dk_at dksJ6_charAt_0 21 rfl rfl)
theorem dJ6_charAt_24 : decode cJ6_charAt 24 = .ok (.ireturn, 1) := dk_172 (dk_at dksJ6_charAt_1 0 rfl rfl)
def dkwJ6_hashCode_2 : List UInt8 := [181, 0, 23, 167, 0, 8, 42, 27, 181, 0, 19, 27, 172]
abbrev dktJ6_hashCode_2 : List UInt8 := dkwJ6_hashCode_2 ++ []
def dkwJ6_hashCode_1 : List UInt8 := [180, 0, 9, 184, 2, 116, 167, 0, 10, 42, 180, 0, 9, 184, 2, 120, 60, 27, 154, 0, 11, 42, 4]
abbrev dktJ6_hashCode_1 : List UInt8 := dkwJ6_hashCode_1 ++ dktJ6_hashCode_2
def dkwJ6_hashCode_0 : List UInt8 := [42, 180, 0, 19, 60, 27, 154, 0, 52, 42, 180, 0, 23, 154, 0, 45, 42, 182, 1, 236, 153, 0, 13, 42]
abbrev dktJ6_hashCode_0 : List UInt8 := dkwJ6_hashCode_0 ++ dktJ6_hashCode_1
theorem dksJ6_hashCode_0 : cJ6_hashCode.data.toList.drop 0 = dktJ6_hashCode_0 := by decide +kernel
theorem dksJ6_hashCode_1 : cJ6_hashCode.data.toList.drop 24 = dktJ6_hashCode_1 := dk_seg dksJ6_hashCode_0 24 rfl rfl
theorem dksJ6_hashCode_2 : cJ6_hashCode.data.toList.drop 47 = dktJ6_hashCode_2 := dk_seg dksJ6_hashCode_1 23 rfl rfl
theorem dJ6_hashCode_0 : decode cJ6_hashCode 0 = .ok (.aload_n 0, 1) := dk_42 (dk_at dksJ6_hashCode_0 0 rfl rfl)
theorem dJ6_hashCode_1 : decode cJ6_hashCode 1 = .ok (.getfield 19, 3) := dk_180 0 19 (dk_at dksJ6_hashCode_0 1 rfl rfl)
theorem dJ6_hashCode_4 : decode cJ6_hashCode 4 = .ok (.istore_n 1, 1) := dk_60 (dk_at dksJ6_hashCode_0 4 rfl rfl)
theorem dJ6_hashCode_5 : decode cJ6_hashCode 5 = .ok (.iload_n 1, 1) := dk_27 (dk_at dksJ6_hashCode_0 5 rfl rfl)
theorem dJ6_hashCode_6 : decode cJ6_hashCode 6 = .ok (.ifCond .ne 52, 3) := dk_154 0 52 (dk_at dksJ6_hashCode_0 6 rfl rfl)
theorem dJ6_hashCode_9 : decode cJ6_hashCode 9 = .ok (.aload_n 0, 1) := dk_42 (dk_at dksJ6_hashCode_0 9 rfl rfl)
theorem dJ6_hashCode_10 : decode cJ6_hashCode 10 = .ok (.getfield 23, 3) := dk_180 0 23 (dk_at dksJ6_hashCode_0 10 rfl rfl)
theorem dJ6_hashCode_13 : decode cJ6_hashCode 13 = .ok (.ifCond .ne 45, 3) := dk_154 0 45 (dk_at dksJ6_hashCode_0 13 rfl rfl)
theorem dJ6_hashCode_16 : decode cJ6_hashCode 16 = .ok (.aload_n 0, 1) := dk_42 (dk_at dksJ6_hashCode_0 16 rfl rfl)
theorem dJ6_hashCode_17 : decode cJ6_hashCode 17 = .ok (.invokevirtual 492, 3) := dk_182 1 236 (dk_at dksJ6_hashCode_0 17 rfl rfl)
theorem dJ6_hashCode_20 : decode cJ6_hashCode 20 = .ok (.ifCond .eq 13, 3) := dk_153 0 13 (dk_at dksJ6_hashCode_0 20 rfl rfl)
theorem dJ6_hashCode_23 : decode cJ6_hashCode 23 = .ok (.aload_n 0, 1) := dk_42 (dk_at dksJ6_hashCode_0 23 rfl rfl)
theorem dJ6_hashCode_24 : decode cJ6_hashCode 24 = .ok (.getfield 9, 3) := dk_180 0 9 (dk_at dksJ6_hashCode_1 0 rfl rfl)
theorem dJ6_hashCode_27 : decode cJ6_hashCode 27 = .ok (.invokestatic 628, 3) := dk_184 2 116 (dk_at dksJ6_hashCode_1 3 rfl rfl)
theorem dJ6_hashCode_30 : decode cJ6_hashCode 30 = .ok (.goto 10, 3) := dk_167 0 10 (dk_at dksJ6_hashCode_1 6 rfl rfl)
theorem dJ6_hashCode_33 : decode cJ6_hashCode 33 = .ok (.aload_n 0, 1) := dk_42 (dk_at dksJ6_hashCode_1 9 rfl rfl)
theorem dJ6_hashCode_34 : decode cJ6_hashCode 34 = .ok (.getfield 9, 3) := dk_180 0 9 (dk_at dksJ6_hashCode_1 10 rfl rfl)
theorem dJ6_hashCode_37 : decode cJ6_hashCode 37 = .ok (.invokestatic 632, 3) := dk_184 2 120 (dk_at dksJ6_hashCode_1 13 rfl rfl)
theorem dJ6_hashCode_40 : decode cJ6_hashCode 40 = .ok (.istore_n 1, 1) := dk_60 (dk_at dksJ6_hashCode_1 16 rfl rfl)
theorem dJ6_hashCode_41 : decode cJ6_hashCode 41 = .ok (.iload_n 1, 1) := dk_27 (dk_at dksJ6_hashCode_1 17 rfl rfl)
theorem dJ6_hashCode_42 : decode cJ6_hashCode 42 = .ok (.ifCond .ne 11, 3) := dk_154 0 11 (dk_at dksJ6_hashCode_1 18 rfl rfl)
theorem dJ6_hashCode_45 : decode cJ6_hashCode 45 = .ok (.aload_n 0, 1) := dk_42 (dk_at dksJ6_hashCode_1 21 rfl rfl)
theorem dJ6_hashCode_46 : decode cJ6_hashCode 46 = .ok (.iconst 1, 1) := dk_4 (dk_at dksJ6_hashCode_1 22 rfl rfl)
theorem dJ6_hashCode_47 : decode cJ6_hashCode 47 = .ok (.putfield 23, 3) := dk_181 0 23 (dk_at dksJ6_hashCode_2 0 rfl rfl)
theorem dJ6_hashCode_50 : decode cJ6_hashCode 50 = .ok (.goto 8, 3) := dk_167 0 8 (dk_at dksJ6_hashCode_2 3 rfl rfl)
theorem dJ6_hashCode_53 : decode cJ6_hashCode 53 = .ok (.aload_n 0, 1) := dk_42 (dk_at dksJ6_hashCode_2 6 rfl rfl)
theorem dJ6_hashCode_54 : decode cJ6_hashCode 54 = .ok (.iload_n 1, 1) := dk_27 (dk_at dksJ6_hashCode_2 7 rfl rfl)
theorem dJ6_hashCode_55 : decode cJ6_hashCode 55 = .ok (.putfield 19, 3) := dk_181 0 19 (dk_at dksJ6_hashCode_2 8 rfl rfl)
theorem dJ6_hashCode_58 : decode cJ6_hashCode 58 = .ok (.iload_n 1, 1) := dk_27 (dk_at dksJ6_hashCode_2 11 rfl rfl)
theorem dJ6_hashCode_59 : decode cJ6_hashCode 59 = .ok (.ireturn, 1) := dk_172 (dk_at dksJ6_hashCode_2 12 rfl rfl)
def dkwJ6_indexOf_0 : List UInt8 := [42, 27, 3, 182, 2, 121, 172]
abbrev dktJ6_indexOf_0 : List UInt8 := dkwJ6_indexOf_0 ++ []
theorem dksJ6_indexOf_0 : cJ6_indexOf.data.toList.drop 0 = dktJ6_indexOf_0 := by decide +kernel
theorem dJ6_indexOf_0 : decode cJ6_indexOf 0 = .ok (.aload_n 0, 1) := dk_42 (dk_at dksJ6_indexOf_0 0 rfl rfl)
theorem dJ6_indexOf_1 : decode cJ6_indexOf 1 = .ok (.iload_n 1, 1) := dk_27 (dk_at dksJ6_indexOf_0 1 rfl rfl)
theorem dJ6_indexOf_2 : decode cJ6_indexOf 2 = .ok (.iconst 0, 1) := dk_3 (dk_at dksJ6_indexOf_0 2 rfl rfl)
theorem dJ6_indexOf_3 : decode cJ6_indexOf 3 = .ok (.invokevirtual 633, 3) := dk_182 2 121 (dk_at dksJ6_indexOf_0 3 rfl rfl)
theorem dJ6_indexOf_6 : decode cJ6_indexOf 6 = .ok (.ireturn, 1) := dk_172 (dk_at dksJ6_indexOf_0 6 rfl rfl)
def dkwJ6_indexOf_2_1 : List UInt8 := [180, 0, 9, 27, 28, 42, 182, 1, 249, 184, 2, 128, 172]
abbrev dktJ6_indexOf_2_1 : List UInt8 := dkwJ6_indexOf_2_1 ++ []
def dkwJ6_indexOf_2_0 : List UInt8 := [42, 182, 1, 236, 153, 0, 19, 42, 180, 0, 9, 27, 28, 42, 182, 1, 249, 184, 2, 125, 167, 0, 16, 42]
abbrev dktJ6_indexOf_2_0 : List UInt8 := dkwJ6_indexOf_2_0 ++ dktJ6_indexOf_2_1
theorem dksJ6_indexOf_2_0 : cJ6_indexOf_2.data.toList.drop 0 = dktJ6_indexOf_2_0 := by decide +kernel
theorem dksJ6_indexOf_2_1 : cJ6_indexOf_2.data.toList.drop 24 = dktJ6_indexOf_2_1 := dk_seg dksJ6_indexOf_2_0 24 rfl rfl
theorem dJ6_indexOf_2_0 : decode cJ6_indexOf_2 0 = .ok (.aload_n 0, 1) := dk_42 (dk_at dksJ6_indexOf_2_0 0 rfl rfl)
theorem dJ6_indexOf_2_1 : decode cJ6_indexOf_2 1 = .ok (.invokevirtual 492, 3) := dk_182 1 236 (dk_at dksJ6_indexOf_2_0 1 rfl rfl)
theorem dJ6_indexOf_2_4 : decode cJ6_indexOf_2 4 = .ok (.ifCond .eq 19, 3) := dk_153 0 19 (dk_at dksJ6_indexOf_2_0 4 rfl rfl)
theorem dJ6_indexOf_2_7 : decode cJ6_indexOf_2 7 = .ok (.aload_n 0, 1) := dk_42 (dk_at dksJ6_indexOf_2_0 7 rfl rfl)
theorem dJ6_indexOf_2_8 : decode cJ6_indexOf_2 8 = .ok (.getfield 9, 3) := dk_180 0 9 (dk_at dksJ6_indexOf_2_0 8 rfl rfl)
theorem dJ6_indexOf_2_11 : decode cJ6_indexOf_2 11 = .ok (.iload_n 1, 1) := dk_27 (dk_at dksJ6_indexOf_2_0 11 rfl rfl)
theorem dJ6_indexOf_2_12 : decode cJ6_indexOf_2 12 = .ok (.iload_n 2, 1) := dk_28 (dk_at dksJ6_indexOf_2_0 12 rfl rfl)
theorem dJ6_indexOf_2_13 : decode cJ6_indexOf_2 13 = .ok (.aload_n 0, 1) := dk_42 (dk_at dksJ6_indexOf_2_0 13 rfl rfl)
theorem dJ6_indexOf_2_14 : decode cJ6_indexOf_2 14 = .ok (.invokevirtual 505, 3) := dk_182 1 249 (dk_at dksJ6_indexOf_2_0 14 rfl rfl)
theorem dJ6_indexOf_2_17 : decode cJ6_indexOf_2 17 = .ok (.invokestatic 637, 3) := dk_184 2 125 (dk_at dksJ6_indexOf_2_0 17 rfl rfl)
theorem dJ6_indexOf_2_20 : decode cJ6_indexOf_2 20 = .ok (.goto 16, 3) := dk_167 0 16 (dk_at dksJ6_indexOf_2_0 20 rfl rfl)
theorem dJ6_indexOf_2_23 : decode cJ6_indexOf_2 23 = .ok (.aload_n 0, 1) := dk_42 (dk_at dksJ6_indexOf_2_0 23 rfl rfl)
theorem dJ6_indexOf_2_24 : decode cJ6_indexOf_2 24 = .ok (.getfield 9, 3) := dk_180 0 9 (dk_at dksJ6_indexOf_2_1 0 rfl rfl)
theorem dJ6_indexOf_2_27 : decode cJ6_indexOf_2 27 = .ok (.iload_n 1, 1) := dk_27 (dk_at dksJ6_indexOf_2_1 3 rfl rfl)
theorem dJ6_indexOf_2_28 : decode cJ6_indexOf_2 28 = .ok (.iload_n 2, 1) := dk_28 (dk_at dksJ6_indexOf_2_1 4 rfl rfl)
theorem dJ6_indexOf_2_29 : decode cJ6_indexOf_2 29 = .ok (.aload_n 0, 1) := dk_42 (dk_at dksJ6_indexOf_2_1 5 rfl rfl)
theorem dJ6_indexOf_2_30 : decode cJ6_indexOf_2 30 = .ok (.invokevirtual 505, 3) := dk_182 1 249 (dk_at dksJ6_indexOf_2_1 6 rfl rfl)
theorem dJ6_indexOf_2_33 : decode cJ6_indexOf_2 33 = .ok (.invokestatic 640, 3) := dk_184 2 128 (dk_at dksJ6_indexOf_2_1 9 rfl rfl)
theorem dJ6_indexOf_2_36 : decode cJ6_indexOf_2 36 = .ok (.ireturn, 1) := dk_172 (dk_at dksJ6_indexOf_2_1 12 rfl rfl)
def dkwJ16_newLength_1 : List UInt8 := [184, 0, 201, 172]
abbrev dktJ16_newLength_1 : List UInt8 := dkwJ16_newLength_1 ++ []
def dkwJ16_newLength_0 : List UInt8 := [26, 27, 28, 184, 0, 194, 96, 62, 3, 29, 162, 0, 11, 29, 18, 200, 163, 0, 5, 29, 172, 26, 27]
abbrev dktJ16_newLength_0 : List UInt8 := dkwJ16_newLength_0 ++ dktJ16_newLength_1
theorem dksJ16_newLength_0 : cJ16_newLength.data.toList.drop 0 = dktJ16_newLength_0 := by decide +kernel
theorem dksJ16_newLength_1 : cJ16_newLength.data.toList.drop 23 = dktJ16_newLength_1 := dk_seg dksJ16_newLength_0 23 rfl rfl
theorem dJ16_newLength_0 : decode cJ16_newLength 0 = .ok (.iload_n 0, 1) := dk_26 (dk_at dksJ16_newLength_0 0 rfl rfl)
theorem dJ16_newLength_1 : decode cJ16_newLength 1 = .ok (.iload_n 1, 1) := dk_27 (dk_at dksJ16_newLength_0 1 rfl rfl)
theorem dJ16_newLength_2 : decode cJ16_newLength 2 = .ok (.iload_n 2, 1) := dk_28 (dk_at dksJ16_newLength_0 2 rfl rfl)
theorem dJ16_newLength_3 : decode cJ16_newLength 3 = .ok (.invokestatic 194, 3) := dk_184 0 194 (dk_at dksJ16_newLength_0 3 rfl rfl)
theorem dJ16_newLength_6 : decode cJ16_newLength 6 = .ok (.iadd, 1) := dk_96 (dk_at dksJ16_newLength_0 6 rfl rfl)
theorem dJ16_newLength_7 : decode cJ16_newLength 7 = .ok (.istore_n 3, 1) := dk_62 (dk_at dksJ16_newLength_0 7 rfl rfl)
theorem dJ16_newLength_8 : decode cJ16_newLength 8 = .ok (.iconst 0, 1) := dk_3 (dk_at dksJ16_newLength_0 8 rfl rfl)
theorem dJ16_newLength_9 : decode cJ16_newLength 9 = .ok (.iload_n 3, 1) := dk_29 (dk_at dksJ16_newLength_0 9 rfl rfl)
theorem dJ16_newLength_10 : decode cJ16_newLength 10 = .ok (.if_icmp .ge 11, 3) := dk_162 0 11 (dk_at dksJ16_newLength_0 10 rfl rfl)
theorem dJ16_newLength_13 : decode cJ16_newLength 13 = .ok (.iload_n 3, 1) := dk_29 (dk_at dksJ16_newLength_0 13 rfl rfl)
theorem dJ16_newLength_14 : decode cJ16_newLength 14 = .ok (.ldc 200, 2) := dk_18 200 (dk_at dksJ16_newLength_0 14 rfl rfl)
theorem dJ16_newLength_16 : decode cJ16_newLength 16 = .ok (.if_icmp .gt 5, 3) := dk_163 0 5 (dk_at dksJ16_newLength_0 16 rfl rfl)
theorem dJ16_newLength_19 : decode cJ16_newLength 19 = .ok (.iload_n 3, 1) := dk_29 (dk_at dksJ16_newLength_0 19 rfl rfl)
theorem dJ16_newLength_20 : decode cJ16_newLength 20 = .ok (.ireturn, 1) := dk_172 (dk_at dksJ16_newLength_0 20 rfl rfl)
theorem dJ16_newLength_21 : decode cJ16_newLength 21 = .ok (.iload_n 0, 1) := dk_26 (dk_at dksJ16_newLength_0 21 rfl rfl)
theorem dJ16_newLength_22 : decode cJ16_newLength 22 = .ok (.iload_n 1, 1) := dk_27 (dk_at dksJ16_newLength_0 22 rfl rfl)
theorem dJ16_newLength_23 : decode cJ16_newLength 23 = .ok (.invokestatic 201, 3) := dk_184 0 201 (dk_at dksJ16_newLength_1 0 rfl rfl)
theorem dJ16_newLength_26 : decode cJ16_newLength 26 = .ok (.ireturn, 1) := dk_172 (dk_at dksJ16_newLength_1 3 rfl rfl)
def dkwJ16_hugeLength_2 : List UInt8 := [191, 28, 18, 200, 163, 0, 6, 18, 200, 172, 28, 172]
abbrev dktJ16_hugeLength_2 : List UInt8 := dkwJ16_hugeLength_2 ++ []
def dkwJ16_hugeLength_1 : List UInt8 := [26, 182, 0, 98, 18, 208, 182, 0, 94, 27, 182, 0, 98, 18, 210, 182, 0, 94, 182, 0, 101, 183, 0, 212]
abbrev dktJ16_hugeLength_1 : List UInt8 := dkwJ16_hugeLength_1 ++ dktJ16_hugeLength_2
def dkwJ16_hugeLength_0 : List UInt8 := [26, 27, 96, 61, 28, 156, 0, 44, 187, 0, 204, 89, 187, 0, 89, 89, 183, 0, 91, 18, 206, 182, 0, 94]
abbrev dktJ16_hugeLength_0 : List UInt8 := dkwJ16_hugeLength_0 ++ dktJ16_hugeLength_1
theorem dksJ16_hugeLength_0 : cJ16_hugeLength.data.toList.drop 0 = dktJ16_hugeLength_0 := by decide +kernel
theorem dksJ16_hugeLength_1 : cJ16_hugeLength.data.toList.drop 24 = dktJ16_hugeLength_1 := dk_seg dksJ16_hugeLength_0 24 rfl rfl
theorem dksJ16_hugeLength_2 : cJ16_hugeLength.data.toList.drop 48 = dktJ16_hugeLength_2 := dk_seg dksJ16_hugeLength_1 24 rfl rfl
theorem dJ16_hugeLength_0 : decode cJ16_hugeLength 0 = .ok (.iload_n 0, 1) := dk_26 (dk_at dksJ16_hugeLength_0 0 rfl rfl)
theorem dJ16_hugeLength_1 : decode cJ16_hugeLength 1 = .ok (.iload_n 1, 1) := dk_27 (dk_at dksJ16_hugeLength_0 1 rfl rfl)
theorem dJ16_hugeLength_2 : decode cJ16_hugeLength 2 = .ok (.iadd, 1) := dk_96 (dk_at dksJ16_hugeLength_0 2 rfl rfl)
theorem dJ16_hugeLength_3 : decode cJ16_hugeLength 3 = .ok (.istore_n 2, 1) := dk_61 (dk_at dksJ16_hugeLength_0 3 rfl rfl)
theorem dJ16_hugeLength_4 : decode cJ16_hugeLength 4 = .ok (.iload_n 2, 1) := dk_28 (dk_at dksJ16_hugeLength_0 4 rfl rfl)
theorem dJ16_hugeLength_5 : decode cJ16_hugeLength 5 = .ok (.ifCond .ge 44, 3) := dk_156 0 44 (dk_at dksJ16_hugeLength_0 5 rfl rfl)
theorem dJ16_hugeLength_8 : decode cJ16_hugeLength 8 = .ok (.new 204, 3) := dk_187 0 204 (dk_at dksJ16_hugeLength_0 8 rfl rfl)
theorem dJ16_hugeLength_11 : decode cJ16_hugeLength 11 = .ok (.dup, 1) := dk_89 (dk_at dksJ16_hugeLength_0 11 rfl rfl)
theorem dJ16_hugeLength_12 : decode cJ16_hugeLength 12 = .ok (.new 89, 3) := dk_187 0 89 (dk_at dksJ16_hugeLength_0 12 rfl rfl)
theorem dJ16_hugeLength_15 : decode cJ16_hugeLength 15 = .ok (.dup, 1) := dk_89 (dk_at dksJ16_hugeLength_0 15 rfl rfl)
theorem dJ16_hugeLength_16 : decode cJ16_hugeLength 16 = .ok (.invokespecial 91, 3) := dk_183 0 91 (dk_at dksJ16_hugeLength_0 16 rfl rfl)
theorem dJ16_hugeLength_19 : decode cJ16_hugeLength 19 = .ok (.ldc 206, 2) := dk_18 206 (dk_at dksJ16_hugeLength_0 19 rfl rfl)
theorem dJ16_hugeLength_21 : decode cJ16_hugeLength 21 = .ok (.invokevirtual 94, 3) := dk_182 0 94 (dk_at dksJ16_hugeLength_0 21 rfl rfl)
theorem dJ16_hugeLength_24 : decode cJ16_hugeLength 24 = .ok (.iload_n 0, 1) := dk_26 (dk_at dksJ16_hugeLength_1 0 rfl rfl)
theorem dJ16_hugeLength_25 : decode cJ16_hugeLength 25 = .ok (.invokevirtual 98, 3) := dk_182 0 98 (dk_at dksJ16_hugeLength_1 1 rfl rfl)
theorem dJ16_hugeLength_28 : decode cJ16_hugeLength 28 = .ok (.ldc 208, 2) := dk_18 208 (dk_at dksJ16_hugeLength_1 4 rfl rfl)
theorem dJ16_hugeLength_30 : decode cJ16_hugeLength 30 = .ok (.invokevirtual 94, 3) := dk_182 0 94 (dk_at dksJ16_hugeLength_1 6 rfl rfl)
theorem dJ16_hugeLength_33 : decode cJ16_hugeLength 33 = .ok (.iload_n 1, 1) := dk_27 (dk_at dksJ16_hugeLength_1 9 rfl rfl)
theorem dJ16_hugeLength_34 : decode cJ16_hugeLength 34 = .ok (.invokevirtual 98, 3) := dk_182 0 98 (dk_at dksJ16_hugeLength_1 10 rfl rfl)
theorem dJ16_hugeLength_37 : decode cJ16_hugeLength 37 = .ok (.ldc 210, 2) := dk_18 210 (dk_at dksJ16_hugeLength_1 13 rfl rfl)
theorem dJ16_hugeLength_39 : decode cJ16_hugeLength 39 = .ok (.invokevirtual 94, 3) := dk_182 0 94 (dk_at dksJ16_hugeLength_1 15 rfl rfl)
theorem dJ16_hugeLength_42 : decode cJ16_hugeLength 42 = .ok (.invokevirtual 101, 3) := dk_182 0 101 (dk_at dksJ16_hugeLength_1 18 rfl rfl)
theorem dJ16_hugeLength_45 : decode cJ16_hugeLength 45 = .ok (.invokespecial 212, 3) := dk_183 0 212 (dk_at dksJ16_hugeLength_1 21 rfl rfl)
theorem dJ16_hugeLength_48 : decode cJ16_hugeLength 48 = .ok (.athrow, 1) := dk_191 (dk_at dksJ16_hugeLength_2 0 rfl rfl)
theorem dJ16_hugeLength_49 : decode cJ16_hugeLength 49 = .ok (.iload_n 2, 1) := dk_28 (dk_at dksJ16_hugeLength_2 1 rfl rfl)
theorem dJ16_hugeLength_50 : decode cJ16_hugeLength 50 = .ok (.ldc 200, 2) := dk_18 200 (dk_at dksJ16_hugeLength_2 2 rfl rfl)
theorem dJ16_hugeLength_52 : decode cJ16_hugeLength 52 = .ok (.if_icmp .gt 6, 3) := dk_163 0 6 (dk_at dksJ16_hugeLength_2 4 rfl rfl)
theorem dJ16_hugeLength_55 : decode cJ16_hugeLength 55 = .ok (.ldc 200, 2) := dk_18 200 (dk_at dksJ16_hugeLength_2 7 rfl rfl)
theorem dJ16_hugeLength_57 : decode cJ16_hugeLength 57 = .ok (.ireturn, 1) := dk_172 (dk_at dksJ16_hugeLength_2 9 rfl rfl)
theorem dJ16_hugeLength_58 : decode cJ16_hugeLength 58 = .ok (.iload_n 2, 1) := dk_28 (dk_at dksJ16_hugeLength_2 10 rfl rfl)
theorem dJ16_hugeLength_59 : decode cJ16_hugeLength 59 = .ok (.ireturn, 1) := dk_172 (dk_at dksJ16_hugeLength_2 11 rfl rfl)
def dkwJ16_mismatch_4 : List UInt8 := [132, 5, 1, 167, 255, 228, 2, 172]
abbrev dktJ16_mismatch_4 : List UInt8 := dkwJ16_mismatch_4 ++ []
def dkwJ16_mismatch_3 : List UInt8 := [21, 4, 162, 0, 27, 42, 27, 21, 5, 96, 51, 44, 29, 21, 5, 96, 51, 159, 0, 6, 21, 5, 172]
abbrev dktJ16_mismatch_3 : List UInt8 := dkwJ16_mismatch_3 ++ dktJ16_mismatch_4
def dkwJ16_mismatch_2 : List UInt8 := [184, 0, 122, 54, 5, 21, 5, 155, 0, 6, 21, 5, 172, 21, 4, 21, 5, 2, 130, 100, 54, 5, 21, 5]
abbrev dktJ16_mismatch_2 : List UInt8 := dkwJ16_mismatch_2 ++ dktJ16_mismatch_3
def dkwJ16_mismatch_1 : List UInt8 := [27, 96, 54, 6, 178, 0, 126, 29, 96, 54, 7, 42, 21, 6, 133, 44, 21, 7, 133, 21, 4, 178, 0, 129]
abbrev dktJ16_mismatch_1 : List UInt8 := dkwJ16_mismatch_1 ++ dktJ16_mismatch_2
def dkwJ16_mismatch_0 : List UInt8 := [3, 54, 5, 21, 4, 16, 7, 164, 0, 63, 42, 27, 51, 44, 29, 51, 159, 0, 5, 3, 172, 178, 0, 126]
abbrev dktJ16_mismatch_0 : List UInt8 := dkwJ16_mismatch_0 ++ dktJ16_mismatch_1
theorem dksJ16_mismatch_0 : cJ16_mismatch.data.toList.drop 0 = dktJ16_mismatch_0 := by decide +kernel
theorem dksJ16_mismatch_1 : cJ16_mismatch.data.toList.drop 24 = dktJ16_mismatch_1 := dk_seg dksJ16_mismatch_0 24 rfl rfl
theorem dksJ16_mismatch_2 : cJ16_mismatch.data.toList.drop 48 = dktJ16_mismatch_2 := dk_seg dksJ16_mismatch_1 24 rfl rfl
theorem dksJ16_mismatch_3 : cJ16_mismatch.data.toList.drop 72 = dktJ16_mismatch_3 := dk_seg dksJ16_mismatch_2 24 rfl rfl
theorem dksJ16_mismatch_4 : cJ16_mismatch.data.toList.drop 95 = dktJ16_mismatch_4 := dk_seg dksJ16_mismatch_3 23 rfl rfl
theorem dJ16_mismatch_0 : decode cJ16_mismatch 0 = .ok (.iconst 0, 1) := dk_3 (dk_at dksJ16_mismatch_0 0 rfl rfl)
theorem dJ16_mismatch_1 : decode cJ16_mismatch 1 = .ok (.istore 5, 2) := dk_54 5 (dk_at dksJ16_mismatch_0 1 rfl rfl)
theorem dJ16_mismatch_3 : decode cJ16_mismatch 3 = .ok (.iload 4, 2) := dk_21 4 (dk_at dksJ16_mismatch_0 3 rfl rfl)
theorem dJ16_mismatch_5 : decode cJ16_mismatch 5 = .ok (.bipush 7, 2) := dk_16 7 (dk_at dksJ16_mismatch_0 5 rfl rfl)
theorem dJ16_mismatch_7 : decode cJ16_mismatch 7 = .ok (.if_icmp .le 63, 3) := dk_164 0 63 (dk_at dksJ16_mismatch_0 7 rfl rfl)
theorem dJ16_mismatch_10 : decode cJ16_mismatch 10 = .ok (.aload_n 0, 1) := dk_42 (dk_at dksJ16_mismatch_0 10 rfl rfl)
theorem dJ16_mismatch_11 : decode cJ16_mismatch 11 = .ok (.iload_n 1, 1) := dk_27 (dk_at dksJ16_mismatch_0 11 rfl rfl)
theorem dJ16_mismatch_12 : decode cJ16_mismatch 12 = .ok (.baload, 1) := dk_51 (dk_at dksJ16_mismatch_0 12 rfl rfl)
theorem dJ16_mismatch_13 : decode cJ16_mismatch 13 = .ok (.aload_n 2, 1) := dk_44 (dk_at dksJ16_mismatch_0 13 rfl rfl)
theorem dJ16_mismatch_14 : decode cJ16_mismatch 14 = .ok (.iload_n 3, 1) := dk_29 (dk_at dksJ16_mismatch_0 14 rfl rfl)
theorem dJ16_mismatch_15 : decode cJ16_mismatch 15 = .ok (.baload, 1) := dk_51 (dk_at dksJ16_mismatch_0 15 rfl rfl)
theorem dJ16_mismatch_16 : decode cJ16_mismatch 16 = .ok (.if_icmp .eq 5, 3) := dk_159 0 5 (dk_at dksJ16_mismatch_0 16 rfl rfl)
theorem dJ16_mismatch_19 : decode cJ16_mismatch 19 = .ok (.iconst 0, 1) := dk_3 (dk_at dksJ16_mismatch_0 19 rfl rfl)
theorem dJ16_mismatch_20 : decode cJ16_mismatch 20 = .ok (.ireturn, 1) := dk_172 (dk_at dksJ16_mismatch_0 20 rfl rfl)
theorem dJ16_mismatch_21 : decode cJ16_mismatch 21 = .ok (.getstatic 126, 3) := dk_178 0 126 (dk_at dksJ16_mismatch_0 21 rfl rfl)
theorem dJ16_mismatch_24 : decode cJ16_mismatch 24 = .ok (.iload_n 1, 1) := dk_27 (dk_at dksJ16_mismatch_1 0 rfl rfl)
theorem dJ16_mismatch_25 : decode cJ16_mismatch 25 = .ok (.iadd, 1) := dk_96 (dk_at dksJ16_mismatch_1 1 rfl rfl)
theorem dJ16_mismatch_26 : decode cJ16_mismatch 26 = .ok (.istore 6, 2) := dk_54 6 (dk_at dksJ16_mismatch_1 2 rfl rfl)
theorem dJ16_mismatch_28 : decode cJ16_mismatch 28 = .ok (.getstatic 126, 3) := dk_178 0 126 (dk_at dksJ16_mismatch_1 4 rfl rfl)
theorem dJ16_mismatch_31 : decode cJ16_mismatch 31 = .ok (.iload_n 3, 1) := dk_29 (dk_at dksJ16_mismatch_1 7 rfl rfl)
theorem dJ16_mismatch_32 : decode cJ16_mismatch 32 = .ok (.iadd, 1) := dk_96 (dk_at dksJ16_mismatch_1 8 rfl rfl)
theorem dJ16_mismatch_33 : decode cJ16_mismatch 33 = .ok (.istore 7, 2) := dk_54 7 (dk_at dksJ16_mismatch_1 9 rfl rfl)
theorem dJ16_mismatch_35 : decode cJ16_mismatch 35 = .ok (.aload_n 0, 1) := dk_42 (dk_at dksJ16_mismatch_1 11 rfl rfl)
theorem dJ16_mismatch_36 : decode cJ16_mismatch 36 = .ok (.iload 6, 2) := dk_21 6 (dk_at dksJ16_mismatch_1 12 rfl rfl)
theorem dJ16_mismatch_38 : decode cJ16_mismatch 38 = .ok (.i2l, 1) := dk_133 (dk_at dksJ16_mismatch_1 14 rfl rfl)
theorem dJ16_mismatch_39 : decode cJ16_mismatch 39 = .ok (.aload_n 2, 1) := dk_44 (dk_at dksJ16_mismatch_1 15 rfl rfl)
theorem dJ16_mismatch_40 : decode cJ16_mismatch 40 = .ok (.iload 7, 2) := dk_21 7 (dk_at dksJ16_mismatch_1 16 rfl rfl)
theorem dJ16_mismatch_42 : decode cJ16_mismatch 42 = .ok (.i2l, 1) := dk_133 (dk_at dksJ16_mismatch_1 18 rfl rfl)
theorem dJ16_mismatch_43 : decode cJ16_mismatch 43 = .ok (.iload 4, 2) := dk_21 4 (dk_at dksJ16_mismatch_1 19 rfl rfl)
theorem dJ16_mismatch_45 : decode cJ16_mismatch 45 = .ok (.getstatic 129, 3) := dk_178 0 129 (dk_at dksJ16_mismatch_1 21 rfl rfl)
theorem dJ16_mismatch_48 : decode cJ16_mismatch 48 = .ok (.invokestatic 122, 3) := dk_184 0 122 (dk_at dksJ16_mismatch_2 0 rfl rfl)
theorem dJ16_mismatch_51 : decode cJ16_mismatch 51 = .ok (.istore 5, 2) := dk_54 5 (dk_at dksJ16_mismatch_2 3 rfl rfl)
theorem dJ16_mismatch_53 : decode cJ16_mismatch 53 = .ok (.iload 5, 2) := dk_21 5 (dk_at dksJ16_mismatch_2 5 rfl rfl)
theorem dJ16_mismatch_55 : decode cJ16_mismatch 55 = .ok (.ifCond .lt 6, 3) := dk_155 0 6 (dk_at dksJ16_mismatch_2 7 rfl rfl)
theorem dJ16_mismatch_58 : decode cJ16_mismatch 58 = .ok (.iload 5, 2) := dk_21 5 (dk_at dksJ16_mismatch_2 10 rfl rfl)
theorem dJ16_mismatch_60 : decode cJ16_mismatch 60 = .ok (.ireturn, 1) := dk_172 (dk_at dksJ16_mismatch_2 12 rfl rfl)
theorem dJ16_mismatch_61 : decode cJ16_mismatch 61 = .ok (.iload 4, 2) := dk_21 4 (dk_at dksJ16_mismatch_2 13 rfl rfl)
theorem dJ16_mismatch_63 : decode cJ16_mismatch 63 = .ok (.iload 5, 2) := dk_21 5 (dk_at dksJ16_mismatch_2 15 rfl rfl)
theorem dJ16_mismatch_65 : decode cJ16_mismatch 65 = .ok (.iconst (-1), 1) := dk_2 (dk_at dksJ16_mismatch_2 17 rfl rfl)
theorem dJ16_mismatch_66 : decode cJ16_mismatch 66 = .ok (.ixor, 1) := dk_130 (dk_at dksJ16_mismatch_2 18 rfl rfl)
theorem dJ16_mismatch_67 : decode cJ16_mismatch 67 = .ok (.isub, 1) := dk_100 (dk_at dksJ16_mismatch_2 19 rfl rfl)
theorem dJ16_mismatch_68 : decode cJ16_mismatch 68 = .ok (.istore 5, 2) := dk_54 5 (dk_at dksJ16_mismatch_2 20 rfl rfl)
theorem dJ16_mismatch_70 : decode cJ16_mismatch 70 = .ok (.iload 5, 2) := dk_21 5 (dk_at dksJ16_mismatch_2 22 rfl rfl)
theorem dJ16_mismatch_72 : decode cJ16_mismatch 72 = .ok (.iload 4, 2) := dk_21 4 (dk_at dksJ16_mismatch_3 0 rfl rfl)
theorem dJ16_mismatch_74 : decode cJ16_mismatch 74 = .ok (.if_icmp .ge 27, 3) := dk_162 0 27 (dk_at dksJ16_mismatch_3 2 rfl rfl)
theorem dJ16_mismatch_77 : decode cJ16_mismatch 77 = .ok (.aload_n 0, 1) := dk_42 (dk_at dksJ16_mismatch_3 5 rfl rfl)
theorem dJ16_mismatch_78 : decode cJ16_mismatch 78 = .ok (.iload_n 1, 1) := dk_27 (dk_at dksJ16_mismatch_3 6 rfl rfl)
theorem dJ16_mismatch_79 : decode cJ16_mismatch 79 = .ok (.iload 5, 2) := dk_21 5 (dk_at dksJ16_mismatch_3 7 rfl rfl)
theorem dJ16_mismatch_81 : decode cJ16_mismatch 81 = .ok (.iadd, 1) := dk_96 (dk_at dksJ16_mismatch_3 9 rfl rfl)
theorem dJ16_mismatch_82 : decode cJ16_mismatch 82 = .ok (.baload, 1) := dk_51 (dk_at dksJ16_mismatch_3 10 rfl rfl)
theorem dJ16_mismatch_83 : decode cJ16_mismatch 83 = .ok (.aload_n 2, 1) := dk_44 (dk_at dksJ16_mismatch_3 11 rfl rfl)
theorem dJ16_mismatch_84 : decode cJ16_mismatch 84 = .ok (.iload_n 3, 1) := dk_29 (dk_at dksJ16_mismatch_3 12 rfl rfl)
theorem dJ16_mismatch_85 : decode cJ16_mismatch 85 = .ok (.iload 5, 2) := dk_21 5 (dk_at dksJ16_mismatch_3 13 rfl rfl)
theorem dJ16_mismatch_87 : decode cJ16_mismatch 87 = .ok (.iadd, 1) := dk_96 (dk_at dksJ16_mismatch_3 15 rfl rfl)
theorem dJ16_mismatch_88 : decode cJ16_mismatch 88 = .ok (.baload, 1) := dk_51 (dk_at dksJ16_mismatch_3 16 rfl rfl)
theorem dJ16_mismatch_89 : decode cJ16_mismatch 89 = .ok (.if_icmp .eq 6, 3) := dk_159 0 6 (dk_at dksJ16_mismatch_3 17 rfl rfl)
theorem dJ16_mismatch_92 : decode cJ16_mismatch 92 = .ok (.iload 5, 2) := dk_21 5 (dk_at dksJ16_mismatch_3 20 rfl rfl)
theorem dJ16_mismatch_94 : decode cJ16_mismatch 94 = .ok (.ireturn, 1) := dk_172 (dk_at dksJ16_mismatch_3 22 rfl rfl)
theorem dJ16_mismatch_95 : decode cJ16_mismatch 95 = .ok (.iinc 5 1, 3) := dk_132 5 1 (dk_at dksJ16_mismatch_4 0 rfl rfl)
theorem dJ16_mismatch_98 : decode cJ16_mismatch 98 = .ok (.goto (-28), 3) := dk_167 255 228 (dk_at dksJ16_mismatch_4 3 rfl rfl)
theorem dJ16_mismatch_101 : decode cJ16_mismatch 101 = .ok (.iconst (-1), 1) := dk_2 (dk_at dksJ16_mismatch_4 6 rfl rfl)
theorem dJ16_mismatch_102 : decode cJ16_mismatch 102 = .ok (.ireturn, 1) := dk_172 (dk_at dksJ16_mismatch_4 7 rfl rfl)
def dkwJ16_vectorizedMismatch_11 : List UInt8 := [54, 10, 21, 10, 2, 130, 172, 21, 10, 2, 130, 172]
abbrev dktJ16_vectorizedMismatch_11 : List UInt8 := dkwJ16_vectorizedMismatch_11 ++ []
def dkwJ16_vectorizedMismatch_10 : List UInt8 := [178, 0, 46, 21, 7, 96, 122, 54, 17, 21, 9, 21, 8, 120, 21, 17, 96, 172, 21, 10, 21, 11, 100]
abbrev dktJ16_vectorizedMismatch_10 : List UInt8 := dkwJ16_vectorizedMismatch_10 ++ dktJ16_vectorizedMismatch_11
def dkwJ16_vectorizedMismatch_9 : List UInt8 := [153, 0, 18, 21, 16, 184, 0, 58, 178, 0, 46, 21, 7, 96, 122, 167, 0, 15, 21, 16, 184, 0, 11]
abbrev dktJ16_vectorizedMismatch_9 : List UInt8 := dkwJ16_vectorizedMismatch_9 ++ dktJ16_vectorizedMismatch_10
def dkwJ16_vectorizedMismatch_8 : List UInt8 := [182, 0, 54, 54, 15, 21, 14, 21, 15, 159, 0, 54, 21, 14, 21, 15, 130, 54, 16, 178, 0, 36]
abbrev dktJ16_vectorizedMismatch_8 : List UInt8 := dkwJ16_vectorizedMismatch_8 ++ dktJ16_vectorizedMismatch_9
def dkwJ16_vectorizedMismatch_7 : List UInt8 := [55, 12, 178, 0, 26, 42, 31, 22, 12, 97, 182, 0, 54, 54, 14, 178, 0, 26, 45, 22, 4, 22, 12, 97]
abbrev dktJ16_vectorizedMismatch_7 : List UInt8 := dkwJ16_vectorizedMismatch_7 ++ dktJ16_vectorizedMismatch_8
def dkwJ16_vectorizedMismatch_6 : List UInt8 := [4, 178, 0, 51, 21, 7, 100, 120, 54, 11, 21, 10, 21, 11, 161, 0, 104, 21, 9, 133, 178, 0, 20, 121]
abbrev dktJ16_vectorizedMismatch_6 : List UInt8 := dkwJ16_vectorizedMismatch_6 ++ dktJ16_vectorizedMismatch_7
def dkwJ16_vectorizedMismatch_5 : List UInt8 := [132, 9, 1, 167, 255, 148, 21, 6, 21, 9, 21, 8, 120, 100, 54, 10, 21, 7, 178, 0, 51, 162, 0, 126]
abbrev dktJ16_vectorizedMismatch_5 : List UInt8 := dkwJ16_vectorizedMismatch_5 ++ dktJ16_vectorizedMismatch_6
def dkwJ16_vectorizedMismatch_4 : List UInt8 := [22, 16, 184, 0, 49, 178, 0, 46, 21, 7, 96, 122, 54, 18, 21, 9, 21, 8, 120, 21, 18, 96, 172]
abbrev dktJ16_vectorizedMismatch_4 : List UInt8 := dkwJ16_vectorizedMismatch_4 ++ dktJ16_vectorizedMismatch_5
def dkwJ16_vectorizedMismatch_3 : List UInt8 := [55, 16, 178, 0, 36, 153, 0, 18, 22, 16, 184, 0, 40, 178, 0, 46, 21, 7, 96, 122, 167, 0, 15]
abbrev dktJ16_vectorizedMismatch_3 : List UInt8 := dkwJ16_vectorizedMismatch_3 ++ dktJ16_vectorizedMismatch_4
def dkwJ16_vectorizedMismatch_2 : List UInt8 := [22, 4, 22, 10, 97, 182, 0, 30, 55, 14, 22, 12, 22, 14, 148, 153, 0, 54, 22, 12, 22, 14, 131]
abbrev dktJ16_vectorizedMismatch_2 : List UInt8 := dkwJ16_vectorizedMismatch_2 ++ dktJ16_vectorizedMismatch_3
def dkwJ16_vectorizedMismatch_1 : List UInt8 := [178, 0, 20, 121, 55, 10, 178, 0, 26, 42, 31, 22, 10, 97, 182, 0, 30, 55, 12, 178, 0, 26, 45]
abbrev dktJ16_vectorizedMismatch_1 : List UInt8 := dkwJ16_vectorizedMismatch_1 ++ dktJ16_vectorizedMismatch_2
def dkwJ16_vectorizedMismatch_0 : List UInt8 := [178, 0, 20, 21, 7, 100, 54, 8, 3, 54, 9, 21, 9, 21, 6, 21, 8, 122, 162, 0, 104, 21, 9, 133]
abbrev dktJ16_vectorizedMismatch_0 : List UInt8 := dkwJ16_vectorizedMismatch_0 ++ dktJ16_vectorizedMismatch_1
theorem dksJ16_vectorizedMismatch_0 : cJ16_vectorizedMismatch.data.toList.drop 0 = dktJ16_vectorizedMismatch_0 := by decide +kernel
theorem dksJ16_vectorizedMismatch_1 : cJ16_vectorizedMismatch.data.toList.drop 24 = dktJ16_vectorizedMismatch_1 := dk_seg dksJ16_vectorizedMismatch_0 24 rfl rfl
theorem dksJ16_vectorizedMismatch_2 : cJ16_vectorizedMismatch.data.toList.drop 47 = dktJ16_vectorizedMismatch_2 := dk_seg dksJ16_vectorizedMismatch_1 23 rfl rfl
theorem dksJ16_vectorizedMismatch_3 : cJ16_vectorizedMismatch.data.toList.drop 70 = dktJ16_vectorizedMismatch_3 := dk_seg dksJ16_vectorizedMismatch_2 23 rfl rfl
theorem dksJ16_vectorizedMismatch_4 : cJ16_vectorizedMismatch.data.toList.drop 93 = dktJ16_vectorizedMismatch_4 := dk_seg dksJ16_vectorizedMismatch_3 23 rfl rfl
theorem dksJ16_vectorizedMismatch_5 : cJ16_vectorizedMismatch.data.toList.drop 116 = dktJ16_vectorizedMismatch_5 := dk_seg dksJ16_vectorizedMismatch_4 23 rfl rfl
theorem dksJ16_vectorizedMismatch_6 : cJ16_vectorizedMismatch.data.toList.drop 140 = dktJ16_vectorizedMismatch_6 := dk_seg dksJ16_vectorizedMismatch_5 24 rfl rfl
theorem dksJ16_vectorizedMismatch_7 : cJ16_vectorizedMismatch.data.toList.drop 164 = dktJ16_vectorizedMismatch_7 := dk_seg dksJ16_vectorizedMismatch_6 24 rfl rfl
theorem dksJ16_vectorizedMismatch_8 : cJ16_vectorizedMismatch.data.toList.drop 188 = dktJ16_vectorizedMismatch_8 := dk_seg dksJ16_vectorizedMismatch_7 24 rfl rfl
theorem dksJ16_vectorizedMismatch_9 : cJ16_vectorizedMismatch.data.toList.drop 210 = dktJ16_vectorizedMismatch_9 := dk_seg dksJ16_vectorizedMismatch_8 22 rfl rfl
theorem dksJ16_vectorizedMismatch_10 : cJ16_vectorizedMismatch.data.toList.drop 233 = dktJ16_vectorizedMismatch_10 := dk_seg dksJ16_vectorizedMismatch_9 23 rfl rfl
theorem dksJ16_vectorizedMismatch_11 : cJ16_vectorizedMismatch.data.toList.drop 256 = dktJ16_vectorizedMismatch_11 := dk_seg dksJ16_vectorizedMismatch_10 23 rfl rfl
theorem dJ16_vectorizedMismatch_0 : decode cJ16_vectorizedMismatch 0 = .ok (.getstatic 20, 3) := dk_178 0 20 (dk_at dksJ16_vectorizedMismatch_0 0 rfl rfl)
theorem dJ16_vectorizedMismatch_3 : decode cJ16_vectorizedMismatch 3 = .ok (.iload 7, 2) := dk_21 7 (dk_at dksJ16_vectorizedMismatch_0 3 rfl rfl)
theorem dJ16_vectorizedMismatch_5 : decode cJ16_vectorizedMismatch 5 = .ok (.isub, 1) := dk_100 (dk_at dksJ16_vectorizedMismatch_0 5 rfl rfl)
theorem dJ16_vectorizedMismatch_6 : decode cJ16_vectorizedMismatch 6 = .ok (.istore 8, 2) := dk_54 8 (dk_at dksJ16_vectorizedMismatch_0 6 rfl rfl)
theorem dJ16_vectorizedMismatch_8 : decode cJ16_vectorizedMismatch 8 = .ok (.iconst 0, 1) := dk_3 (dk_at dksJ16_vectorizedMismatch_0 8 rfl rfl)
theorem dJ16_vectorizedMismatch_9 : decode cJ16_vectorizedMismatch 9 = .ok (.istore 9, 2) := dk_54 9 (dk_at dksJ16_vectorizedMismatch_0 9 rfl rfl)
theorem dJ16_vectorizedMismatch_11 : decode cJ16_vectorizedMismatch 11 = .ok (.iload 9, 2) := dk_21 9 (dk_at dksJ16_vectorizedMismatch_0 11 rfl rfl)
theorem dJ16_vectorizedMismatch_13 : decode cJ16_vectorizedMismatch 13 = .ok (.iload 6, 2) := dk_21 6 (dk_at dksJ16_vectorizedMismatch_0 13 rfl rfl)
theorem dJ16_vectorizedMismatch_15 : decode cJ16_vectorizedMismatch 15 = .ok (.iload 8, 2) := dk_21 8 (dk_at dksJ16_vectorizedMismatch_0 15 rfl rfl)
theorem dJ16_vectorizedMismatch_17 : decode cJ16_vectorizedMismatch 17 = .ok (.ishr, 1) := dk_122 (dk_at dksJ16_vectorizedMismatch_0 17 rfl rfl)
theorem dJ16_vectorizedMismatch_18 : decode cJ16_vectorizedMismatch 18 = .ok (.if_icmp .ge 104, 3) := dk_162 0 104 (dk_at dksJ16_vectorizedMismatch_0 18 rfl rfl)
theorem dJ16_vectorizedMismatch_21 : decode cJ16_vectorizedMismatch 21 = .ok (.iload 9, 2) := dk_21 9 (dk_at dksJ16_vectorizedMismatch_0 21 rfl rfl)
theorem dJ16_vectorizedMismatch_23 : decode cJ16_vectorizedMismatch 23 = .ok (.i2l, 1) := dk_133 (dk_at dksJ16_vectorizedMismatch_0 23 rfl rfl)
theorem dJ16_vectorizedMismatch_24 : decode cJ16_vectorizedMismatch 24 = .ok (.getstatic 20, 3) := dk_178 0 20 (dk_at dksJ16_vectorizedMismatch_1 0 rfl rfl)
theorem dJ16_vectorizedMismatch_27 : decode cJ16_vectorizedMismatch 27 = .ok (.lshl, 1) := dk_121 (dk_at dksJ16_vectorizedMismatch_1 3 rfl rfl)
theorem dJ16_vectorizedMismatch_28 : decode cJ16_vectorizedMismatch 28 = .ok (.lstore 10, 2) := dk_55 10 (dk_at dksJ16_vectorizedMismatch_1 4 rfl rfl)
theorem dJ16_vectorizedMismatch_30 : decode cJ16_vectorizedMismatch 30 = .ok (.getstatic 26, 3) := dk_178 0 26 (dk_at dksJ16_vectorizedMismatch_1 6 rfl rfl)
theorem dJ16_vectorizedMismatch_33 : decode cJ16_vectorizedMismatch 33 = .ok (.aload_n 0, 1) := dk_42 (dk_at dksJ16_vectorizedMismatch_1 9 rfl rfl)
theorem dJ16_vectorizedMismatch_34 : decode cJ16_vectorizedMismatch 34 = .ok (.lload_n 1, 1) := dk_31 (dk_at dksJ16_vectorizedMismatch_1 10 rfl rfl)
theorem dJ16_vectorizedMismatch_35 : decode cJ16_vectorizedMismatch 35 = .ok (.lload 10, 2) := dk_22 10 (dk_at dksJ16_vectorizedMismatch_1 11 rfl rfl)
theorem dJ16_vectorizedMismatch_37 : decode cJ16_vectorizedMismatch 37 = .ok (.ladd, 1) := dk_97 (dk_at dksJ16_vectorizedMismatch_1 13 rfl rfl)
theorem dJ16_vectorizedMismatch_38 : decode cJ16_vectorizedMismatch 38 = .ok (.invokevirtual 30, 3) := dk_182 0 30 (dk_at dksJ16_vectorizedMismatch_1 14 rfl rfl)
theorem dJ16_vectorizedMismatch_41 : decode cJ16_vectorizedMismatch 41 = .ok (.lstore 12, 2) := dk_55 12 (dk_at dksJ16_vectorizedMismatch_1 17 rfl rfl)
theorem dJ16_vectorizedMismatch_43 : decode cJ16_vectorizedMismatch 43 = .ok (.getstatic 26, 3) := dk_178 0 26 (dk_at dksJ16_vectorizedMismatch_1 19 rfl rfl)
theorem dJ16_vectorizedMismatch_46 : decode cJ16_vectorizedMismatch 46 = .ok (.aload_n 3, 1) := dk_45 (dk_at dksJ16_vectorizedMismatch_1 22 rfl rfl)
theorem dJ16_vectorizedMismatch_47 : decode cJ16_vectorizedMismatch 47 = .ok (.lload 4, 2) := dk_22 4 (dk_at dksJ16_vectorizedMismatch_2 0 rfl rfl)
theorem dJ16_vectorizedMismatch_49 : decode cJ16_vectorizedMismatch 49 = .ok (.lload 10, 2) := dk_22 10 (dk_at dksJ16_vectorizedMismatch_2 2 rfl rfl)
theorem dJ16_vectorizedMismatch_51 : decode cJ16_vectorizedMismatch 51 = .ok (.ladd, 1) := dk_97 (dk_at dksJ16_vectorizedMismatch_2 4 rfl rfl)
theorem dJ16_vectorizedMismatch_52 : decode cJ16_vectorizedMismatch 52 = .ok (.invokevirtual 30, 3) := dk_182 0 30 (dk_at dksJ16_vectorizedMismatch_2 5 rfl rfl)
theorem dJ16_vectorizedMismatch_55 : decode cJ16_vectorizedMismatch 55 = .ok (.lstore 14, 2) := dk_55 14 (dk_at dksJ16_vectorizedMismatch_2 8 rfl rfl)
theorem dJ16_vectorizedMismatch_57 : decode cJ16_vectorizedMismatch 57 = .ok (.lload 12, 2) := dk_22 12 (dk_at dksJ16_vectorizedMismatch_2 10 rfl rfl)
theorem dJ16_vectorizedMismatch_59 : decode cJ16_vectorizedMismatch 59 = .ok (.lload 14, 2) := dk_22 14 (dk_at dksJ16_vectorizedMismatch_2 12 rfl rfl)
theorem dJ16_vectorizedMismatch_61 : decode cJ16_vectorizedMismatch 61 = .ok (.lcmp, 1) := dk_148 (dk_at dksJ16_vectorizedMismatch_2 14 rfl rfl)
theorem dJ16_vectorizedMismatch_62 : decode cJ16_vectorizedMismatch 62 = .ok (.ifCond .eq 54, 3) := dk_153 0 54 (dk_at dksJ16_vectorizedMismatch_2 15 rfl rfl)
theorem dJ16_vectorizedMismatch_65 : decode cJ16_vectorizedMismatch 65 = .ok (.lload 12, 2) := dk_22 12 (dk_at dksJ16_vectorizedMismatch_2 18 rfl rfl)
theorem dJ16_vectorizedMismatch_67 : decode cJ16_vectorizedMismatch 67 = .ok (.lload 14, 2) := dk_22 14 (dk_at dksJ16_vectorizedMismatch_2 20 rfl rfl)
theorem dJ16_vectorizedMismatch_69 : decode cJ16_vectorizedMismatch 69 = .ok (.lxor, 1) := dk_131 (dk_at dksJ16_vectorizedMismatch_2 22 rfl rfl)
theorem dJ16_vectorizedMismatch_70 : decode cJ16_vectorizedMismatch 70 = .ok (.lstore 16, 2) := dk_55 16 (dk_at dksJ16_vectorizedMismatch_3 0 rfl rfl)
theorem dJ16_vectorizedMismatch_72 : decode cJ16_vectorizedMismatch 72 = .ok (.getstatic 36, 3) := dk_178 0 36 (dk_at dksJ16_vectorizedMismatch_3 2 rfl rfl)
theorem dJ16_vectorizedMismatch_75 : decode cJ16_vectorizedMismatch 75 = .ok (.ifCond .eq 18, 3) := dk_153 0 18 (dk_at dksJ16_vectorizedMismatch_3 5 rfl rfl)
theorem dJ16_vectorizedMismatch_78 : decode cJ16_vectorizedMismatch 78 = .ok (.lload 16, 2) := dk_22 16 (dk_at dksJ16_vectorizedMismatch_3 8 rfl rfl)
theorem dJ16_vectorizedMismatch_80 : decode cJ16_vectorizedMismatch 80 = .ok (.invokestatic 40, 3) := dk_184 0 40 (dk_at dksJ16_vectorizedMismatch_3 10 rfl rfl)
theorem dJ16_vectorizedMismatch_83 : decode cJ16_vectorizedMismatch 83 = .ok (.getstatic 46, 3) := dk_178 0 46 (dk_at dksJ16_vectorizedMismatch_3 13 rfl rfl)
theorem dJ16_vectorizedMismatch_86 : decode cJ16_vectorizedMismatch 86 = .ok (.iload 7, 2) := dk_21 7 (dk_at dksJ16_vectorizedMismatch_3 16 rfl rfl)
theorem dJ16_vectorizedMismatch_88 : decode cJ16_vectorizedMismatch 88 = .ok (.iadd, 1) := dk_96 (dk_at dksJ16_vectorizedMismatch_3 18 rfl rfl)
theorem dJ16_vectorizedMismatch_89 : decode cJ16_vectorizedMismatch 89 = .ok (.ishr, 1) := dk_122 (dk_at dksJ16_vectorizedMismatch_3 19 rfl rfl)
theorem dJ16_vectorizedMismatch_90 : decode cJ16_vectorizedMismatch 90 = .ok (.goto 15, 3) := dk_167 0 15 (dk_at dksJ16_vectorizedMismatch_3 20 rfl rfl)
theorem dJ16_vectorizedMismatch_93 : decode cJ16_vectorizedMismatch 93 = .ok (.lload 16, 2) := dk_22 16 (dk_at dksJ16_vectorizedMismatch_4 0 rfl rfl)
theorem dJ16_vectorizedMismatch_95 : decode cJ16_vectorizedMismatch 95 = .ok (.invokestatic 49, 3) := dk_184 0 49 (dk_at dksJ16_vectorizedMismatch_4 2 rfl rfl)
theorem dJ16_vectorizedMismatch_98 : decode cJ16_vectorizedMismatch 98 = .ok (.getstatic 46, 3) := dk_178 0 46 (dk_at dksJ16_vectorizedMismatch_4 5 rfl rfl)
theorem dJ16_vectorizedMismatch_101 : decode cJ16_vectorizedMismatch 101 = .ok (.iload 7, 2) := dk_21 7 (dk_at dksJ16_vectorizedMismatch_4 8 rfl rfl)
theorem dJ16_vectorizedMismatch_103 : decode cJ16_vectorizedMismatch 103 = .ok (.iadd, 1) := dk_96 (dk_at dksJ16_vectorizedMismatch_4 10 rfl rfl)
theorem dJ16_vectorizedMismatch_104 : decode cJ16_vectorizedMismatch 104 = .ok (.ishr, 1) := dk_122 (dk_at dksJ16_vectorizedMismatch_4 11 rfl rfl)
theorem dJ16_vectorizedMismatch_105 : decode cJ16_vectorizedMismatch 105 = .ok (.istore 18, 2) := dk_54 18 (dk_at dksJ16_vectorizedMismatch_4 12 rfl rfl)
theorem dJ16_vectorizedMismatch_107 : decode cJ16_vectorizedMismatch 107 = .ok (.iload 9, 2) := dk_21 9 (dk_at dksJ16_vectorizedMismatch_4 14 rfl rfl)
theorem dJ16_vectorizedMismatch_109 : decode cJ16_vectorizedMismatch 109 = .ok (.iload 8, 2) := dk_21 8 (dk_at dksJ16_vectorizedMismatch_4 16 rfl rfl)
theorem dJ16_vectorizedMismatch_111 : decode cJ16_vectorizedMismatch 111 = .ok (.ishl, 1) := dk_120 (dk_at dksJ16_vectorizedMismatch_4 18 rfl rfl)
theorem dJ16_vectorizedMismatch_112 : decode cJ16_vectorizedMismatch 112 = .ok (.iload 18, 2) := dk_21 18 (dk_at dksJ16_vectorizedMismatch_4 19 rfl rfl)
theorem dJ16_vectorizedMismatch_114 : decode cJ16_vectorizedMismatch 114 = .ok (.iadd, 1) := dk_96 (dk_at dksJ16_vectorizedMismatch_4 21 rfl rfl)
theorem dJ16_vectorizedMismatch_115 : decode cJ16_vectorizedMismatch 115 = .ok (.ireturn, 1) := dk_172 (dk_at dksJ16_vectorizedMismatch_4 22 rfl rfl)
theorem dJ16_vectorizedMismatch_116 : decode cJ16_vectorizedMismatch 116 = .ok (.iinc 9 1, 3) := dk_132 9 1 (dk_at dksJ16_vectorizedMismatch_5 0 rfl rfl)
theorem dJ16_vectorizedMismatch_119 : decode cJ16_vectorizedMismatch 119 = .ok (.goto (-108), 3) := dk_167 255 148 (dk_at dksJ16_vectorizedMismatch_5 3 rfl rfl)
theorem dJ16_vectorizedMismatch_122 : decode cJ16_vectorizedMismatch 122 = .ok (.iload 6, 2) := dk_21 6 (dk_at dksJ16_vectorizedMismatch_5 6 rfl rfl)
theorem dJ16_vectorizedMismatch_124 : decode cJ16_vectorizedMismatch 124 = .ok (.iload 9, 2) := dk_21 9 (dk_at dksJ16_vectorizedMismatch_5 8 rfl rfl)
theorem dJ16_vectorizedMismatch_126 : decode cJ16_vectorizedMismatch 126 = .ok (.iload 8, 2) := dk_21 8 (dk_at dksJ16_vectorizedMismatch_5 10 rfl rfl)
theorem dJ16_vectorizedMismatch_128 : decode cJ16_vectorizedMismatch 128 = .ok (.ishl, 1) := dk_120 (dk_at dksJ16_vectorizedMismatch_5 12 rfl rfl)
theorem dJ16_vectorizedMismatch_129 : decode cJ16_vectorizedMismatch 129 = .ok (.isub, 1) := dk_100 (dk_at dksJ16_vectorizedMismatch_5 13 rfl rfl)
theorem dJ16_vectorizedMismatch_130 : decode cJ16_vectorizedMismatch 130 = .ok (.istore 10, 2) := dk_54 10 (dk_at dksJ16_vectorizedMismatch_5 14 rfl rfl)
theorem dJ16_vectorizedMismatch_132 : decode cJ16_vectorizedMismatch 132 = .ok (.iload 7, 2) := dk_21 7 (dk_at dksJ16_vectorizedMismatch_5 16 rfl rfl)
theorem dJ16_vectorizedMismatch_134 : decode cJ16_vectorizedMismatch 134 = .ok (.getstatic 51, 3) := dk_178 0 51 (dk_at dksJ16_vectorizedMismatch_5 18 rfl rfl)
theorem dJ16_vectorizedMismatch_137 : decode cJ16_vectorizedMismatch 137 = .ok (.if_icmp .ge 126, 3) := dk_162 0 126 (dk_at dksJ16_vectorizedMismatch_5 21 rfl rfl)
theorem dJ16_vectorizedMismatch_140 : decode cJ16_vectorizedMismatch 140 = .ok (.iconst 1, 1) := dk_4 (dk_at dksJ16_vectorizedMismatch_6 0 rfl rfl)
theorem dJ16_vectorizedMismatch_141 : decode cJ16_vectorizedMismatch 141 = .ok (.getstatic 51, 3) := dk_178 0 51 (dk_at dksJ16_vectorizedMismatch_6 1 rfl rfl)
theorem dJ16_vectorizedMismatch_144 : decode cJ16_vectorizedMismatch 144 = .ok (.iload 7, 2) := dk_21 7 (dk_at dksJ16_vectorizedMismatch_6 4 rfl rfl)
theorem dJ16_vectorizedMismatch_146 : decode cJ16_vectorizedMismatch 146 = .ok (.isub, 1) := dk_100 (dk_at dksJ16_vectorizedMismatch_6 6 rfl rfl)
theorem dJ16_vectorizedMismatch_147 : decode cJ16_vectorizedMismatch 147 = .ok (.ishl, 1) := dk_120 (dk_at dksJ16_vectorizedMismatch_6 7 rfl rfl)
theorem dJ16_vectorizedMismatch_148 : decode cJ16_vectorizedMismatch 148 = .ok (.istore 11, 2) := dk_54 11 (dk_at dksJ16_vectorizedMismatch_6 8 rfl rfl)
theorem dJ16_vectorizedMismatch_150 : decode cJ16_vectorizedMismatch 150 = .ok (.iload 10, 2) := dk_21 10 (dk_at dksJ16_vectorizedMismatch_6 10 rfl rfl)
theorem dJ16_vectorizedMismatch_152 : decode cJ16_vectorizedMismatch 152 = .ok (.iload 11, 2) := dk_21 11 (dk_at dksJ16_vectorizedMismatch_6 12 rfl rfl)
theorem dJ16_vectorizedMismatch_154 : decode cJ16_vectorizedMismatch 154 = .ok (.if_icmp .lt 104, 3) := dk_161 0 104 (dk_at dksJ16_vectorizedMismatch_6 14 rfl rfl)
theorem dJ16_vectorizedMismatch_157 : decode cJ16_vectorizedMismatch 157 = .ok (.iload 9, 2) := dk_21 9 (dk_at dksJ16_vectorizedMismatch_6 17 rfl rfl)
theorem dJ16_vectorizedMismatch_159 : decode cJ16_vectorizedMismatch 159 = .ok (.i2l, 1) := dk_133 (dk_at dksJ16_vectorizedMismatch_6 19 rfl rfl)
theorem dJ16_vectorizedMismatch_160 : decode cJ16_vectorizedMismatch 160 = .ok (.getstatic 20, 3) := dk_178 0 20 (dk_at dksJ16_vectorizedMismatch_6 20 rfl rfl)
theorem dJ16_vectorizedMismatch_163 : decode cJ16_vectorizedMismatch 163 = .ok (.lshl, 1) := dk_121 (dk_at dksJ16_vectorizedMismatch_6 23 rfl rfl)
theorem dJ16_vectorizedMismatch_164 : decode cJ16_vectorizedMismatch 164 = .ok (.lstore 12, 2) := dk_55 12 (dk_at dksJ16_vectorizedMismatch_7 0 rfl rfl)
theorem dJ16_vectorizedMismatch_166 : decode cJ16_vectorizedMismatch 166 = .ok (.getstatic 26, 3) := dk_178 0 26 (dk_at dksJ16_vectorizedMismatch_7 2 rfl rfl)
theorem dJ16_vectorizedMismatch_169 : decode cJ16_vectorizedMismatch 169 = .ok (.aload_n 0, 1) := dk_42 (dk_at dksJ16_vectorizedMismatch_7 5 rfl rfl)
theorem dJ16_vectorizedMismatch_170 : decode cJ16_vectorizedMismatch 170 = .ok (.lload_n 1, 1) := dk_31 (dk_at dksJ16_vectorizedMismatch_7 6 rfl rfl)
theorem dJ16_vectorizedMismatch_171 : decode cJ16_vectorizedMismatch 171 = .ok (.lload 12, 2) := dk_22 12 (dk_at dksJ16_vectorizedMismatch_7 7 rfl rfl)
theorem dJ16_vectorizedMismatch_173 : decode cJ16_vectorizedMismatch 173 = .ok (.ladd, 1) := dk_97 (dk_at dksJ16_vectorizedMismatch_7 9 rfl rfl)
theorem dJ16_vectorizedMismatch_174 : decode cJ16_vectorizedMismatch 174 = .ok (.invokevirtual 54, 3) := dk_182 0 54 (dk_at dksJ16_vectorizedMismatch_7 10 rfl rfl)
theorem dJ16_vectorizedMismatch_177 : decode cJ16_vectorizedMismatch 177 = .ok (.istore 14, 2) := dk_54 14 (dk_at dksJ16_vectorizedMismatch_7 13 rfl rfl)
theorem dJ16_vectorizedMismatch_179 : decode cJ16_vectorizedMismatch 179 = .ok (.getstatic 26, 3) := dk_178 0 26 (dk_at dksJ16_vectorizedMismatch_7 15 rfl rfl)
theorem dJ16_vectorizedMismatch_182 : decode cJ16_vectorizedMismatch 182 = .ok (.aload_n 3, 1) := dk_45 (dk_at dksJ16_vectorizedMismatch_7 18 rfl rfl)
theorem dJ16_vectorizedMismatch_183 : decode cJ16_vectorizedMismatch 183 = .ok (.lload 4, 2) := dk_22 4 (dk_at dksJ16_vectorizedMismatch_7 19 rfl rfl)
theorem dJ16_vectorizedMismatch_185 : decode cJ16_vectorizedMismatch 185 = .ok (.lload 12, 2) := dk_22 12 (dk_at dksJ16_vectorizedMismatch_7 21 rfl rfl)
theorem dJ16_vectorizedMismatch_187 : decode cJ16_vectorizedMismatch 187 = .ok (.ladd, 1) := dk_97 (dk_at dksJ16_vectorizedMismatch_7 23 rfl rfl)
theorem dJ16_vectorizedMismatch_188 : decode cJ16_vectorizedMismatch 188 = .ok (.invokevirtual 54, 3) := dk_182 0 54 (dk_at dksJ16_vectorizedMismatch_8 0 rfl rfl)
theorem dJ16_vectorizedMismatch_191 : decode cJ16_vectorizedMismatch 191 = .ok (.istore 15, 2) := dk_54 15 (dk_at dksJ16_vectorizedMismatch_8 3 rfl rfl)
theorem dJ16_vectorizedMismatch_193 : decode cJ16_vectorizedMismatch 193 = .ok (.iload 14, 2) := dk_21 14 (dk_at dksJ16_vectorizedMismatch_8 5 rfl rfl)
theorem dJ16_vectorizedMismatch_195 : decode cJ16_vectorizedMismatch 195 = .ok (.iload 15, 2) := dk_21 15 (dk_at dksJ16_vectorizedMismatch_8 7 rfl rfl)
theorem dJ16_vectorizedMismatch_197 : decode cJ16_vectorizedMismatch 197 = .ok (.if_icmp .eq 54, 3) := dk_159 0 54 (dk_at dksJ16_vectorizedMismatch_8 9 rfl rfl)
theorem dJ16_vectorizedMismatch_200 : decode cJ16_vectorizedMismatch 200 = .ok (.iload 14, 2) := dk_21 14 (dk_at dksJ16_vectorizedMismatch_8 12 rfl rfl)
theorem dJ16_vectorizedMismatch_202 : decode cJ16_vectorizedMismatch 202 = .ok (.iload 15, 2) := dk_21 15 (dk_at dksJ16_vectorizedMismatch_8 14 rfl rfl)
theorem dJ16_vectorizedMismatch_204 : decode cJ16_vectorizedMismatch 204 = .ok (.ixor, 1) := dk_130 (dk_at dksJ16_vectorizedMismatch_8 16 rfl rfl)
theorem dJ16_vectorizedMismatch_205 : decode cJ16_vectorizedMismatch 205 = .ok (.istore 16, 2) := dk_54 16 (dk_at dksJ16_vectorizedMismatch_8 17 rfl rfl)
theorem dJ16_vectorizedMismatch_207 : decode cJ16_vectorizedMismatch 207 = .ok (.getstatic 36, 3) := dk_178 0 36 (dk_at dksJ16_vectorizedMismatch_8 19 rfl rfl)
theorem dJ16_vectorizedMismatch_210 : decode cJ16_vectorizedMismatch 210 = .ok (.ifCond .eq 18, 3) := dk_153 0 18 (dk_at dksJ16_vectorizedMismatch_9 0 rfl rfl)
theorem dJ16_vectorizedMismatch_213 : decode cJ16_vectorizedMismatch 213 = .ok (.iload 16, 2) := dk_21 16 (dk_at dksJ16_vectorizedMismatch_9 3 rfl rfl)
theorem dJ16_vectorizedMismatch_215 : decode cJ16_vectorizedMismatch 215 = .ok (.invokestatic 58, 3) := dk_184 0 58 (dk_at dksJ16_vectorizedMismatch_9 5 rfl rfl)
theorem dJ16_vectorizedMismatch_218 : decode cJ16_vectorizedMismatch 218 = .ok (.getstatic 46, 3) := dk_178 0 46 (dk_at dksJ16_vectorizedMismatch_9 8 rfl rfl)
theorem dJ16_vectorizedMismatch_221 : decode cJ16_vectorizedMismatch 221 = .ok (.iload 7, 2) := dk_21 7 (dk_at dksJ16_vectorizedMismatch_9 11 rfl rfl)
theorem dJ16_vectorizedMismatch_223 : decode cJ16_vectorizedMismatch 223 = .ok (.iadd, 1) := dk_96 (dk_at dksJ16_vectorizedMismatch_9 13 rfl rfl)
theorem dJ16_vectorizedMismatch_224 : decode cJ16_vectorizedMismatch 224 = .ok (.ishr, 1) := dk_122 (dk_at dksJ16_vectorizedMismatch_9 14 rfl rfl)
theorem dJ16_vectorizedMismatch_225 : decode cJ16_vectorizedMismatch 225 = .ok (.goto 15, 3) := dk_167 0 15 (dk_at dksJ16_vectorizedMismatch_9 15 rfl rfl)
theorem dJ16_vectorizedMismatch_228 : decode cJ16_vectorizedMismatch 228 = .ok (.iload 16, 2) := dk_21 16 (dk_at dksJ16_vectorizedMismatch_9 18 rfl rfl)
theorem dJ16_vectorizedMismatch_230 : decode cJ16_vectorizedMismatch 230 = .ok (.invokestatic 11, 3) := dk_184 0 11 (dk_at dksJ16_vectorizedMismatch_9 20 rfl rfl)
theorem dJ16_vectorizedMismatch_233 : decode cJ16_vectorizedMismatch 233 = .ok (.getstatic 46, 3) := dk_178 0 46 (dk_at dksJ16_vectorizedMismatch_10 0 rfl rfl)
theorem dJ16_vectorizedMismatch_236 : decode cJ16_vectorizedMismatch 236 = .ok (.iload 7, 2) := dk_21 7 (dk_at dksJ16_vectorizedMismatch_10 3 rfl rfl)
theorem dJ16_vectorizedMismatch_238 : decode cJ16_vectorizedMismatch 238 = .ok (.iadd, 1) := dk_96 (dk_at dksJ16_vectorizedMismatch_10 5 rfl rfl)
theorem dJ16_vectorizedMismatch_239 : decode cJ16_vectorizedMismatch 239 = .ok (.ishr, 1) := dk_122 (dk_at dksJ16_vectorizedMismatch_10 6 rfl rfl)
theorem dJ16_vectorizedMismatch_240 : decode cJ16_vectorizedMismatch 240 = .ok (.istore 17, 2) := dk_54 17 (dk_at dksJ16_vectorizedMismatch_10 7 rfl rfl)
theorem dJ16_vectorizedMismatch_242 : decode cJ16_vectorizedMismatch 242 = .ok (.iload 9, 2) := dk_21 9 (dk_at dksJ16_vectorizedMismatch_10 9 rfl rfl)
theorem dJ16_vectorizedMismatch_244 : decode cJ16_vectorizedMismatch 244 = .ok (.iload 8, 2) := dk_21 8 (dk_at dksJ16_vectorizedMismatch_10 11 rfl rfl)
theorem dJ16_vectorizedMismatch_246 : decode cJ16_vectorizedMismatch 246 = .ok (.ishl, 1) := dk_120 (dk_at dksJ16_vectorizedMismatch_10 13 rfl rfl)
theorem dJ16_vectorizedMismatch_247 : decode cJ16_vectorizedMismatch 247 = .ok (.iload 17, 2) := dk_21 17 (dk_at dksJ16_vectorizedMismatch_10 14 rfl rfl)
theorem dJ16_vectorizedMismatch_249 : decode cJ16_vectorizedMismatch 249 = .ok (.iadd, 1) := dk_96 (dk_at dksJ16_vectorizedMismatch_10 16 rfl rfl)
theorem dJ16_vectorizedMismatch_250 : decode cJ16_vectorizedMismatch 250 = .ok (.ireturn, 1) := dk_172 (dk_at dksJ16_vectorizedMismatch_10 17 rfl rfl)
theorem dJ16_vectorizedMismatch_251 : decode cJ16_vectorizedMismatch 251 = .ok (.iload 10, 2) := dk_21 10 (dk_at dksJ16_vectorizedMismatch_10 18 rfl rfl)
theorem dJ16_vectorizedMismatch_253 : decode cJ16_vectorizedMismatch 253 = .ok (.iload 11, 2) := dk_21 11 (dk_at dksJ16_vectorizedMismatch_10 20 rfl rfl)
theorem dJ16_vectorizedMismatch_255 : decode cJ16_vectorizedMismatch 255 = .ok (.isub, 1) := dk_100 (dk_at dksJ16_vectorizedMismatch_10 22 rfl rfl)
theorem dJ16_vectorizedMismatch_256 : decode cJ16_vectorizedMismatch 256 = .ok (.istore 10, 2) := dk_54 10 (dk_at dksJ16_vectorizedMismatch_11 0 rfl rfl)
theorem dJ16_vectorizedMismatch_258 : decode cJ16_vectorizedMismatch 258 = .ok (.iload 10, 2) := dk_21 10 (dk_at dksJ16_vectorizedMismatch_11 2 rfl rfl)
theorem dJ16_vectorizedMismatch_260 : decode cJ16_vectorizedMismatch 260 = .ok (.iconst (-1), 1) := dk_2 (dk_at dksJ16_vectorizedMismatch_11 4 rfl rfl)
theorem dJ16_vectorizedMismatch_261 : decode cJ16_vectorizedMismatch 261 = .ok (.ixor, 1) := dk_130 (dk_at dksJ16_vectorizedMismatch_11 5 rfl rfl)
theorem dJ16_vectorizedMismatch_262 : decode cJ16_vectorizedMismatch 262 = .ok (.ireturn, 1) := dk_172 (dk_at dksJ16_vectorizedMismatch_11 6 rfl rfl)
theorem dJ16_vectorizedMismatch_263 : decode cJ16_vectorizedMismatch 263 = .ok (.iload 10, 2) := dk_21 10 (dk_at dksJ16_vectorizedMismatch_11 7 rfl rfl)
theorem dJ16_vectorizedMismatch_265 : decode cJ16_vectorizedMismatch 265 = .ok (.iconst (-1), 1) := dk_2 (dk_at dksJ16_vectorizedMismatch_11 9 rfl rfl)
theorem dJ16_vectorizedMismatch_266 : decode cJ16_vectorizedMismatch 266 = .ok (.ixor, 1) := dk_130 (dk_at dksJ16_vectorizedMismatch_11 10 rfl rfl)
theorem dJ16_vectorizedMismatch_267 : decode cJ16_vectorizedMismatch 267 = .ok (.ireturn, 1) := dk_172 (dk_at dksJ16_vectorizedMismatch_11 11 rfl rfl)
def dkwJ16_vectorizedHashCode_6 : List UInt8 := [183, 0, 91, 18, 92, 182, 0, 94, 21, 4, 182, 0, 98, 182, 0, 101, 183, 0, 105, 191, 172]
abbrev dktJ16_vectorizedHashCode_6 : List UInt8 := dkwJ16_vectorizedHashCode_6 ++ []
def dkwJ16_vectorizedHashCode_5 : List UInt8 := [167, 0, 44, 29, 42, 192, 0, 82, 27, 28, 184, 0, 84, 167, 0, 31, 187, 0, 87, 89, 187, 0, 89, 89]
abbrev dktJ16_vectorizedHashCode_5 : List UInt8 := dkwJ16_vectorizedHashCode_5 ++ dktJ16_vectorizedHashCode_6
def dkwJ16_vectorizedHashCode_4 : List UInt8 := [29, 42, 192, 0, 60, 27, 28, 184, 0, 75, 167, 0, 57, 29, 42, 192, 0, 77, 27, 28, 184, 0, 79]
abbrev dktJ16_vectorizedHashCode_4 : List UInt8 := dkwJ16_vectorizedHashCode_4 ++ dktJ16_vectorizedHashCode_5
def dkwJ16_vectorizedHashCode_3 : List UInt8 := [192, 0, 60, 27, 28, 184, 0, 66, 167, 0, 83, 29, 42, 192, 0, 69, 27, 28, 184, 0, 71, 167, 0, 70]
abbrev dktJ16_vectorizedHashCode_3 : List UInt8 := dkwJ16_vectorizedHashCode_3 ++ dktJ16_vectorizedHashCode_4
def dkwJ16_vectorizedHashCode_2 : List UInt8 := [29, 42, 192, 0, 60, 27, 28, 184, 0, 62, 167, 0, 103, 42, 193, 0, 60, 153, 0, 16, 29, 42]
abbrev dktJ16_vectorizedHashCode_2 : List UInt8 := dkwJ16_vectorizedHashCode_2 ++ dktJ16_vectorizedHashCode_3
def dkwJ16_vectorizedHashCode_1 : List UInt8 := [170, 0, 0, 0, 0, 127, 0, 0, 0, 4, 0, 0, 0, 10, 0, 0, 0, 42, 0, 0, 0, 55, 0, 0, 0, 127, 0, 0, 0, 127, 0, 0, 0, 88, 0, 0, 0, 101, 0, 0, 0, 114]
abbrev dktJ16_vectorizedHashCode_1 : List UInt8 := dkwJ16_vectorizedHashCode_1 ++ dktJ16_vectorizedHashCode_2
def dkwJ16_vectorizedHashCode_0 : List UInt8 := [21, 4]
abbrev dktJ16_vectorizedHashCode_0 : List UInt8 := dkwJ16_vectorizedHashCode_0 ++ dktJ16_vectorizedHashCode_1
theorem dksJ16_vectorizedHashCode_0 : cJ16_vectorizedHashCode.data.toList.drop 0 = dktJ16_vectorizedHashCode_0 := by decide +kernel
theorem dksJ16_vectorizedHashCode_1 : cJ16_vectorizedHashCode.data.toList.drop 2 = dktJ16_vectorizedHashCode_1 := dk_seg dksJ16_vectorizedHashCode_0 2 rfl rfl
theorem dksJ16_vectorizedHashCode_2 : cJ16_vectorizedHashCode.data.toList.drop 44 = dktJ16_vectorizedHashCode_2 := dk_seg dksJ16_vectorizedHashCode_1 42 rfl rfl
theorem dksJ16_vectorizedHashCode_3 : cJ16_vectorizedHashCode.data.toList.drop 66 = dktJ16_vectorizedHashCode_3 := dk_seg dksJ16_vectorizedHashCode_2 22 rfl rfl
theorem dksJ16_vectorizedHashCode_4 : cJ16_vectorizedHashCode.data.toList.drop 90 = dktJ16_vectorizedHashCode_4 := dk_seg dksJ16_vectorizedHashCode_3 24 rfl rfl
theorem dksJ16_vectorizedHashCode_5 : cJ16_vectorizedHashCode.data.toList.drop 113 = dktJ16_vectorizedHashCode_5 := dk_seg dksJ16_vectorizedHashCode_4 23 rfl rfl
theorem dksJ16_vectorizedHashCode_6 : cJ16_vectorizedHashCode.data.toList.drop 137 = dktJ16_vectorizedHashCode_6 := dk_seg dksJ16_vectorizedHashCode_5 24 rfl rfl
theorem dJ16_vectorizedHashCode_0 : decode cJ16_vectorizedHashCode 0 = .ok (.iload 4, 2) := dk_21 4 (dk_at dksJ16_vectorizedHashCode_0 0 rfl rfl)
theorem dJ16_vectorizedHashCode_2 : decode cJ16_vectorizedHashCode 2 = .ok (.tableswitch 127 4 10 #[42, 55, 127, 127, 88, 101, 114], 42) := by decide +kernel
theorem dJ16_vectorizedHashCode_44 : decode cJ16_vectorizedHashCode 44 = .ok (.iload_n 3, 1) := dk_29 (dk_at dksJ16_vectorizedHashCode_2 0 rfl rfl)
theorem dJ16_vectorizedHashCode_45 : decode cJ16_vectorizedHashCode 45 = .ok (.aload_n 0, 1) := dk_42 (dk_at dksJ16_vectorizedHashCode_2 1 rfl rfl)
theorem dJ16_vectorizedHashCode_46 : decode cJ16_vectorizedHashCode 46 = .ok (.checkcast 60, 3) := dk_192 0 60 (dk_at dksJ16_vectorizedHashCode_2 2 rfl rfl)
theorem dJ16_vectorizedHashCode_49 : decode cJ16_vectorizedHashCode 49 = .ok (.iload_n 1, 1) := dk_27 (dk_at dksJ16_vectorizedHashCode_2 5 rfl rfl)
theorem dJ16_vectorizedHashCode_50 : decode cJ16_vectorizedHashCode 50 = .ok (.iload_n 2, 1) := dk_28 (dk_at dksJ16_vectorizedHashCode_2 6 rfl rfl)
theorem dJ16_vectorizedHashCode_51 : decode cJ16_vectorizedHashCode 51 = .ok (.invokestatic 62, 3) := dk_184 0 62 (dk_at dksJ16_vectorizedHashCode_2 7 rfl rfl)
theorem dJ16_vectorizedHashCode_54 : decode cJ16_vectorizedHashCode 54 = .ok (.goto 103, 3) := dk_167 0 103 (dk_at dksJ16_vectorizedHashCode_2 10 rfl rfl)
theorem dJ16_vectorizedHashCode_57 : decode cJ16_vectorizedHashCode 57 = .ok (.aload_n 0, 1) := dk_42 (dk_at dksJ16_vectorizedHashCode_2 13 rfl rfl)
theorem dJ16_vectorizedHashCode_58 : decode cJ16_vectorizedHashCode 58 = .ok (.instanceof 60, 3) := dk_193 0 60 (dk_at dksJ16_vectorizedHashCode_2 14 rfl rfl)
theorem dJ16_vectorizedHashCode_61 : decode cJ16_vectorizedHashCode 61 = .ok (.ifCond .eq 16, 3) := dk_153 0 16 (dk_at dksJ16_vectorizedHashCode_2 17 rfl rfl)
theorem dJ16_vectorizedHashCode_64 : decode cJ16_vectorizedHashCode 64 = .ok (.iload_n 3, 1) := dk_29 (dk_at dksJ16_vectorizedHashCode_2 20 rfl rfl)
theorem dJ16_vectorizedHashCode_65 : decode cJ16_vectorizedHashCode 65 = .ok (.aload_n 0, 1) := dk_42 (dk_at dksJ16_vectorizedHashCode_2 21 rfl rfl)
theorem dJ16_vectorizedHashCode_66 : decode cJ16_vectorizedHashCode 66 = .ok (.checkcast 60, 3) := dk_192 0 60 (dk_at dksJ16_vectorizedHashCode_3 0 rfl rfl)
theorem dJ16_vectorizedHashCode_69 : decode cJ16_vectorizedHashCode 69 = .ok (.iload_n 1, 1) := dk_27 (dk_at dksJ16_vectorizedHashCode_3 3 rfl rfl)
theorem dJ16_vectorizedHashCode_70 : decode cJ16_vectorizedHashCode 70 = .ok (.iload_n 2, 1) := dk_28 (dk_at dksJ16_vectorizedHashCode_3 4 rfl rfl)
theorem dJ16_vectorizedHashCode_71 : decode cJ16_vectorizedHashCode 71 = .ok (.invokestatic 66, 3) := dk_184 0 66 (dk_at dksJ16_vectorizedHashCode_3 5 rfl rfl)
theorem dJ16_vectorizedHashCode_74 : decode cJ16_vectorizedHashCode 74 = .ok (.goto 83, 3) := dk_167 0 83 (dk_at dksJ16_vectorizedHashCode_3 8 rfl rfl)
theorem dJ16_vectorizedHashCode_77 : decode cJ16_vectorizedHashCode 77 = .ok (.iload_n 3, 1) := dk_29 (dk_at dksJ16_vectorizedHashCode_3 11 rfl rfl)
theorem dJ16_vectorizedHashCode_78 : decode cJ16_vectorizedHashCode 78 = .ok (.aload_n 0, 1) := dk_42 (dk_at dksJ16_vectorizedHashCode_3 12 rfl rfl)
theorem dJ16_vectorizedHashCode_79 : decode cJ16_vectorizedHashCode 79 = .ok (.checkcast 69, 3) := dk_192 0 69 (dk_at dksJ16_vectorizedHashCode_3 13 rfl rfl)
theorem dJ16_vectorizedHashCode_82 : decode cJ16_vectorizedHashCode 82 = .ok (.iload_n 1, 1) := dk_27 (dk_at dksJ16_vectorizedHashCode_3 16 rfl rfl)
theorem dJ16_vectorizedHashCode_83 : decode cJ16_vectorizedHashCode 83 = .ok (.iload_n 2, 1) := dk_28 (dk_at dksJ16_vectorizedHashCode_3 17 rfl rfl)
theorem dJ16_vectorizedHashCode_84 : decode cJ16_vectorizedHashCode 84 = .ok (.invokestatic 71, 3) := dk_184 0 71 (dk_at dksJ16_vectorizedHashCode_3 18 rfl rfl)
theorem dJ16_vectorizedHashCode_87 : decode cJ16_vectorizedHashCode 87 = .ok (.goto 70, 3) := dk_167 0 70 (dk_at dksJ16_vectorizedHashCode_3 21 rfl rfl)
theorem dJ16_vectorizedHashCode_90 : decode cJ16_vectorizedHashCode 90 = .ok (.iload_n 3, 1) := dk_29 (dk_at dksJ16_vectorizedHashCode_4 0 rfl rfl)
theorem dJ16_vectorizedHashCode_91 : decode cJ16_vectorizedHashCode 91 = .ok (.aload_n 0, 1) := dk_42 (dk_at dksJ16_vectorizedHashCode_4 1 rfl rfl)
theorem dJ16_vectorizedHashCode_92 : decode cJ16_vectorizedHashCode 92 = .ok (.checkcast 60, 3) := dk_192 0 60 (dk_at dksJ16_vectorizedHashCode_4 2 rfl rfl)
theorem dJ16_vectorizedHashCode_95 : decode cJ16_vectorizedHashCode 95 = .ok (.iload_n 1, 1) := dk_27 (dk_at dksJ16_vectorizedHashCode_4 5 rfl rfl)
theorem dJ16_vectorizedHashCode_96 : decode cJ16_vectorizedHashCode 96 = .ok (.iload_n 2, 1) := dk_28 (dk_at dksJ16_vectorizedHashCode_4 6 rfl rfl)
theorem dJ16_vectorizedHashCode_97 : decode cJ16_vectorizedHashCode 97 = .ok (.invokestatic 75, 3) := dk_184 0 75 (dk_at dksJ16_vectorizedHashCode_4 7 rfl rfl)
theorem dJ16_vectorizedHashCode_100 : decode cJ16_vectorizedHashCode 100 = .ok (.goto 57, 3) := dk_167 0 57 (dk_at dksJ16_vectorizedHashCode_4 10 rfl rfl)
theorem dJ16_vectorizedHashCode_103 : decode cJ16_vectorizedHashCode 103 = .ok (.iload_n 3, 1) := dk_29 (dk_at dksJ16_vectorizedHashCode_4 13 rfl rfl)
theorem dJ16_vectorizedHashCode_104 : decode cJ16_vectorizedHashCode 104 = .ok (.aload_n 0, 1) := dk_42 (dk_at dksJ16_vectorizedHashCode_4 14 rfl rfl)
theorem dJ16_vectorizedHashCode_105 : decode cJ16_vectorizedHashCode 105 = .ok (.checkcast 77, 3) := dk_192 0 77 (dk_at dksJ16_vectorizedHashCode_4 15 rfl rfl)
theorem dJ16_vectorizedHashCode_108 : decode cJ16_vectorizedHashCode 108 = .ok (.iload_n 1, 1) := dk_27 (dk_at dksJ16_vectorizedHashCode_4 18 rfl rfl)
theorem dJ16_vectorizedHashCode_109 : decode cJ16_vectorizedHashCode 109 = .ok (.iload_n 2, 1) := dk_28 (dk_at dksJ16_vectorizedHashCode_4 19 rfl rfl)
theorem dJ16_vectorizedHashCode_110 : decode cJ16_vectorizedHashCode 110 = .ok (.invokestatic 79, 3) := dk_184 0 79 (dk_at dksJ16_vectorizedHashCode_4 20 rfl rfl)
theorem dJ16_vectorizedHashCode_113 : decode cJ16_vectorizedHashCode 113 = .ok (.goto 44, 3) := dk_167 0 44 (dk_at dksJ16_vectorizedHashCode_5 0 rfl rfl)
theorem dJ16_vectorizedHashCode_116 : decode cJ16_vectorizedHashCode 116 = .ok (.iload_n 3, 1) := dk_29 (dk_at dksJ16_vectorizedHashCode_5 3 rfl rfl)
theorem dJ16_vectorizedHashCode_117 : decode cJ16_vectorizedHashCode 117 = .ok (.aload_n 0, 1) := dk_42 (dk_at dksJ16_vectorizedHashCode_5 4 rfl rfl)
theorem dJ16_vectorizedHashCode_118 : decode cJ16_vectorizedHashCode 118 = .ok (.checkcast 82, 3) := dk_192 0 82 (dk_at dksJ16_vectorizedHashCode_5 5 rfl rfl)
theorem dJ16_vectorizedHashCode_121 : decode cJ16_vectorizedHashCode 121 = .ok (.iload_n 1, 1) := dk_27 (dk_at dksJ16_vectorizedHashCode_5 8 rfl rfl)
theorem dJ16_vectorizedHashCode_122 : decode cJ16_vectorizedHashCode 122 = .ok (.iload_n 2, 1) := dk_28 (dk_at dksJ16_vectorizedHashCode_5 9 rfl rfl)
theorem dJ16_vectorizedHashCode_123 : decode cJ16_vectorizedHashCode 123 = .ok (.invokestatic 84, 3) := dk_184 0 84 (dk_at dksJ16_vectorizedHashCode_5 10 rfl rfl)
theorem dJ16_vectorizedHashCode_126 : decode cJ16_vectorizedHashCode 126 = .ok (.goto 31, 3) := dk_167 0 31 (dk_at dksJ16_vectorizedHashCode_5 13 rfl rfl)
theorem dJ16_vectorizedHashCode_129 : decode cJ16_vectorizedHashCode 129 = .ok (.new 87, 3) := dk_187 0 87 (dk_at dksJ16_vectorizedHashCode_5 16 rfl rfl)
theorem dJ16_vectorizedHashCode_132 : decode cJ16_vectorizedHashCode 132 = .ok (.dup, 1) := dk_89 (dk_at dksJ16_vectorizedHashCode_5 19 rfl rfl)
theorem dJ16_vectorizedHashCode_133 : decode cJ16_vectorizedHashCode 133 = .ok (.new 89, 3) := dk_187 0 89 (dk_at dksJ16_vectorizedHashCode_5 20 rfl rfl)
theorem dJ16_vectorizedHashCode_136 : decode cJ16_vectorizedHashCode 136 = .ok (.dup, 1) := dk_89 (dk_at dksJ16_vectorizedHashCode_5 23 rfl rfl)
theorem dJ16_vectorizedHashCode_137 : decode cJ16_vectorizedHashCode 137 = .ok (.invokespecial 91, 3) := dk_183 0 91 (dk_at dksJ16_vectorizedHashCode_6 0 rfl rfl)
theorem dJ16_vectorizedHashCode_140 : decode cJ16_vectorizedHashCode 140 = .ok (.ldc 92, 2) := dk_18 92 (dk_at dksJ16_vectorizedHashCode_6 3 rfl rfl)
theorem dJ16_vectorizedHashCode_142 : decode cJ16_vectorizedHashCode 142 = .ok (.invokevirtual 94, 3) := dk_182 0 94 (dk_at dksJ16_vectorizedHashCode_6 5 rfl rfl)
theorem dJ16_vectorizedHashCode_145 : decode cJ16_vectorizedHashCode 145 = .ok (.iload 4, 2) := dk_21 4 (dk_at dksJ16_vectorizedHashCode_6 8 rfl rfl)
theorem dJ16_vectorizedHashCode_147 : decode cJ16_vectorizedHashCode 147 = .ok (.invokevirtual 98, 3) := dk_182 0 98 (dk_at dksJ16_vectorizedHashCode_6 10 rfl rfl)
theorem dJ16_vectorizedHashCode_150 : decode cJ16_vectorizedHashCode 150 = .ok (.invokevirtual 101, 3) := dk_182 0 101 (dk_at dksJ16_vectorizedHashCode_6 13 rfl rfl)
theorem dJ16_vectorizedHashCode_153 : decode cJ16_vectorizedHashCode 153 = .ok (.invokespecial 105, 3) := dk_183 0 105 (dk_at dksJ16_vectorizedHashCode_6 16 rfl rfl)
theorem dJ16_vectorizedHashCode_156 : decode cJ16_vectorizedHashCode 156 = .ok (.athrow, 1) := dk_191 (dk_at dksJ16_vectorizedHashCode_6 19 rfl rfl)
theorem dJ16_vectorizedHashCode_157 : decode cJ16_vectorizedHashCode 157 = .ok (.ireturn, 1) := dk_172 (dk_at dksJ16_vectorizedHashCode_6 20 rfl rfl)
def dkwJ16_signedHashCode_1 : List UInt8 := [17, 0, 255, 126, 96, 59, 132, 5, 1, 167, 255, 232, 26, 172]
abbrev dktJ16_signedHashCode_1 : List UInt8 := dkwJ16_signedHashCode_1 ++ []
def dkwJ16_signedHashCode_0 : List UInt8 := [28, 29, 96, 54, 4, 28, 54, 5, 21, 5, 21, 4, 162, 0, 23, 16, 31, 26, 104, 43, 21, 5, 51]
abbrev dktJ16_signedHashCode_0 : List UInt8 := dkwJ16_signedHashCode_0 ++ dktJ16_signedHashCode_1
theorem dksJ16_signedHashCode_0 : cJ16_signedHashCode.data.toList.drop 0 = dktJ16_signedHashCode_0 := by decide +kernel
theorem dksJ16_signedHashCode_1 : cJ16_signedHashCode.data.toList.drop 23 = dktJ16_signedHashCode_1 := dk_seg dksJ16_signedHashCode_0 23 rfl rfl
theorem dJ16_signedHashCode_0 : decode cJ16_signedHashCode 0 = .ok (.iload_n 2, 1) := dk_28 (dk_at dksJ16_signedHashCode_0 0 rfl rfl)
theorem dJ16_signedHashCode_1 : decode cJ16_signedHashCode 1 = .ok (.iload_n 3, 1) := dk_29 (dk_at dksJ16_signedHashCode_0 1 rfl rfl)
theorem dJ16_signedHashCode_2 : decode cJ16_signedHashCode 2 = .ok (.iadd, 1) := dk_96 (dk_at dksJ16_signedHashCode_0 2 rfl rfl)
theorem dJ16_signedHashCode_3 : decode cJ16_signedHashCode 3 = .ok (.istore 4, 2) := dk_54 4 (dk_at dksJ16_signedHashCode_0 3 rfl rfl)
theorem dJ16_signedHashCode_5 : decode cJ16_signedHashCode 5 = .ok (.iload_n 2, 1) := dk_28 (dk_at dksJ16_signedHashCode_0 5 rfl rfl)
theorem dJ16_signedHashCode_6 : decode cJ16_signedHashCode 6 = .ok (.istore 5, 2) := dk_54 5 (dk_at dksJ16_signedHashCode_0 6 rfl rfl)
theorem dJ16_signedHashCode_8 : decode cJ16_signedHashCode 8 = .ok (.iload 5, 2) := dk_21 5 (dk_at dksJ16_signedHashCode_0 8 rfl rfl)
theorem dJ16_signedHashCode_10 : decode cJ16_signedHashCode 10 = .ok (.iload 4, 2) := dk_21 4 (dk_at dksJ16_signedHashCode_0 10 rfl rfl)
theorem dJ16_signedHashCode_12 : decode cJ16_signedHashCode 12 = .ok (.if_icmp .ge 23, 3) := dk_162 0 23 (dk_at dksJ16_signedHashCode_0 12 rfl rfl)
theorem dJ16_signedHashCode_15 : decode cJ16_signedHashCode 15 = .ok (.bipush 31, 2) := dk_16 31 (dk_at dksJ16_signedHashCode_0 15 rfl rfl)
theorem dJ16_signedHashCode_17 : decode cJ16_signedHashCode 17 = .ok (.iload_n 0, 1) := dk_26 (dk_at dksJ16_signedHashCode_0 17 rfl rfl)
theorem dJ16_signedHashCode_18 : decode cJ16_signedHashCode 18 = .ok (.imul, 1) := dk_104 (dk_at dksJ16_signedHashCode_0 18 rfl rfl)
theorem dJ16_signedHashCode_19 : decode cJ16_signedHashCode 19 = .ok (.aload_n 1, 1) := dk_43 (dk_at dksJ16_signedHashCode_0 19 rfl rfl)
theorem dJ16_signedHashCode_20 : decode cJ16_signedHashCode 20 = .ok (.iload 5, 2) := dk_21 5 (dk_at dksJ16_signedHashCode_0 20 rfl rfl)
theorem dJ16_signedHashCode_22 : decode cJ16_signedHashCode 22 = .ok (.baload, 1) := dk_51 (dk_at dksJ16_signedHashCode_0 22 rfl rfl)
theorem dJ16_signedHashCode_23 : decode cJ16_signedHashCode 23 = .ok (.sipush 255, 3) := dk_17 0 255 (dk_at dksJ16_signedHashCode_1 0 rfl rfl)
theorem dJ16_signedHashCode_26 : decode cJ16_signedHashCode 26 = .ok (.iand, 1) := dk_126 (dk_at dksJ16_signedHashCode_1 3 rfl rfl)
theorem dJ16_signedHashCode_27 : decode cJ16_signedHashCode 27 = .ok (.iadd, 1) := dk_96 (dk_at dksJ16_signedHashCode_1 4 rfl rfl)
theorem dJ16_signedHashCode_28 : decode cJ16_signedHashCode 28 = .ok (.istore_n 0, 1) := dk_59 (dk_at dksJ16_signedHashCode_1 5 rfl rfl)
theorem dJ16_signedHashCode_29 : decode cJ16_signedHashCode 29 = .ok (.iinc 5 1, 3) := dk_132 5 1 (dk_at dksJ16_signedHashCode_1 6 rfl rfl)
theorem dJ16_signedHashCode_32 : decode cJ16_signedHashCode 32 = .ok (.goto (-24), 3) := dk_167 255 232 (dk_at dksJ16_signedHashCode_1 9 rfl rfl)
theorem dJ16_signedHashCode_35 : decode cJ16_signedHashCode 35 = .ok (.iload_n 0, 1) := dk_26 (dk_at dksJ16_signedHashCode_1 12 rfl rfl)
theorem dJ16_signedHashCode_36 : decode cJ16_signedHashCode 36 = .ok (.ireturn, 1) := dk_172 (dk_at dksJ16_signedHashCode_1 13 rfl rfl)
def dkwJ16_utf16hashCode_1 : List UInt8 := [21, 5, 185, 0, 110, 3, 0, 96, 59, 132, 5, 1, 167, 255, 229, 26, 172]
abbrev dktJ16_utf16hashCode_1 : List UInt8 := dkwJ16_utf16hashCode_1 ++ []
def dkwJ16_utf16hashCode_0 : List UInt8 := [28, 29, 96, 54, 4, 28, 54, 5, 21, 5, 21, 4, 162, 0, 26, 16, 31, 26, 104, 178, 0, 106, 43]
abbrev dktJ16_utf16hashCode_0 : List UInt8 := dkwJ16_utf16hashCode_0 ++ dktJ16_utf16hashCode_1
theorem dksJ16_utf16hashCode_0 : cJ16_utf16hashCode.data.toList.drop 0 = dktJ16_utf16hashCode_0 := by decide +kernel
theorem dksJ16_utf16hashCode_1 : cJ16_utf16hashCode.data.toList.drop 23 = dktJ16_utf16hashCode_1 := dk_seg dksJ16_utf16hashCode_0 23 rfl rfl
theorem dJ16_utf16hashCode_0 : decode cJ16_utf16hashCode 0 = .ok (.iload_n 2, 1) := dk_28 (dk_at dksJ16_utf16hashCode_0 0 rfl rfl)
theorem dJ16_utf16hashCode_1 : decode cJ16_utf16hashCode 1 = .ok (.iload_n 3, 1) := dk_29 (dk_at dksJ16_utf16hashCode_0 1 rfl rfl)
theorem dJ16_utf16hashCode_2 : decode cJ16_utf16hashCode 2 = .ok (.iadd, 1) := dk_96 (dk_at dksJ16_utf16hashCode_0 2 rfl rfl)
theorem dJ16_utf16hashCode_3 : decode cJ16_utf16hashCode 3 = .ok (.istore 4, 2) := dk_54 4 (dk_at dksJ16_utf16hashCode_0 3 rfl rfl)
theorem dJ16_utf16hashCode_5 : decode cJ16_utf16hashCode 5 = .ok (.iload_n 2, 1) := dk_28 (dk_at dksJ16_utf16hashCode_0 5 rfl rfl)
theorem dJ16_utf16hashCode_6 : decode cJ16_utf16hashCode 6 = .ok (.istore 5, 2) := dk_54 5 (dk_at dksJ16_utf16hashCode_0 6 rfl rfl)
theorem dJ16_utf16hashCode_8 : decode cJ16_utf16hashCode 8 = .ok (.iload 5, 2) := dk_21 5 (dk_at dksJ16_utf16hashCode_0 8 rfl rfl)
theorem dJ16_utf16hashCode_10 : decode cJ16_utf16hashCode 10 = .ok (.iload 4, 2) := dk_21 4 (dk_at dksJ16_utf16hashCode_0 10 rfl rfl)
theorem dJ16_utf16hashCode_12 : decode cJ16_utf16hashCode 12 = .ok (.if_icmp .ge 26, 3) := dk_162 0 26 (dk_at dksJ16_utf16hashCode_0 12 rfl rfl)
theorem dJ16_utf16hashCode_15 : decode cJ16_utf16hashCode 15 = .ok (.bipush 31, 2) := dk_16 31 (dk_at dksJ16_utf16hashCode_0 15 rfl rfl)
theorem dJ16_utf16hashCode_17 : decode cJ16_utf16hashCode 17 = .ok (.iload_n 0, 1) := dk_26 (dk_at dksJ16_utf16hashCode_0 17 rfl rfl)
theorem dJ16_utf16hashCode_18 : decode cJ16_utf16hashCode 18 = .ok (.imul, 1) := dk_104 (dk_at dksJ16_utf16hashCode_0 18 rfl rfl)
theorem dJ16_utf16hashCode_19 : decode cJ16_utf16hashCode 19 = .ok (.getstatic 106, 3) := dk_178 0 106 (dk_at dksJ16_utf16hashCode_0 19 rfl rfl)
theorem dJ16_utf16hashCode_22 : decode cJ16_utf16hashCode 22 = .ok (.aload_n 1, 1) := dk_43 (dk_at dksJ16_utf16hashCode_0 22 rfl rfl)
theorem dJ16_utf16hashCode_23 : decode cJ16_utf16hashCode 23 = .ok (.iload 5, 2) := dk_21 5 (dk_at dksJ16_utf16hashCode_1 0 rfl rfl)
theorem dJ16_utf16hashCode_25 : decode cJ16_utf16hashCode 25 = .ok (.invokeinterface 110 3, 5) := by decide +kernel
theorem dJ16_utf16hashCode_30 : decode cJ16_utf16hashCode 30 = .ok (.iadd, 1) := dk_96 (dk_at dksJ16_utf16hashCode_1 7 rfl rfl)
theorem dJ16_utf16hashCode_31 : decode cJ16_utf16hashCode 31 = .ok (.istore_n 0, 1) := dk_59 (dk_at dksJ16_utf16hashCode_1 8 rfl rfl)
theorem dJ16_utf16hashCode_32 : decode cJ16_utf16hashCode 32 = .ok (.iinc 5 1, 3) := dk_132 5 1 (dk_at dksJ16_utf16hashCode_1 9 rfl rfl)
theorem dJ16_utf16hashCode_35 : decode cJ16_utf16hashCode 35 = .ok (.goto (-27), 3) := dk_167 255 229 (dk_at dksJ16_utf16hashCode_1 12 rfl rfl)
theorem dJ16_utf16hashCode_38 : decode cJ16_utf16hashCode 38 = .ok (.iload_n 0, 1) := dk_26 (dk_at dksJ16_utf16hashCode_1 15 rfl rfl)
theorem dJ16_utf16hashCode_39 : decode cJ16_utf16hashCode 39 = .ok (.ireturn, 1) := dk_172 (dk_at dksJ16_utf16hashCode_1 16 rfl rfl)
def dkwJ16_hashCode_1 : List UInt8 := [59, 132, 5, 1, 167, 255, 236, 26, 172]
abbrev dktJ16_hashCode_1 : List UInt8 := dkwJ16_hashCode_1 ++ []
def dkwJ16_hashCode_0 : List UInt8 := [28, 29, 96, 54, 4, 28, 54, 5, 21, 5, 21, 4, 162, 0, 19, 16, 31, 26, 104, 43, 21, 5, 52, 96]
abbrev dktJ16_hashCode_0 : List UInt8 := dkwJ16_hashCode_0 ++ dktJ16_hashCode_1
theorem dksJ16_hashCode_0 : cJ16_hashCode.data.toList.drop 0 = dktJ16_hashCode_0 := by decide +kernel
theorem dksJ16_hashCode_1 : cJ16_hashCode.data.toList.drop 24 = dktJ16_hashCode_1 := dk_seg dksJ16_hashCode_0 24 rfl rfl
theorem dJ16_hashCode_0 : decode cJ16_hashCode 0 = .ok (.iload_n 2, 1) := dk_28 (dk_at dksJ16_hashCode_0 0 rfl rfl)
theorem dJ16_hashCode_1 : decode cJ16_hashCode 1 = .ok (.iload_n 3, 1) := dk_29 (dk_at dksJ16_hashCode_0 1 rfl rfl)
theorem dJ16_hashCode_2 : decode cJ16_hashCode 2 = .ok (.iadd, 1) := dk_96 (dk_at dksJ16_hashCode_0 2 rfl rfl)
theorem dJ16_hashCode_3 : decode cJ16_hashCode 3 = .ok (.istore 4, 2) := dk_54 4 (dk_at dksJ16_hashCode_0 3 rfl rfl)
theorem dJ16_hashCode_5 : decode cJ16_hashCode 5 = .ok (.iload_n 2, 1) := dk_28 (dk_at dksJ16_hashCode_0 5 rfl rfl)
theorem dJ16_hashCode_6 : decode cJ16_hashCode 6 = .ok (.istore 5, 2) := dk_54 5 (dk_at dksJ16_hashCode_0 6 rfl rfl)
theorem dJ16_hashCode_8 : decode cJ16_hashCode 8 = .ok (.iload 5, 2) := dk_21 5 (dk_at dksJ16_hashCode_0 8 rfl rfl)
theorem dJ16_hashCode_10 : decode cJ16_hashCode 10 = .ok (.iload 4, 2) := dk_21 4 (dk_at dksJ16_hashCode_0 10 rfl rfl)
theorem dJ16_hashCode_12 : decode cJ16_hashCode 12 = .ok (.if_icmp .ge 19, 3) := dk_162 0 19 (dk_at dksJ16_hashCode_0 12 rfl rfl)
theorem dJ16_hashCode_15 : decode cJ16_hashCode 15 = .ok (.bipush 31, 2) := dk_16 31 (dk_at dksJ16_hashCode_0 15 rfl rfl)
theorem dJ16_hashCode_17 : decode cJ16_hashCode 17 = .ok (.iload_n 0, 1) := dk_26 (dk_at dksJ16_hashCode_0 17 rfl rfl)
theorem dJ16_hashCode_18 : decode cJ16_hashCode 18 = .ok (.imul, 1) := dk_104 (dk_at dksJ16_hashCode_0 18 rfl rfl)
theorem dJ16_hashCode_19 : decode cJ16_hashCode 19 = .ok (.aload_n 1, 1) := dk_43 (dk_at dksJ16_hashCode_0 19 rfl rfl)
theorem dJ16_hashCode_20 : decode cJ16_hashCode 20 = .ok (.iload 5, 2) := dk_21 5 (dk_at dksJ16_hashCode_0 20 rfl rfl)
theorem dJ16_hashCode_22 : decode cJ16_hashCode 22 = .ok (.caload, 1) := dk_52 (dk_at dksJ16_hashCode_0 22 rfl rfl)
theorem dJ16_hashCode_23 : decode cJ16_hashCode 23 = .ok (.iadd, 1) := dk_96 (dk_at dksJ16_hashCode_0 23 rfl rfl)
theorem dJ16_hashCode_24 : decode cJ16_hashCode 24 = .ok (.istore_n 0, 1) := dk_59 (dk_at dksJ16_hashCode_1 0 rfl rfl)
theorem dJ16_hashCode_25 : decode cJ16_hashCode 25 = .ok (.iinc 5 1, 3) := dk_132 5 1 (dk_at dksJ16_hashCode_1 1 rfl rfl)
theorem dJ16_hashCode_28 : decode cJ16_hashCode 28 = .ok (.goto (-20), 3) := dk_167 255 236 (dk_at dksJ16_hashCode_1 4 rfl rfl)
theorem dJ16_hashCode_31 : decode cJ16_hashCode 31 = .ok (.iload_n 0, 1) := dk_26 (dk_at dksJ16_hashCode_1 7 rfl rfl)
theorem dJ16_hashCode_32 : decode cJ16_hashCode 32 = .ok (.ireturn, 1) := dk_172 (dk_at dksJ16_hashCode_1 8 rfl rfl)
def dkwJ16_hashCode_2_1 : List UInt8 := [59, 132, 5, 1, 167, 255, 236, 26, 172]
abbrev dktJ16_hashCode_2_1 : List UInt8 := dkwJ16_hashCode_2_1 ++ []
def dkwJ16_hashCode_2_0 : List UInt8 := [28, 29, 96, 54, 4, 28, 54, 5, 21, 5, 21, 4, 162, 0, 19, 16, 31, 26, 104, 43, 21, 5, 51, 96]
abbrev dktJ16_hashCode_2_0 : List UInt8 := dkwJ16_hashCode_2_0 ++ dktJ16_hashCode_2_1
theorem dksJ16_hashCode_2_0 : cJ16_hashCode_2.data.toList.drop 0 = dktJ16_hashCode_2_0 := by decide +kernel
theorem dksJ16_hashCode_2_1 : cJ16_hashCode_2.data.toList.drop 24 = dktJ16_hashCode_2_1 := dk_seg dksJ16_hashCode_2_0 24 rfl rfl
theorem dJ16_hashCode_2_0 : decode cJ16_hashCode_2 0 = .ok (.iload_n 2, 1) := dk_28 (dk_at dksJ16_hashCode_2_0 0 rfl rfl)
theorem dJ16_hashCode_2_1 : decode cJ16_hashCode_2 1 = .ok (.iload_n 3, 1) := dk_29 (dk_at dksJ16_hashCode_2_0 1 rfl rfl)
theorem dJ16_hashCode_2_2 : decode cJ16_hashCode_2 2 = .ok (.iadd, 1) := dk_96 (dk_at dksJ16_hashCode_2_0 2 rfl rfl)
theorem dJ16_hashCode_2_3 : decode cJ16_hashCode_2 3 = .ok (.istore 4, 2) := dk_54 4 (dk_at dksJ16_hashCode_2_0 3 rfl rfl)
theorem dJ16_hashCode_2_5 : decode cJ16_hashCode_2 5 = .ok (.iload_n 2, 1) := dk_28 (dk_at dksJ16_hashCode_2_0 5 rfl rfl)
theorem dJ16_hashCode_2_6 : decode cJ16_hashCode_2 6 = .ok (.istore 5, 2) := dk_54 5 (dk_at dksJ16_hashCode_2_0 6 rfl rfl)
theorem dJ16_hashCode_2_8 : decode cJ16_hashCode_2 8 = .ok (.iload 5, 2) := dk_21 5 (dk_at dksJ16_hashCode_2_0 8 rfl rfl)
theorem dJ16_hashCode_2_10 : decode cJ16_hashCode_2 10 = .ok (.iload 4, 2) := dk_21 4 (dk_at dksJ16_hashCode_2_0 10 rfl rfl)
theorem dJ16_hashCode_2_12 : decode cJ16_hashCode_2 12 = .ok (.if_icmp .ge 19, 3) := dk_162 0 19 (dk_at dksJ16_hashCode_2_0 12 rfl rfl)
theorem dJ16_hashCode_2_15 : decode cJ16_hashCode_2 15 = .ok (.bipush 31, 2) := dk_16 31 (dk_at dksJ16_hashCode_2_0 15 rfl rfl)
theorem dJ16_hashCode_2_17 : decode cJ16_hashCode_2 17 = .ok (.iload_n 0, 1) := dk_26 (dk_at dksJ16_hashCode_2_0 17 rfl rfl)
theorem dJ16_hashCode_2_18 : decode cJ16_hashCode_2 18 = .ok (.imul, 1) := dk_104 (dk_at dksJ16_hashCode_2_0 18 rfl rfl)
theorem dJ16_hashCode_2_19 : decode cJ16_hashCode_2 19 = .ok (.aload_n 1, 1) := dk_43 (dk_at dksJ16_hashCode_2_0 19 rfl rfl)
theorem dJ16_hashCode_2_20 : decode cJ16_hashCode_2 20 = .ok (.iload 5, 2) := dk_21 5 (dk_at dksJ16_hashCode_2_0 20 rfl rfl)
theorem dJ16_hashCode_2_22 : decode cJ16_hashCode_2 22 = .ok (.baload, 1) := dk_51 (dk_at dksJ16_hashCode_2_0 22 rfl rfl)
theorem dJ16_hashCode_2_23 : decode cJ16_hashCode_2 23 = .ok (.iadd, 1) := dk_96 (dk_at dksJ16_hashCode_2_0 23 rfl rfl)
theorem dJ16_hashCode_2_24 : decode cJ16_hashCode_2 24 = .ok (.istore_n 0, 1) := dk_59 (dk_at dksJ16_hashCode_2_1 0 rfl rfl)
theorem dJ16_hashCode_2_25 : decode cJ16_hashCode_2 25 = .ok (.iinc 5 1, 3) := dk_132 5 1 (dk_at dksJ16_hashCode_2_1 1 rfl rfl)
theorem dJ16_hashCode_2_28 : decode cJ16_hashCode_2 28 = .ok (.goto (-20), 3) := dk_167 255 236 (dk_at dksJ16_hashCode_2_1 4 rfl rfl)
theorem dJ16_hashCode_2_31 : decode cJ16_hashCode_2 31 = .ok (.iload_n 0, 1) := dk_26 (dk_at dksJ16_hashCode_2_1 7 rfl rfl)
theorem dJ16_hashCode_2_32 : decode cJ16_hashCode_2 32 = .ok (.ireturn, 1) := dk_172 (dk_at dksJ16_hashCode_2_1 8 rfl rfl)
def dkwJ16_hashCode_3_1 : List UInt8 := [59, 132, 5, 1, 167, 255, 236, 26, 172]
abbrev dktJ16_hashCode_3_1 : List UInt8 := dkwJ16_hashCode_3_1 ++ []
def dkwJ16_hashCode_3_0 : List UInt8 := [28, 29, 96, 54, 4, 28, 54, 5, 21, 5, 21, 4, 162, 0, 19, 16, 31, 26, 104, 43, 21, 5, 53, 96]
abbrev dktJ16_hashCode_3_0 : List UInt8 := dkwJ16_hashCode_3_0 ++ dktJ16_hashCode_3_1
theorem dksJ16_hashCode_3_0 : cJ16_hashCode_3.data.toList.drop 0 = dktJ16_hashCode_3_0 := by decide +kernel
theorem dksJ16_hashCode_3_1 : cJ16_hashCode_3.data.toList.drop 24 = dktJ16_hashCode_3_1 := dk_seg dksJ16_hashCode_3_0 24 rfl rfl
theorem dJ16_hashCode_3_0 : decode cJ16_hashCode_3 0 = .ok (.iload_n 2, 1) := dk_28 (dk_at dksJ16_hashCode_3_0 0 rfl rfl)
theorem dJ16_hashCode_3_1 : decode cJ16_hashCode_3 1 = .ok (.iload_n 3, 1) := dk_29 (dk_at dksJ16_hashCode_3_0 1 rfl rfl)
theorem dJ16_hashCode_3_2 : decode cJ16_hashCode_3 2 = .ok (.iadd, 1) := dk_96 (dk_at dksJ16_hashCode_3_0 2 rfl rfl)
theorem dJ16_hashCode_3_3 : decode cJ16_hashCode_3 3 = .ok (.istore 4, 2) := dk_54 4 (dk_at dksJ16_hashCode_3_0 3 rfl rfl)
theorem dJ16_hashCode_3_5 : decode cJ16_hashCode_3 5 = .ok (.iload_n 2, 1) := dk_28 (dk_at dksJ16_hashCode_3_0 5 rfl rfl)
theorem dJ16_hashCode_3_6 : decode cJ16_hashCode_3 6 = .ok (.istore 5, 2) := dk_54 5 (dk_at dksJ16_hashCode_3_0 6 rfl rfl)
theorem dJ16_hashCode_3_8 : decode cJ16_hashCode_3 8 = .ok (.iload 5, 2) := dk_21 5 (dk_at dksJ16_hashCode_3_0 8 rfl rfl)
theorem dJ16_hashCode_3_10 : decode cJ16_hashCode_3 10 = .ok (.iload 4, 2) := dk_21 4 (dk_at dksJ16_hashCode_3_0 10 rfl rfl)
theorem dJ16_hashCode_3_12 : decode cJ16_hashCode_3 12 = .ok (.if_icmp .ge 19, 3) := dk_162 0 19 (dk_at dksJ16_hashCode_3_0 12 rfl rfl)
theorem dJ16_hashCode_3_15 : decode cJ16_hashCode_3 15 = .ok (.bipush 31, 2) := dk_16 31 (dk_at dksJ16_hashCode_3_0 15 rfl rfl)
theorem dJ16_hashCode_3_17 : decode cJ16_hashCode_3 17 = .ok (.iload_n 0, 1) := dk_26 (dk_at dksJ16_hashCode_3_0 17 rfl rfl)
theorem dJ16_hashCode_3_18 : decode cJ16_hashCode_3 18 = .ok (.imul, 1) := dk_104 (dk_at dksJ16_hashCode_3_0 18 rfl rfl)
theorem dJ16_hashCode_3_19 : decode cJ16_hashCode_3 19 = .ok (.aload_n 1, 1) := dk_43 (dk_at dksJ16_hashCode_3_0 19 rfl rfl)
theorem dJ16_hashCode_3_20 : decode cJ16_hashCode_3 20 = .ok (.iload 5, 2) := dk_21 5 (dk_at dksJ16_hashCode_3_0 20 rfl rfl)
theorem dJ16_hashCode_3_22 : decode cJ16_hashCode_3 22 = .ok (.saload, 1) := dk_53 (dk_at dksJ16_hashCode_3_0 22 rfl rfl)
theorem dJ16_hashCode_3_23 : decode cJ16_hashCode_3 23 = .ok (.iadd, 1) := dk_96 (dk_at dksJ16_hashCode_3_0 23 rfl rfl)
theorem dJ16_hashCode_3_24 : decode cJ16_hashCode_3 24 = .ok (.istore_n 0, 1) := dk_59 (dk_at dksJ16_hashCode_3_1 0 rfl rfl)
theorem dJ16_hashCode_3_25 : decode cJ16_hashCode_3 25 = .ok (.iinc 5 1, 3) := dk_132 5 1 (dk_at dksJ16_hashCode_3_1 1 rfl rfl)
theorem dJ16_hashCode_3_28 : decode cJ16_hashCode_3 28 = .ok (.goto (-20), 3) := dk_167 255 236 (dk_at dksJ16_hashCode_3_1 4 rfl rfl)
theorem dJ16_hashCode_3_31 : decode cJ16_hashCode_3 31 = .ok (.iload_n 0, 1) := dk_26 (dk_at dksJ16_hashCode_3_1 7 rfl rfl)
theorem dJ16_hashCode_3_32 : decode cJ16_hashCode_3 32 = .ok (.ireturn, 1) := dk_172 (dk_at dksJ16_hashCode_3_1 8 rfl rfl)
def dkwJ16_hashCode_4_1 : List UInt8 := [59, 132, 5, 1, 167, 255, 236, 26, 172]
abbrev dktJ16_hashCode_4_1 : List UInt8 := dkwJ16_hashCode_4_1 ++ []
def dkwJ16_hashCode_4_0 : List UInt8 := [28, 29, 96, 54, 4, 28, 54, 5, 21, 5, 21, 4, 162, 0, 19, 16, 31, 26, 104, 43, 21, 5, 46, 96]
abbrev dktJ16_hashCode_4_0 : List UInt8 := dkwJ16_hashCode_4_0 ++ dktJ16_hashCode_4_1
theorem dksJ16_hashCode_4_0 : cJ16_hashCode_4.data.toList.drop 0 = dktJ16_hashCode_4_0 := by decide +kernel
theorem dksJ16_hashCode_4_1 : cJ16_hashCode_4.data.toList.drop 24 = dktJ16_hashCode_4_1 := dk_seg dksJ16_hashCode_4_0 24 rfl rfl
theorem dJ16_hashCode_4_0 : decode cJ16_hashCode_4 0 = .ok (.iload_n 2, 1) := dk_28 (dk_at dksJ16_hashCode_4_0 0 rfl rfl)
theorem dJ16_hashCode_4_1 : decode cJ16_hashCode_4 1 = .ok (.iload_n 3, 1) := dk_29 (dk_at dksJ16_hashCode_4_0 1 rfl rfl)
theorem dJ16_hashCode_4_2 : decode cJ16_hashCode_4 2 = .ok (.iadd, 1) := dk_96 (dk_at dksJ16_hashCode_4_0 2 rfl rfl)
theorem dJ16_hashCode_4_3 : decode cJ16_hashCode_4 3 = .ok (.istore 4, 2) := dk_54 4 (dk_at dksJ16_hashCode_4_0 3 rfl rfl)
theorem dJ16_hashCode_4_5 : decode cJ16_hashCode_4 5 = .ok (.iload_n 2, 1) := dk_28 (dk_at dksJ16_hashCode_4_0 5 rfl rfl)
theorem dJ16_hashCode_4_6 : decode cJ16_hashCode_4 6 = .ok (.istore 5, 2) := dk_54 5 (dk_at dksJ16_hashCode_4_0 6 rfl rfl)
theorem dJ16_hashCode_4_8 : decode cJ16_hashCode_4 8 = .ok (.iload 5, 2) := dk_21 5 (dk_at dksJ16_hashCode_4_0 8 rfl rfl)
theorem dJ16_hashCode_4_10 : decode cJ16_hashCode_4 10 = .ok (.iload 4, 2) := dk_21 4 (dk_at dksJ16_hashCode_4_0 10 rfl rfl)
theorem dJ16_hashCode_4_12 : decode cJ16_hashCode_4 12 = .ok (.if_icmp .ge 19, 3) := dk_162 0 19 (dk_at dksJ16_hashCode_4_0 12 rfl rfl)
theorem dJ16_hashCode_4_15 : decode cJ16_hashCode_4 15 = .ok (.bipush 31, 2) := dk_16 31 (dk_at dksJ16_hashCode_4_0 15 rfl rfl)
theorem dJ16_hashCode_4_17 : decode cJ16_hashCode_4 17 = .ok (.iload_n 0, 1) := dk_26 (dk_at dksJ16_hashCode_4_0 17 rfl rfl)
theorem dJ16_hashCode_4_18 : decode cJ16_hashCode_4 18 = .ok (.imul, 1) := dk_104 (dk_at dksJ16_hashCode_4_0 18 rfl rfl)
theorem dJ16_hashCode_4_19 : decode cJ16_hashCode_4 19 = .ok (.aload_n 1, 1) := dk_43 (dk_at dksJ16_hashCode_4_0 19 rfl rfl)
theorem dJ16_hashCode_4_20 : decode cJ16_hashCode_4 20 = .ok (.iload 5, 2) := dk_21 5 (dk_at dksJ16_hashCode_4_0 20 rfl rfl)
theorem dJ16_hashCode_4_22 : decode cJ16_hashCode_4 22 = .ok (.iaload, 1) := dk_46 (dk_at dksJ16_hashCode_4_0 22 rfl rfl)
theorem dJ16_hashCode_4_23 : decode cJ16_hashCode_4 23 = .ok (.iadd, 1) := dk_96 (dk_at dksJ16_hashCode_4_0 23 rfl rfl)
theorem dJ16_hashCode_4_24 : decode cJ16_hashCode_4 24 = .ok (.istore_n 0, 1) := dk_59 (dk_at dksJ16_hashCode_4_1 0 rfl rfl)
theorem dJ16_hashCode_4_25 : decode cJ16_hashCode_4 25 = .ok (.iinc 5 1, 3) := dk_132 5 1 (dk_at dksJ16_hashCode_4_1 1 rfl rfl)
theorem dJ16_hashCode_4_28 : decode cJ16_hashCode_4 28 = .ok (.goto (-20), 3) := dk_167 255 236 (dk_at dksJ16_hashCode_4_1 4 rfl rfl)
theorem dJ16_hashCode_4_31 : decode cJ16_hashCode_4 31 = .ok (.iload_n 0, 1) := dk_26 (dk_at dksJ16_hashCode_4_1 7 rfl rfl)
theorem dJ16_hashCode_4_32 : decode cJ16_hashCode_4 32 = .ok (.ireturn, 1) := dk_172 (dk_at dksJ16_hashCode_4_1 8 rfl rfl)
def dkwJ18_copyOf_0 : List UInt8 := [42, 27, 42, 182, 0, 86, 184, 1, 44, 176]
abbrev dktJ18_copyOf_0 : List UInt8 := dkwJ18_copyOf_0 ++ []
theorem dksJ18_copyOf_0 : cJ18_copyOf.data.toList.drop 0 = dktJ18_copyOf_0 := by decide +kernel
theorem dJ18_copyOf_0 : decode cJ18_copyOf 0 = .ok (.aload_n 0, 1) := dk_42 (dk_at dksJ18_copyOf_0 0 rfl rfl)
theorem dJ18_copyOf_1 : decode cJ18_copyOf 1 = .ok (.iload_n 1, 1) := dk_27 (dk_at dksJ18_copyOf_0 1 rfl rfl)
theorem dJ18_copyOf_2 : decode cJ18_copyOf 2 = .ok (.aload_n 0, 1) := dk_42 (dk_at dksJ18_copyOf_0 2 rfl rfl)
theorem dJ18_copyOf_3 : decode cJ18_copyOf 3 = .ok (.invokevirtual 86, 3) := dk_182 0 86 (dk_at dksJ18_copyOf_0 3 rfl rfl)
theorem dJ18_copyOf_6 : decode cJ18_copyOf 6 = .ok (.invokestatic 300, 3) := dk_184 1 44 (dk_at dksJ18_copyOf_0 6 rfl rfl)
theorem dJ18_copyOf_9 : decode cJ18_copyOf 9 = .ok (.areturn, 1) := dk_176 (dk_at dksJ18_copyOf_0 9 rfl rfl)
def dkwJ18_copyOf_2_1 : List UInt8 := [78, 42, 3, 45, 3, 42, 190, 27, 184, 1, 48, 184, 0, 150, 45, 176]
abbrev dktJ18_copyOf_2_1 : List UInt8 := dkwJ18_copyOf_2_1 ++ []
def dkwJ18_copyOf_2_0 : List UInt8 := [44, 18, 110, 166, 0, 10, 27, 189, 0, 2, 167, 0, 14, 44, 182, 0, 90, 27, 184, 0, 95, 192, 0, 110]
abbrev dktJ18_copyOf_2_0 : List UInt8 := dkwJ18_copyOf_2_0 ++ dktJ18_copyOf_2_1
theorem dksJ18_copyOf_2_0 : cJ18_copyOf_2.data.toList.drop 0 = dktJ18_copyOf_2_0 := by decide +kernel
theorem dksJ18_copyOf_2_1 : cJ18_copyOf_2.data.toList.drop 24 = dktJ18_copyOf_2_1 := dk_seg dksJ18_copyOf_2_0 24 rfl rfl
theorem dJ18_copyOf_2_0 : decode cJ18_copyOf_2 0 = .ok (.aload_n 2, 1) := dk_44 (dk_at dksJ18_copyOf_2_0 0 rfl rfl)
theorem dJ18_copyOf_2_1 : decode cJ18_copyOf_2 1 = .ok (.ldc 110, 2) := dk_18 110 (dk_at dksJ18_copyOf_2_0 1 rfl rfl)
theorem dJ18_copyOf_2_3 : decode cJ18_copyOf_2 3 = .ok (.if_acmp .ne 10, 3) := dk_166 0 10 (dk_at dksJ18_copyOf_2_0 3 rfl rfl)
theorem dJ18_copyOf_2_6 : decode cJ18_copyOf_2 6 = .ok (.iload_n 1, 1) := dk_27 (dk_at dksJ18_copyOf_2_0 6 rfl rfl)
theorem dJ18_copyOf_2_7 : decode cJ18_copyOf_2 7 = .ok (.anewarray 2, 3) := dk_189 0 2 (dk_at dksJ18_copyOf_2_0 7 rfl rfl)
theorem dJ18_copyOf_2_10 : decode cJ18_copyOf_2 10 = .ok (.goto 14, 3) := dk_167 0 14 (dk_at dksJ18_copyOf_2_0 10 rfl rfl)
theorem dJ18_copyOf_2_13 : decode cJ18_copyOf_2 13 = .ok (.aload_n 2, 1) := dk_44 (dk_at dksJ18_copyOf_2_0 13 rfl rfl)
theorem dJ18_copyOf_2_14 : decode cJ18_copyOf_2 14 = .ok (.invokevirtual 90, 3) := dk_182 0 90 (dk_at dksJ18_copyOf_2_0 14 rfl rfl)
theorem dJ18_copyOf_2_17 : decode cJ18_copyOf_2 17 = .ok (.iload_n 1, 1) := dk_27 (dk_at dksJ18_copyOf_2_0 17 rfl rfl)
theorem dJ18_copyOf_2_18 : decode cJ18_copyOf_2 18 = .ok (.invokestatic 95, 3) := dk_184 0 95 (dk_at dksJ18_copyOf_2_0 18 rfl rfl)
theorem dJ18_copyOf_2_21 : decode cJ18_copyOf_2 21 = .ok (.checkcast 110, 3) := dk_192 0 110 (dk_at dksJ18_copyOf_2_0 21 rfl rfl)
theorem dJ18_copyOf_2_24 : decode cJ18_copyOf_2 24 = .ok (.astore_n 3, 1) := dk_78 (dk_at dksJ18_copyOf_2_1 0 rfl rfl)
theorem dJ18_copyOf_2_25 : decode cJ18_copyOf_2 25 = .ok (.aload_n 0, 1) := dk_42 (dk_at dksJ18_copyOf_2_1 1 rfl rfl)
theorem dJ18_copyOf_2_26 : decode cJ18_copyOf_2 26 = .ok (.iconst 0, 1) := dk_3 (dk_at dksJ18_copyOf_2_1 2 rfl rfl)
theorem dJ18_copyOf_2_27 : decode cJ18_copyOf_2 27 = .ok (.aload_n 3, 1) := dk_45 (dk_at dksJ18_copyOf_2_1 3 rfl rfl)
theorem dJ18_copyOf_2_28 : decode cJ18_copyOf_2 28 = .ok (.iconst 0, 1) := dk_3 (dk_at dksJ18_copyOf_2_1 4 rfl rfl)
theorem dJ18_copyOf_2_29 : decode cJ18_copyOf_2 29 = .ok (.aload_n 0, 1) := dk_42 (dk_at dksJ18_copyOf_2_1 5 rfl rfl)
theorem dJ18_copyOf_2_30 : decode cJ18_copyOf_2 30 = .ok (.arraylength, 1) := dk_190 (dk_at dksJ18_copyOf_2_1 6 rfl rfl)
theorem dJ18_copyOf_2_31 : decode cJ18_copyOf_2 31 = .ok (.iload_n 1, 1) := dk_27 (dk_at dksJ18_copyOf_2_1 7 rfl rfl)
theorem dJ18_copyOf_2_32 : decode cJ18_copyOf_2 32 = .ok (.invokestatic 304, 3) := dk_184 1 48 (dk_at dksJ18_copyOf_2_1 8 rfl rfl)
theorem dJ18_copyOf_2_35 : decode cJ18_copyOf_2 35 = .ok (.invokestatic 150, 3) := dk_184 0 150 (dk_at dksJ18_copyOf_2_1 11 rfl rfl)
theorem dJ18_copyOf_2_38 : decode cJ18_copyOf_2 38 = .ok (.aload_n 3, 1) := dk_45 (dk_at dksJ18_copyOf_2_1 14 rfl rfl)
theorem dJ18_copyOf_2_39 : decode cJ18_copyOf_2 39 = .ok (.areturn, 1) := dk_176 (dk_at dksJ18_copyOf_2_1 15 rfl rfl)
def dkwJ18_copyOf_3_1 : List UInt8 := [27, 184, 1, 48, 184, 0, 150, 44, 176]
abbrev dktJ18_copyOf_3_1 : List UInt8 := dkwJ18_copyOf_3_1 ++ []
def dkwJ18_copyOf_3_0 : List UInt8 := [27, 42, 190, 160, 0, 11, 42, 182, 1, 54, 192, 1, 55, 176, 27, 188, 8, 77, 42, 3, 44, 3, 42, 190]
abbrev dktJ18_copyOf_3_0 : List UInt8 := dkwJ18_copyOf_3_0 ++ dktJ18_copyOf_3_1
theorem dksJ18_copyOf_3_0 : cJ18_copyOf_3.data.toList.drop 0 = dktJ18_copyOf_3_0 := by decide +kernel
theorem dksJ18_copyOf_3_1 : cJ18_copyOf_3.data.toList.drop 24 = dktJ18_copyOf_3_1 := dk_seg dksJ18_copyOf_3_0 24 rfl rfl
theorem dJ18_copyOf_3_0 : decode cJ18_copyOf_3 0 = .ok (.iload_n 1, 1) := dk_27 (dk_at dksJ18_copyOf_3_0 0 rfl rfl)
theorem dJ18_copyOf_3_1 : decode cJ18_copyOf_3 1 = .ok (.aload_n 0, 1) := dk_42 (dk_at dksJ18_copyOf_3_0 1 rfl rfl)
theorem dJ18_copyOf_3_2 : decode cJ18_copyOf_3 2 = .ok (.arraylength, 1) := dk_190 (dk_at dksJ18_copyOf_3_0 2 rfl rfl)
theorem dJ18_copyOf_3_3 : decode cJ18_copyOf_3 3 = .ok (.if_icmp .ne 11, 3) := dk_160 0 11 (dk_at dksJ18_copyOf_3_0 3 rfl rfl)
theorem dJ18_copyOf_3_6 : decode cJ18_copyOf_3 6 = .ok (.aload_n 0, 1) := dk_42 (dk_at dksJ18_copyOf_3_0 6 rfl rfl)
theorem dJ18_copyOf_3_7 : decode cJ18_copyOf_3 7 = .ok (.invokevirtual 310, 3) := dk_182 1 54 (dk_at dksJ18_copyOf_3_0 7 rfl rfl)
theorem dJ18_copyOf_3_10 : decode cJ18_copyOf_3 10 = .ok (.checkcast 311, 3) := dk_192 1 55 (dk_at dksJ18_copyOf_3_0 10 rfl rfl)
theorem dJ18_copyOf_3_13 : decode cJ18_copyOf_3 13 = .ok (.areturn, 1) := dk_176 (dk_at dksJ18_copyOf_3_0 13 rfl rfl)
theorem dJ18_copyOf_3_14 : decode cJ18_copyOf_3 14 = .ok (.iload_n 1, 1) := dk_27 (dk_at dksJ18_copyOf_3_0 14 rfl rfl)
theorem dJ18_copyOf_3_15 : decode cJ18_copyOf_3 15 = .ok (.newarray .byte, 2) := dk_188_8 (dk_at dksJ18_copyOf_3_0 15 rfl rfl)
theorem dJ18_copyOf_3_17 : decode cJ18_copyOf_3 17 = .ok (.astore_n 2, 1) := dk_77 (dk_at dksJ18_copyOf_3_0 17 rfl rfl)
theorem dJ18_copyOf_3_18 : decode cJ18_copyOf_3 18 = .ok (.aload_n 0, 1) := dk_42 (dk_at dksJ18_copyOf_3_0 18 rfl rfl)
theorem dJ18_copyOf_3_19 : decode cJ18_copyOf_3 19 = .ok (.iconst 0, 1) := dk_3 (dk_at dksJ18_copyOf_3_0 19 rfl rfl)
theorem dJ18_copyOf_3_20 : decode cJ18_copyOf_3 20 = .ok (.aload_n 2, 1) := dk_44 (dk_at dksJ18_copyOf_3_0 20 rfl rfl)
theorem dJ18_copyOf_3_21 : decode cJ18_copyOf_3 21 = .ok (.iconst 0, 1) := dk_3 (dk_at dksJ18_copyOf_3_0 21 rfl rfl)
theorem dJ18_copyOf_3_22 : decode cJ18_copyOf_3 22 = .ok (.aload_n 0, 1) := dk_42 (dk_at dksJ18_copyOf_3_0 22 rfl rfl)
theorem dJ18_copyOf_3_23 : decode cJ18_copyOf_3 23 = .ok (.arraylength, 1) := dk_190 (dk_at dksJ18_copyOf_3_0 23 rfl rfl)
theorem dJ18_copyOf_3_24 : decode cJ18_copyOf_3 24 = .ok (.iload_n 1, 1) := dk_27 (dk_at dksJ18_copyOf_3_1 0 rfl rfl)
theorem dJ18_copyOf_3_25 : decode cJ18_copyOf_3 25 = .ok (.invokestatic 304, 3) := dk_184 1 48 (dk_at dksJ18_copyOf_3_1 1 rfl rfl)
theorem dJ18_copyOf_3_28 : decode cJ18_copyOf_3 28 = .ok (.invokestatic 150, 3) := dk_184 0 150 (dk_at dksJ18_copyOf_3_1 4 rfl rfl)
theorem dJ18_copyOf_3_31 : decode cJ18_copyOf_3 31 = .ok (.aload_n 2, 1) := dk_44 (dk_at dksJ18_copyOf_3_1 7 rfl rfl)
theorem dJ18_copyOf_3_32 : decode cJ18_copyOf_3 32 = .ok (.areturn, 1) := dk_176 (dk_at dksJ18_copyOf_3_1 8 rfl rfl)
def dkwJ18_copyOfRange_1 : List UInt8 := [176]
abbrev dktJ18_copyOfRange_1 : List UInt8 := dkwJ18_copyOfRange_1 ++ []
def dkwJ18_copyOfRange_0 : List UInt8 := [27, 154, 0, 9, 28, 42, 190, 159, 0, 10, 42, 27, 28, 184, 1, 83, 176, 42, 182, 1, 54, 192, 1, 55]
abbrev dktJ18_copyOfRange_0 : List UInt8 := dkwJ18_copyOfRange_0 ++ dktJ18_copyOfRange_1
theorem dksJ18_copyOfRange_0 : cJ18_copyOfRange.data.toList.drop 0 = dktJ18_copyOfRange_0 := by decide +kernel
theorem dksJ18_copyOfRange_1 : cJ18_copyOfRange.data.toList.drop 24 = dktJ18_copyOfRange_1 := dk_seg dksJ18_copyOfRange_0 24 rfl rfl
theorem dJ18_copyOfRange_0 : decode cJ18_copyOfRange 0 = .ok (.iload_n 1, 1) := dk_27 (dk_at dksJ18_copyOfRange_0 0 rfl rfl)
theorem dJ18_copyOfRange_1 : decode cJ18_copyOfRange 1 = .ok (.ifCond .ne 9, 3) := dk_154 0 9 (dk_at dksJ18_copyOfRange_0 1 rfl rfl)
theorem dJ18_copyOfRange_4 : decode cJ18_copyOfRange 4 = .ok (.iload_n 2, 1) := dk_28 (dk_at dksJ18_copyOfRange_0 4 rfl rfl)
theorem dJ18_copyOfRange_5 : decode cJ18_copyOfRange 5 = .ok (.aload_n 0, 1) := dk_42 (dk_at dksJ18_copyOfRange_0 5 rfl rfl)
theorem dJ18_copyOfRange_6 : decode cJ18_copyOfRange 6 = .ok (.arraylength, 1) := dk_190 (dk_at dksJ18_copyOfRange_0 6 rfl rfl)
theorem dJ18_copyOfRange_7 : decode cJ18_copyOfRange 7 = .ok (.if_icmp .eq 10, 3) := dk_159 0 10 (dk_at dksJ18_copyOfRange_0 7 rfl rfl)
theorem dJ18_copyOfRange_10 : decode cJ18_copyOfRange 10 = .ok (.aload_n 0, 1) := dk_42 (dk_at dksJ18_copyOfRange_0 10 rfl rfl)
theorem dJ18_copyOfRange_11 : decode cJ18_copyOfRange 11 = .ok (.iload_n 1, 1) := dk_27 (dk_at dksJ18_copyOfRange_0 11 rfl rfl)
theorem dJ18_copyOfRange_12 : decode cJ18_copyOfRange 12 = .ok (.iload_n 2, 1) := dk_28 (dk_at dksJ18_copyOfRange_0 12 rfl rfl)
theorem dJ18_copyOfRange_13 : decode cJ18_copyOfRange 13 = .ok (.invokestatic 339, 3) := dk_184 1 83 (dk_at dksJ18_copyOfRange_0 13 rfl rfl)
theorem dJ18_copyOfRange_16 : decode cJ18_copyOfRange 16 = .ok (.areturn, 1) := dk_176 (dk_at dksJ18_copyOfRange_0 16 rfl rfl)
theorem dJ18_copyOfRange_17 : decode cJ18_copyOfRange 17 = .ok (.aload_n 0, 1) := dk_42 (dk_at dksJ18_copyOfRange_0 17 rfl rfl)
theorem dJ18_copyOfRange_18 : decode cJ18_copyOfRange 18 = .ok (.invokevirtual 310, 3) := dk_182 1 54 (dk_at dksJ18_copyOfRange_0 18 rfl rfl)
theorem dJ18_copyOfRange_21 : decode cJ18_copyOfRange 21 = .ok (.checkcast 311, 3) := dk_192 1 55 (dk_at dksJ18_copyOfRange_0 21 rfl rfl)
theorem dJ18_copyOfRange_24 : decode cJ18_copyOfRange 24 = .ok (.areturn, 1) := dk_176 (dk_at dksJ18_copyOfRange_1 0 rfl rfl)
def dkwJ18_copyOfRangeByte_1 : List UInt8 := [184, 1, 48, 184, 0, 150, 25, 4, 176]
abbrev dktJ18_copyOfRangeByte_1 : List UInt8 := dkwJ18_copyOfRangeByte_1 ++ []
def dkwJ18_copyOfRangeByte_0 : List UInt8 := [27, 28, 184, 1, 87, 28, 27, 100, 62, 29, 188, 8, 58, 4, 42, 27, 25, 4, 3, 42, 190, 27, 100, 29]
abbrev dktJ18_copyOfRangeByte_0 : List UInt8 := dkwJ18_copyOfRangeByte_0 ++ dktJ18_copyOfRangeByte_1
theorem dksJ18_copyOfRangeByte_0 : cJ18_copyOfRangeByte.data.toList.drop 0 = dktJ18_copyOfRangeByte_0 := by decide +kernel
theorem dksJ18_copyOfRangeByte_1 : cJ18_copyOfRangeByte.data.toList.drop 24 = dktJ18_copyOfRangeByte_1 := dk_seg dksJ18_copyOfRangeByte_0 24 rfl rfl
theorem dJ18_copyOfRangeByte_0 : decode cJ18_copyOfRangeByte 0 = .ok (.iload_n 1, 1) := dk_27 (dk_at dksJ18_copyOfRangeByte_0 0 rfl rfl)
theorem dJ18_copyOfRangeByte_1 : decode cJ18_copyOfRangeByte 1 = .ok (.iload_n 2, 1) := dk_28 (dk_at dksJ18_copyOfRangeByte_0 1 rfl rfl)
theorem dJ18_copyOfRangeByte_2 : decode cJ18_copyOfRangeByte 2 = .ok (.invokestatic 343, 3) := dk_184 1 87 (dk_at dksJ18_copyOfRangeByte_0 2 rfl rfl)
theorem dJ18_copyOfRangeByte_5 : decode cJ18_copyOfRangeByte 5 = .ok (.iload_n 2, 1) := dk_28 (dk_at dksJ18_copyOfRangeByte_0 5 rfl rfl)
theorem dJ18_copyOfRangeByte_6 : decode cJ18_copyOfRangeByte 6 = .ok (.iload_n 1, 1) := dk_27 (dk_at dksJ18_copyOfRangeByte_0 6 rfl rfl)
theorem dJ18_copyOfRangeByte_7 : decode cJ18_copyOfRangeByte 7 = .ok (.isub, 1) := dk_100 (dk_at dksJ18_copyOfRangeByte_0 7 rfl rfl)
theorem dJ18_copyOfRangeByte_8 : decode cJ18_copyOfRangeByte 8 = .ok (.istore_n 3, 1) := dk_62 (dk_at dksJ18_copyOfRangeByte_0 8 rfl rfl)
theorem dJ18_copyOfRangeByte_9 : decode cJ18_copyOfRangeByte 9 = .ok (.iload_n 3, 1) := dk_29 (dk_at dksJ18_copyOfRangeByte_0 9 rfl rfl)
theorem dJ18_copyOfRangeByte_10 : decode cJ18_copyOfRangeByte 10 = .ok (.newarray .byte, 2) := dk_188_8 (dk_at dksJ18_copyOfRangeByte_0 10 rfl rfl)
theorem dJ18_copyOfRangeByte_12 : decode cJ18_copyOfRangeByte 12 = .ok (.astore 4, 2) := dk_58 4 (dk_at dksJ18_copyOfRangeByte_0 12 rfl rfl)
theorem dJ18_copyOfRangeByte_14 : decode cJ18_copyOfRangeByte 14 = .ok (.aload_n 0, 1) := dk_42 (dk_at dksJ18_copyOfRangeByte_0 14 rfl rfl)
theorem dJ18_copyOfRangeByte_15 : decode cJ18_copyOfRangeByte 15 = .ok (.iload_n 1, 1) := dk_27 (dk_at dksJ18_copyOfRangeByte_0 15 rfl rfl)
theorem dJ18_copyOfRangeByte_16 : decode cJ18_copyOfRangeByte 16 = .ok (.aload 4, 2) := dk_25 4 (dk_at dksJ18_copyOfRangeByte_0 16 rfl rfl)
theorem dJ18_copyOfRangeByte_18 : decode cJ18_copyOfRangeByte 18 = .ok (.iconst 0, 1) := dk_3 (dk_at dksJ18_copyOfRangeByte_0 18 rfl rfl)
theorem dJ18_copyOfRangeByte_19 : decode cJ18_copyOfRangeByte 19 = .ok (.aload_n 0, 1) := dk_42 (dk_at dksJ18_copyOfRangeByte_0 19 rfl rfl)
theorem dJ18_copyOfRangeByte_20 : decode cJ18_copyOfRangeByte 20 = .ok (.arraylength, 1) := dk_190 (dk_at dksJ18_copyOfRangeByte_0 20 rfl rfl)
theorem dJ18_copyOfRangeByte_21 : decode cJ18_copyOfRangeByte 21 = .ok (.iload_n 1, 1) := dk_27 (dk_at dksJ18_copyOfRangeByte_0 21 rfl rfl)
theorem dJ18_copyOfRangeByte_22 : decode cJ18_copyOfRangeByte 22 = .ok (.isub, 1) := dk_100 (dk_at dksJ18_copyOfRangeByte_0 22 rfl rfl)
theorem dJ18_copyOfRangeByte_23 : decode cJ18_copyOfRangeByte 23 = .ok (.iload_n 3, 1) := dk_29 (dk_at dksJ18_copyOfRangeByte_0 23 rfl rfl)
theorem dJ18_copyOfRangeByte_24 : decode cJ18_copyOfRangeByte 24 = .ok (.invokestatic 304, 3) := dk_184 1 48 (dk_at dksJ18_copyOfRangeByte_1 0 rfl rfl)
theorem dJ18_copyOfRangeByte_27 : decode cJ18_copyOfRangeByte 27 = .ok (.invokestatic 150, 3) := dk_184 0 150 (dk_at dksJ18_copyOfRangeByte_1 3 rfl rfl)
theorem dJ18_copyOfRangeByte_30 : decode cJ18_copyOfRangeByte 30 = .ok (.aload 4, 2) := dk_25 4 (dk_at dksJ18_copyOfRangeByte_1 6 rfl rfl)
theorem dJ18_copyOfRangeByte_32 : decode cJ18_copyOfRangeByte 32 = .ok (.areturn, 1) := dk_176 (dk_at dksJ18_copyOfRangeByte_1 8 rfl rfl)
def dkwJ18_checkLength_1 : List UInt8 := [182, 0, 50, 27, 182, 0, 54, 182, 0, 61, 183, 0, 65, 191, 177]
abbrev dktJ18_checkLength_1 : List UInt8 := dkwJ18_checkLength_1 ++ []
def dkwJ18_checkLength_0 : List UInt8 := [27, 26, 162, 0, 35, 187, 0, 43, 89, 187, 0, 45, 89, 183, 0, 47, 26, 182, 0, 54, 19, 1, 81]
abbrev dktJ18_checkLength_0 : List UInt8 := dkwJ18_checkLength_0 ++ dktJ18_checkLength_1
theorem dksJ18_checkLength_0 : cJ18_checkLength.data.toList.drop 0 = dktJ18_checkLength_0 := by decide +kernel
theorem dksJ18_checkLength_1 : cJ18_checkLength.data.toList.drop 23 = dktJ18_checkLength_1 := dk_seg dksJ18_checkLength_0 23 rfl rfl
theorem dJ18_checkLength_0 : decode cJ18_checkLength 0 = .ok (.iload_n 1, 1) := dk_27 (dk_at dksJ18_checkLength_0 0 rfl rfl)
theorem dJ18_checkLength_1 : decode cJ18_checkLength 1 = .ok (.iload_n 0, 1) := dk_26 (dk_at dksJ18_checkLength_0 1 rfl rfl)
theorem dJ18_checkLength_2 : decode cJ18_checkLength 2 = .ok (.if_icmp .ge 35, 3) := dk_162 0 35 (dk_at dksJ18_checkLength_0 2 rfl rfl)
theorem dJ18_checkLength_5 : decode cJ18_checkLength 5 = .ok (.new 43, 3) := dk_187 0 43 (dk_at dksJ18_checkLength_0 5 rfl rfl)
theorem dJ18_checkLength_8 : decode cJ18_checkLength 8 = .ok (.dup, 1) := dk_89 (dk_at dksJ18_checkLength_0 8 rfl rfl)
theorem dJ18_checkLength_9 : decode cJ18_checkLength 9 = .ok (.new 45, 3) := dk_187 0 45 (dk_at dksJ18_checkLength_0 9 rfl rfl)
theorem dJ18_checkLength_12 : decode cJ18_checkLength 12 = .ok (.dup, 1) := dk_89 (dk_at dksJ18_checkLength_0 12 rfl rfl)
theorem dJ18_checkLength_13 : decode cJ18_checkLength 13 = .ok (.invokespecial 47, 3) := dk_183 0 47 (dk_at dksJ18_checkLength_0 13 rfl rfl)
theorem dJ18_checkLength_16 : decode cJ18_checkLength 16 = .ok (.iload_n 0, 1) := dk_26 (dk_at dksJ18_checkLength_0 16 rfl rfl)
theorem dJ18_checkLength_17 : decode cJ18_checkLength 17 = .ok (.invokevirtual 54, 3) := dk_182 0 54 (dk_at dksJ18_checkLength_0 17 rfl rfl)
theorem dJ18_checkLength_20 : decode cJ18_checkLength 20 = .ok (.ldc_w 337, 3) := dk_19 1 81 (dk_at dksJ18_checkLength_0 20 rfl rfl)
theorem dJ18_checkLength_23 : decode cJ18_checkLength 23 = .ok (.invokevirtual 50, 3) := dk_182 0 50 (dk_at dksJ18_checkLength_1 0 rfl rfl)
theorem dJ18_checkLength_26 : decode cJ18_checkLength 26 = .ok (.iload_n 1, 1) := dk_27 (dk_at dksJ18_checkLength_1 3 rfl rfl)
theorem dJ18_checkLength_27 : decode cJ18_checkLength 27 = .ok (.invokevirtual 54, 3) := dk_182 0 54 (dk_at dksJ18_checkLength_1 4 rfl rfl)
theorem dJ18_checkLength_30 : decode cJ18_checkLength 30 = .ok (.invokevirtual 61, 3) := dk_182 0 61 (dk_at dksJ18_checkLength_1 7 rfl rfl)
theorem dJ18_checkLength_33 : decode cJ18_checkLength 33 = .ok (.invokespecial 65, 3) := dk_183 0 65 (dk_at dksJ18_checkLength_1 10 rfl rfl)
theorem dJ18_checkLength_36 : decode cJ18_checkLength 36 = .ok (.athrow, 1) := dk_191 (dk_at dksJ18_checkLength_1 13 rfl rfl)
theorem dJ18_checkLength_37 : decode cJ18_checkLength 37 = .ok (.return_, 1) := dk_177 (dk_at dksJ18_checkLength_1 14 rfl rfl)
def dkwJ18_fill_1 : List UInt8 := [167, 255, 242, 177]
abbrev dktJ18_fill_1 : List UInt8 := dkwJ18_fill_1 ++ []
def dkwJ18_fill_0 : List UInt8 := [42, 190, 27, 28, 184, 0, 13, 27, 54, 4, 21, 4, 28, 162, 0, 14, 42, 21, 4, 29, 84, 132, 4, 1]
abbrev dktJ18_fill_0 : List UInt8 := dkwJ18_fill_0 ++ dktJ18_fill_1
theorem dksJ18_fill_0 : cJ18_fill.data.toList.drop 0 = dktJ18_fill_0 := by decide +kernel
theorem dksJ18_fill_1 : cJ18_fill.data.toList.drop 24 = dktJ18_fill_1 := dk_seg dksJ18_fill_0 24 rfl rfl
theorem dJ18_fill_0 : decode cJ18_fill 0 = .ok (.aload_n 0, 1) := dk_42 (dk_at dksJ18_fill_0 0 rfl rfl)
theorem dJ18_fill_1 : decode cJ18_fill 1 = .ok (.arraylength, 1) := dk_190 (dk_at dksJ18_fill_0 1 rfl rfl)
theorem dJ18_fill_2 : decode cJ18_fill 2 = .ok (.iload_n 1, 1) := dk_27 (dk_at dksJ18_fill_0 2 rfl rfl)
theorem dJ18_fill_3 : decode cJ18_fill 3 = .ok (.iload_n 2, 1) := dk_28 (dk_at dksJ18_fill_0 3 rfl rfl)
theorem dJ18_fill_4 : decode cJ18_fill 4 = .ok (.invokestatic 13, 3) := dk_184 0 13 (dk_at dksJ18_fill_0 4 rfl rfl)
theorem dJ18_fill_7 : decode cJ18_fill 7 = .ok (.iload_n 1, 1) := dk_27 (dk_at dksJ18_fill_0 7 rfl rfl)
theorem dJ18_fill_8 : decode cJ18_fill 8 = .ok (.istore 4, 2) := dk_54 4 (dk_at dksJ18_fill_0 8 rfl rfl)
theorem dJ18_fill_10 : decode cJ18_fill 10 = .ok (.iload 4, 2) := dk_21 4 (dk_at dksJ18_fill_0 10 rfl rfl)
theorem dJ18_fill_12 : decode cJ18_fill 12 = .ok (.iload_n 2, 1) := dk_28 (dk_at dksJ18_fill_0 12 rfl rfl)
theorem dJ18_fill_13 : decode cJ18_fill 13 = .ok (.if_icmp .ge 14, 3) := dk_162 0 14 (dk_at dksJ18_fill_0 13 rfl rfl)
theorem dJ18_fill_16 : decode cJ18_fill 16 = .ok (.aload_n 0, 1) := dk_42 (dk_at dksJ18_fill_0 16 rfl rfl)
theorem dJ18_fill_17 : decode cJ18_fill 17 = .ok (.iload 4, 2) := dk_21 4 (dk_at dksJ18_fill_0 17 rfl rfl)
theorem dJ18_fill_19 : decode cJ18_fill 19 = .ok (.iload_n 3, 1) := dk_29 (dk_at dksJ18_fill_0 19 rfl rfl)
theorem dJ18_fill_20 : decode cJ18_fill 20 = .ok (.bastore, 1) := dk_84 (dk_at dksJ18_fill_0 20 rfl rfl)
theorem dJ18_fill_21 : decode cJ18_fill 21 = .ok (.iinc 4 1, 3) := dk_132 4 1 (dk_at dksJ18_fill_0 21 rfl rfl)
theorem dJ18_fill_24 : decode cJ18_fill 24 = .ok (.goto (-14), 3) := dk_167 255 242 (dk_at dksJ18_fill_1 0 rfl rfl)
theorem dJ18_fill_27 : decode cJ18_fill 27 = .ok (.return_, 1) := dk_177 (dk_at dksJ18_fill_1 3 rfl rfl)
def dkwJ18_rangeCheck_3 : List UInt8 := [183, 0, 70, 191, 177]
abbrev dktJ18_rangeCheck_3 : List UInt8 := dkwJ18_rangeCheck_3 ++ []
def dkwJ18_rangeCheck_2 : List UInt8 := [27, 156, 0, 12, 187, 0, 68, 89, 27, 183, 0, 70, 191, 28, 26, 164, 0, 12, 187, 0, 68, 89, 28]
abbrev dktJ18_rangeCheck_2 : List UInt8 := dkwJ18_rangeCheck_2 ++ dktJ18_rangeCheck_3
def dkwJ18_rangeCheck_1 : List UInt8 := [182, 0, 54, 18, 57, 182, 0, 50, 28, 182, 0, 54, 18, 59, 182, 0, 50, 182, 0, 61, 183, 0, 65, 191]
abbrev dktJ18_rangeCheck_1 : List UInt8 := dkwJ18_rangeCheck_1 ++ dktJ18_rangeCheck_2
def dkwJ18_rangeCheck_0 : List UInt8 := [27, 28, 164, 0, 44, 187, 0, 43, 89, 187, 0, 45, 89, 183, 0, 47, 18, 48, 182, 0, 50, 27]
abbrev dktJ18_rangeCheck_0 : List UInt8 := dkwJ18_rangeCheck_0 ++ dktJ18_rangeCheck_1
theorem dksJ18_rangeCheck_0 : cJ18_rangeCheck.data.toList.drop 0 = dktJ18_rangeCheck_0 := by decide +kernel
theorem dksJ18_rangeCheck_1 : cJ18_rangeCheck.data.toList.drop 22 = dktJ18_rangeCheck_1 := dk_seg dksJ18_rangeCheck_0 22 rfl rfl
theorem dksJ18_rangeCheck_2 : cJ18_rangeCheck.data.toList.drop 46 = dktJ18_rangeCheck_2 := dk_seg dksJ18_rangeCheck_1 24 rfl rfl
theorem dksJ18_rangeCheck_3 : cJ18_rangeCheck.data.toList.drop 69 = dktJ18_rangeCheck_3 := dk_seg dksJ18_rangeCheck_2 23 rfl rfl
theorem dJ18_rangeCheck_0 : decode cJ18_rangeCheck 0 = .ok (.iload_n 1, 1) := dk_27 (dk_at dksJ18_rangeCheck_0 0 rfl rfl)
theorem dJ18_rangeCheck_1 : decode cJ18_rangeCheck 1 = .ok (.iload_n 2, 1) := dk_28 (dk_at dksJ18_rangeCheck_0 1 rfl rfl)
theorem dJ18_rangeCheck_2 : decode cJ18_rangeCheck 2 = .ok (.if_icmp .le 44, 3) := dk_164 0 44 (dk_at dksJ18_rangeCheck_0 2 rfl rfl)
theorem dJ18_rangeCheck_5 : decode cJ18_rangeCheck 5 = .ok (.new 43, 3) := dk_187 0 43 (dk_at dksJ18_rangeCheck_0 5 rfl rfl)
theorem dJ18_rangeCheck_8 : decode cJ18_rangeCheck 8 = .ok (.dup, 1) := dk_89 (dk_at dksJ18_rangeCheck_0 8 rfl rfl)
theorem dJ18_rangeCheck_9 : decode cJ18_rangeCheck 9 = .ok (.new 45, 3) := dk_187 0 45 (dk_at dksJ18_rangeCheck_0 9 rfl rfl)
theorem dJ18_rangeCheck_12 : decode cJ18_rangeCheck 12 = .ok (.dup, 1) := dk_89 (dk_at dksJ18_rangeCheck_0 12 rfl rfl)
theorem dJ18_rangeCheck_13 : decode cJ18_rangeCheck 13 = .ok (.invokespecial 47, 3) := dk_183 0 47 (dk_at dksJ18_rangeCheck_0 13 rfl rfl)
theorem dJ18_rangeCheck_16 : decode cJ18_rangeCheck 16 = .ok (.ldc 48, 2) := dk_18 48 (dk_at dksJ18_rangeCheck_0 16 rfl rfl)
theorem dJ18_rangeCheck_18 : decode cJ18_rangeCheck 18 = .ok (.invokevirtual 50, 3) := dk_182 0 50 (dk_at dksJ18_rangeCheck_0 18 rfl rfl)
theorem dJ18_rangeCheck_21 : decode cJ18_rangeCheck 21 = .ok (.iload_n 1, 1) := dk_27 (dk_at dksJ18_rangeCheck_0 21 rfl rfl)
theorem dJ18_rangeCheck_22 : decode cJ18_rangeCheck 22 = .ok (.invokevirtual 54, 3) := dk_182 0 54 (dk_at dksJ18_rangeCheck_1 0 rfl rfl)
theorem dJ18_rangeCheck_25 : decode cJ18_rangeCheck 25 = .ok (.ldc 57, 2) := dk_18 57 (dk_at dksJ18_rangeCheck_1 3 rfl rfl)
theorem dJ18_rangeCheck_27 : decode cJ18_rangeCheck 27 = .ok (.invokevirtual 50, 3) := dk_182 0 50 (dk_at dksJ18_rangeCheck_1 5 rfl rfl)
theorem dJ18_rangeCheck_30 : decode cJ18_rangeCheck 30 = .ok (.iload_n 2, 1) := dk_28 (dk_at dksJ18_rangeCheck_1 8 rfl rfl)
theorem dJ18_rangeCheck_31 : decode cJ18_rangeCheck 31 = .ok (.invokevirtual 54, 3) := dk_182 0 54 (dk_at dksJ18_rangeCheck_1 9 rfl rfl)
theorem dJ18_rangeCheck_34 : decode cJ18_rangeCheck 34 = .ok (.ldc 59, 2) := dk_18 59 (dk_at dksJ18_rangeCheck_1 12 rfl rfl)
theorem dJ18_rangeCheck_36 : decode cJ18_rangeCheck 36 = .ok (.invokevirtual 50, 3) := dk_182 0 50 (dk_at dksJ18_rangeCheck_1 14 rfl rfl)
theorem dJ18_rangeCheck_39 : decode cJ18_rangeCheck 39 = .ok (.invokevirtual 61, 3) := dk_182 0 61 (dk_at dksJ18_rangeCheck_1 17 rfl rfl)
theorem dJ18_rangeCheck_42 : decode cJ18_rangeCheck 42 = .ok (.invokespecial 65, 3) := dk_183 0 65 (dk_at dksJ18_rangeCheck_1 20 rfl rfl)
theorem dJ18_rangeCheck_45 : decode cJ18_rangeCheck 45 = .ok (.athrow, 1) := dk_191 (dk_at dksJ18_rangeCheck_1 23 rfl rfl)
theorem dJ18_rangeCheck_46 : decode cJ18_rangeCheck 46 = .ok (.iload_n 1, 1) := dk_27 (dk_at dksJ18_rangeCheck_2 0 rfl rfl)
theorem dJ18_rangeCheck_47 : decode cJ18_rangeCheck 47 = .ok (.ifCond .ge 12, 3) := dk_156 0 12 (dk_at dksJ18_rangeCheck_2 1 rfl rfl)
theorem dJ18_rangeCheck_50 : decode cJ18_rangeCheck 50 = .ok (.new 68, 3) := dk_187 0 68 (dk_at dksJ18_rangeCheck_2 4 rfl rfl)
theorem dJ18_rangeCheck_53 : decode cJ18_rangeCheck 53 = .ok (.dup, 1) := dk_89 (dk_at dksJ18_rangeCheck_2 7 rfl rfl)
theorem dJ18_rangeCheck_54 : decode cJ18_rangeCheck 54 = .ok (.iload_n 1, 1) := dk_27 (dk_at dksJ18_rangeCheck_2 8 rfl rfl)
theorem dJ18_rangeCheck_55 : decode cJ18_rangeCheck 55 = .ok (.invokespecial 70, 3) := dk_183 0 70 (dk_at dksJ18_rangeCheck_2 9 rfl rfl)
theorem dJ18_rangeCheck_58 : decode cJ18_rangeCheck 58 = .ok (.athrow, 1) := dk_191 (dk_at dksJ18_rangeCheck_2 12 rfl rfl)
theorem dJ18_rangeCheck_59 : decode cJ18_rangeCheck 59 = .ok (.iload_n 2, 1) := dk_28 (dk_at dksJ18_rangeCheck_2 13 rfl rfl)
theorem dJ18_rangeCheck_60 : decode cJ18_rangeCheck 60 = .ok (.iload_n 0, 1) := dk_26 (dk_at dksJ18_rangeCheck_2 14 rfl rfl)
theorem dJ18_rangeCheck_61 : decode cJ18_rangeCheck 61 = .ok (.if_icmp .le 12, 3) := dk_164 0 12 (dk_at dksJ18_rangeCheck_2 15 rfl rfl)
theorem dJ18_rangeCheck_64 : decode cJ18_rangeCheck 64 = .ok (.new 68, 3) := dk_187 0 68 (dk_at dksJ18_rangeCheck_2 18 rfl rfl)
theorem dJ18_rangeCheck_67 : decode cJ18_rangeCheck 67 = .ok (.dup, 1) := dk_89 (dk_at dksJ18_rangeCheck_2 21 rfl rfl)
theorem dJ18_rangeCheck_68 : decode cJ18_rangeCheck 68 = .ok (.iload_n 2, 1) := dk_28 (dk_at dksJ18_rangeCheck_2 22 rfl rfl)
theorem dJ18_rangeCheck_69 : decode cJ18_rangeCheck 69 = .ok (.invokespecial 70, 3) := dk_183 0 70 (dk_at dksJ18_rangeCheck_3 0 rfl rfl)
theorem dJ18_rangeCheck_72 : decode cJ18_rangeCheck 72 = .ok (.athrow, 1) := dk_191 (dk_at dksJ18_rangeCheck_3 3 rfl rfl)
theorem dJ18_rangeCheck_73 : decode cJ18_rangeCheck 73 = .ok (.return_, 1) := dk_177 (dk_at dksJ18_rangeCheck_3 4 rfl rfl)
def dkwJ24_valueOf_1 : List UInt8 := [187, 0, 1, 89, 26, 183, 0, 199, 176]
abbrev dktJ24_valueOf_1 : List UInt8 := dkwJ24_valueOf_1 ++ []
def dkwJ24_valueOf_0 : List UInt8 := [26, 16, 128, 161, 0, 20, 26, 178, 0, 191, 163, 0, 13, 178, 0, 195, 26, 17, 0, 128, 96, 50, 176]
abbrev dktJ24_valueOf_0 : List UInt8 := dkwJ24_valueOf_0 ++ dktJ24_valueOf_1
theorem dksJ24_valueOf_0 : cJ24_valueOf.data.toList.drop 0 = dktJ24_valueOf_0 := by decide +kernel
theorem dksJ24_valueOf_1 : cJ24_valueOf.data.toList.drop 23 = dktJ24_valueOf_1 := dk_seg dksJ24_valueOf_0 23 rfl rfl
theorem dJ24_valueOf_0 : decode cJ24_valueOf 0 = .ok (.iload_n 0, 1) := dk_26 (dk_at dksJ24_valueOf_0 0 rfl rfl)
theorem dJ24_valueOf_1 : decode cJ24_valueOf 1 = .ok (.bipush (-128), 2) := dk_16 128 (dk_at dksJ24_valueOf_0 1 rfl rfl)
theorem dJ24_valueOf_3 : decode cJ24_valueOf 3 = .ok (.if_icmp .lt 20, 3) := dk_161 0 20 (dk_at dksJ24_valueOf_0 3 rfl rfl)
theorem dJ24_valueOf_6 : decode cJ24_valueOf 6 = .ok (.iload_n 0, 1) := dk_26 (dk_at dksJ24_valueOf_0 6 rfl rfl)
theorem dJ24_valueOf_7 : decode cJ24_valueOf 7 = .ok (.getstatic 191, 3) := dk_178 0 191 (dk_at dksJ24_valueOf_0 7 rfl rfl)
theorem dJ24_valueOf_10 : decode cJ24_valueOf 10 = .ok (.if_icmp .gt 13, 3) := dk_163 0 13 (dk_at dksJ24_valueOf_0 10 rfl rfl)
theorem dJ24_valueOf_13 : decode cJ24_valueOf 13 = .ok (.getstatic 195, 3) := dk_178 0 195 (dk_at dksJ24_valueOf_0 13 rfl rfl)
theorem dJ24_valueOf_16 : decode cJ24_valueOf 16 = .ok (.iload_n 0, 1) := dk_26 (dk_at dksJ24_valueOf_0 16 rfl rfl)
theorem dJ24_valueOf_17 : decode cJ24_valueOf 17 = .ok (.sipush 128, 3) := dk_17 0 128 (dk_at dksJ24_valueOf_0 17 rfl rfl)
theorem dJ24_valueOf_20 : decode cJ24_valueOf 20 = .ok (.iadd, 1) := dk_96 (dk_at dksJ24_valueOf_0 20 rfl rfl)
theorem dJ24_valueOf_21 : decode cJ24_valueOf 21 = .ok (.aaload, 1) := dk_50 (dk_at dksJ24_valueOf_0 21 rfl rfl)
theorem dJ24_valueOf_22 : decode cJ24_valueOf 22 = .ok (.areturn, 1) := dk_176 (dk_at dksJ24_valueOf_0 22 rfl rfl)
theorem dJ24_valueOf_23 : decode cJ24_valueOf 23 = .ok (.new 1, 3) := dk_187 0 1 (dk_at dksJ24_valueOf_1 0 rfl rfl)
theorem dJ24_valueOf_26 : decode cJ24_valueOf 26 = .ok (.dup, 1) := dk_89 (dk_at dksJ24_valueOf_1 3 rfl rfl)
theorem dJ24_valueOf_27 : decode cJ24_valueOf 27 = .ok (.iload_n 0, 1) := dk_26 (dk_at dksJ24_valueOf_1 4 rfl rfl)
theorem dJ24_valueOf_28 : decode cJ24_valueOf 28 = .ok (.invokespecial 199, 3) := dk_183 0 199 (dk_at dksJ24_valueOf_1 5 rfl rfl)
theorem dJ24_valueOf_31 : decode cJ24_valueOf 31 = .ok (.areturn, 1) := dk_176 (dk_at dksJ24_valueOf_1 8 rfl rfl)
def dkwJ24_init_0 : List UInt8 := [42, 183, 0, 202, 42, 27, 181, 0, 205, 177]
abbrev dktJ24_init_0 : List UInt8 := dkwJ24_init_0 ++ []
theorem dksJ24_init_0 : cJ24_init.data.toList.drop 0 = dktJ24_init_0 := by decide +kernel
theorem dJ24_init_0 : decode cJ24_init 0 = .ok (.aload_n 0, 1) := dk_42 (dk_at dksJ24_init_0 0 rfl rfl)
theorem dJ24_init_1 : decode cJ24_init 1 = .ok (.invokespecial 202, 3) := dk_183 0 202 (dk_at dksJ24_init_0 1 rfl rfl)
theorem dJ24_init_4 : decode cJ24_init 4 = .ok (.aload_n 0, 1) := dk_42 (dk_at dksJ24_init_0 4 rfl rfl)
theorem dJ24_init_5 : decode cJ24_init 5 = .ok (.iload_n 1, 1) := dk_27 (dk_at dksJ24_init_0 5 rfl rfl)
theorem dJ24_init_6 : decode cJ24_init 6 = .ok (.putfield 205, 3) := dk_181 0 205 (dk_at dksJ24_init_0 6 rfl rfl)
theorem dJ24_init_9 : decode cJ24_init 9 = .ok (.return_, 1) := dk_177 (dk_at dksJ24_init_0 9 rfl rfl)
theorem dJ24_intValue_0 : decode cJ24_intValue 0 = .ok (.aload_n 0, 1) := by decide +kernel
theorem dJ24_intValue_1 : decode cJ24_intValue 1 = .ok (.getfield 205, 3) := by decide +kernel
theorem dJ24_intValue_4 : decode cJ24_intValue 4 = .ok (.ireturn, 1) := by decide +kernel
def dkwJ24_stringSize_1 : List UInt8 := [164, 0, 7, 29, 27, 96, 172, 16, 10, 28, 104, 61, 132, 3, 1, 167, 255, 233, 16, 10, 27, 96, 172]
abbrev dktJ24_stringSize_1 : List UInt8 := dkwJ24_stringSize_1 ++ []
def dkwJ24_stringSize_0 : List UInt8 := [4, 60, 26, 155, 0, 8, 3, 60, 26, 116, 59, 16, 246, 61, 4, 62, 29, 16, 10, 162, 0, 23, 26, 28]
abbrev dktJ24_stringSize_0 : List UInt8 := dkwJ24_stringSize_0 ++ dktJ24_stringSize_1
theorem dksJ24_stringSize_0 : cJ24_stringSize.data.toList.drop 0 = dktJ24_stringSize_0 := by decide +kernel
theorem dksJ24_stringSize_1 : cJ24_stringSize.data.toList.drop 24 = dktJ24_stringSize_1 := dk_seg dksJ24_stringSize_0 24 rfl rfl
theorem dJ24_stringSize_0 : decode cJ24_stringSize 0 = .ok (.iconst 1, 1) := dk_4 (dk_at dksJ24_stringSize_0 0 rfl rfl)
theorem dJ24_stringSize_1 : decode cJ24_stringSize 1 = .ok (.istore_n 1, 1) := dk_60 (dk_at dksJ24_stringSize_0 1 rfl rfl)
theorem dJ24_stringSize_2 : decode cJ24_stringSize 2 = .ok (.iload_n 0, 1) := dk_26 (dk_at dksJ24_stringSize_0 2 rfl rfl)
theorem dJ24_stringSize_3 : decode cJ24_stringSize 3 = .ok (.ifCond .lt 8, 3) := dk_155 0 8 (dk_at dksJ24_stringSize_0 3 rfl rfl)
theorem dJ24_stringSize_6 : decode cJ24_stringSize 6 = .ok (.iconst 0, 1) := dk_3 (dk_at dksJ24_stringSize_0 6 rfl rfl)
theorem dJ24_stringSize_7 : decode cJ24_stringSize 7 = .ok (.istore_n 1, 1) := dk_60 (dk_at dksJ24_stringSize_0 7 rfl rfl)
theorem dJ24_stringSize_8 : decode cJ24_stringSize 8 = .ok (.iload_n 0, 1) := dk_26 (dk_at dksJ24_stringSize_0 8 rfl rfl)
theorem dJ24_stringSize_9 : decode cJ24_stringSize 9 = .ok (.ineg, 1) := dk_116 (dk_at dksJ24_stringSize_0 9 rfl rfl)
theorem dJ24_stringSize_10 : decode cJ24_stringSize 10 = .ok (.istore_n 0, 1) := dk_59 (dk_at dksJ24_stringSize_0 10 rfl rfl)
theorem dJ24_stringSize_11 : decode cJ24_stringSize 11 = .ok (.bipush (-10), 2) := dk_16 246 (dk_at dksJ24_stringSize_0 11 rfl rfl)
theorem dJ24_stringSize_13 : decode cJ24_stringSize 13 = .ok (.istore_n 2, 1) := dk_61 (dk_at dksJ24_stringSize_0 13 rfl rfl)
theorem dJ24_stringSize_14 : decode cJ24_stringSize 14 = .ok (.iconst 1, 1) := dk_4 (dk_at dksJ24_stringSize_0 14 rfl rfl)
theorem dJ24_stringSize_15 : decode cJ24_stringSize 15 = .ok (.istore_n 3, 1) := dk_62 (dk_at dksJ24_stringSize_0 15 rfl rfl)
theorem dJ24_stringSize_16 : decode cJ24_stringSize 16 = .ok (.iload_n 3, 1) := dk_29 (dk_at dksJ24_stringSize_0 16 rfl rfl)
theorem dJ24_stringSize_17 : decode cJ24_stringSize 17 = .ok (.bipush 10, 2) := dk_16 10 (dk_at dksJ24_stringSize_0 17 rfl rfl)
theorem dJ24_stringSize_19 : decode cJ24_stringSize 19 = .ok (.if_icmp .ge 23, 3) := dk_162 0 23 (dk_at dksJ24_stringSize_0 19 rfl rfl)
theorem dJ24_stringSize_22 : decode cJ24_stringSize 22 = .ok (.iload_n 0, 1) := dk_26 (dk_at dksJ24_stringSize_0 22 rfl rfl)
theorem dJ24_stringSize_23 : decode cJ24_stringSize 23 = .ok (.iload_n 2, 1) := dk_28 (dk_at dksJ24_stringSize_0 23 rfl rfl)
theorem dJ24_stringSize_24 : decode cJ24_stringSize 24 = .ok (.if_icmp .le 7, 3) := dk_164 0 7 (dk_at dksJ24_stringSize_1 0 rfl rfl)
theorem dJ24_stringSize_27 : decode cJ24_stringSize 27 = .ok (.iload_n 3, 1) := dk_29 (dk_at dksJ24_stringSize_1 3 rfl rfl)
theorem dJ24_stringSize_28 : decode cJ24_stringSize 28 = .ok (.iload_n 1, 1) := dk_27 (dk_at dksJ24_stringSize_1 4 rfl rfl)
theorem dJ24_stringSize_29 : decode cJ24_stringSize 29 = .ok (.iadd, 1) := dk_96 (dk_at dksJ24_stringSize_1 5 rfl rfl)
theorem dJ24_stringSize_30 : decode cJ24_stringSize 30 = .ok (.ireturn, 1) := dk_172 (dk_at dksJ24_stringSize_1 6 rfl rfl)
theorem dJ24_stringSize_31 : decode cJ24_stringSize 31 = .ok (.bipush 10, 2) := dk_16 10 (dk_at dksJ24_stringSize_1 7 rfl rfl)
theorem dJ24_stringSize_33 : decode cJ24_stringSize 33 = .ok (.iload_n 2, 1) := dk_28 (dk_at dksJ24_stringSize_1 9 rfl rfl)
theorem dJ24_stringSize_34 : decode cJ24_stringSize 34 = .ok (.imul, 1) := dk_104 (dk_at dksJ24_stringSize_1 10 rfl rfl)
theorem dJ24_stringSize_35 : decode cJ24_stringSize 35 = .ok (.istore_n 2, 1) := dk_61 (dk_at dksJ24_stringSize_1 11 rfl rfl)
theorem dJ24_stringSize_36 : decode cJ24_stringSize 36 = .ok (.iinc 3 1, 3) := dk_132 3 1 (dk_at dksJ24_stringSize_1 12 rfl rfl)
theorem dJ24_stringSize_39 : decode cJ24_stringSize 39 = .ok (.goto (-23), 3) := dk_167 255 233 (dk_at dksJ24_stringSize_1 15 rfl rfl)
theorem dJ24_stringSize_42 : decode cJ24_stringSize 42 = .ok (.bipush 10, 2) := dk_16 10 (dk_at dksJ24_stringSize_1 18 rfl rfl)
theorem dJ24_stringSize_44 : decode cJ24_stringSize 44 = .ok (.iload_n 1, 1) := dk_27 (dk_at dksJ24_stringSize_1 20 rfl rfl)
theorem dJ24_stringSize_45 : decode cJ24_stringSize 45 = .ok (.iadd, 1) := dk_96 (dk_at dksJ24_stringSize_1 21 rfl rfl)
theorem dJ24_stringSize_46 : decode cJ24_stringSize 46 = .ok (.ireturn, 1) := dk_172 (dk_at dksJ24_stringSize_1 22 rfl rfl)
def dkwJ24_getChars_5 : List UInt8 := [16, 45, 84, 21, 5, 172]
abbrev dktJ24_getChars_5 : List UInt8 := dkwJ24_getChars_5 ++ []
def dkwJ24_getChars_4 : List UInt8 := [132, 5, 255, 21, 5, 178, 0, 87, 26, 116, 51, 84, 21, 6, 153, 0, 12, 44, 132, 5, 255, 21, 5]
abbrev dktJ24_getChars_4 : List UInt8 := dkwJ24_getChars_4 ++ dktJ24_getChars_5
def dkwJ24_getChars_3 : List UInt8 := [167, 255, 209, 44, 132, 5, 255, 21, 5, 178, 0, 83, 26, 116, 51, 84, 26, 16, 247, 162, 0, 16, 44]
abbrev dktJ24_getChars_3 : List UInt8 := dkwJ24_getChars_3 ++ dktJ24_getChars_4
def dkwJ24_getChars_2 : List UInt8 := [21, 5, 178, 0, 83, 21, 4, 51, 84, 44, 132, 5, 255, 21, 5, 178, 0, 87, 21, 4, 51, 84]
abbrev dktJ24_getChars_2 : List UInt8 := dkwJ24_getChars_2 ++ dktJ24_getChars_3
def dkwJ24_getChars_1 : List UInt8 := [16, 156, 163, 0, 47, 26, 16, 100, 108, 62, 29, 16, 100, 104, 26, 100, 54, 4, 29, 59, 44, 132, 5, 255]
abbrev dktJ24_getChars_1 : List UInt8 := dkwJ24_getChars_1 ++ dktJ24_getChars_2
def dkwJ24_getChars_0 : List UInt8 := [27, 54, 5, 26, 156, 0, 7, 4, 167, 0, 4, 3, 54, 6, 21, 6, 154, 0, 6, 26, 116, 59, 26]
abbrev dktJ24_getChars_0 : List UInt8 := dkwJ24_getChars_0 ++ dktJ24_getChars_1
theorem dksJ24_getChars_0 : cJ24_getChars.data.toList.drop 0 = dktJ24_getChars_0 := by decide +kernel
theorem dksJ24_getChars_1 : cJ24_getChars.data.toList.drop 23 = dktJ24_getChars_1 := dk_seg dksJ24_getChars_0 23 rfl rfl
theorem dksJ24_getChars_2 : cJ24_getChars.data.toList.drop 47 = dktJ24_getChars_2 := dk_seg dksJ24_getChars_1 24 rfl rfl
theorem dksJ24_getChars_3 : cJ24_getChars.data.toList.drop 69 = dktJ24_getChars_3 := dk_seg dksJ24_getChars_2 22 rfl rfl
theorem dksJ24_getChars_4 : cJ24_getChars.data.toList.drop 92 = dktJ24_getChars_4 := dk_seg dksJ24_getChars_3 23 rfl rfl
theorem dksJ24_getChars_5 : cJ24_getChars.data.toList.drop 115 = dktJ24_getChars_5 := dk_seg dksJ24_getChars_4 23 rfl rfl
theorem dJ24_getChars_0 : decode cJ24_getChars 0 = .ok (.iload_n 1, 1) := dk_27 (dk_at dksJ24_getChars_0 0 rfl rfl)
theorem dJ24_getChars_1 : decode cJ24_getChars 1 = .ok (.istore 5, 2) := dk_54 5 (dk_at dksJ24_getChars_0 1 rfl rfl)
theorem dJ24_getChars_3 : decode cJ24_getChars 3 = .ok (.iload_n 0, 1) := dk_26 (dk_at dksJ24_getChars_0 3 rfl rfl)
theorem dJ24_getChars_4 : decode cJ24_getChars 4 = .ok (.ifCond .ge 7, 3) := dk_156 0 7 (dk_at dksJ24_getChars_0 4 rfl rfl)
theorem dJ24_getChars_7 : decode cJ24_getChars 7 = .ok (.iconst 1, 1) := dk_4 (dk_at dksJ24_getChars_0 7 rfl rfl)
theorem dJ24_getChars_8 : decode cJ24_getChars 8 = .ok (.goto 4, 3) := dk_167 0 4 (dk_at dksJ24_getChars_0 8 rfl rfl)
theorem dJ24_getChars_11 : decode cJ24_getChars 11 = .ok (.iconst 0, 1) := dk_3 (dk_at dksJ24_getChars_0 11 rfl rfl)
theorem dJ24_getChars_12 : decode cJ24_getChars 12 = .ok (.istore 6, 2) := dk_54 6 (dk_at dksJ24_getChars_0 12 rfl rfl)
theorem dJ24_getChars_14 : decode cJ24_getChars 14 = .ok (.iload 6, 2) := dk_21 6 (dk_at dksJ24_getChars_0 14 rfl rfl)
theorem dJ24_getChars_16 : decode cJ24_getChars 16 = .ok (.ifCond .ne 6, 3) := dk_154 0 6 (dk_at dksJ24_getChars_0 16 rfl rfl)
theorem dJ24_getChars_19 : decode cJ24_getChars 19 = .ok (.iload_n 0, 1) := dk_26 (dk_at dksJ24_getChars_0 19 rfl rfl)
theorem dJ24_getChars_20 : decode cJ24_getChars 20 = .ok (.ineg, 1) := dk_116 (dk_at dksJ24_getChars_0 20 rfl rfl)
theorem dJ24_getChars_21 : decode cJ24_getChars 21 = .ok (.istore_n 0, 1) := dk_59 (dk_at dksJ24_getChars_0 21 rfl rfl)
theorem dJ24_getChars_22 : decode cJ24_getChars 22 = .ok (.iload_n 0, 1) := dk_26 (dk_at dksJ24_getChars_0 22 rfl rfl)
theorem dJ24_getChars_23 : decode cJ24_getChars 23 = .ok (.bipush (-100), 2) := dk_16 156 (dk_at dksJ24_getChars_1 0 rfl rfl)
theorem dJ24_getChars_25 : decode cJ24_getChars 25 = .ok (.if_icmp .gt 47, 3) := dk_163 0 47 (dk_at dksJ24_getChars_1 2 rfl rfl)
theorem dJ24_getChars_28 : decode cJ24_getChars 28 = .ok (.iload_n 0, 1) := dk_26 (dk_at dksJ24_getChars_1 5 rfl rfl)
theorem dJ24_getChars_29 : decode cJ24_getChars 29 = .ok (.bipush 100, 2) := dk_16 100 (dk_at dksJ24_getChars_1 6 rfl rfl)
theorem dJ24_getChars_31 : decode cJ24_getChars 31 = .ok (.idiv, 1) := dk_108 (dk_at dksJ24_getChars_1 8 rfl rfl)
theorem dJ24_getChars_32 : decode cJ24_getChars 32 = .ok (.istore_n 3, 1) := dk_62 (dk_at dksJ24_getChars_1 9 rfl rfl)
theorem dJ24_getChars_33 : decode cJ24_getChars 33 = .ok (.iload_n 3, 1) := dk_29 (dk_at dksJ24_getChars_1 10 rfl rfl)
theorem dJ24_getChars_34 : decode cJ24_getChars 34 = .ok (.bipush 100, 2) := dk_16 100 (dk_at dksJ24_getChars_1 11 rfl rfl)
theorem dJ24_getChars_36 : decode cJ24_getChars 36 = .ok (.imul, 1) := dk_104 (dk_at dksJ24_getChars_1 13 rfl rfl)
theorem dJ24_getChars_37 : decode cJ24_getChars 37 = .ok (.iload_n 0, 1) := dk_26 (dk_at dksJ24_getChars_1 14 rfl rfl)
theorem dJ24_getChars_38 : decode cJ24_getChars 38 = .ok (.isub, 1) := dk_100 (dk_at dksJ24_getChars_1 15 rfl rfl)
theorem dJ24_getChars_39 : decode cJ24_getChars 39 = .ok (.istore 4, 2) := dk_54 4 (dk_at dksJ24_getChars_1 16 rfl rfl)
theorem dJ24_getChars_41 : decode cJ24_getChars 41 = .ok (.iload_n 3, 1) := dk_29 (dk_at dksJ24_getChars_1 18 rfl rfl)
theorem dJ24_getChars_42 : decode cJ24_getChars 42 = .ok (.istore_n 0, 1) := dk_59 (dk_at dksJ24_getChars_1 19 rfl rfl)
theorem dJ24_getChars_43 : decode cJ24_getChars 43 = .ok (.aload_n 2, 1) := dk_44 (dk_at dksJ24_getChars_1 20 rfl rfl)
theorem dJ24_getChars_44 : decode cJ24_getChars 44 = .ok (.iinc 5 (-1), 3) := dk_132 5 255 (dk_at dksJ24_getChars_1 21 rfl rfl)
theorem dJ24_getChars_47 : decode cJ24_getChars 47 = .ok (.iload 5, 2) := dk_21 5 (dk_at dksJ24_getChars_2 0 rfl rfl)
theorem dJ24_getChars_49 : decode cJ24_getChars 49 = .ok (.getstatic 83, 3) := dk_178 0 83 (dk_at dksJ24_getChars_2 2 rfl rfl)
theorem dJ24_getChars_52 : decode cJ24_getChars 52 = .ok (.iload 4, 2) := dk_21 4 (dk_at dksJ24_getChars_2 5 rfl rfl)
theorem dJ24_getChars_54 : decode cJ24_getChars 54 = .ok (.baload, 1) := dk_51 (dk_at dksJ24_getChars_2 7 rfl rfl)
theorem dJ24_getChars_55 : decode cJ24_getChars 55 = .ok (.bastore, 1) := dk_84 (dk_at dksJ24_getChars_2 8 rfl rfl)
theorem dJ24_getChars_56 : decode cJ24_getChars 56 = .ok (.aload_n 2, 1) := dk_44 (dk_at dksJ24_getChars_2 9 rfl rfl)
theorem dJ24_getChars_57 : decode cJ24_getChars 57 = .ok (.iinc 5 (-1), 3) := dk_132 5 255 (dk_at dksJ24_getChars_2 10 rfl rfl)
theorem dJ24_getChars_60 : decode cJ24_getChars 60 = .ok (.iload 5, 2) := dk_21 5 (dk_at dksJ24_getChars_2 13 rfl rfl)
theorem dJ24_getChars_62 : decode cJ24_getChars 62 = .ok (.getstatic 87, 3) := dk_178 0 87 (dk_at dksJ24_getChars_2 15 rfl rfl)
theorem dJ24_getChars_65 : decode cJ24_getChars 65 = .ok (.iload 4, 2) := dk_21 4 (dk_at dksJ24_getChars_2 18 rfl rfl)
theorem dJ24_getChars_67 : decode cJ24_getChars 67 = .ok (.baload, 1) := dk_51 (dk_at dksJ24_getChars_2 20 rfl rfl)
theorem dJ24_getChars_68 : decode cJ24_getChars 68 = .ok (.bastore, 1) := dk_84 (dk_at dksJ24_getChars_2 21 rfl rfl)
theorem dJ24_getChars_69 : decode cJ24_getChars 69 = .ok (.goto (-47), 3) := dk_167 255 209 (dk_at dksJ24_getChars_3 0 rfl rfl)
theorem dJ24_getChars_72 : decode cJ24_getChars 72 = .ok (.aload_n 2, 1) := dk_44 (dk_at dksJ24_getChars_3 3 rfl rfl)
theorem dJ24_getChars_73 : decode cJ24_getChars 73 = .ok (.iinc 5 (-1), 3) := dk_132 5 255 (dk_at dksJ24_getChars_3 4 rfl rfl)
theorem dJ24_getChars_76 : decode cJ24_getChars 76 = .ok (.iload 5, 2) := dk_21 5 (dk_at dksJ24_getChars_3 7 rfl rfl)
theorem dJ24_getChars_78 : decode cJ24_getChars 78 = .ok (.getstatic 83, 3) := dk_178 0 83 (dk_at dksJ24_getChars_3 9 rfl rfl)
theorem dJ24_getChars_81 : decode cJ24_getChars 81 = .ok (.iload_n 0, 1) := dk_26 (dk_at dksJ24_getChars_3 12 rfl rfl)
theorem dJ24_getChars_82 : decode cJ24_getChars 82 = .ok (.ineg, 1) := dk_116 (dk_at dksJ24_getChars_3 13 rfl rfl)
theorem dJ24_getChars_83 : decode cJ24_getChars 83 = .ok (.baload, 1) := dk_51 (dk_at dksJ24_getChars_3 14 rfl rfl)
theorem dJ24_getChars_84 : decode cJ24_getChars 84 = .ok (.bastore, 1) := dk_84 (dk_at dksJ24_getChars_3 15 rfl rfl)
theorem dJ24_getChars_85 : decode cJ24_getChars 85 = .ok (.iload_n 0, 1) := dk_26 (dk_at dksJ24_getChars_3 16 rfl rfl)
theorem dJ24_getChars_86 : decode cJ24_getChars 86 = .ok (.bipush (-9), 2) := dk_16 247 (dk_at dksJ24_getChars_3 17 rfl rfl)
theorem dJ24_getChars_88 : decode cJ24_getChars 88 = .ok (.if_icmp .ge 16, 3) := dk_162 0 16 (dk_at dksJ24_getChars_3 19 rfl rfl)
theorem dJ24_getChars_91 : decode cJ24_getChars 91 = .ok (.aload_n 2, 1) := dk_44 (dk_at dksJ24_getChars_3 22 rfl rfl)
theorem dJ24_getChars_92 : decode cJ24_getChars 92 = .ok (.iinc 5 (-1), 3) := dk_132 5 255 (dk_at dksJ24_getChars_4 0 rfl rfl)
theorem dJ24_getChars_95 : decode cJ24_getChars 95 = .ok (.iload 5, 2) := dk_21 5 (dk_at dksJ24_getChars_4 3 rfl rfl)
theorem dJ24_getChars_97 : decode cJ24_getChars 97 = .ok (.getstatic 87, 3) := dk_178 0 87 (dk_at dksJ24_getChars_4 5 rfl rfl)
theorem dJ24_getChars_100 : decode cJ24_getChars 100 = .ok (.iload_n 0, 1) := dk_26 (dk_at dksJ24_getChars_4 8 rfl rfl)
theorem dJ24_getChars_101 : decode cJ24_getChars 101 = .ok (.ineg, 1) := dk_116 (dk_at dksJ24_getChars_4 9 rfl rfl)
theorem dJ24_getChars_102 : decode cJ24_getChars 102 = .ok (.baload, 1) := dk_51 (dk_at dksJ24_getChars_4 10 rfl rfl)
theorem dJ24_getChars_103 : decode cJ24_getChars 103 = .ok (.bastore, 1) := dk_84 (dk_at dksJ24_getChars_4 11 rfl rfl)
theorem dJ24_getChars_104 : decode cJ24_getChars 104 = .ok (.iload 6, 2) := dk_21 6 (dk_at dksJ24_getChars_4 12 rfl rfl)
theorem dJ24_getChars_106 : decode cJ24_getChars 106 = .ok (.ifCond .eq 12, 3) := dk_153 0 12 (dk_at dksJ24_getChars_4 14 rfl rfl)
theorem dJ24_getChars_109 : decode cJ24_getChars 109 = .ok (.aload_n 2, 1) := dk_44 (dk_at dksJ24_getChars_4 17 rfl rfl)
theorem dJ24_getChars_110 : decode cJ24_getChars 110 = .ok (.iinc 5 (-1), 3) := dk_132 5 255 (dk_at dksJ24_getChars_4 18 rfl rfl)
theorem dJ24_getChars_113 : decode cJ24_getChars 113 = .ok (.iload 5, 2) := dk_21 5 (dk_at dksJ24_getChars_4 21 rfl rfl)
theorem dJ24_getChars_115 : decode cJ24_getChars 115 = .ok (.bipush 45, 2) := dk_16 45 (dk_at dksJ24_getChars_5 0 rfl rfl)
theorem dJ24_getChars_117 : decode cJ24_getChars 117 = .ok (.bastore, 1) := dk_84 (dk_at dksJ24_getChars_5 2 rfl rfl)
theorem dJ24_getChars_118 : decode cJ24_getChars 118 = .ok (.iload 5, 2) := dk_21 5 (dk_at dksJ24_getChars_5 3 rfl rfl)
theorem dJ24_getChars_120 : decode cJ24_getChars 120 = .ok (.ireturn, 1) := dk_172 (dk_at dksJ24_getChars_5 5 rfl rfl)
def dkwJ24_numberOfLeadingZeros_3 : List UInt8 := [5, 124, 59, 27, 26, 4, 124, 100, 172]
abbrev dktJ24_numberOfLeadingZeros_3 : List UInt8 := dkwJ24_numberOfLeadingZeros_3 ++ []
def dkwJ24_numberOfLeadingZeros_2 : List UInt8 := [124, 59, 26, 16, 16, 161, 0, 10, 132, 1, 252, 26, 7, 124, 59, 26, 7, 161, 0, 10, 132, 1, 254, 26]
abbrev dktJ24_numberOfLeadingZeros_2 : List UInt8 := dkwJ24_numberOfLeadingZeros_2 ++ dktJ24_numberOfLeadingZeros_3
def dkwJ24_numberOfLeadingZeros_1 : List UInt8 := [161, 0, 11, 132, 1, 240, 26, 16, 16, 124, 59, 26, 17, 1, 0, 161, 0, 11, 132, 1, 248, 26, 16, 8]
abbrev dktJ24_numberOfLeadingZeros_1 : List UInt8 := dkwJ24_numberOfLeadingZeros_1 ++ dktJ24_numberOfLeadingZeros_2
def dkwJ24_numberOfLeadingZeros_0 : List UInt8 := [26, 157, 0, 14, 26, 154, 0, 8, 16, 32, 167, 0, 4, 3, 172, 16, 31, 60, 26, 19, 1, 8]
abbrev dktJ24_numberOfLeadingZeros_0 : List UInt8 := dkwJ24_numberOfLeadingZeros_0 ++ dktJ24_numberOfLeadingZeros_1
theorem dksJ24_numberOfLeadingZeros_0 : cJ24_numberOfLeadingZeros.data.toList.drop 0 = dktJ24_numberOfLeadingZeros_0 := by decide +kernel
theorem dksJ24_numberOfLeadingZeros_1 : cJ24_numberOfLeadingZeros.data.toList.drop 22 = dktJ24_numberOfLeadingZeros_1 := dk_seg dksJ24_numberOfLeadingZeros_0 22 rfl rfl
theorem dksJ24_numberOfLeadingZeros_2 : cJ24_numberOfLeadingZeros.data.toList.drop 46 = dktJ24_numberOfLeadingZeros_2 := dk_seg dksJ24_numberOfLeadingZeros_1 24 rfl rfl
theorem dksJ24_numberOfLeadingZeros_3 : cJ24_numberOfLeadingZeros.data.toList.drop 70 = dktJ24_numberOfLeadingZeros_3 := dk_seg dksJ24_numberOfLeadingZeros_2 24 rfl rfl
theorem dJ24_numberOfLeadingZeros_0 : decode cJ24_numberOfLeadingZeros 0 = .ok (.iload_n 0, 1) := dk_26 (dk_at dksJ24_numberOfLeadingZeros_0 0 rfl rfl)
theorem dJ24_numberOfLeadingZeros_1 : decode cJ24_numberOfLeadingZeros 1 = .ok (.ifCond .gt 14, 3) := dk_157 0 14 (dk_at dksJ24_numberOfLeadingZeros_0 1 rfl rfl)
theorem dJ24_numberOfLeadingZeros_4 : decode cJ24_numberOfLeadingZeros 4 = .ok (.iload_n 0, 1) := dk_26 (dk_at dksJ24_numberOfLeadingZeros_0 4 rfl rfl)
theorem dJ24_numberOfLeadingZeros_5 : decode cJ24_numberOfLeadingZeros 5 = .ok (.ifCond .ne 8, 3) := dk_154 0 8 (dk_at dksJ24_numberOfLeadingZeros_0 5 rfl rfl)
theorem dJ24_numberOfLeadingZeros_8 : decode cJ24_numberOfLeadingZeros 8 = .ok (.bipush 32, 2) := dk_16 32 (dk_at dksJ24_numberOfLeadingZeros_0 8 rfl rfl)
theorem dJ24_numberOfLeadingZeros_10 : decode cJ24_numberOfLeadingZeros 10 = .ok (.goto 4, 3) := dk_167 0 4 (dk_at dksJ24_numberOfLeadingZeros_0 10 rfl rfl)
theorem dJ24_numberOfLeadingZeros_13 : decode cJ24_numberOfLeadingZeros 13 = .ok (.iconst 0, 1) := dk_3 (dk_at dksJ24_numberOfLeadingZeros_0 13 rfl rfl)
theorem dJ24_numberOfLeadingZeros_14 : decode cJ24_numberOfLeadingZeros 14 = .ok (.ireturn, 1) := dk_172 (dk_at dksJ24_numberOfLeadingZeros_0 14 rfl rfl)
theorem dJ24_numberOfLeadingZeros_15 : decode cJ24_numberOfLeadingZeros 15 = .ok (.bipush 31, 2) := dk_16 31 (dk_at dksJ24_numberOfLeadingZeros_0 15 rfl rfl)
theorem dJ24_numberOfLeadingZeros_17 : decode cJ24_numberOfLeadingZeros 17 = .ok (.istore_n 1, 1) := dk_60 (dk_at dksJ24_numberOfLeadingZeros_0 17 rfl rfl)
theorem dJ24_numberOfLeadingZeros_18 : decode cJ24_numberOfLeadingZeros 18 = .ok (.iload_n 0, 1) := dk_26 (dk_at dksJ24_numberOfLeadingZeros_0 18 rfl rfl)
theorem dJ24_numberOfLeadingZeros_19 : decode cJ24_numberOfLeadingZeros 19 = .ok (.ldc_w 264, 3) := dk_19 1 8 (dk_at dksJ24_numberOfLeadingZeros_0 19 rfl rfl)
theorem dJ24_numberOfLeadingZeros_22 : decode cJ24_numberOfLeadingZeros 22 = .ok (.if_icmp .lt 11, 3) := dk_161 0 11 (dk_at dksJ24_numberOfLeadingZeros_1 0 rfl rfl)
theorem dJ24_numberOfLeadingZeros_25 : decode cJ24_numberOfLeadingZeros 25 = .ok (.iinc 1 (-16), 3) := dk_132 1 240 (dk_at dksJ24_numberOfLeadingZeros_1 3 rfl rfl)
theorem dJ24_numberOfLeadingZeros_28 : decode cJ24_numberOfLeadingZeros 28 = .ok (.iload_n 0, 1) := dk_26 (dk_at dksJ24_numberOfLeadingZeros_1 6 rfl rfl)
theorem dJ24_numberOfLeadingZeros_29 : decode cJ24_numberOfLeadingZeros 29 = .ok (.bipush 16, 2) := dk_16 16 (dk_at dksJ24_numberOfLeadingZeros_1 7 rfl rfl)
theorem dJ24_numberOfLeadingZeros_31 : decode cJ24_numberOfLeadingZeros 31 = .ok (.iushr, 1) := dk_124 (dk_at dksJ24_numberOfLeadingZeros_1 9 rfl rfl)
theorem dJ24_numberOfLeadingZeros_32 : decode cJ24_numberOfLeadingZeros 32 = .ok (.istore_n 0, 1) := dk_59 (dk_at dksJ24_numberOfLeadingZeros_1 10 rfl rfl)
theorem dJ24_numberOfLeadingZeros_33 : decode cJ24_numberOfLeadingZeros 33 = .ok (.iload_n 0, 1) := dk_26 (dk_at dksJ24_numberOfLeadingZeros_1 11 rfl rfl)
theorem dJ24_numberOfLeadingZeros_34 : decode cJ24_numberOfLeadingZeros 34 = .ok (.sipush 256, 3) := dk_17 1 0 (dk_at dksJ24_numberOfLeadingZeros_1 12 rfl rfl)
theorem dJ24_numberOfLeadingZeros_37 : decode cJ24_numberOfLeadingZeros 37 = .ok (.if_icmp .lt 11, 3) := dk_161 0 11 (dk_at dksJ24_numberOfLeadingZeros_1 15 rfl rfl)
theorem dJ24_numberOfLeadingZeros_40 : decode cJ24_numberOfLeadingZeros 40 = .ok (.iinc 1 (-8), 3) := dk_132 1 248 (dk_at dksJ24_numberOfLeadingZeros_1 18 rfl rfl)
theorem dJ24_numberOfLeadingZeros_43 : decode cJ24_numberOfLeadingZeros 43 = .ok (.iload_n 0, 1) := dk_26 (dk_at dksJ24_numberOfLeadingZeros_1 21 rfl rfl)
theorem dJ24_numberOfLeadingZeros_44 : decode cJ24_numberOfLeadingZeros 44 = .ok (.bipush 8, 2) := dk_16 8 (dk_at dksJ24_numberOfLeadingZeros_1 22 rfl rfl)
theorem dJ24_numberOfLeadingZeros_46 : decode cJ24_numberOfLeadingZeros 46 = .ok (.iushr, 1) := dk_124 (dk_at dksJ24_numberOfLeadingZeros_2 0 rfl rfl)
theorem dJ24_numberOfLeadingZeros_47 : decode cJ24_numberOfLeadingZeros 47 = .ok (.istore_n 0, 1) := dk_59 (dk_at dksJ24_numberOfLeadingZeros_2 1 rfl rfl)
theorem dJ24_numberOfLeadingZeros_48 : decode cJ24_numberOfLeadingZeros 48 = .ok (.iload_n 0, 1) := dk_26 (dk_at dksJ24_numberOfLeadingZeros_2 2 rfl rfl)
theorem dJ24_numberOfLeadingZeros_49 : decode cJ24_numberOfLeadingZeros 49 = .ok (.bipush 16, 2) := dk_16 16 (dk_at dksJ24_numberOfLeadingZeros_2 3 rfl rfl)
theorem dJ24_numberOfLeadingZeros_51 : decode cJ24_numberOfLeadingZeros 51 = .ok (.if_icmp .lt 10, 3) := dk_161 0 10 (dk_at dksJ24_numberOfLeadingZeros_2 5 rfl rfl)
theorem dJ24_numberOfLeadingZeros_54 : decode cJ24_numberOfLeadingZeros 54 = .ok (.iinc 1 (-4), 3) := dk_132 1 252 (dk_at dksJ24_numberOfLeadingZeros_2 8 rfl rfl)
theorem dJ24_numberOfLeadingZeros_57 : decode cJ24_numberOfLeadingZeros 57 = .ok (.iload_n 0, 1) := dk_26 (dk_at dksJ24_numberOfLeadingZeros_2 11 rfl rfl)
theorem dJ24_numberOfLeadingZeros_58 : decode cJ24_numberOfLeadingZeros 58 = .ok (.iconst 4, 1) := dk_7 (dk_at dksJ24_numberOfLeadingZeros_2 12 rfl rfl)
theorem dJ24_numberOfLeadingZeros_59 : decode cJ24_numberOfLeadingZeros 59 = .ok (.iushr, 1) := dk_124 (dk_at dksJ24_numberOfLeadingZeros_2 13 rfl rfl)
theorem dJ24_numberOfLeadingZeros_60 : decode cJ24_numberOfLeadingZeros 60 = .ok (.istore_n 0, 1) := dk_59 (dk_at dksJ24_numberOfLeadingZeros_2 14 rfl rfl)
theorem dJ24_numberOfLeadingZeros_61 : decode cJ24_numberOfLeadingZeros 61 = .ok (.iload_n 0, 1) := dk_26 (dk_at dksJ24_numberOfLeadingZeros_2 15 rfl rfl)
theorem dJ24_numberOfLeadingZeros_62 : decode cJ24_numberOfLeadingZeros 62 = .ok (.iconst 4, 1) := dk_7 (dk_at dksJ24_numberOfLeadingZeros_2 16 rfl rfl)
theorem dJ24_numberOfLeadingZeros_63 : decode cJ24_numberOfLeadingZeros 63 = .ok (.if_icmp .lt 10, 3) := dk_161 0 10 (dk_at dksJ24_numberOfLeadingZeros_2 17 rfl rfl)
theorem dJ24_numberOfLeadingZeros_66 : decode cJ24_numberOfLeadingZeros 66 = .ok (.iinc 1 (-2), 3) := dk_132 1 254 (dk_at dksJ24_numberOfLeadingZeros_2 20 rfl rfl)
theorem dJ24_numberOfLeadingZeros_69 : decode cJ24_numberOfLeadingZeros 69 = .ok (.iload_n 0, 1) := dk_26 (dk_at dksJ24_numberOfLeadingZeros_2 23 rfl rfl)
theorem dJ24_numberOfLeadingZeros_70 : decode cJ24_numberOfLeadingZeros 70 = .ok (.iconst 2, 1) := dk_5 (dk_at dksJ24_numberOfLeadingZeros_3 0 rfl rfl)
theorem dJ24_numberOfLeadingZeros_71 : decode cJ24_numberOfLeadingZeros 71 = .ok (.iushr, 1) := dk_124 (dk_at dksJ24_numberOfLeadingZeros_3 1 rfl rfl)
theorem dJ24_numberOfLeadingZeros_72 : decode cJ24_numberOfLeadingZeros 72 = .ok (.istore_n 0, 1) := dk_59 (dk_at dksJ24_numberOfLeadingZeros_3 2 rfl rfl)
theorem dJ24_numberOfLeadingZeros_73 : decode cJ24_numberOfLeadingZeros 73 = .ok (.iload_n 1, 1) := dk_27 (dk_at dksJ24_numberOfLeadingZeros_3 3 rfl rfl)
theorem dJ24_numberOfLeadingZeros_74 : decode cJ24_numberOfLeadingZeros 74 = .ok (.iload_n 0, 1) := dk_26 (dk_at dksJ24_numberOfLeadingZeros_3 4 rfl rfl)
theorem dJ24_numberOfLeadingZeros_75 : decode cJ24_numberOfLeadingZeros 75 = .ok (.iconst 1, 1) := dk_4 (dk_at dksJ24_numberOfLeadingZeros_3 5 rfl rfl)
theorem dJ24_numberOfLeadingZeros_76 : decode cJ24_numberOfLeadingZeros 76 = .ok (.iushr, 1) := dk_124 (dk_at dksJ24_numberOfLeadingZeros_3 6 rfl rfl)
theorem dJ24_numberOfLeadingZeros_77 : decode cJ24_numberOfLeadingZeros 77 = .ok (.isub, 1) := dk_100 (dk_at dksJ24_numberOfLeadingZeros_3 7 rfl rfl)
theorem dJ24_numberOfLeadingZeros_78 : decode cJ24_numberOfLeadingZeros 78 = .ok (.ireturn, 1) := dk_172 (dk_at dksJ24_numberOfLeadingZeros_3 8 rfl rfl)
def dkwJ24_numberOfTrailingZeros_3 : List UInt8 := [5, 124, 59, 27, 26, 4, 124, 96, 172]
abbrev dktJ24_numberOfTrailingZeros_3 : List UInt8 := dkwJ24_numberOfTrailingZeros_3 ++ []
def dkwJ24_numberOfTrailingZeros_2 : List UInt8 := [124, 59, 26, 16, 16, 164, 0, 10, 132, 1, 4, 26, 7, 124, 59, 26, 7, 164, 0, 10, 132, 1, 2, 26]
abbrev dktJ24_numberOfTrailingZeros_2 : List UInt8 := dkwJ24_numberOfTrailingZeros_2 ++ dktJ24_numberOfTrailingZeros_3
def dkwJ24_numberOfTrailingZeros_1 : List UInt8 := [164, 0, 11, 132, 1, 16, 26, 16, 16, 124, 59, 26, 17, 1, 0, 164, 0, 11, 132, 1, 8, 26, 16, 8]
abbrev dktJ24_numberOfTrailingZeros_1 : List UInt8 := dkwJ24_numberOfTrailingZeros_1 ++ dktJ24_numberOfTrailingZeros_2
def dkwJ24_numberOfTrailingZeros_0 : List UInt8 := [26, 2, 130, 26, 4, 100, 126, 59, 26, 157, 0, 8, 26, 16, 32, 126, 172, 4, 60, 26, 19, 1, 8]
abbrev dktJ24_numberOfTrailingZeros_0 : List UInt8 := dkwJ24_numberOfTrailingZeros_0 ++ dktJ24_numberOfTrailingZeros_1
theorem dksJ24_numberOfTrailingZeros_0 : cJ24_numberOfTrailingZeros.data.toList.drop 0 = dktJ24_numberOfTrailingZeros_0 := by decide +kernel
theorem dksJ24_numberOfTrailingZeros_1 : cJ24_numberOfTrailingZeros.data.toList.drop 23 = dktJ24_numberOfTrailingZeros_1 := dk_seg dksJ24_numberOfTrailingZeros_0 23 rfl rfl
theorem dksJ24_numberOfTrailingZeros_2 : cJ24_numberOfTrailingZeros.data.toList.drop 47 = dktJ24_numberOfTrailingZeros_2 := dk_seg dksJ24_numberOfTrailingZeros_1 24 rfl rfl
theorem dksJ24_numberOfTrailingZeros_3 : cJ24_numberOfTrailingZeros.data.toList.drop 71 = dktJ24_numberOfTrailingZeros_3 := dk_seg dksJ24_numberOfTrailingZeros_2 24 rfl rfl
theorem dJ24_numberOfTrailingZeros_0 : decode cJ24_numberOfTrailingZeros 0 = .ok (.iload_n 0, 1) := dk_26 (dk_at dksJ24_numberOfTrailingZeros_0 0 rfl rfl)
theorem dJ24_numberOfTrailingZeros_1 : decode cJ24_numberOfTrailingZeros 1 = .ok (.iconst (-1), 1) := dk_2 (dk_at dksJ24_numberOfTrailingZeros_0 1 rfl rfl)
theorem dJ24_numberOfTrailingZeros_2 : decode cJ24_numberOfTrailingZeros 2 = .ok (.ixor, 1) := dk_130 (dk_at dksJ24_numberOfTrailingZeros_0 2 rfl rfl)
theorem dJ24_numberOfTrailingZeros_3 : decode cJ24_numberOfTrailingZeros 3 = .ok (.iload_n 0, 1) := dk_26 (dk_at dksJ24_numberOfTrailingZeros_0 3 rfl rfl)
theorem dJ24_numberOfTrailingZeros_4 : decode cJ24_numberOfTrailingZeros 4 = .ok (.iconst 1, 1) := dk_4 (dk_at dksJ24_numberOfTrailingZeros_0 4 rfl rfl)
theorem dJ24_numberOfTrailingZeros_5 : decode cJ24_numberOfTrailingZeros 5 = .ok (.isub, 1) := dk_100 (dk_at dksJ24_numberOfTrailingZeros_0 5 rfl rfl)
theorem dJ24_numberOfTrailingZeros_6 : decode cJ24_numberOfTrailingZeros 6 = .ok (.iand, 1) := dk_126 (dk_at dksJ24_numberOfTrailingZeros_0 6 rfl rfl)
theorem dJ24_numberOfTrailingZeros_7 : decode cJ24_numberOfTrailingZeros 7 = .ok (.istore_n 0, 1) := dk_59 (dk_at dksJ24_numberOfTrailingZeros_0 7 rfl rfl)
theorem dJ24_numberOfTrailingZeros_8 : decode cJ24_numberOfTrailingZeros 8 = .ok (.iload_n 0, 1) := dk_26 (dk_at dksJ24_numberOfTrailingZeros_0 8 rfl rfl)
theorem dJ24_numberOfTrailingZeros_9 : decode cJ24_numberOfTrailingZeros 9 = .ok (.ifCond .gt 8, 3) := dk_157 0 8 (dk_at dksJ24_numberOfTrailingZeros_0 9 rfl rfl)
theorem dJ24_numberOfTrailingZeros_12 : decode cJ24_numberOfTrailingZeros 12 = .ok (.iload_n 0, 1) := dk_26 (dk_at dksJ24_numberOfTrailingZeros_0 12 rfl rfl)
theorem dJ24_numberOfTrailingZeros_13 : decode cJ24_numberOfTrailingZeros 13 = .ok (.bipush 32, 2) := dk_16 32 (dk_at dksJ24_numberOfTrailingZeros_0 13 rfl rfl)
theorem dJ24_numberOfTrailingZeros_15 : decode cJ24_numberOfTrailingZeros 15 = .ok (.iand, 1) := dk_126 (dk_at dksJ24_numberOfTrailingZeros_0 15 rfl rfl)
theorem dJ24_numberOfTrailingZeros_16 : decode cJ24_numberOfTrailingZeros 16 = .ok (.ireturn, 1) := dk_172 (dk_at dksJ24_numberOfTrailingZeros_0 16 rfl rfl)
theorem dJ24_numberOfTrailingZeros_17 : decode cJ24_numberOfTrailingZeros 17 = .ok (.iconst 1, 1) := dk_4 (dk_at dksJ24_numberOfTrailingZeros_0 17 rfl rfl)
theorem dJ24_numberOfTrailingZeros_18 : decode cJ24_numberOfTrailingZeros 18 = .ok (.istore_n 1, 1) := dk_60 (dk_at dksJ24_numberOfTrailingZeros_0 18 rfl rfl)
theorem dJ24_numberOfTrailingZeros_19 : decode cJ24_numberOfTrailingZeros 19 = .ok (.iload_n 0, 1) := dk_26 (dk_at dksJ24_numberOfTrailingZeros_0 19 rfl rfl)
theorem dJ24_numberOfTrailingZeros_20 : decode cJ24_numberOfTrailingZeros 20 = .ok (.ldc_w 264, 3) := dk_19 1 8 (dk_at dksJ24_numberOfTrailingZeros_0 20 rfl rfl)
theorem dJ24_numberOfTrailingZeros_23 : decode cJ24_numberOfTrailingZeros 23 = .ok (.if_icmp .le 11, 3) := dk_164 0 11 (dk_at dksJ24_numberOfTrailingZeros_1 0 rfl rfl)
theorem dJ24_numberOfTrailingZeros_26 : decode cJ24_numberOfTrailingZeros 26 = .ok (.iinc 1 16, 3) := dk_132 1 16 (dk_at dksJ24_numberOfTrailingZeros_1 3 rfl rfl)
theorem dJ24_numberOfTrailingZeros_29 : decode cJ24_numberOfTrailingZeros 29 = .ok (.iload_n 0, 1) := dk_26 (dk_at dksJ24_numberOfTrailingZeros_1 6 rfl rfl)
theorem dJ24_numberOfTrailingZeros_30 : decode cJ24_numberOfTrailingZeros 30 = .ok (.bipush 16, 2) := dk_16 16 (dk_at dksJ24_numberOfTrailingZeros_1 7 rfl rfl)
theorem dJ24_numberOfTrailingZeros_32 : decode cJ24_numberOfTrailingZeros 32 = .ok (.iushr, 1) := dk_124 (dk_at dksJ24_numberOfTrailingZeros_1 9 rfl rfl)
theorem dJ24_numberOfTrailingZeros_33 : decode cJ24_numberOfTrailingZeros 33 = .ok (.istore_n 0, 1) := dk_59 (dk_at dksJ24_numberOfTrailingZeros_1 10 rfl rfl)
theorem dJ24_numberOfTrailingZeros_34 : decode cJ24_numberOfTrailingZeros 34 = .ok (.iload_n 0, 1) := dk_26 (dk_at dksJ24_numberOfTrailingZeros_1 11 rfl rfl)
theorem dJ24_numberOfTrailingZeros_35 : decode cJ24_numberOfTrailingZeros 35 = .ok (.sipush 256, 3) := dk_17 1 0 (dk_at dksJ24_numberOfTrailingZeros_1 12 rfl rfl)
theorem dJ24_numberOfTrailingZeros_38 : decode cJ24_numberOfTrailingZeros 38 = .ok (.if_icmp .le 11, 3) := dk_164 0 11 (dk_at dksJ24_numberOfTrailingZeros_1 15 rfl rfl)
theorem dJ24_numberOfTrailingZeros_41 : decode cJ24_numberOfTrailingZeros 41 = .ok (.iinc 1 8, 3) := dk_132 1 8 (dk_at dksJ24_numberOfTrailingZeros_1 18 rfl rfl)
theorem dJ24_numberOfTrailingZeros_44 : decode cJ24_numberOfTrailingZeros 44 = .ok (.iload_n 0, 1) := dk_26 (dk_at dksJ24_numberOfTrailingZeros_1 21 rfl rfl)
theorem dJ24_numberOfTrailingZeros_45 : decode cJ24_numberOfTrailingZeros 45 = .ok (.bipush 8, 2) := dk_16 8 (dk_at dksJ24_numberOfTrailingZeros_1 22 rfl rfl)
theorem dJ24_numberOfTrailingZeros_47 : decode cJ24_numberOfTrailingZeros 47 = .ok (.iushr, 1) := dk_124 (dk_at dksJ24_numberOfTrailingZeros_2 0 rfl rfl)
theorem dJ24_numberOfTrailingZeros_48 : decode cJ24_numberOfTrailingZeros 48 = .ok (.istore_n 0, 1) := dk_59 (dk_at dksJ24_numberOfTrailingZeros_2 1 rfl rfl)
theorem dJ24_numberOfTrailingZeros_49 : decode cJ24_numberOfTrailingZeros 49 = .ok (.iload_n 0, 1) := dk_26 (dk_at dksJ24_numberOfTrailingZeros_2 2 rfl rfl)
theorem dJ24_numberOfTrailingZeros_50 : decode cJ24_numberOfTrailingZeros 50 = .ok (.bipush 16, 2) := dk_16 16 (dk_at dksJ24_numberOfTrailingZeros_2 3 rfl rfl)
theorem dJ24_numberOfTrailingZeros_52 : decode cJ24_numberOfTrailingZeros 52 = .ok (.if_icmp .le 10, 3) := dk_164 0 10 (dk_at dksJ24_numberOfTrailingZeros_2 5 rfl rfl)
theorem dJ24_numberOfTrailingZeros_55 : decode cJ24_numberOfTrailingZeros 55 = .ok (.iinc 1 4, 3) := dk_132 1 4 (dk_at dksJ24_numberOfTrailingZeros_2 8 rfl rfl)
theorem dJ24_numberOfTrailingZeros_58 : decode cJ24_numberOfTrailingZeros 58 = .ok (.iload_n 0, 1) := dk_26 (dk_at dksJ24_numberOfTrailingZeros_2 11 rfl rfl)
theorem dJ24_numberOfTrailingZeros_59 : decode cJ24_numberOfTrailingZeros 59 = .ok (.iconst 4, 1) := dk_7 (dk_at dksJ24_numberOfTrailingZeros_2 12 rfl rfl)
theorem dJ24_numberOfTrailingZeros_60 : decode cJ24_numberOfTrailingZeros 60 = .ok (.iushr, 1) := dk_124 (dk_at dksJ24_numberOfTrailingZeros_2 13 rfl rfl)
theorem dJ24_numberOfTrailingZeros_61 : decode cJ24_numberOfTrailingZeros 61 = .ok (.istore_n 0, 1) := dk_59 (dk_at dksJ24_numberOfTrailingZeros_2 14 rfl rfl)
theorem dJ24_numberOfTrailingZeros_62 : decode cJ24_numberOfTrailingZeros 62 = .ok (.iload_n 0, 1) := dk_26 (dk_at dksJ24_numberOfTrailingZeros_2 15 rfl rfl)
theorem dJ24_numberOfTrailingZeros_63 : decode cJ24_numberOfTrailingZeros 63 = .ok (.iconst 4, 1) := dk_7 (dk_at dksJ24_numberOfTrailingZeros_2 16 rfl rfl)
theorem dJ24_numberOfTrailingZeros_64 : decode cJ24_numberOfTrailingZeros 64 = .ok (.if_icmp .le 10, 3) := dk_164 0 10 (dk_at dksJ24_numberOfTrailingZeros_2 17 rfl rfl)
theorem dJ24_numberOfTrailingZeros_67 : decode cJ24_numberOfTrailingZeros 67 = .ok (.iinc 1 2, 3) := dk_132 1 2 (dk_at dksJ24_numberOfTrailingZeros_2 20 rfl rfl)
theorem dJ24_numberOfTrailingZeros_70 : decode cJ24_numberOfTrailingZeros 70 = .ok (.iload_n 0, 1) := dk_26 (dk_at dksJ24_numberOfTrailingZeros_2 23 rfl rfl)
theorem dJ24_numberOfTrailingZeros_71 : decode cJ24_numberOfTrailingZeros 71 = .ok (.iconst 2, 1) := dk_5 (dk_at dksJ24_numberOfTrailingZeros_3 0 rfl rfl)
theorem dJ24_numberOfTrailingZeros_72 : decode cJ24_numberOfTrailingZeros 72 = .ok (.iushr, 1) := dk_124 (dk_at dksJ24_numberOfTrailingZeros_3 1 rfl rfl)
theorem dJ24_numberOfTrailingZeros_73 : decode cJ24_numberOfTrailingZeros 73 = .ok (.istore_n 0, 1) := dk_59 (dk_at dksJ24_numberOfTrailingZeros_3 2 rfl rfl)
theorem dJ24_numberOfTrailingZeros_74 : decode cJ24_numberOfTrailingZeros 74 = .ok (.iload_n 1, 1) := dk_27 (dk_at dksJ24_numberOfTrailingZeros_3 3 rfl rfl)
theorem dJ24_numberOfTrailingZeros_75 : decode cJ24_numberOfTrailingZeros 75 = .ok (.iload_n 0, 1) := dk_26 (dk_at dksJ24_numberOfTrailingZeros_3 4 rfl rfl)
theorem dJ24_numberOfTrailingZeros_76 : decode cJ24_numberOfTrailingZeros 76 = .ok (.iconst 1, 1) := dk_4 (dk_at dksJ24_numberOfTrailingZeros_3 5 rfl rfl)
theorem dJ24_numberOfTrailingZeros_77 : decode cJ24_numberOfTrailingZeros 77 = .ok (.iushr, 1) := dk_124 (dk_at dksJ24_numberOfTrailingZeros_3 6 rfl rfl)
theorem dJ24_numberOfTrailingZeros_78 : decode cJ24_numberOfTrailingZeros 78 = .ok (.iadd, 1) := dk_96 (dk_at dksJ24_numberOfTrailingZeros_3 7 rfl rfl)
theorem dJ24_numberOfTrailingZeros_79 : decode cJ24_numberOfTrailingZeros 79 = .ok (.ireturn, 1) := dk_172 (dk_at dksJ24_numberOfTrailingZeros_3 8 rfl rfl)
def dkwJ25_inflate_0 : List UInt8 := [42, 27, 44, 29, 21, 4, 184, 0, 240, 177]
abbrev dktJ25_inflate_0 : List UInt8 := dkwJ25_inflate_0 ++ []
theorem dksJ25_inflate_0 : cJ25_inflate.data.toList.drop 0 = dktJ25_inflate_0 := by decide +kernel
theorem dJ25_inflate_0 : decode cJ25_inflate 0 = .ok (.aload_n 0, 1) := dk_42 (dk_at dksJ25_inflate_0 0 rfl rfl)
theorem dJ25_inflate_1 : decode cJ25_inflate 1 = .ok (.iload_n 1, 1) := dk_27 (dk_at dksJ25_inflate_0 1 rfl rfl)
theorem dJ25_inflate_2 : decode cJ25_inflate 2 = .ok (.aload_n 2, 1) := dk_44 (dk_at dksJ25_inflate_0 2 rfl rfl)
theorem dJ25_inflate_3 : decode cJ25_inflate 3 = .ok (.iload_n 3, 1) := dk_29 (dk_at dksJ25_inflate_0 3 rfl rfl)
theorem dJ25_inflate_4 : decode cJ25_inflate 4 = .ok (.iload 4, 2) := dk_21 4 (dk_at dksJ25_inflate_0 4 rfl rfl)
theorem dJ25_inflate_6 : decode cJ25_inflate 6 = .ok (.invokestatic 240, 3) := dk_184 0 240 (dk_at dksJ25_inflate_0 6 rfl rfl)
theorem dJ25_inflate_9 : decode cJ25_inflate 9 = .ok (.return_, 1) := dk_177 (dk_at dksJ25_inflate_0 9 rfl rfl)
def dkwJ25_fillNull_0 : List UInt8 := [42, 27, 28, 3, 184, 0, 236, 177]
abbrev dktJ25_fillNull_0 : List UInt8 := dkwJ25_fillNull_0 ++ []
theorem dksJ25_fillNull_0 : cJ25_fillNull.data.toList.drop 0 = dktJ25_fillNull_0 := by decide +kernel
theorem dJ25_fillNull_0 : decode cJ25_fillNull 0 = .ok (.aload_n 0, 1) := dk_42 (dk_at dksJ25_fillNull_0 0 rfl rfl)
theorem dJ25_fillNull_1 : decode cJ25_fillNull 1 = .ok (.iload_n 1, 1) := dk_27 (dk_at dksJ25_fillNull_0 1 rfl rfl)
theorem dJ25_fillNull_2 : decode cJ25_fillNull 2 = .ok (.iload_n 2, 1) := dk_28 (dk_at dksJ25_fillNull_0 2 rfl rfl)
theorem dJ25_fillNull_3 : decode cJ25_fillNull 3 = .ok (.iconst 0, 1) := dk_3 (dk_at dksJ25_fillNull_0 3 rfl rfl)
theorem dJ25_fillNull_4 : decode cJ25_fillNull 4 = .ok (.invokestatic 236, 3) := dk_184 0 236 (dk_at dksJ25_fillNull_0 4 rfl rfl)
theorem dJ25_fillNull_7 : decode cJ25_fillNull 7 = .ok (.return_, 1) := dk_177 (dk_at dksJ25_fillNull_0 7 rfl rfl)
def dkwJ25_canEncode_0 : List UInt8 := [26, 17, 0, 255, 163, 0, 7, 4, 167, 0, 4, 3, 172]
abbrev dktJ25_canEncode_0 : List UInt8 := dkwJ25_canEncode_0 ++ []
theorem dksJ25_canEncode_0 : cJ25_canEncode.data.toList.drop 0 = dktJ25_canEncode_0 := by decide +kernel
theorem dJ25_canEncode_0 : decode cJ25_canEncode 0 = .ok (.iload_n 0, 1) := dk_26 (dk_at dksJ25_canEncode_0 0 rfl rfl)
theorem dJ25_canEncode_1 : decode cJ25_canEncode 1 = .ok (.sipush 255, 3) := dk_17 0 255 (dk_at dksJ25_canEncode_0 1 rfl rfl)
theorem dJ25_canEncode_4 : decode cJ25_canEncode 4 = .ok (.if_icmp .gt 7, 3) := dk_163 0 7 (dk_at dksJ25_canEncode_0 4 rfl rfl)
theorem dJ25_canEncode_7 : decode cJ25_canEncode 7 = .ok (.iconst 1, 1) := dk_4 (dk_at dksJ25_canEncode_0 7 rfl rfl)
theorem dJ25_canEncode_8 : decode cJ25_canEncode 8 = .ok (.goto 4, 3) := dk_167 0 4 (dk_at dksJ25_canEncode_0 8 rfl rfl)
theorem dJ25_canEncode_11 : decode cJ25_canEncode 11 = .ok (.iconst 0, 1) := dk_3 (dk_at dksJ25_canEncode_0 11 rfl rfl)
theorem dJ25_canEncode_12 : decode cJ25_canEncode 12 = .ok (.ireturn, 1) := dk_172 (dk_at dksJ25_canEncode_0 12 rfl rfl)
def dkwJ25_newString_0 : List UInt8 := [28, 154, 0, 6, 18, 151, 176, 187, 0, 1, 89, 42, 27, 27, 28, 96, 184, 0, 232, 3, 183, 0, 112, 176]
abbrev dktJ25_newString_0 : List UInt8 := dkwJ25_newString_0 ++ []
theorem dksJ25_newString_0 : cJ25_newString.data.toList.drop 0 = dktJ25_newString_0 := by decide +kernel
theorem dJ25_newString_0 : decode cJ25_newString 0 = .ok (.iload_n 2, 1) := dk_28 (dk_at dksJ25_newString_0 0 rfl rfl)
theorem dJ25_newString_1 : decode cJ25_newString 1 = .ok (.ifCond .ne 6, 3) := dk_154 0 6 (dk_at dksJ25_newString_0 1 rfl rfl)
theorem dJ25_newString_4 : decode cJ25_newString 4 = .ok (.ldc 151, 2) := dk_18 151 (dk_at dksJ25_newString_0 4 rfl rfl)
theorem dJ25_newString_6 : decode cJ25_newString 6 = .ok (.areturn, 1) := dk_176 (dk_at dksJ25_newString_0 6 rfl rfl)
theorem dJ25_newString_7 : decode cJ25_newString 7 = .ok (.new 1, 3) := dk_187 0 1 (dk_at dksJ25_newString_0 7 rfl rfl)
theorem dJ25_newString_10 : decode cJ25_newString 10 = .ok (.dup, 1) := dk_89 (dk_at dksJ25_newString_0 10 rfl rfl)
theorem dJ25_newString_11 : decode cJ25_newString 11 = .ok (.aload_n 0, 1) := dk_42 (dk_at dksJ25_newString_0 11 rfl rfl)
theorem dJ25_newString_12 : decode cJ25_newString 12 = .ok (.iload_n 1, 1) := dk_27 (dk_at dksJ25_newString_0 12 rfl rfl)
theorem dJ25_newString_13 : decode cJ25_newString 13 = .ok (.iload_n 1, 1) := dk_27 (dk_at dksJ25_newString_0 13 rfl rfl)
theorem dJ25_newString_14 : decode cJ25_newString 14 = .ok (.iload_n 2, 1) := dk_28 (dk_at dksJ25_newString_0 14 rfl rfl)
theorem dJ25_newString_15 : decode cJ25_newString 15 = .ok (.iadd, 1) := dk_96 (dk_at dksJ25_newString_0 15 rfl rfl)
theorem dJ25_newString_16 : decode cJ25_newString 16 = .ok (.invokestatic 232, 3) := dk_184 0 232 (dk_at dksJ25_newString_0 16 rfl rfl)
theorem dJ25_newString_19 : decode cJ25_newString 19 = .ok (.iconst 0, 1) := dk_3 (dk_at dksJ25_newString_0 19 rfl rfl)
theorem dJ25_newString_20 : decode cJ25_newString 20 = .ok (.invokespecial 112, 3) := dk_183 0 112 (dk_at dksJ25_newString_0 20 rfl rfl)
theorem dJ25_newString_23 : decode cJ25_newString 23 = .ok (.areturn, 1) := dk_176 (dk_at dksJ25_newString_0 23 rfl rfl)
def dkwJ25_equals_1 : List UInt8 := [3, 172, 132, 2, 1, 167, 255, 236, 4, 172, 3, 172]
abbrev dktJ25_equals_1 : List UInt8 := dkwJ25_equals_1 ++ []
def dkwJ25_equals_0 : List UInt8 := [42, 190, 43, 190, 160, 0, 30, 3, 61, 28, 42, 190, 162, 0, 20, 42, 28, 51, 43, 28, 51, 159, 0, 5]
abbrev dktJ25_equals_0 : List UInt8 := dkwJ25_equals_0 ++ dktJ25_equals_1
theorem dksJ25_equals_0 : cJ25_equals.data.toList.drop 0 = dktJ25_equals_0 := by decide +kernel
theorem dksJ25_equals_1 : cJ25_equals.data.toList.drop 24 = dktJ25_equals_1 := dk_seg dksJ25_equals_0 24 rfl rfl
theorem dJ25_equals_0 : decode cJ25_equals 0 = .ok (.aload_n 0, 1) := dk_42 (dk_at dksJ25_equals_0 0 rfl rfl)
theorem dJ25_equals_1 : decode cJ25_equals 1 = .ok (.arraylength, 1) := dk_190 (dk_at dksJ25_equals_0 1 rfl rfl)
theorem dJ25_equals_2 : decode cJ25_equals 2 = .ok (.aload_n 1, 1) := dk_43 (dk_at dksJ25_equals_0 2 rfl rfl)
theorem dJ25_equals_3 : decode cJ25_equals 3 = .ok (.arraylength, 1) := dk_190 (dk_at dksJ25_equals_0 3 rfl rfl)
theorem dJ25_equals_4 : decode cJ25_equals 4 = .ok (.if_icmp .ne 30, 3) := dk_160 0 30 (dk_at dksJ25_equals_0 4 rfl rfl)
theorem dJ25_equals_7 : decode cJ25_equals 7 = .ok (.iconst 0, 1) := dk_3 (dk_at dksJ25_equals_0 7 rfl rfl)
theorem dJ25_equals_8 : decode cJ25_equals 8 = .ok (.istore_n 2, 1) := dk_61 (dk_at dksJ25_equals_0 8 rfl rfl)
theorem dJ25_equals_9 : decode cJ25_equals 9 = .ok (.iload_n 2, 1) := dk_28 (dk_at dksJ25_equals_0 9 rfl rfl)
theorem dJ25_equals_10 : decode cJ25_equals 10 = .ok (.aload_n 0, 1) := dk_42 (dk_at dksJ25_equals_0 10 rfl rfl)
theorem dJ25_equals_11 : decode cJ25_equals 11 = .ok (.arraylength, 1) := dk_190 (dk_at dksJ25_equals_0 11 rfl rfl)
theorem dJ25_equals_12 : decode cJ25_equals 12 = .ok (.if_icmp .ge 20, 3) := dk_162 0 20 (dk_at dksJ25_equals_0 12 rfl rfl)
theorem dJ25_equals_15 : decode cJ25_equals 15 = .ok (.aload_n 0, 1) := dk_42 (dk_at dksJ25_equals_0 15 rfl rfl)
theorem dJ25_equals_16 : decode cJ25_equals 16 = .ok (.iload_n 2, 1) := dk_28 (dk_at dksJ25_equals_0 16 rfl rfl)
theorem dJ25_equals_17 : decode cJ25_equals 17 = .ok (.baload, 1) := dk_51 (dk_at dksJ25_equals_0 17 rfl rfl)
theorem dJ25_equals_18 : decode cJ25_equals 18 = .ok (.aload_n 1, 1) := dk_43 (dk_at dksJ25_equals_0 18 rfl rfl)
theorem dJ25_equals_19 : decode cJ25_equals 19 = .ok (.iload_n 2, 1) := dk_28 (dk_at dksJ25_equals_0 19 rfl rfl)
theorem dJ25_equals_20 : decode cJ25_equals 20 = .ok (.baload, 1) := dk_51 (dk_at dksJ25_equals_0 20 rfl rfl)
theorem dJ25_equals_21 : decode cJ25_equals 21 = .ok (.if_icmp .eq 5, 3) := dk_159 0 5 (dk_at dksJ25_equals_0 21 rfl rfl)
theorem dJ25_equals_24 : decode cJ25_equals 24 = .ok (.iconst 0, 1) := dk_3 (dk_at dksJ25_equals_1 0 rfl rfl)
theorem dJ25_equals_25 : decode cJ25_equals 25 = .ok (.ireturn, 1) := dk_172 (dk_at dksJ25_equals_1 1 rfl rfl)
theorem dJ25_equals_26 : decode cJ25_equals 26 = .ok (.iinc 2 1, 3) := dk_132 2 1 (dk_at dksJ25_equals_1 2 rfl rfl)
theorem dJ25_equals_29 : decode cJ25_equals 29 = .ok (.goto (-20), 3) := dk_167 255 236 (dk_at dksJ25_equals_1 5 rfl rfl)
theorem dJ25_equals_32 : decode cJ25_equals 32 = .ok (.iconst 1, 1) := dk_4 (dk_at dksJ25_equals_1 8 rfl rfl)
theorem dJ25_equals_33 : decode cJ25_equals 33 = .ok (.ireturn, 1) := dk_172 (dk_at dksJ25_equals_1 9 rfl rfl)
theorem dJ25_equals_34 : decode cJ25_equals 34 = .ok (.iconst 0, 1) := dk_3 (dk_at dksJ25_equals_1 10 rfl rfl)
theorem dJ25_equals_35 : decode cJ25_equals 35 = .ok (.ireturn, 1) := dk_172 (dk_at dksJ25_equals_1 11 rfl rfl)
def dkwJ25_charAt_0 : List UInt8 := [27, 42, 190, 184, 0, 9, 42, 27, 51, 17, 0, 255, 126, 146, 172]
abbrev dktJ25_charAt_0 : List UInt8 := dkwJ25_charAt_0 ++ []
theorem dksJ25_charAt_0 : cJ25_charAt.data.toList.drop 0 = dktJ25_charAt_0 := by decide +kernel
theorem dJ25_charAt_0 : decode cJ25_charAt 0 = .ok (.iload_n 1, 1) := dk_27 (dk_at dksJ25_charAt_0 0 rfl rfl)
theorem dJ25_charAt_1 : decode cJ25_charAt 1 = .ok (.aload_n 0, 1) := dk_42 (dk_at dksJ25_charAt_0 1 rfl rfl)
theorem dJ25_charAt_2 : decode cJ25_charAt 2 = .ok (.arraylength, 1) := dk_190 (dk_at dksJ25_charAt_0 2 rfl rfl)
theorem dJ25_charAt_3 : decode cJ25_charAt 3 = .ok (.invokestatic 9, 3) := dk_184 0 9 (dk_at dksJ25_charAt_0 3 rfl rfl)
theorem dJ25_charAt_6 : decode cJ25_charAt 6 = .ok (.aload_n 0, 1) := dk_42 (dk_at dksJ25_charAt_0 6 rfl rfl)
theorem dJ25_charAt_7 : decode cJ25_charAt 7 = .ok (.iload_n 1, 1) := dk_27 (dk_at dksJ25_charAt_0 7 rfl rfl)
theorem dJ25_charAt_8 : decode cJ25_charAt 8 = .ok (.baload, 1) := dk_51 (dk_at dksJ25_charAt_0 8 rfl rfl)
theorem dJ25_charAt_9 : decode cJ25_charAt 9 = .ok (.sipush 255, 3) := dk_17 0 255 (dk_at dksJ25_charAt_0 9 rfl rfl)
theorem dJ25_charAt_12 : decode cJ25_charAt 12 = .ok (.iand, 1) := dk_126 (dk_at dksJ25_charAt_0 12 rfl rfl)
theorem dJ25_charAt_13 : decode cJ25_charAt 13 = .ok (.i2c, 1) := dk_146 (dk_at dksJ25_charAt_0 13 rfl rfl)
theorem dJ25_charAt_14 : decode cJ25_charAt 14 = .ok (.ireturn, 1) := dk_172 (dk_at dksJ25_charAt_0 14 rfl rfl)
def dkwJ25_hashCode_2 : List UInt8 := [3, 167, 0, 22, 42, 3, 51, 17, 0, 255, 126, 167, 0, 12, 42, 3, 42, 190, 3, 7, 184, 0, 84, 172]
abbrev dktJ25_hashCode_2 : List UInt8 := dkwJ25_hashCode_2 ++ []
def dkwJ25_hashCode_1 : List UInt8 := [171, 0, 0, 0, 0, 40, 0, 0, 0, 2, 0, 0, 0, 0, 0, 0, 0, 26, 0, 0, 0, 1, 0, 0, 0, 30]
abbrev dktJ25_hashCode_1 : List UInt8 := dkwJ25_hashCode_1 ++ dktJ25_hashCode_2
def dkwJ25_hashCode_0 : List UInt8 := [42, 190]
abbrev dktJ25_hashCode_0 : List UInt8 := dkwJ25_hashCode_0 ++ dktJ25_hashCode_1
theorem dksJ25_hashCode_0 : cJ25_hashCode.data.toList.drop 0 = dktJ25_hashCode_0 := by decide +kernel
theorem dksJ25_hashCode_1 : cJ25_hashCode.data.toList.drop 2 = dktJ25_hashCode_1 := dk_seg dksJ25_hashCode_0 2 rfl rfl
theorem dksJ25_hashCode_2 : cJ25_hashCode.data.toList.drop 28 = dktJ25_hashCode_2 := dk_seg dksJ25_hashCode_1 26 rfl rfl
theorem dJ25_hashCode_0 : decode cJ25_hashCode 0 = .ok (.aload_n 0, 1) := dk_42 (dk_at dksJ25_hashCode_0 0 rfl rfl)
theorem dJ25_hashCode_1 : decode cJ25_hashCode 1 = .ok (.arraylength, 1) := dk_190 (dk_at dksJ25_hashCode_0 1 rfl rfl)
theorem dJ25_hashCode_2 : decode cJ25_hashCode 2 = .ok (.lookupswitch 40 #[(0, 26), (1, 30)], 26) := by decide +kernel
theorem dJ25_hashCode_28 : decode cJ25_hashCode 28 = .ok (.iconst 0, 1) := dk_3 (dk_at dksJ25_hashCode_2 0 rfl rfl)
theorem dJ25_hashCode_29 : decode cJ25_hashCode 29 = .ok (.goto 22, 3) := dk_167 0 22 (dk_at dksJ25_hashCode_2 1 rfl rfl)
theorem dJ25_hashCode_32 : decode cJ25_hashCode 32 = .ok (.aload_n 0, 1) := dk_42 (dk_at dksJ25_hashCode_2 4 rfl rfl)
theorem dJ25_hashCode_33 : decode cJ25_hashCode 33 = .ok (.iconst 0, 1) := dk_3 (dk_at dksJ25_hashCode_2 5 rfl rfl)
theorem dJ25_hashCode_34 : decode cJ25_hashCode 34 = .ok (.baload, 1) := dk_51 (dk_at dksJ25_hashCode_2 6 rfl rfl)
theorem dJ25_hashCode_35 : decode cJ25_hashCode 35 = .ok (.sipush 255, 3) := dk_17 0 255 (dk_at dksJ25_hashCode_2 7 rfl rfl)
theorem dJ25_hashCode_38 : decode cJ25_hashCode 38 = .ok (.iand, 1) := dk_126 (dk_at dksJ25_hashCode_2 10 rfl rfl)
theorem dJ25_hashCode_39 : decode cJ25_hashCode 39 = .ok (.goto 12, 3) := dk_167 0 12 (dk_at dksJ25_hashCode_2 11 rfl rfl)
theorem dJ25_hashCode_42 : decode cJ25_hashCode 42 = .ok (.aload_n 0, 1) := dk_42 (dk_at dksJ25_hashCode_2 14 rfl rfl)
theorem dJ25_hashCode_43 : decode cJ25_hashCode 43 = .ok (.iconst 0, 1) := dk_3 (dk_at dksJ25_hashCode_2 15 rfl rfl)
theorem dJ25_hashCode_44 : decode cJ25_hashCode 44 = .ok (.aload_n 0, 1) := dk_42 (dk_at dksJ25_hashCode_2 16 rfl rfl)
theorem dJ25_hashCode_45 : decode cJ25_hashCode 45 = .ok (.arraylength, 1) := dk_190 (dk_at dksJ25_hashCode_2 17 rfl rfl)
theorem dJ25_hashCode_46 : decode cJ25_hashCode 46 = .ok (.iconst 0, 1) := dk_3 (dk_at dksJ25_hashCode_2 18 rfl rfl)
theorem dJ25_hashCode_47 : decode cJ25_hashCode 47 = .ok (.iconst 4, 1) := dk_7 (dk_at dksJ25_hashCode_2 19 rfl rfl)
theorem dJ25_hashCode_48 : decode cJ25_hashCode 48 = .ok (.invokestatic 84, 3) := dk_184 0 84 (dk_at dksJ25_hashCode_2 20 rfl rfl)
theorem dJ25_hashCode_51 : decode cJ25_hashCode 51 = .ok (.ireturn, 1) := dk_172 (dk_at dksJ25_hashCode_2 23 rfl rfl)
def dkwJ25_indexOf_1 : List UInt8 := [161, 0, 5, 2, 172, 42, 27, 28, 29, 184, 0, 95, 172]
abbrev dktJ25_indexOf_1 : List UInt8 := dkwJ25_indexOf_1 ++ []
def dkwJ25_indexOf_0 : List UInt8 := [27, 184, 0, 88, 154, 0, 5, 2, 172, 28, 3, 184, 0, 92, 61, 29, 42, 190, 184, 0, 38, 62, 28, 29]
abbrev dktJ25_indexOf_0 : List UInt8 := dkwJ25_indexOf_0 ++ dktJ25_indexOf_1
theorem dksJ25_indexOf_0 : cJ25_indexOf.data.toList.drop 0 = dktJ25_indexOf_0 := by decide +kernel
theorem dksJ25_indexOf_1 : cJ25_indexOf.data.toList.drop 24 = dktJ25_indexOf_1 := dk_seg dksJ25_indexOf_0 24 rfl rfl
theorem dJ25_indexOf_0 : decode cJ25_indexOf 0 = .ok (.iload_n 1, 1) := dk_27 (dk_at dksJ25_indexOf_0 0 rfl rfl)
theorem dJ25_indexOf_1 : decode cJ25_indexOf 1 = .ok (.invokestatic 88, 3) := dk_184 0 88 (dk_at dksJ25_indexOf_0 1 rfl rfl)
theorem dJ25_indexOf_4 : decode cJ25_indexOf 4 = .ok (.ifCond .ne 5, 3) := dk_154 0 5 (dk_at dksJ25_indexOf_0 4 rfl rfl)
theorem dJ25_indexOf_7 : decode cJ25_indexOf 7 = .ok (.iconst (-1), 1) := dk_2 (dk_at dksJ25_indexOf_0 7 rfl rfl)
theorem dJ25_indexOf_8 : decode cJ25_indexOf 8 = .ok (.ireturn, 1) := dk_172 (dk_at dksJ25_indexOf_0 8 rfl rfl)
theorem dJ25_indexOf_9 : decode cJ25_indexOf 9 = .ok (.iload_n 2, 1) := dk_28 (dk_at dksJ25_indexOf_0 9 rfl rfl)
theorem dJ25_indexOf_10 : decode cJ25_indexOf 10 = .ok (.iconst 0, 1) := dk_3 (dk_at dksJ25_indexOf_0 10 rfl rfl)
theorem dJ25_indexOf_11 : decode cJ25_indexOf 11 = .ok (.invokestatic 92, 3) := dk_184 0 92 (dk_at dksJ25_indexOf_0 11 rfl rfl)
theorem dJ25_indexOf_14 : decode cJ25_indexOf 14 = .ok (.istore_n 2, 1) := dk_61 (dk_at dksJ25_indexOf_0 14 rfl rfl)
theorem dJ25_indexOf_15 : decode cJ25_indexOf 15 = .ok (.iload_n 3, 1) := dk_29 (dk_at dksJ25_indexOf_0 15 rfl rfl)
theorem dJ25_indexOf_16 : decode cJ25_indexOf 16 = .ok (.aload_n 0, 1) := dk_42 (dk_at dksJ25_indexOf_0 16 rfl rfl)
theorem dJ25_indexOf_17 : decode cJ25_indexOf 17 = .ok (.arraylength, 1) := dk_190 (dk_at dksJ25_indexOf_0 17 rfl rfl)
theorem dJ25_indexOf_18 : decode cJ25_indexOf 18 = .ok (.invokestatic 38, 3) := dk_184 0 38 (dk_at dksJ25_indexOf_0 18 rfl rfl)
theorem dJ25_indexOf_21 : decode cJ25_indexOf 21 = .ok (.istore_n 3, 1) := dk_62 (dk_at dksJ25_indexOf_0 21 rfl rfl)
theorem dJ25_indexOf_22 : decode cJ25_indexOf 22 = .ok (.iload_n 2, 1) := dk_28 (dk_at dksJ25_indexOf_0 22 rfl rfl)
theorem dJ25_indexOf_23 : decode cJ25_indexOf 23 = .ok (.iload_n 3, 1) := dk_29 (dk_at dksJ25_indexOf_0 23 rfl rfl)
theorem dJ25_indexOf_24 : decode cJ25_indexOf 24 = .ok (.if_icmp .lt 5, 3) := dk_161 0 5 (dk_at dksJ25_indexOf_1 0 rfl rfl)
theorem dJ25_indexOf_27 : decode cJ25_indexOf 27 = .ok (.iconst (-1), 1) := dk_2 (dk_at dksJ25_indexOf_1 3 rfl rfl)
theorem dJ25_indexOf_28 : decode cJ25_indexOf 28 = .ok (.ireturn, 1) := dk_172 (dk_at dksJ25_indexOf_1 4 rfl rfl)
theorem dJ25_indexOf_29 : decode cJ25_indexOf 29 = .ok (.aload_n 0, 1) := dk_42 (dk_at dksJ25_indexOf_1 5 rfl rfl)
theorem dJ25_indexOf_30 : decode cJ25_indexOf 30 = .ok (.iload_n 1, 1) := dk_27 (dk_at dksJ25_indexOf_1 6 rfl rfl)
theorem dJ25_indexOf_31 : decode cJ25_indexOf 31 = .ok (.iload_n 2, 1) := dk_28 (dk_at dksJ25_indexOf_1 7 rfl rfl)
theorem dJ25_indexOf_32 : decode cJ25_indexOf 32 = .ok (.iload_n 3, 1) := dk_29 (dk_at dksJ25_indexOf_1 8 rfl rfl)
theorem dJ25_indexOf_33 : decode cJ25_indexOf 33 = .ok (.invokestatic 95, 3) := dk_184 0 95 (dk_at dksJ25_indexOf_1 9 rfl rfl)
theorem dJ25_indexOf_36 : decode cJ25_indexOf 36 = .ok (.ireturn, 1) := dk_172 (dk_at dksJ25_indexOf_1 12 rfl rfl)
def dkwJ25_canEncode_2_0 : List UInt8 := [26, 155, 0, 14, 26, 17, 0, 255, 163, 0, 7, 4, 167, 0, 4, 3, 172]
abbrev dktJ25_canEncode_2_0 : List UInt8 := dkwJ25_canEncode_2_0 ++ []
theorem dksJ25_canEncode_2_0 : cJ25_canEncode_2.data.toList.drop 0 = dktJ25_canEncode_2_0 := by decide +kernel
theorem dJ25_canEncode_2_0 : decode cJ25_canEncode_2 0 = .ok (.iload_n 0, 1) := dk_26 (dk_at dksJ25_canEncode_2_0 0 rfl rfl)
theorem dJ25_canEncode_2_1 : decode cJ25_canEncode_2 1 = .ok (.ifCond .lt 14, 3) := dk_155 0 14 (dk_at dksJ25_canEncode_2_0 1 rfl rfl)
theorem dJ25_canEncode_2_4 : decode cJ25_canEncode_2 4 = .ok (.iload_n 0, 1) := dk_26 (dk_at dksJ25_canEncode_2_0 4 rfl rfl)
theorem dJ25_canEncode_2_5 : decode cJ25_canEncode_2 5 = .ok (.sipush 255, 3) := dk_17 0 255 (dk_at dksJ25_canEncode_2_0 5 rfl rfl)
theorem dJ25_canEncode_2_8 : decode cJ25_canEncode_2 8 = .ok (.if_icmp .gt 7, 3) := dk_163 0 7 (dk_at dksJ25_canEncode_2_0 8 rfl rfl)
theorem dJ25_canEncode_2_11 : decode cJ25_canEncode_2 11 = .ok (.iconst 1, 1) := dk_4 (dk_at dksJ25_canEncode_2_0 11 rfl rfl)
theorem dJ25_canEncode_2_12 : decode cJ25_canEncode_2 12 = .ok (.goto 4, 3) := dk_167 0 4 (dk_at dksJ25_canEncode_2_0 12 rfl rfl)
theorem dJ25_canEncode_2_15 : decode cJ25_canEncode_2 15 = .ok (.iconst 0, 1) := dk_3 (dk_at dksJ25_canEncode_2_0 15 rfl rfl)
theorem dJ25_canEncode_2_16 : decode cJ25_canEncode_2 16 = .ok (.ireturn, 1) := dk_172 (dk_at dksJ25_canEncode_2_0 16 rfl rfl)
def dkwJ25_indexOfChar_1 : List UInt8 := [172, 132, 5, 1, 167, 255, 235, 2, 172]
abbrev dktJ25_indexOfChar_1 : List UInt8 := dkwJ25_indexOfChar_1 ++ []
def dkwJ25_indexOfChar_0 : List UInt8 := [27, 145, 54, 4, 28, 54, 5, 21, 5, 29, 162, 0, 21, 42, 21, 5, 51, 21, 4, 160, 0, 6, 21, 5]
abbrev dktJ25_indexOfChar_0 : List UInt8 := dkwJ25_indexOfChar_0 ++ dktJ25_indexOfChar_1
theorem dksJ25_indexOfChar_0 : cJ25_indexOfChar.data.toList.drop 0 = dktJ25_indexOfChar_0 := by decide +kernel
theorem dksJ25_indexOfChar_1 : cJ25_indexOfChar.data.toList.drop 24 = dktJ25_indexOfChar_1 := dk_seg dksJ25_indexOfChar_0 24 rfl rfl
theorem dJ25_indexOfChar_0 : decode cJ25_indexOfChar 0 = .ok (.iload_n 1, 1) := dk_27 (dk_at dksJ25_indexOfChar_0 0 rfl rfl)
theorem dJ25_indexOfChar_1 : decode cJ25_indexOfChar 1 = .ok (.i2b, 1) := dk_145 (dk_at dksJ25_indexOfChar_0 1 rfl rfl)
theorem dJ25_indexOfChar_2 : decode cJ25_indexOfChar 2 = .ok (.istore 4, 2) := dk_54 4 (dk_at dksJ25_indexOfChar_0 2 rfl rfl)
theorem dJ25_indexOfChar_4 : decode cJ25_indexOfChar 4 = .ok (.iload_n 2, 1) := dk_28 (dk_at dksJ25_indexOfChar_0 4 rfl rfl)
theorem dJ25_indexOfChar_5 : decode cJ25_indexOfChar 5 = .ok (.istore 5, 2) := dk_54 5 (dk_at dksJ25_indexOfChar_0 5 rfl rfl)
theorem dJ25_indexOfChar_7 : decode cJ25_indexOfChar 7 = .ok (.iload 5, 2) := dk_21 5 (dk_at dksJ25_indexOfChar_0 7 rfl rfl)
theorem dJ25_indexOfChar_9 : decode cJ25_indexOfChar 9 = .ok (.iload_n 3, 1) := dk_29 (dk_at dksJ25_indexOfChar_0 9 rfl rfl)
theorem dJ25_indexOfChar_10 : decode cJ25_indexOfChar 10 = .ok (.if_icmp .ge 21, 3) := dk_162 0 21 (dk_at dksJ25_indexOfChar_0 10 rfl rfl)
theorem dJ25_indexOfChar_13 : decode cJ25_indexOfChar 13 = .ok (.aload_n 0, 1) := dk_42 (dk_at dksJ25_indexOfChar_0 13 rfl rfl)
theorem dJ25_indexOfChar_14 : decode cJ25_indexOfChar 14 = .ok (.iload 5, 2) := dk_21 5 (dk_at dksJ25_indexOfChar_0 14 rfl rfl)
theorem dJ25_indexOfChar_16 : decode cJ25_indexOfChar 16 = .ok (.baload, 1) := dk_51 (dk_at dksJ25_indexOfChar_0 16 rfl rfl)
theorem dJ25_indexOfChar_17 : decode cJ25_indexOfChar 17 = .ok (.iload 4, 2) := dk_21 4 (dk_at dksJ25_indexOfChar_0 17 rfl rfl)
theorem dJ25_indexOfChar_19 : decode cJ25_indexOfChar 19 = .ok (.if_icmp .ne 6, 3) := dk_160 0 6 (dk_at dksJ25_indexOfChar_0 19 rfl rfl)
theorem dJ25_indexOfChar_22 : decode cJ25_indexOfChar 22 = .ok (.iload 5, 2) := dk_21 5 (dk_at dksJ25_indexOfChar_0 22 rfl rfl)
theorem dJ25_indexOfChar_24 : decode cJ25_indexOfChar 24 = .ok (.ireturn, 1) := dk_172 (dk_at dksJ25_indexOfChar_1 0 rfl rfl)
theorem dJ25_indexOfChar_25 : decode cJ25_indexOfChar 25 = .ok (.iinc 5 1, 3) := dk_132 5 1 (dk_at dksJ25_indexOfChar_1 1 rfl rfl)
theorem dJ25_indexOfChar_28 : decode cJ25_indexOfChar 28 = .ok (.goto (-21), 3) := dk_167 255 235 (dk_at dksJ25_indexOfChar_1 4 rfl rfl)
theorem dJ25_indexOfChar_31 : decode cJ25_indexOfChar 31 = .ok (.iconst (-1), 1) := dk_2 (dk_at dksJ25_indexOfChar_1 7 rfl rfl)
theorem dJ25_indexOfChar_32 : decode cJ25_indexOfChar 32 = .ok (.ireturn, 1) := dk_172 (dk_at dksJ25_indexOfChar_1 8 rfl rfl)
theorem dJ32_init_0 : decode cJ32_init 0 = .ok (.return_, 1) := by decide +kernel
