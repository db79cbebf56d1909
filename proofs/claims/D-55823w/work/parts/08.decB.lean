set_option maxRecDepth 100000
def dkwX1_init_2 : List UInt8 := [181, 0, 30, 42, 2, 181, 0, 33, 177]
abbrev dktX1_init_2 : List UInt8 := dkwX1_init_2 ++ []
def dkwX1_init_1 : List UInt8 := [181, 0, 19, 42, 187, 0, 23, 89, 183, 0, 25, 181, 0, 26, 42, 187, 0, 23, 89, 183, 0, 25]
abbrev dktX1_init_1 : List UInt8 := dkwX1_init_1 ++ dktX1_init_2
def dkwX1_init_0 : List UInt8 := [42, 183, 0, 1, 42, 187, 0, 7, 89, 183, 0, 9, 181, 0, 10, 42, 187, 0, 16, 89, 183, 0, 18]
abbrev dktX1_init_0 : List UInt8 := dkwX1_init_0 ++ dktX1_init_1
theorem dksX1_init_0 : cX1_init.data.toList.drop 0 = dktX1_init_0 := by decide +kernel
theorem dksX1_init_1 : cX1_init.data.toList.drop 23 = dktX1_init_1 := dk_seg dksX1_init_0 23 rfl rfl
theorem dksX1_init_2 : cX1_init.data.toList.drop 45 = dktX1_init_2 := dk_seg dksX1_init_1 22 rfl rfl
theorem dX1_init_0 : decode cX1_init 0 = .ok (.aload_n 0, 1) := dk_42 (dk_at dksX1_init_0 0 rfl rfl)
theorem dX1_init_1 : decode cX1_init 1 = .ok (.invokespecial 1, 3) := dk_183 0 1 (dk_at dksX1_init_0 1 rfl rfl)
theorem dX1_init_4 : decode cX1_init 4 = .ok (.aload_n 0, 1) := dk_42 (dk_at dksX1_init_0 4 rfl rfl)
theorem dX1_init_5 : decode cX1_init 5 = .ok (.new 7, 3) := dk_187 0 7 (dk_at dksX1_init_0 5 rfl rfl)
theorem dX1_init_8 : decode cX1_init 8 = .ok (.dup, 1) := dk_89 (dk_at dksX1_init_0 8 rfl rfl)
theorem dX1_init_9 : decode cX1_init 9 = .ok (.invokespecial 9, 3) := dk_183 0 9 (dk_at dksX1_init_0 9 rfl rfl)
theorem dX1_init_12 : decode cX1_init 12 = .ok (.putfield 10, 3) := dk_181 0 10 (dk_at dksX1_init_0 12 rfl rfl)
theorem dX1_init_15 : decode cX1_init 15 = .ok (.aload_n 0, 1) := dk_42 (dk_at dksX1_init_0 15 rfl rfl)
theorem dX1_init_16 : decode cX1_init 16 = .ok (.new 16, 3) := dk_187 0 16 (dk_at dksX1_init_0 16 rfl rfl)
theorem dX1_init_19 : decode cX1_init 19 = .ok (.dup, 1) := dk_89 (dk_at dksX1_init_0 19 rfl rfl)
theorem dX1_init_20 : decode cX1_init 20 = .ok (.invokespecial 18, 3) := dk_183 0 18 (dk_at dksX1_init_0 20 rfl rfl)
theorem dX1_init_23 : decode cX1_init 23 = .ok (.putfield 19, 3) := dk_181 0 19 (dk_at dksX1_init_1 0 rfl rfl)
theorem dX1_init_26 : decode cX1_init 26 = .ok (.aload_n 0, 1) := dk_42 (dk_at dksX1_init_1 3 rfl rfl)
theorem dX1_init_27 : decode cX1_init 27 = .ok (.new 23, 3) := dk_187 0 23 (dk_at dksX1_init_1 4 rfl rfl)
theorem dX1_init_30 : decode cX1_init 30 = .ok (.dup, 1) := dk_89 (dk_at dksX1_init_1 7 rfl rfl)
theorem dX1_init_31 : decode cX1_init 31 = .ok (.invokespecial 25, 3) := dk_183 0 25 (dk_at dksX1_init_1 8 rfl rfl)
theorem dX1_init_34 : decode cX1_init 34 = .ok (.putfield 26, 3) := dk_181 0 26 (dk_at dksX1_init_1 11 rfl rfl)
theorem dX1_init_37 : decode cX1_init 37 = .ok (.aload_n 0, 1) := dk_42 (dk_at dksX1_init_1 14 rfl rfl)
theorem dX1_init_38 : decode cX1_init 38 = .ok (.new 23, 3) := dk_187 0 23 (dk_at dksX1_init_1 15 rfl rfl)
theorem dX1_init_41 : decode cX1_init 41 = .ok (.dup, 1) := dk_89 (dk_at dksX1_init_1 18 rfl rfl)
theorem dX1_init_42 : decode cX1_init 42 = .ok (.invokespecial 25, 3) := dk_183 0 25 (dk_at dksX1_init_1 19 rfl rfl)
theorem dX1_init_45 : decode cX1_init 45 = .ok (.putfield 30, 3) := dk_181 0 30 (dk_at dksX1_init_2 0 rfl rfl)
theorem dX1_init_48 : decode cX1_init 48 = .ok (.aload_n 0, 1) := dk_42 (dk_at dksX1_init_2 3 rfl rfl)
theorem dX1_init_49 : decode cX1_init 49 = .ok (.iconst (-1), 1) := dk_2 (dk_at dksX1_init_2 4 rfl rfl)
theorem dX1_init_50 : decode cX1_init 50 = .ok (.putfield 33, 3) := dk_181 0 33 (dk_at dksX1_init_2 5 rfl rfl)
theorem dX1_init_53 : decode cX1_init 53 = .ok (.return_, 1) := dk_177 (dk_at dksX1_init_2 8 rfl rfl)
def dkwX1_isTold_1 : List UInt8 := [185, 1, 79, 1, 0, 192, 0, 114, 77, 42, 44, 182, 1, 81, 154, 0, 5, 3, 172, 167, 255, 227, 4, 172]
abbrev dktX1_isTold_1 : List UInt8 := dkwX1_isTold_1 ++ []
def dkwX1_isTold_0 : List UInt8 := [42, 180, 0, 10, 180, 0, 104, 182, 1, 70, 76, 43, 185, 1, 74, 1, 0, 153, 0, 26, 43]
abbrev dktX1_isTold_0 : List UInt8 := dkwX1_isTold_0 ++ dktX1_isTold_1
theorem dksX1_isTold_0 : cX1_isTold.data.toList.drop 0 = dktX1_isTold_0 := by decide +kernel
theorem dksX1_isTold_1 : cX1_isTold.data.toList.drop 21 = dktX1_isTold_1 := dk_seg dksX1_isTold_0 21 rfl rfl
theorem dX1_isTold_0 : decode cX1_isTold 0 = .ok (.aload_n 0, 1) := dk_42 (dk_at dksX1_isTold_0 0 rfl rfl)
theorem dX1_isTold_1 : decode cX1_isTold 1 = .ok (.getfield 10, 3) := dk_180 0 10 (dk_at dksX1_isTold_0 1 rfl rfl)
theorem dX1_isTold_4 : decode cX1_isTold 4 = .ok (.getfield 104, 3) := dk_180 0 104 (dk_at dksX1_isTold_0 4 rfl rfl)
theorem dX1_isTold_7 : decode cX1_isTold 7 = .ok (.invokevirtual 326, 3) := dk_182 1 70 (dk_at dksX1_isTold_0 7 rfl rfl)
theorem dX1_isTold_10 : decode cX1_isTold 10 = .ok (.astore_n 1, 1) := dk_76 (dk_at dksX1_isTold_0 10 rfl rfl)
theorem dX1_isTold_11 : decode cX1_isTold 11 = .ok (.aload_n 1, 1) := dk_43 (dk_at dksX1_isTold_0 11 rfl rfl)
theorem dX1_isTold_12 : decode cX1_isTold 12 = .ok (.invokeinterface 330 1, 5) := by decide +kernel
theorem dX1_isTold_17 : decode cX1_isTold 17 = .ok (.ifCond .eq 26, 3) := dk_153 0 26 (dk_at dksX1_isTold_0 17 rfl rfl)
theorem dX1_isTold_20 : decode cX1_isTold 20 = .ok (.aload_n 1, 1) := dk_43 (dk_at dksX1_isTold_0 20 rfl rfl)
theorem dX1_isTold_21 : decode cX1_isTold 21 = .ok (.invokeinterface 335 1, 5) := by decide +kernel
theorem dX1_isTold_26 : decode cX1_isTold 26 = .ok (.checkcast 114, 3) := dk_192 0 114 (dk_at dksX1_isTold_1 5 rfl rfl)
theorem dX1_isTold_29 : decode cX1_isTold 29 = .ok (.astore_n 2, 1) := dk_77 (dk_at dksX1_isTold_1 8 rfl rfl)
theorem dX1_isTold_30 : decode cX1_isTold 30 = .ok (.aload_n 0, 1) := dk_42 (dk_at dksX1_isTold_1 9 rfl rfl)
theorem dX1_isTold_31 : decode cX1_isTold 31 = .ok (.aload_n 2, 1) := dk_44 (dk_at dksX1_isTold_1 10 rfl rfl)
theorem dX1_isTold_32 : decode cX1_isTold 32 = .ok (.invokevirtual 337, 3) := dk_182 1 81 (dk_at dksX1_isTold_1 11 rfl rfl)
theorem dX1_isTold_35 : decode cX1_isTold 35 = .ok (.ifCond .ne 5, 3) := dk_154 0 5 (dk_at dksX1_isTold_1 14 rfl rfl)
theorem dX1_isTold_38 : decode cX1_isTold 38 = .ok (.iconst 0, 1) := dk_3 (dk_at dksX1_isTold_1 17 rfl rfl)
theorem dX1_isTold_39 : decode cX1_isTold 39 = .ok (.ireturn, 1) := dk_172 (dk_at dksX1_isTold_1 18 rfl rfl)
theorem dX1_isTold_40 : decode cX1_isTold 40 = .ok (.goto (-29), 3) := dk_167 255 227 (dk_at dksX1_isTold_1 19 rfl rfl)
theorem dX1_isTold_43 : decode cX1_isTold 43 = .ok (.iconst 1, 1) := dk_4 (dk_at dksX1_isTold_1 22 rfl rfl)
theorem dX1_isTold_44 : decode cX1_isTold 44 = .ok (.ireturn, 1) := dk_172 (dk_at dksX1_isTold_1 23 rfl rfl)
def dkwX1_areAlike_3 : List UInt8 := [43, 180, 0, 209, 44, 182, 0, 225, 182, 1, 51, 160, 0, 7, 4, 167, 0, 4, 3, 172]
abbrev dktX1_areAlike_3 : List UInt8 := dkwX1_areAlike_3 ++ []
def dkwX1_areAlike_2 : List UInt8 := [54, 4, 21, 4, 153, 0, 38, 44, 198, 0, 30, 42, 43, 180, 0, 209, 44, 182, 0, 225, 182, 1, 48, 42]
abbrev dktX1_areAlike_2 : List UInt8 := dkwX1_areAlike_2 ++ dktX1_areAlike_3
def dkwX1_areAlike_1 : List UInt8 := [112, 154, 0, 21, 29, 3, 8, 43, 180, 0, 210, 104, 184, 0, 49, 153, 0, 7, 4, 167, 0, 4, 3]
abbrev dktX1_areAlike_1 : List UInt8 := dkwX1_areAlike_1 ++ dktX1_areAlike_2
def dkwX1_areAlike_0 : List UInt8 := [42, 180, 0, 10, 43, 182, 1, 14, 77, 43, 180, 0, 213, 16, 10, 43, 180, 0, 210, 104, 100, 62, 29, 8]
abbrev dktX1_areAlike_0 : List UInt8 := dkwX1_areAlike_0 ++ dktX1_areAlike_1
theorem dksX1_areAlike_0 : cX1_areAlike.data.toList.drop 0 = dktX1_areAlike_0 := by decide +kernel
theorem dksX1_areAlike_1 : cX1_areAlike.data.toList.drop 24 = dktX1_areAlike_1 := dk_seg dksX1_areAlike_0 24 rfl rfl
theorem dksX1_areAlike_2 : cX1_areAlike.data.toList.drop 47 = dktX1_areAlike_2 := dk_seg dksX1_areAlike_1 23 rfl rfl
theorem dksX1_areAlike_3 : cX1_areAlike.data.toList.drop 71 = dktX1_areAlike_3 := dk_seg dksX1_areAlike_2 24 rfl rfl
theorem dX1_areAlike_0 : decode cX1_areAlike 0 = .ok (.aload_n 0, 1) := dk_42 (dk_at dksX1_areAlike_0 0 rfl rfl)
theorem dX1_areAlike_1 : decode cX1_areAlike 1 = .ok (.getfield 10, 3) := dk_180 0 10 (dk_at dksX1_areAlike_0 1 rfl rfl)
theorem dX1_areAlike_4 : decode cX1_areAlike 4 = .ok (.aload_n 1, 1) := dk_43 (dk_at dksX1_areAlike_0 4 rfl rfl)
theorem dX1_areAlike_5 : decode cX1_areAlike 5 = .ok (.invokevirtual 270, 3) := dk_182 1 14 (dk_at dksX1_areAlike_0 5 rfl rfl)
theorem dX1_areAlike_8 : decode cX1_areAlike 8 = .ok (.astore_n 2, 1) := dk_77 (dk_at dksX1_areAlike_0 8 rfl rfl)
theorem dX1_areAlike_9 : decode cX1_areAlike 9 = .ok (.aload_n 1, 1) := dk_43 (dk_at dksX1_areAlike_0 9 rfl rfl)
theorem dX1_areAlike_10 : decode cX1_areAlike 10 = .ok (.getfield 213, 3) := dk_180 0 213 (dk_at dksX1_areAlike_0 10 rfl rfl)
theorem dX1_areAlike_13 : decode cX1_areAlike 13 = .ok (.bipush 10, 2) := dk_16 10 (dk_at dksX1_areAlike_0 13 rfl rfl)
theorem dX1_areAlike_15 : decode cX1_areAlike 15 = .ok (.aload_n 1, 1) := dk_43 (dk_at dksX1_areAlike_0 15 rfl rfl)
theorem dX1_areAlike_16 : decode cX1_areAlike 16 = .ok (.getfield 210, 3) := dk_180 0 210 (dk_at dksX1_areAlike_0 16 rfl rfl)
theorem dX1_areAlike_19 : decode cX1_areAlike 19 = .ok (.imul, 1) := dk_104 (dk_at dksX1_areAlike_0 19 rfl rfl)
theorem dX1_areAlike_20 : decode cX1_areAlike 20 = .ok (.isub, 1) := dk_100 (dk_at dksX1_areAlike_0 20 rfl rfl)
theorem dX1_areAlike_21 : decode cX1_areAlike 21 = .ok (.istore_n 3, 1) := dk_62 (dk_at dksX1_areAlike_0 21 rfl rfl)
theorem dX1_areAlike_22 : decode cX1_areAlike 22 = .ok (.iload_n 3, 1) := dk_29 (dk_at dksX1_areAlike_0 22 rfl rfl)
theorem dX1_areAlike_23 : decode cX1_areAlike 23 = .ok (.iconst 5, 1) := dk_8 (dk_at dksX1_areAlike_0 23 rfl rfl)
theorem dX1_areAlike_24 : decode cX1_areAlike 24 = .ok (.irem, 1) := dk_112 (dk_at dksX1_areAlike_1 0 rfl rfl)
theorem dX1_areAlike_25 : decode cX1_areAlike 25 = .ok (.ifCond .ne 21, 3) := dk_154 0 21 (dk_at dksX1_areAlike_1 1 rfl rfl)
theorem dX1_areAlike_28 : decode cX1_areAlike 28 = .ok (.iload_n 3, 1) := dk_29 (dk_at dksX1_areAlike_1 4 rfl rfl)
theorem dX1_areAlike_29 : decode cX1_areAlike 29 = .ok (.iconst 0, 1) := dk_3 (dk_at dksX1_areAlike_1 5 rfl rfl)
theorem dX1_areAlike_30 : decode cX1_areAlike 30 = .ok (.iconst 5, 1) := dk_8 (dk_at dksX1_areAlike_1 6 rfl rfl)
theorem dX1_areAlike_31 : decode cX1_areAlike 31 = .ok (.aload_n 1, 1) := dk_43 (dk_at dksX1_areAlike_1 7 rfl rfl)
theorem dX1_areAlike_32 : decode cX1_areAlike 32 = .ok (.getfield 210, 3) := dk_180 0 210 (dk_at dksX1_areAlike_1 8 rfl rfl)
theorem dX1_areAlike_35 : decode cX1_areAlike 35 = .ok (.imul, 1) := dk_104 (dk_at dksX1_areAlike_1 11 rfl rfl)
theorem dX1_areAlike_36 : decode cX1_areAlike 36 = .ok (.invokestatic 49, 3) := dk_184 0 49 (dk_at dksX1_areAlike_1 12 rfl rfl)
theorem dX1_areAlike_39 : decode cX1_areAlike 39 = .ok (.ifCond .eq 7, 3) := dk_153 0 7 (dk_at dksX1_areAlike_1 15 rfl rfl)
theorem dX1_areAlike_42 : decode cX1_areAlike 42 = .ok (.iconst 1, 1) := dk_4 (dk_at dksX1_areAlike_1 18 rfl rfl)
theorem dX1_areAlike_43 : decode cX1_areAlike 43 = .ok (.goto 4, 3) := dk_167 0 4 (dk_at dksX1_areAlike_1 19 rfl rfl)
theorem dX1_areAlike_46 : decode cX1_areAlike 46 = .ok (.iconst 0, 1) := dk_3 (dk_at dksX1_areAlike_1 22 rfl rfl)
theorem dX1_areAlike_47 : decode cX1_areAlike 47 = .ok (.istore 4, 2) := dk_54 4 (dk_at dksX1_areAlike_2 0 rfl rfl)
theorem dX1_areAlike_49 : decode cX1_areAlike 49 = .ok (.iload 4, 2) := dk_21 4 (dk_at dksX1_areAlike_2 2 rfl rfl)
theorem dX1_areAlike_51 : decode cX1_areAlike 51 = .ok (.ifCond .eq 38, 3) := dk_153 0 38 (dk_at dksX1_areAlike_2 4 rfl rfl)
theorem dX1_areAlike_54 : decode cX1_areAlike 54 = .ok (.aload_n 2, 1) := dk_44 (dk_at dksX1_areAlike_2 7 rfl rfl)
theorem dX1_areAlike_55 : decode cX1_areAlike 55 = .ok (.ifnull 30, 3) := dk_198 0 30 (dk_at dksX1_areAlike_2 8 rfl rfl)
theorem dX1_areAlike_58 : decode cX1_areAlike 58 = .ok (.aload_n 0, 1) := dk_42 (dk_at dksX1_areAlike_2 11 rfl rfl)
theorem dX1_areAlike_59 : decode cX1_areAlike 59 = .ok (.aload_n 1, 1) := dk_43 (dk_at dksX1_areAlike_2 12 rfl rfl)
theorem dX1_areAlike_60 : decode cX1_areAlike 60 = .ok (.getfield 209, 3) := dk_180 0 209 (dk_at dksX1_areAlike_2 13 rfl rfl)
theorem dX1_areAlike_63 : decode cX1_areAlike 63 = .ok (.aload_n 2, 1) := dk_44 (dk_at dksX1_areAlike_2 16 rfl rfl)
theorem dX1_areAlike_64 : decode cX1_areAlike 64 = .ok (.invokevirtual 225, 3) := dk_182 0 225 (dk_at dksX1_areAlike_2 17 rfl rfl)
theorem dX1_areAlike_67 : decode cX1_areAlike 67 = .ok (.invokevirtual 304, 3) := dk_182 1 48 (dk_at dksX1_areAlike_2 20 rfl rfl)
theorem dX1_areAlike_70 : decode cX1_areAlike 70 = .ok (.aload_n 0, 1) := dk_42 (dk_at dksX1_areAlike_2 23 rfl rfl)
theorem dX1_areAlike_71 : decode cX1_areAlike 71 = .ok (.aload_n 1, 1) := dk_43 (dk_at dksX1_areAlike_3 0 rfl rfl)
theorem dX1_areAlike_72 : decode cX1_areAlike 72 = .ok (.getfield 209, 3) := dk_180 0 209 (dk_at dksX1_areAlike_3 1 rfl rfl)
theorem dX1_areAlike_75 : decode cX1_areAlike 75 = .ok (.aload_n 2, 1) := dk_44 (dk_at dksX1_areAlike_3 4 rfl rfl)
theorem dX1_areAlike_76 : decode cX1_areAlike 76 = .ok (.invokevirtual 225, 3) := dk_182 0 225 (dk_at dksX1_areAlike_3 5 rfl rfl)
theorem dX1_areAlike_79 : decode cX1_areAlike 79 = .ok (.invokevirtual 307, 3) := dk_182 1 51 (dk_at dksX1_areAlike_3 8 rfl rfl)
theorem dX1_areAlike_82 : decode cX1_areAlike 82 = .ok (.if_icmp .ne 7, 3) := dk_160 0 7 (dk_at dksX1_areAlike_3 11 rfl rfl)
theorem dX1_areAlike_85 : decode cX1_areAlike 85 = .ok (.iconst 1, 1) := dk_4 (dk_at dksX1_areAlike_3 14 rfl rfl)
theorem dX1_areAlike_86 : decode cX1_areAlike 86 = .ok (.goto 4, 3) := dk_167 0 4 (dk_at dksX1_areAlike_3 15 rfl rfl)
theorem dX1_areAlike_89 : decode cX1_areAlike 89 = .ok (.iconst 0, 1) := dk_3 (dk_at dksX1_areAlike_3 18 rfl rfl)
theorem dX1_areAlike_90 : decode cX1_areAlike 90 = .ok (.ireturn, 1) := dk_172 (dk_at dksX1_areAlike_3 19 rfl rfl)
def dkwX1_isBetween_0 : List UInt8 := [26, 27, 161, 0, 12, 26, 28, 163, 0, 7, 4, 167, 0, 4, 3, 172]
abbrev dktX1_isBetween_0 : List UInt8 := dkwX1_isBetween_0 ++ []
theorem dksX1_isBetween_0 : cX1_isBetween.data.toList.drop 0 = dktX1_isBetween_0 := by decide +kernel
theorem dX1_isBetween_0 : decode cX1_isBetween 0 = .ok (.iload_n 0, 1) := dk_26 (dk_at dksX1_isBetween_0 0 rfl rfl)
theorem dX1_isBetween_1 : decode cX1_isBetween 1 = .ok (.iload_n 1, 1) := dk_27 (dk_at dksX1_isBetween_0 1 rfl rfl)
theorem dX1_isBetween_2 : decode cX1_isBetween 2 = .ok (.if_icmp .lt 12, 3) := dk_161 0 12 (dk_at dksX1_isBetween_0 2 rfl rfl)
theorem dX1_isBetween_5 : decode cX1_isBetween 5 = .ok (.iload_n 0, 1) := dk_26 (dk_at dksX1_isBetween_0 5 rfl rfl)
theorem dX1_isBetween_6 : decode cX1_isBetween 6 = .ok (.iload_n 2, 1) := dk_28 (dk_at dksX1_isBetween_0 6 rfl rfl)
theorem dX1_isBetween_7 : decode cX1_isBetween 7 = .ok (.if_icmp .gt 7, 3) := dk_163 0 7 (dk_at dksX1_isBetween_0 7 rfl rfl)
theorem dX1_isBetween_10 : decode cX1_isBetween 10 = .ok (.iconst 1, 1) := dk_4 (dk_at dksX1_isBetween_0 10 rfl rfl)
theorem dX1_isBetween_11 : decode cX1_isBetween 11 = .ok (.goto 4, 3) := dk_167 0 4 (dk_at dksX1_isBetween_0 11 rfl rfl)
theorem dX1_isBetween_14 : decode cX1_isBetween 14 = .ok (.iconst 0, 1) := dk_3 (dk_at dksX1_isBetween_0 14 rfl rfl)
theorem dX1_isBetween_15 : decode cX1_isBetween 15 = .ok (.ireturn, 1) := dk_172 (dk_at dksX1_isBetween_0 15 rfl rfl)
def dkwX1_next_3 : List UInt8 := [167, 0, 4, 26, 172]
abbrev dktX1_next_3 : List UInt8 := dkwX1_next_3 ++ []
def dkwX1_next_2 : List UInt8 := [96, 62, 28, 184, 0, 69, 153, 0, 19, 29, 184, 0, 69, 153, 0, 12, 16, 10, 29, 104, 28, 96]
abbrev dktX1_next_2 : List UInt8 := dkwX1_next_2 ++ dktX1_next_3
def dkwX1_next_1 : List UInt8 := [61, 26, 16, 10, 108, 27, 6, 160, 0, 7, 4, 167, 0, 13, 27, 4, 160, 0, 7, 2, 167, 0, 4, 3]
abbrev dktX1_next_1 : List UInt8 := dkwX1_next_1 ++ dktX1_next_2
def dkwX1_next_0 : List UInt8 := [26, 16, 10, 112, 27, 5, 160, 0, 7, 4, 167, 0, 13, 27, 7, 160, 0, 7, 2, 167, 0, 4, 3, 96]
abbrev dktX1_next_0 : List UInt8 := dkwX1_next_0 ++ dktX1_next_1
theorem dksX1_next_0 : cX1_next.data.toList.drop 0 = dktX1_next_0 := by decide +kernel
theorem dksX1_next_1 : cX1_next.data.toList.drop 24 = dktX1_next_1 := dk_seg dksX1_next_0 24 rfl rfl
theorem dksX1_next_2 : cX1_next.data.toList.drop 48 = dktX1_next_2 := dk_seg dksX1_next_1 24 rfl rfl
theorem dksX1_next_3 : cX1_next.data.toList.drop 70 = dktX1_next_3 := dk_seg dksX1_next_2 22 rfl rfl
theorem dX1_next_0 : decode cX1_next 0 = .ok (.iload_n 0, 1) := dk_26 (dk_at dksX1_next_0 0 rfl rfl)
theorem dX1_next_1 : decode cX1_next 1 = .ok (.bipush 10, 2) := dk_16 10 (dk_at dksX1_next_0 1 rfl rfl)
theorem dX1_next_3 : decode cX1_next 3 = .ok (.irem, 1) := dk_112 (dk_at dksX1_next_0 3 rfl rfl)
theorem dX1_next_4 : decode cX1_next 4 = .ok (.iload_n 1, 1) := dk_27 (dk_at dksX1_next_0 4 rfl rfl)
theorem dX1_next_5 : decode cX1_next 5 = .ok (.iconst 2, 1) := dk_5 (dk_at dksX1_next_0 5 rfl rfl)
theorem dX1_next_6 : decode cX1_next 6 = .ok (.if_icmp .ne 7, 3) := dk_160 0 7 (dk_at dksX1_next_0 6 rfl rfl)
theorem dX1_next_9 : decode cX1_next 9 = .ok (.iconst 1, 1) := dk_4 (dk_at dksX1_next_0 9 rfl rfl)
theorem dX1_next_10 : decode cX1_next 10 = .ok (.goto 13, 3) := dk_167 0 13 (dk_at dksX1_next_0 10 rfl rfl)
theorem dX1_next_13 : decode cX1_next 13 = .ok (.iload_n 1, 1) := dk_27 (dk_at dksX1_next_0 13 rfl rfl)
theorem dX1_next_14 : decode cX1_next 14 = .ok (.iconst 4, 1) := dk_7 (dk_at dksX1_next_0 14 rfl rfl)
theorem dX1_next_15 : decode cX1_next 15 = .ok (.if_icmp .ne 7, 3) := dk_160 0 7 (dk_at dksX1_next_0 15 rfl rfl)
theorem dX1_next_18 : decode cX1_next 18 = .ok (.iconst (-1), 1) := dk_2 (dk_at dksX1_next_0 18 rfl rfl)
theorem dX1_next_19 : decode cX1_next 19 = .ok (.goto 4, 3) := dk_167 0 4 (dk_at dksX1_next_0 19 rfl rfl)
theorem dX1_next_22 : decode cX1_next 22 = .ok (.iconst 0, 1) := dk_3 (dk_at dksX1_next_0 22 rfl rfl)
theorem dX1_next_23 : decode cX1_next 23 = .ok (.iadd, 1) := dk_96 (dk_at dksX1_next_0 23 rfl rfl)
theorem dX1_next_24 : decode cX1_next 24 = .ok (.istore_n 2, 1) := dk_61 (dk_at dksX1_next_1 0 rfl rfl)
theorem dX1_next_25 : decode cX1_next 25 = .ok (.iload_n 0, 1) := dk_26 (dk_at dksX1_next_1 1 rfl rfl)
theorem dX1_next_26 : decode cX1_next 26 = .ok (.bipush 10, 2) := dk_16 10 (dk_at dksX1_next_1 2 rfl rfl)
theorem dX1_next_28 : decode cX1_next 28 = .ok (.idiv, 1) := dk_108 (dk_at dksX1_next_1 4 rfl rfl)
theorem dX1_next_29 : decode cX1_next 29 = .ok (.iload_n 1, 1) := dk_27 (dk_at dksX1_next_1 5 rfl rfl)
theorem dX1_next_30 : decode cX1_next 30 = .ok (.iconst 3, 1) := dk_6 (dk_at dksX1_next_1 6 rfl rfl)
theorem dX1_next_31 : decode cX1_next 31 = .ok (.if_icmp .ne 7, 3) := dk_160 0 7 (dk_at dksX1_next_1 7 rfl rfl)
theorem dX1_next_34 : decode cX1_next 34 = .ok (.iconst 1, 1) := dk_4 (dk_at dksX1_next_1 10 rfl rfl)
theorem dX1_next_35 : decode cX1_next 35 = .ok (.goto 13, 3) := dk_167 0 13 (dk_at dksX1_next_1 11 rfl rfl)
theorem dX1_next_38 : decode cX1_next 38 = .ok (.iload_n 1, 1) := dk_27 (dk_at dksX1_next_1 14 rfl rfl)
theorem dX1_next_39 : decode cX1_next 39 = .ok (.iconst 1, 1) := dk_4 (dk_at dksX1_next_1 15 rfl rfl)
theorem dX1_next_40 : decode cX1_next 40 = .ok (.if_icmp .ne 7, 3) := dk_160 0 7 (dk_at dksX1_next_1 16 rfl rfl)
theorem dX1_next_43 : decode cX1_next 43 = .ok (.iconst (-1), 1) := dk_2 (dk_at dksX1_next_1 19 rfl rfl)
theorem dX1_next_44 : decode cX1_next 44 = .ok (.goto 4, 3) := dk_167 0 4 (dk_at dksX1_next_1 20 rfl rfl)
theorem dX1_next_47 : decode cX1_next 47 = .ok (.iconst 0, 1) := dk_3 (dk_at dksX1_next_1 23 rfl rfl)
theorem dX1_next_48 : decode cX1_next 48 = .ok (.iadd, 1) := dk_96 (dk_at dksX1_next_2 0 rfl rfl)
theorem dX1_next_49 : decode cX1_next 49 = .ok (.istore_n 3, 1) := dk_62 (dk_at dksX1_next_2 1 rfl rfl)
theorem dX1_next_50 : decode cX1_next 50 = .ok (.iload_n 2, 1) := dk_28 (dk_at dksX1_next_2 2 rfl rfl)
theorem dX1_next_51 : decode cX1_next 51 = .ok (.invokestatic 69, 3) := dk_184 0 69 (dk_at dksX1_next_2 3 rfl rfl)
theorem dX1_next_54 : decode cX1_next 54 = .ok (.ifCond .eq 19, 3) := dk_153 0 19 (dk_at dksX1_next_2 6 rfl rfl)
theorem dX1_next_57 : decode cX1_next 57 = .ok (.iload_n 3, 1) := dk_29 (dk_at dksX1_next_2 9 rfl rfl)
theorem dX1_next_58 : decode cX1_next 58 = .ok (.invokestatic 69, 3) := dk_184 0 69 (dk_at dksX1_next_2 10 rfl rfl)
theorem dX1_next_61 : decode cX1_next 61 = .ok (.ifCond .eq 12, 3) := dk_153 0 12 (dk_at dksX1_next_2 13 rfl rfl)
theorem dX1_next_64 : decode cX1_next 64 = .ok (.bipush 10, 2) := dk_16 10 (dk_at dksX1_next_2 16 rfl rfl)
theorem dX1_next_66 : decode cX1_next 66 = .ok (.iload_n 3, 1) := dk_29 (dk_at dksX1_next_2 18 rfl rfl)
theorem dX1_next_67 : decode cX1_next 67 = .ok (.imul, 1) := dk_104 (dk_at dksX1_next_2 19 rfl rfl)
theorem dX1_next_68 : decode cX1_next 68 = .ok (.iload_n 2, 1) := dk_28 (dk_at dksX1_next_2 20 rfl rfl)
theorem dX1_next_69 : decode cX1_next 69 = .ok (.iadd, 1) := dk_96 (dk_at dksX1_next_2 21 rfl rfl)
theorem dX1_next_70 : decode cX1_next 70 = .ok (.goto 4, 3) := dk_167 0 4 (dk_at dksX1_next_3 0 rfl rfl)
theorem dX1_next_73 : decode cX1_next 73 = .ok (.iload_n 0, 1) := dk_26 (dk_at dksX1_next_3 3 rfl rfl)
theorem dX1_next_74 : decode cX1_next 74 = .ok (.ireturn, 1) := dk_172 (dk_at dksX1_next_3 4 rfl rfl)
def dkwX1_isOn_0 : List UInt8 := [26, 3, 16, 9, 184, 0, 49, 172]
abbrev dktX1_isOn_0 : List UInt8 := dkwX1_isOn_0 ++ []
theorem dksX1_isOn_0 : cX1_isOn.data.toList.drop 0 = dktX1_isOn_0 := by decide +kernel
theorem dX1_isOn_0 : decode cX1_isOn 0 = .ok (.iload_n 0, 1) := dk_26 (dk_at dksX1_isOn_0 0 rfl rfl)
theorem dX1_isOn_1 : decode cX1_isOn 1 = .ok (.iconst 0, 1) := dk_3 (dk_at dksX1_isOn_0 1 rfl rfl)
theorem dX1_isOn_2 : decode cX1_isOn 2 = .ok (.bipush 9, 2) := dk_16 9 (dk_at dksX1_isOn_0 2 rfl rfl)
theorem dX1_isOn_4 : decode cX1_isOn 4 = .ok (.invokestatic 49, 3) := dk_184 0 49 (dk_at dksX1_isOn_0 4 rfl rfl)
theorem dX1_isOn_7 : decode cX1_isOn 7 = .ok (.ireturn, 1) := dk_172 (dk_at dksX1_isOn_0 7 rfl rfl)
def dkwX1_hoursOnward_3 : List UInt8 := [154, 0, 7, 2, 167, 0, 6, 45, 28, 46, 172]
abbrev dktX1_hoursOnward_3 : List UInt8 := dkwX1_hoursOnward_3 ++ []
def dkwX1_hoursOnward_2 : List UInt8 := [182, 1, 27, 54, 5, 42, 21, 5, 45, 21, 5, 46, 45, 25, 4, 182, 1, 18, 167, 255, 216, 45, 28, 46]
abbrev dktX1_hoursOnward_2 : List UInt8 := dkwX1_hoursOnward_2 ++ dktX1_hoursOnward_3
def dkwX1_hoursOnward_1 : List UInt8 := [25, 4, 182, 1, 22, 154, 0, 38, 45, 28, 46, 154, 0, 32, 25, 4, 182, 0, 89, 192, 1, 25]
abbrev dktX1_hoursOnward_1 : List UInt8 := dkwX1_hoursOnward_1 ++ dktX1_hoursOnward_2
def dkwX1_hoursOnward_0 : List UInt8 := [16, 100, 188, 10, 78, 187, 0, 16, 89, 183, 0, 18, 58, 4, 42, 27, 3, 45, 25, 4, 182, 1, 18]
abbrev dktX1_hoursOnward_0 : List UInt8 := dkwX1_hoursOnward_0 ++ dktX1_hoursOnward_1
theorem dksX1_hoursOnward_0 : cX1_hoursOnward.data.toList.drop 0 = dktX1_hoursOnward_0 := by decide +kernel
theorem dksX1_hoursOnward_1 : cX1_hoursOnward.data.toList.drop 23 = dktX1_hoursOnward_1 := dk_seg dksX1_hoursOnward_0 23 rfl rfl
theorem dksX1_hoursOnward_2 : cX1_hoursOnward.data.toList.drop 45 = dktX1_hoursOnward_2 := dk_seg dksX1_hoursOnward_1 22 rfl rfl
theorem dksX1_hoursOnward_3 : cX1_hoursOnward.data.toList.drop 69 = dktX1_hoursOnward_3 := dk_seg dksX1_hoursOnward_2 24 rfl rfl
theorem dX1_hoursOnward_0 : decode cX1_hoursOnward 0 = .ok (.bipush 100, 2) := dk_16 100 (dk_at dksX1_hoursOnward_0 0 rfl rfl)
theorem dX1_hoursOnward_2 : decode cX1_hoursOnward 2 = .ok (.newarray .int, 2) := dk_188_10 (dk_at dksX1_hoursOnward_0 2 rfl rfl)
theorem dX1_hoursOnward_4 : decode cX1_hoursOnward 4 = .ok (.astore_n 3, 1) := dk_78 (dk_at dksX1_hoursOnward_0 4 rfl rfl)
theorem dX1_hoursOnward_5 : decode cX1_hoursOnward 5 = .ok (.new 16, 3) := dk_187 0 16 (dk_at dksX1_hoursOnward_0 5 rfl rfl)
theorem dX1_hoursOnward_8 : decode cX1_hoursOnward 8 = .ok (.dup, 1) := dk_89 (dk_at dksX1_hoursOnward_0 8 rfl rfl)
theorem dX1_hoursOnward_9 : decode cX1_hoursOnward 9 = .ok (.invokespecial 18, 3) := dk_183 0 18 (dk_at dksX1_hoursOnward_0 9 rfl rfl)
theorem dX1_hoursOnward_12 : decode cX1_hoursOnward 12 = .ok (.astore 4, 2) := dk_58 4 (dk_at dksX1_hoursOnward_0 12 rfl rfl)
theorem dX1_hoursOnward_14 : decode cX1_hoursOnward 14 = .ok (.aload_n 0, 1) := dk_42 (dk_at dksX1_hoursOnward_0 14 rfl rfl)
theorem dX1_hoursOnward_15 : decode cX1_hoursOnward 15 = .ok (.iload_n 1, 1) := dk_27 (dk_at dksX1_hoursOnward_0 15 rfl rfl)
theorem dX1_hoursOnward_16 : decode cX1_hoursOnward 16 = .ok (.iconst 0, 1) := dk_3 (dk_at dksX1_hoursOnward_0 16 rfl rfl)
theorem dX1_hoursOnward_17 : decode cX1_hoursOnward 17 = .ok (.aload_n 3, 1) := dk_45 (dk_at dksX1_hoursOnward_0 17 rfl rfl)
theorem dX1_hoursOnward_18 : decode cX1_hoursOnward 18 = .ok (.aload 4, 2) := dk_25 4 (dk_at dksX1_hoursOnward_0 18 rfl rfl)
theorem dX1_hoursOnward_20 : decode cX1_hoursOnward 20 = .ok (.invokevirtual 274, 3) := dk_182 1 18 (dk_at dksX1_hoursOnward_0 20 rfl rfl)
theorem dX1_hoursOnward_23 : decode cX1_hoursOnward 23 = .ok (.aload 4, 2) := dk_25 4 (dk_at dksX1_hoursOnward_1 0 rfl rfl)
theorem dX1_hoursOnward_25 : decode cX1_hoursOnward 25 = .ok (.invokevirtual 278, 3) := dk_182 1 22 (dk_at dksX1_hoursOnward_1 2 rfl rfl)
theorem dX1_hoursOnward_28 : decode cX1_hoursOnward 28 = .ok (.ifCond .ne 38, 3) := dk_154 0 38 (dk_at dksX1_hoursOnward_1 5 rfl rfl)
theorem dX1_hoursOnward_31 : decode cX1_hoursOnward 31 = .ok (.aload_n 3, 1) := dk_45 (dk_at dksX1_hoursOnward_1 8 rfl rfl)
theorem dX1_hoursOnward_32 : decode cX1_hoursOnward 32 = .ok (.iload_n 2, 1) := dk_28 (dk_at dksX1_hoursOnward_1 9 rfl rfl)
theorem dX1_hoursOnward_33 : decode cX1_hoursOnward 33 = .ok (.iaload, 1) := dk_46 (dk_at dksX1_hoursOnward_1 10 rfl rfl)
theorem dX1_hoursOnward_34 : decode cX1_hoursOnward 34 = .ok (.ifCond .ne 32, 3) := dk_154 0 32 (dk_at dksX1_hoursOnward_1 11 rfl rfl)
theorem dX1_hoursOnward_37 : decode cX1_hoursOnward 37 = .ok (.aload 4, 2) := dk_25 4 (dk_at dksX1_hoursOnward_1 14 rfl rfl)
theorem dX1_hoursOnward_39 : decode cX1_hoursOnward 39 = .ok (.invokevirtual 89, 3) := dk_182 0 89 (dk_at dksX1_hoursOnward_1 16 rfl rfl)
theorem dX1_hoursOnward_42 : decode cX1_hoursOnward 42 = .ok (.checkcast 281, 3) := dk_192 1 25 (dk_at dksX1_hoursOnward_1 19 rfl rfl)
theorem dX1_hoursOnward_45 : decode cX1_hoursOnward 45 = .ok (.invokevirtual 283, 3) := dk_182 1 27 (dk_at dksX1_hoursOnward_2 0 rfl rfl)
theorem dX1_hoursOnward_48 : decode cX1_hoursOnward 48 = .ok (.istore 5, 2) := dk_54 5 (dk_at dksX1_hoursOnward_2 3 rfl rfl)
theorem dX1_hoursOnward_50 : decode cX1_hoursOnward 50 = .ok (.aload_n 0, 1) := dk_42 (dk_at dksX1_hoursOnward_2 5 rfl rfl)
theorem dX1_hoursOnward_51 : decode cX1_hoursOnward 51 = .ok (.iload 5, 2) := dk_21 5 (dk_at dksX1_hoursOnward_2 6 rfl rfl)
theorem dX1_hoursOnward_53 : decode cX1_hoursOnward 53 = .ok (.aload_n 3, 1) := dk_45 (dk_at dksX1_hoursOnward_2 8 rfl rfl)
theorem dX1_hoursOnward_54 : decode cX1_hoursOnward 54 = .ok (.iload 5, 2) := dk_21 5 (dk_at dksX1_hoursOnward_2 9 rfl rfl)
theorem dX1_hoursOnward_56 : decode cX1_hoursOnward 56 = .ok (.iaload, 1) := dk_46 (dk_at dksX1_hoursOnward_2 11 rfl rfl)
theorem dX1_hoursOnward_57 : decode cX1_hoursOnward 57 = .ok (.aload_n 3, 1) := dk_45 (dk_at dksX1_hoursOnward_2 12 rfl rfl)
theorem dX1_hoursOnward_58 : decode cX1_hoursOnward 58 = .ok (.aload 4, 2) := dk_25 4 (dk_at dksX1_hoursOnward_2 13 rfl rfl)
theorem dX1_hoursOnward_60 : decode cX1_hoursOnward 60 = .ok (.invokevirtual 274, 3) := dk_182 1 18 (dk_at dksX1_hoursOnward_2 15 rfl rfl)
theorem dX1_hoursOnward_63 : decode cX1_hoursOnward 63 = .ok (.goto (-40), 3) := dk_167 255 216 (dk_at dksX1_hoursOnward_2 18 rfl rfl)
theorem dX1_hoursOnward_66 : decode cX1_hoursOnward 66 = .ok (.aload_n 3, 1) := dk_45 (dk_at dksX1_hoursOnward_2 21 rfl rfl)
theorem dX1_hoursOnward_67 : decode cX1_hoursOnward 67 = .ok (.iload_n 2, 1) := dk_28 (dk_at dksX1_hoursOnward_2 22 rfl rfl)
theorem dX1_hoursOnward_68 : decode cX1_hoursOnward 68 = .ok (.iaload, 1) := dk_46 (dk_at dksX1_hoursOnward_2 23 rfl rfl)
theorem dX1_hoursOnward_69 : decode cX1_hoursOnward 69 = .ok (.ifCond .ne 7, 3) := dk_154 0 7 (dk_at dksX1_hoursOnward_3 0 rfl rfl)
theorem dX1_hoursOnward_72 : decode cX1_hoursOnward 72 = .ok (.iconst (-1), 1) := dk_2 (dk_at dksX1_hoursOnward_3 3 rfl rfl)
theorem dX1_hoursOnward_73 : decode cX1_hoursOnward 73 = .ok (.goto 6, 3) := dk_167 0 6 (dk_at dksX1_hoursOnward_3 4 rfl rfl)
theorem dX1_hoursOnward_76 : decode cX1_hoursOnward 76 = .ok (.aload_n 3, 1) := dk_45 (dk_at dksX1_hoursOnward_3 7 rfl rfl)
theorem dX1_hoursOnward_77 : decode cX1_hoursOnward 77 = .ok (.iload_n 2, 1) := dk_28 (dk_at dksX1_hoursOnward_3 8 rfl rfl)
theorem dX1_hoursOnward_78 : decode cX1_hoursOnward 78 = .ok (.iaload, 1) := dk_46 (dk_at dksX1_hoursOnward_3 9 rfl rfl)
theorem dX1_hoursOnward_79 : decode cX1_hoursOnward 79 = .ok (.ireturn, 1) := dk_172 (dk_at dksX1_hoursOnward_3 10 rfl rfl)
def dkwX1_spreads_2 : List UInt8 := [182, 0, 81, 132, 5, 1, 167, 255, 207, 177]
abbrev dktX1_spreads_2 : List UInt8 := dkwX1_spreads_2 ++ []
def dkwX1_spreads_1 : List UInt8 := [54, 6, 45, 21, 6, 46, 154, 0, 20, 45, 21, 6, 28, 4, 96, 79, 25, 4, 21, 6, 184, 1, 30]
abbrev dktX1_spreads_1 : List UInt8 := dkwX1_spreads_1 ++ dktX1_spreads_2
def dkwX1_spreads_0 : List UInt8 := [4, 54, 5, 21, 5, 8, 163, 0, 49, 27, 42, 180, 0, 10, 180, 0, 151, 21, 5, 46, 184, 0, 137]
abbrev dktX1_spreads_0 : List UInt8 := dkwX1_spreads_0 ++ dktX1_spreads_1
theorem dksX1_spreads_0 : cX1_spreads.data.toList.drop 0 = dktX1_spreads_0 := by decide +kernel
theorem dksX1_spreads_1 : cX1_spreads.data.toList.drop 23 = dktX1_spreads_1 := dk_seg dksX1_spreads_0 23 rfl rfl
theorem dksX1_spreads_2 : cX1_spreads.data.toList.drop 46 = dktX1_spreads_2 := dk_seg dksX1_spreads_1 23 rfl rfl
theorem dX1_spreads_0 : decode cX1_spreads 0 = .ok (.iconst 1, 1) := dk_4 (dk_at dksX1_spreads_0 0 rfl rfl)
theorem dX1_spreads_1 : decode cX1_spreads 1 = .ok (.istore 5, 2) := dk_54 5 (dk_at dksX1_spreads_0 1 rfl rfl)
theorem dX1_spreads_3 : decode cX1_spreads 3 = .ok (.iload 5, 2) := dk_21 5 (dk_at dksX1_spreads_0 3 rfl rfl)
theorem dX1_spreads_5 : decode cX1_spreads 5 = .ok (.iconst 5, 1) := dk_8 (dk_at dksX1_spreads_0 5 rfl rfl)
theorem dX1_spreads_6 : decode cX1_spreads 6 = .ok (.if_icmp .gt 49, 3) := dk_163 0 49 (dk_at dksX1_spreads_0 6 rfl rfl)
theorem dX1_spreads_9 : decode cX1_spreads 9 = .ok (.iload_n 1, 1) := dk_27 (dk_at dksX1_spreads_0 9 rfl rfl)
theorem dX1_spreads_10 : decode cX1_spreads 10 = .ok (.aload_n 0, 1) := dk_42 (dk_at dksX1_spreads_0 10 rfl rfl)
theorem dX1_spreads_11 : decode cX1_spreads 11 = .ok (.getfield 10, 3) := dk_180 0 10 (dk_at dksX1_spreads_0 11 rfl rfl)
theorem dX1_spreads_14 : decode cX1_spreads 14 = .ok (.getfield 151, 3) := dk_180 0 151 (dk_at dksX1_spreads_0 14 rfl rfl)
theorem dX1_spreads_17 : decode cX1_spreads 17 = .ok (.iload 5, 2) := dk_21 5 (dk_at dksX1_spreads_0 17 rfl rfl)
theorem dX1_spreads_19 : decode cX1_spreads 19 = .ok (.iaload, 1) := dk_46 (dk_at dksX1_spreads_0 19 rfl rfl)
theorem dX1_spreads_20 : decode cX1_spreads 20 = .ok (.invokestatic 137, 3) := dk_184 0 137 (dk_at dksX1_spreads_0 20 rfl rfl)
theorem dX1_spreads_23 : decode cX1_spreads 23 = .ok (.istore 6, 2) := dk_54 6 (dk_at dksX1_spreads_1 0 rfl rfl)
theorem dX1_spreads_25 : decode cX1_spreads 25 = .ok (.aload_n 3, 1) := dk_45 (dk_at dksX1_spreads_1 2 rfl rfl)
theorem dX1_spreads_26 : decode cX1_spreads 26 = .ok (.iload 6, 2) := dk_21 6 (dk_at dksX1_spreads_1 3 rfl rfl)
theorem dX1_spreads_28 : decode cX1_spreads 28 = .ok (.iaload, 1) := dk_46 (dk_at dksX1_spreads_1 5 rfl rfl)
theorem dX1_spreads_29 : decode cX1_spreads 29 = .ok (.ifCond .ne 20, 3) := dk_154 0 20 (dk_at dksX1_spreads_1 6 rfl rfl)
theorem dX1_spreads_32 : decode cX1_spreads 32 = .ok (.aload_n 3, 1) := dk_45 (dk_at dksX1_spreads_1 9 rfl rfl)
theorem dX1_spreads_33 : decode cX1_spreads 33 = .ok (.iload 6, 2) := dk_21 6 (dk_at dksX1_spreads_1 10 rfl rfl)
theorem dX1_spreads_35 : decode cX1_spreads 35 = .ok (.iload_n 2, 1) := dk_28 (dk_at dksX1_spreads_1 12 rfl rfl)
theorem dX1_spreads_36 : decode cX1_spreads 36 = .ok (.iconst 1, 1) := dk_4 (dk_at dksX1_spreads_1 13 rfl rfl)
theorem dX1_spreads_37 : decode cX1_spreads 37 = .ok (.iadd, 1) := dk_96 (dk_at dksX1_spreads_1 14 rfl rfl)
theorem dX1_spreads_38 : decode cX1_spreads 38 = .ok (.iastore, 1) := dk_79 (dk_at dksX1_spreads_1 15 rfl rfl)
theorem dX1_spreads_39 : decode cX1_spreads 39 = .ok (.aload 4, 2) := dk_25 4 (dk_at dksX1_spreads_1 16 rfl rfl)
theorem dX1_spreads_41 : decode cX1_spreads 41 = .ok (.iload 6, 2) := dk_21 6 (dk_at dksX1_spreads_1 18 rfl rfl)
theorem dX1_spreads_43 : decode cX1_spreads 43 = .ok (.invokestatic 286, 3) := dk_184 1 30 (dk_at dksX1_spreads_1 20 rfl rfl)
theorem dX1_spreads_46 : decode cX1_spreads 46 = .ok (.invokevirtual 81, 3) := dk_182 0 81 (dk_at dksX1_spreads_2 0 rfl rfl)
theorem dX1_spreads_49 : decode cX1_spreads 49 = .ok (.iinc 5 1, 3) := dk_132 5 1 (dk_at dksX1_spreads_2 3 rfl rfl)
theorem dX1_spreads_52 : decode cX1_spreads 52 = .ok (.goto (-49), 3) := dk_167 255 207 (dk_at dksX1_spreads_2 6 rfl rfl)
theorem dX1_spreads_55 : decode cX1_spreads 55 = .ok (.return_, 1) := dk_177 (dk_at dksX1_spreads_2 9 rfl rfl)
def dkwX1_hoursByBack_0 : List UInt8 := [42, 27, 42, 28, 182, 1, 38, 182, 1, 34, 62, 29, 2, 160, 0, 7, 2, 167, 0, 6, 29, 4, 96, 172]
abbrev dktX1_hoursByBack_0 : List UInt8 := dkwX1_hoursByBack_0 ++ []
theorem dksX1_hoursByBack_0 : cX1_hoursByBack.data.toList.drop 0 = dktX1_hoursByBack_0 := by decide +kernel
theorem dX1_hoursByBack_0 : decode cX1_hoursByBack 0 = .ok (.aload_n 0, 1) := dk_42 (dk_at dksX1_hoursByBack_0 0 rfl rfl)
theorem dX1_hoursByBack_1 : decode cX1_hoursByBack 1 = .ok (.iload_n 1, 1) := dk_27 (dk_at dksX1_hoursByBack_0 1 rfl rfl)
theorem dX1_hoursByBack_2 : decode cX1_hoursByBack 2 = .ok (.aload_n 0, 1) := dk_42 (dk_at dksX1_hoursByBack_0 2 rfl rfl)
theorem dX1_hoursByBack_3 : decode cX1_hoursByBack 3 = .ok (.iload_n 2, 1) := dk_28 (dk_at dksX1_hoursByBack_0 3 rfl rfl)
theorem dX1_hoursByBack_4 : decode cX1_hoursByBack 4 = .ok (.invokevirtual 294, 3) := dk_182 1 38 (dk_at dksX1_hoursByBack_0 4 rfl rfl)
theorem dX1_hoursByBack_7 : decode cX1_hoursByBack 7 = .ok (.invokevirtual 290, 3) := dk_182 1 34 (dk_at dksX1_hoursByBack_0 7 rfl rfl)
theorem dX1_hoursByBack_10 : decode cX1_hoursByBack 10 = .ok (.istore_n 3, 1) := dk_62 (dk_at dksX1_hoursByBack_0 10 rfl rfl)
theorem dX1_hoursByBack_11 : decode cX1_hoursByBack 11 = .ok (.iload_n 3, 1) := dk_29 (dk_at dksX1_hoursByBack_0 11 rfl rfl)
theorem dX1_hoursByBack_12 : decode cX1_hoursByBack 12 = .ok (.iconst (-1), 1) := dk_2 (dk_at dksX1_hoursByBack_0 12 rfl rfl)
theorem dX1_hoursByBack_13 : decode cX1_hoursByBack 13 = .ok (.if_icmp .ne 7, 3) := dk_160 0 7 (dk_at dksX1_hoursByBack_0 13 rfl rfl)
theorem dX1_hoursByBack_16 : decode cX1_hoursByBack 16 = .ok (.iconst (-1), 1) := dk_2 (dk_at dksX1_hoursByBack_0 16 rfl rfl)
theorem dX1_hoursByBack_17 : decode cX1_hoursByBack 17 = .ok (.goto 6, 3) := dk_167 0 6 (dk_at dksX1_hoursByBack_0 17 rfl rfl)
theorem dX1_hoursByBack_20 : decode cX1_hoursByBack 20 = .ok (.iload_n 3, 1) := dk_29 (dk_at dksX1_hoursByBack_0 20 rfl rfl)
theorem dX1_hoursByBack_21 : decode cX1_hoursByBack 21 = .ok (.iconst 1, 1) := dk_4 (dk_at dksX1_hoursByBack_0 21 rfl rfl)
theorem dX1_hoursByBack_22 : decode cX1_hoursByBack 22 = .ok (.iadd, 1) := dk_96 (dk_at dksX1_hoursByBack_0 22 rfl rfl)
theorem dX1_hoursByBack_23 : decode cX1_hoursByBack 23 = .ok (.ireturn, 1) := dk_172 (dk_at dksX1_hoursByBack_0 23 rfl rfl)
def dkwX1_hoursBack_4 : List UInt8 := [132, 4, 1, 167, 255, 202, 167, 255, 190, 44, 176]
abbrev dktX1_hoursBack_4 : List UInt8 := dkwX1_hoursBack_4 ++ []
def dkwX1_hoursBack_3 : List UInt8 := [159, 0, 14, 21, 5, 4, 96, 44, 21, 4, 46, 162, 0, 13, 44, 21, 4, 21, 5, 4, 96, 79, 4, 62]
abbrev dktX1_hoursBack_3 : List UInt8 := dkwX1_hoursBack_3 ++ dktX1_hoursBack_4
def dkwX1_hoursBack_2 : List UInt8 := [162, 0, 53, 42, 21, 4, 44, 182, 1, 34, 54, 5, 21, 5, 2, 159, 0, 32, 44, 21, 4, 46, 2]
abbrev dktX1_hoursBack_2 : List UInt8 := dkwX1_hoursBack_2 ++ dktX1_hoursBack_3
def dkwX1_hoursBack_1 : List UInt8 := [2, 79, 132, 3, 1, 167, 255, 234, 4, 62, 29, 153, 0, 68, 3, 62, 3, 54, 4, 21, 4, 16, 100]
abbrev dktX1_hoursBack_1 : List UInt8 := dkwX1_hoursBack_1 ++ dktX1_hoursBack_2
def dkwX1_hoursBack_0 : List UInt8 := [16, 100, 188, 10, 77, 3, 62, 29, 16, 100, 162, 0, 22, 44, 29, 29, 27, 160, 0, 7, 3, 167, 0, 4]
abbrev dktX1_hoursBack_0 : List UInt8 := dkwX1_hoursBack_0 ++ dktX1_hoursBack_1
theorem dksX1_hoursBack_0 : cX1_hoursBack.data.toList.drop 0 = dktX1_hoursBack_0 := by decide +kernel
theorem dksX1_hoursBack_1 : cX1_hoursBack.data.toList.drop 24 = dktX1_hoursBack_1 := dk_seg dksX1_hoursBack_0 24 rfl rfl
theorem dksX1_hoursBack_2 : cX1_hoursBack.data.toList.drop 47 = dktX1_hoursBack_2 := dk_seg dksX1_hoursBack_1 23 rfl rfl
theorem dksX1_hoursBack_3 : cX1_hoursBack.data.toList.drop 70 = dktX1_hoursBack_3 := dk_seg dksX1_hoursBack_2 23 rfl rfl
theorem dksX1_hoursBack_4 : cX1_hoursBack.data.toList.drop 94 = dktX1_hoursBack_4 := dk_seg dksX1_hoursBack_3 24 rfl rfl
theorem dX1_hoursBack_0 : decode cX1_hoursBack 0 = .ok (.bipush 100, 2) := dk_16 100 (dk_at dksX1_hoursBack_0 0 rfl rfl)
theorem dX1_hoursBack_2 : decode cX1_hoursBack 2 = .ok (.newarray .int, 2) := dk_188_10 (dk_at dksX1_hoursBack_0 2 rfl rfl)
theorem dX1_hoursBack_4 : decode cX1_hoursBack 4 = .ok (.astore_n 2, 1) := dk_77 (dk_at dksX1_hoursBack_0 4 rfl rfl)
theorem dX1_hoursBack_5 : decode cX1_hoursBack 5 = .ok (.iconst 0, 1) := dk_3 (dk_at dksX1_hoursBack_0 5 rfl rfl)
theorem dX1_hoursBack_6 : decode cX1_hoursBack 6 = .ok (.istore_n 3, 1) := dk_62 (dk_at dksX1_hoursBack_0 6 rfl rfl)
theorem dX1_hoursBack_7 : decode cX1_hoursBack 7 = .ok (.iload_n 3, 1) := dk_29 (dk_at dksX1_hoursBack_0 7 rfl rfl)
theorem dX1_hoursBack_8 : decode cX1_hoursBack 8 = .ok (.bipush 100, 2) := dk_16 100 (dk_at dksX1_hoursBack_0 8 rfl rfl)
theorem dX1_hoursBack_10 : decode cX1_hoursBack 10 = .ok (.if_icmp .ge 22, 3) := dk_162 0 22 (dk_at dksX1_hoursBack_0 10 rfl rfl)
theorem dX1_hoursBack_13 : decode cX1_hoursBack 13 = .ok (.aload_n 2, 1) := dk_44 (dk_at dksX1_hoursBack_0 13 rfl rfl)
theorem dX1_hoursBack_14 : decode cX1_hoursBack 14 = .ok (.iload_n 3, 1) := dk_29 (dk_at dksX1_hoursBack_0 14 rfl rfl)
theorem dX1_hoursBack_15 : decode cX1_hoursBack 15 = .ok (.iload_n 3, 1) := dk_29 (dk_at dksX1_hoursBack_0 15 rfl rfl)
theorem dX1_hoursBack_16 : decode cX1_hoursBack 16 = .ok (.iload_n 1, 1) := dk_27 (dk_at dksX1_hoursBack_0 16 rfl rfl)
theorem dX1_hoursBack_17 : decode cX1_hoursBack 17 = .ok (.if_icmp .ne 7, 3) := dk_160 0 7 (dk_at dksX1_hoursBack_0 17 rfl rfl)
theorem dX1_hoursBack_20 : decode cX1_hoursBack 20 = .ok (.iconst 0, 1) := dk_3 (dk_at dksX1_hoursBack_0 20 rfl rfl)
theorem dX1_hoursBack_21 : decode cX1_hoursBack 21 = .ok (.goto 4, 3) := dk_167 0 4 (dk_at dksX1_hoursBack_0 21 rfl rfl)
theorem dX1_hoursBack_24 : decode cX1_hoursBack 24 = .ok (.iconst (-1), 1) := dk_2 (dk_at dksX1_hoursBack_1 0 rfl rfl)
theorem dX1_hoursBack_25 : decode cX1_hoursBack 25 = .ok (.iastore, 1) := dk_79 (dk_at dksX1_hoursBack_1 1 rfl rfl)
theorem dX1_hoursBack_26 : decode cX1_hoursBack 26 = .ok (.iinc 3 1, 3) := dk_132 3 1 (dk_at dksX1_hoursBack_1 2 rfl rfl)
theorem dX1_hoursBack_29 : decode cX1_hoursBack 29 = .ok (.goto (-22), 3) := dk_167 255 234 (dk_at dksX1_hoursBack_1 5 rfl rfl)
theorem dX1_hoursBack_32 : decode cX1_hoursBack 32 = .ok (.iconst 1, 1) := dk_4 (dk_at dksX1_hoursBack_1 8 rfl rfl)
theorem dX1_hoursBack_33 : decode cX1_hoursBack 33 = .ok (.istore_n 3, 1) := dk_62 (dk_at dksX1_hoursBack_1 9 rfl rfl)
theorem dX1_hoursBack_34 : decode cX1_hoursBack 34 = .ok (.iload_n 3, 1) := dk_29 (dk_at dksX1_hoursBack_1 10 rfl rfl)
theorem dX1_hoursBack_35 : decode cX1_hoursBack 35 = .ok (.ifCond .eq 68, 3) := dk_153 0 68 (dk_at dksX1_hoursBack_1 11 rfl rfl)
theorem dX1_hoursBack_38 : decode cX1_hoursBack 38 = .ok (.iconst 0, 1) := dk_3 (dk_at dksX1_hoursBack_1 14 rfl rfl)
theorem dX1_hoursBack_39 : decode cX1_hoursBack 39 = .ok (.istore_n 3, 1) := dk_62 (dk_at dksX1_hoursBack_1 15 rfl rfl)
theorem dX1_hoursBack_40 : decode cX1_hoursBack 40 = .ok (.iconst 0, 1) := dk_3 (dk_at dksX1_hoursBack_1 16 rfl rfl)
theorem dX1_hoursBack_41 : decode cX1_hoursBack 41 = .ok (.istore 4, 2) := dk_54 4 (dk_at dksX1_hoursBack_1 17 rfl rfl)
theorem dX1_hoursBack_43 : decode cX1_hoursBack 43 = .ok (.iload 4, 2) := dk_21 4 (dk_at dksX1_hoursBack_1 19 rfl rfl)
theorem dX1_hoursBack_45 : decode cX1_hoursBack 45 = .ok (.bipush 100, 2) := dk_16 100 (dk_at dksX1_hoursBack_1 21 rfl rfl)
theorem dX1_hoursBack_47 : decode cX1_hoursBack 47 = .ok (.if_icmp .ge 53, 3) := dk_162 0 53 (dk_at dksX1_hoursBack_2 0 rfl rfl)
theorem dX1_hoursBack_50 : decode cX1_hoursBack 50 = .ok (.aload_n 0, 1) := dk_42 (dk_at dksX1_hoursBack_2 3 rfl rfl)
theorem dX1_hoursBack_51 : decode cX1_hoursBack 51 = .ok (.iload 4, 2) := dk_21 4 (dk_at dksX1_hoursBack_2 4 rfl rfl)
theorem dX1_hoursBack_53 : decode cX1_hoursBack 53 = .ok (.aload_n 2, 1) := dk_44 (dk_at dksX1_hoursBack_2 6 rfl rfl)
theorem dX1_hoursBack_54 : decode cX1_hoursBack 54 = .ok (.invokevirtual 290, 3) := dk_182 1 34 (dk_at dksX1_hoursBack_2 7 rfl rfl)
theorem dX1_hoursBack_57 : decode cX1_hoursBack 57 = .ok (.istore 5, 2) := dk_54 5 (dk_at dksX1_hoursBack_2 10 rfl rfl)
theorem dX1_hoursBack_59 : decode cX1_hoursBack 59 = .ok (.iload 5, 2) := dk_21 5 (dk_at dksX1_hoursBack_2 12 rfl rfl)
theorem dX1_hoursBack_61 : decode cX1_hoursBack 61 = .ok (.iconst (-1), 1) := dk_2 (dk_at dksX1_hoursBack_2 14 rfl rfl)
theorem dX1_hoursBack_62 : decode cX1_hoursBack 62 = .ok (.if_icmp .eq 32, 3) := dk_159 0 32 (dk_at dksX1_hoursBack_2 15 rfl rfl)
theorem dX1_hoursBack_65 : decode cX1_hoursBack 65 = .ok (.aload_n 2, 1) := dk_44 (dk_at dksX1_hoursBack_2 18 rfl rfl)
theorem dX1_hoursBack_66 : decode cX1_hoursBack 66 = .ok (.iload 4, 2) := dk_21 4 (dk_at dksX1_hoursBack_2 19 rfl rfl)
theorem dX1_hoursBack_68 : decode cX1_hoursBack 68 = .ok (.iaload, 1) := dk_46 (dk_at dksX1_hoursBack_2 21 rfl rfl)
theorem dX1_hoursBack_69 : decode cX1_hoursBack 69 = .ok (.iconst (-1), 1) := dk_2 (dk_at dksX1_hoursBack_2 22 rfl rfl)
theorem dX1_hoursBack_70 : decode cX1_hoursBack 70 = .ok (.if_icmp .eq 14, 3) := dk_159 0 14 (dk_at dksX1_hoursBack_3 0 rfl rfl)
theorem dX1_hoursBack_73 : decode cX1_hoursBack 73 = .ok (.iload 5, 2) := dk_21 5 (dk_at dksX1_hoursBack_3 3 rfl rfl)
theorem dX1_hoursBack_75 : decode cX1_hoursBack 75 = .ok (.iconst 1, 1) := dk_4 (dk_at dksX1_hoursBack_3 5 rfl rfl)
theorem dX1_hoursBack_76 : decode cX1_hoursBack 76 = .ok (.iadd, 1) := dk_96 (dk_at dksX1_hoursBack_3 6 rfl rfl)
theorem dX1_hoursBack_77 : decode cX1_hoursBack 77 = .ok (.aload_n 2, 1) := dk_44 (dk_at dksX1_hoursBack_3 7 rfl rfl)
theorem dX1_hoursBack_78 : decode cX1_hoursBack 78 = .ok (.iload 4, 2) := dk_21 4 (dk_at dksX1_hoursBack_3 8 rfl rfl)
theorem dX1_hoursBack_80 : decode cX1_hoursBack 80 = .ok (.iaload, 1) := dk_46 (dk_at dksX1_hoursBack_3 10 rfl rfl)
theorem dX1_hoursBack_81 : decode cX1_hoursBack 81 = .ok (.if_icmp .ge 13, 3) := dk_162 0 13 (dk_at dksX1_hoursBack_3 11 rfl rfl)
theorem dX1_hoursBack_84 : decode cX1_hoursBack 84 = .ok (.aload_n 2, 1) := dk_44 (dk_at dksX1_hoursBack_3 14 rfl rfl)
theorem dX1_hoursBack_85 : decode cX1_hoursBack 85 = .ok (.iload 4, 2) := dk_21 4 (dk_at dksX1_hoursBack_3 15 rfl rfl)
theorem dX1_hoursBack_87 : decode cX1_hoursBack 87 = .ok (.iload 5, 2) := dk_21 5 (dk_at dksX1_hoursBack_3 17 rfl rfl)
theorem dX1_hoursBack_89 : decode cX1_hoursBack 89 = .ok (.iconst 1, 1) := dk_4 (dk_at dksX1_hoursBack_3 19 rfl rfl)
theorem dX1_hoursBack_90 : decode cX1_hoursBack 90 = .ok (.iadd, 1) := dk_96 (dk_at dksX1_hoursBack_3 20 rfl rfl)
theorem dX1_hoursBack_91 : decode cX1_hoursBack 91 = .ok (.iastore, 1) := dk_79 (dk_at dksX1_hoursBack_3 21 rfl rfl)
theorem dX1_hoursBack_92 : decode cX1_hoursBack 92 = .ok (.iconst 1, 1) := dk_4 (dk_at dksX1_hoursBack_3 22 rfl rfl)
theorem dX1_hoursBack_93 : decode cX1_hoursBack 93 = .ok (.istore_n 3, 1) := dk_62 (dk_at dksX1_hoursBack_3 23 rfl rfl)
theorem dX1_hoursBack_94 : decode cX1_hoursBack 94 = .ok (.iinc 4 1, 3) := dk_132 4 1 (dk_at dksX1_hoursBack_4 0 rfl rfl)
theorem dX1_hoursBack_97 : decode cX1_hoursBack 97 = .ok (.goto (-54), 3) := dk_167 255 202 (dk_at dksX1_hoursBack_4 3 rfl rfl)
theorem dX1_hoursBack_100 : decode cX1_hoursBack 100 = .ok (.goto (-66), 3) := dk_167 255 190 (dk_at dksX1_hoursBack_4 6 rfl rfl)
theorem dX1_hoursBack_103 : decode cX1_hoursBack 103 = .ok (.aload_n 2, 1) := dk_44 (dk_at dksX1_hoursBack_4 9 rfl rfl)
theorem dX1_hoursBack_104 : decode cX1_hoursBack 104 = .ok (.areturn, 1) := dk_176 (dk_at dksX1_hoursBack_4 10 rfl rfl)
def dkwX1_leastBehind_2 : List UInt8 := [21, 5, 167, 0, 4, 29, 62, 132, 4, 1, 167, 255, 205, 29, 172]
abbrev dktX1_leastBehind_2 : List UInt8 := dkwX1_leastBehind_2 ++ []
def dkwX1_leastBehind_1 : List UInt8 := [184, 0, 137, 46, 54, 5, 21, 5, 2, 159, 0, 19, 29, 2, 159, 0, 9, 21, 5, 29, 162, 0, 8]
abbrev dktX1_leastBehind_1 : List UInt8 := dkwX1_leastBehind_1 ++ dktX1_leastBehind_2
def dkwX1_leastBehind_0 : List UInt8 := [2, 62, 4, 54, 4, 21, 4, 8, 163, 0, 51, 44, 27, 42, 180, 0, 10, 180, 0, 151, 21, 4, 46]
abbrev dktX1_leastBehind_0 : List UInt8 := dkwX1_leastBehind_0 ++ dktX1_leastBehind_1
theorem dksX1_leastBehind_0 : cX1_leastBehind.data.toList.drop 0 = dktX1_leastBehind_0 := by decide +kernel
theorem dksX1_leastBehind_1 : cX1_leastBehind.data.toList.drop 23 = dktX1_leastBehind_1 := dk_seg dksX1_leastBehind_0 23 rfl rfl
theorem dksX1_leastBehind_2 : cX1_leastBehind.data.toList.drop 46 = dktX1_leastBehind_2 := dk_seg dksX1_leastBehind_1 23 rfl rfl
theorem dX1_leastBehind_0 : decode cX1_leastBehind 0 = .ok (.iconst (-1), 1) := dk_2 (dk_at dksX1_leastBehind_0 0 rfl rfl)
theorem dX1_leastBehind_1 : decode cX1_leastBehind 1 = .ok (.istore_n 3, 1) := dk_62 (dk_at dksX1_leastBehind_0 1 rfl rfl)
theorem dX1_leastBehind_2 : decode cX1_leastBehind 2 = .ok (.iconst 1, 1) := dk_4 (dk_at dksX1_leastBehind_0 2 rfl rfl)
theorem dX1_leastBehind_3 : decode cX1_leastBehind 3 = .ok (.istore 4, 2) := dk_54 4 (dk_at dksX1_leastBehind_0 3 rfl rfl)
theorem dX1_leastBehind_5 : decode cX1_leastBehind 5 = .ok (.iload 4, 2) := dk_21 4 (dk_at dksX1_leastBehind_0 5 rfl rfl)
theorem dX1_leastBehind_7 : decode cX1_leastBehind 7 = .ok (.iconst 5, 1) := dk_8 (dk_at dksX1_leastBehind_0 7 rfl rfl)
theorem dX1_leastBehind_8 : decode cX1_leastBehind 8 = .ok (.if_icmp .gt 51, 3) := dk_163 0 51 (dk_at dksX1_leastBehind_0 8 rfl rfl)
theorem dX1_leastBehind_11 : decode cX1_leastBehind 11 = .ok (.aload_n 2, 1) := dk_44 (dk_at dksX1_leastBehind_0 11 rfl rfl)
theorem dX1_leastBehind_12 : decode cX1_leastBehind 12 = .ok (.iload_n 1, 1) := dk_27 (dk_at dksX1_leastBehind_0 12 rfl rfl)
theorem dX1_leastBehind_13 : decode cX1_leastBehind 13 = .ok (.aload_n 0, 1) := dk_42 (dk_at dksX1_leastBehind_0 13 rfl rfl)
theorem dX1_leastBehind_14 : decode cX1_leastBehind 14 = .ok (.getfield 10, 3) := dk_180 0 10 (dk_at dksX1_leastBehind_0 14 rfl rfl)
theorem dX1_leastBehind_17 : decode cX1_leastBehind 17 = .ok (.getfield 151, 3) := dk_180 0 151 (dk_at dksX1_leastBehind_0 17 rfl rfl)
theorem dX1_leastBehind_20 : decode cX1_leastBehind 20 = .ok (.iload 4, 2) := dk_21 4 (dk_at dksX1_leastBehind_0 20 rfl rfl)
theorem dX1_leastBehind_22 : decode cX1_leastBehind 22 = .ok (.iaload, 1) := dk_46 (dk_at dksX1_leastBehind_0 22 rfl rfl)
theorem dX1_leastBehind_23 : decode cX1_leastBehind 23 = .ok (.invokestatic 137, 3) := dk_184 0 137 (dk_at dksX1_leastBehind_1 0 rfl rfl)
theorem dX1_leastBehind_26 : decode cX1_leastBehind 26 = .ok (.iaload, 1) := dk_46 (dk_at dksX1_leastBehind_1 3 rfl rfl)
theorem dX1_leastBehind_27 : decode cX1_leastBehind 27 = .ok (.istore 5, 2) := dk_54 5 (dk_at dksX1_leastBehind_1 4 rfl rfl)
theorem dX1_leastBehind_29 : decode cX1_leastBehind 29 = .ok (.iload 5, 2) := dk_21 5 (dk_at dksX1_leastBehind_1 6 rfl rfl)
theorem dX1_leastBehind_31 : decode cX1_leastBehind 31 = .ok (.iconst (-1), 1) := dk_2 (dk_at dksX1_leastBehind_1 8 rfl rfl)
theorem dX1_leastBehind_32 : decode cX1_leastBehind 32 = .ok (.if_icmp .eq 19, 3) := dk_159 0 19 (dk_at dksX1_leastBehind_1 9 rfl rfl)
theorem dX1_leastBehind_35 : decode cX1_leastBehind 35 = .ok (.iload_n 3, 1) := dk_29 (dk_at dksX1_leastBehind_1 12 rfl rfl)
theorem dX1_leastBehind_36 : decode cX1_leastBehind 36 = .ok (.iconst (-1), 1) := dk_2 (dk_at dksX1_leastBehind_1 13 rfl rfl)
theorem dX1_leastBehind_37 : decode cX1_leastBehind 37 = .ok (.if_icmp .eq 9, 3) := dk_159 0 9 (dk_at dksX1_leastBehind_1 14 rfl rfl)
theorem dX1_leastBehind_40 : decode cX1_leastBehind 40 = .ok (.iload 5, 2) := dk_21 5 (dk_at dksX1_leastBehind_1 17 rfl rfl)
theorem dX1_leastBehind_42 : decode cX1_leastBehind 42 = .ok (.iload_n 3, 1) := dk_29 (dk_at dksX1_leastBehind_1 19 rfl rfl)
theorem dX1_leastBehind_43 : decode cX1_leastBehind 43 = .ok (.if_icmp .ge 8, 3) := dk_162 0 8 (dk_at dksX1_leastBehind_1 20 rfl rfl)
theorem dX1_leastBehind_46 : decode cX1_leastBehind 46 = .ok (.iload 5, 2) := dk_21 5 (dk_at dksX1_leastBehind_2 0 rfl rfl)
theorem dX1_leastBehind_48 : decode cX1_leastBehind 48 = .ok (.goto 4, 3) := dk_167 0 4 (dk_at dksX1_leastBehind_2 2 rfl rfl)
theorem dX1_leastBehind_51 : decode cX1_leastBehind 51 = .ok (.iload_n 3, 1) := dk_29 (dk_at dksX1_leastBehind_2 5 rfl rfl)
theorem dX1_leastBehind_52 : decode cX1_leastBehind 52 = .ok (.istore_n 3, 1) := dk_62 (dk_at dksX1_leastBehind_2 6 rfl rfl)
theorem dX1_leastBehind_53 : decode cX1_leastBehind 53 = .ok (.iinc 4 1, 3) := dk_132 4 1 (dk_at dksX1_leastBehind_2 7 rfl rfl)
theorem dX1_leastBehind_56 : decode cX1_leastBehind 56 = .ok (.goto (-51), 3) := dk_167 255 205 (dk_at dksX1_leastBehind_2 10 rfl rfl)
theorem dX1_leastBehind_59 : decode cX1_leastBehind 59 = .ok (.iload_n 3, 1) := dk_29 (dk_at dksX1_leastBehind_2 13 rfl rfl)
theorem dX1_leastBehind_60 : decode cX1_leastBehind 60 = .ok (.ireturn, 1) := dk_172 (dk_at dksX1_leastBehind_2 14 rfl rfl)
theorem dX1_faultPosition_0 : decode cX1_faultPosition 0 = .ok (.aload_n 0, 1) := by decide +kernel
theorem dX1_faultPosition_1 : decode cX1_faultPosition 1 = .ok (.getfield 33, 3) := by decide +kernel
theorem dX1_faultPosition_4 : decode cX1_faultPosition 4 = .ok (.ireturn, 1) := by decide +kernel
def dkwX1_tellWinds_2 : List UInt8 := [182, 1, 145, 172]
abbrev dktX1_tellWinds_2 : List UInt8 := dkwX1_tellWinds_2 ++ []
def dkwX1_tellWinds_1 : List UInt8 := [180, 0, 151, 27, 46, 184, 1, 198, 182, 1, 151, 87, 132, 1, 1, 167, 255, 228, 42, 180, 0, 30]
abbrev dktX1_tellWinds_1 : List UInt8 := dkwX1_tellWinds_1 ++ dktX1_tellWinds_2
def dkwX1_tellWinds_0 : List UInt8 := [42, 180, 0, 30, 3, 182, 1, 164, 4, 60, 27, 8, 163, 0, 29, 42, 180, 0, 30, 42, 180, 0, 10]
abbrev dktX1_tellWinds_0 : List UInt8 := dkwX1_tellWinds_0 ++ dktX1_tellWinds_1
theorem dksX1_tellWinds_0 : cX1_tellWinds.data.toList.drop 0 = dktX1_tellWinds_0 := by decide +kernel
theorem dksX1_tellWinds_1 : cX1_tellWinds.data.toList.drop 23 = dktX1_tellWinds_1 := dk_seg dksX1_tellWinds_0 23 rfl rfl
theorem dksX1_tellWinds_2 : cX1_tellWinds.data.toList.drop 45 = dktX1_tellWinds_2 := dk_seg dksX1_tellWinds_1 22 rfl rfl
theorem dX1_tellWinds_0 : decode cX1_tellWinds 0 = .ok (.aload_n 0, 1) := dk_42 (dk_at dksX1_tellWinds_0 0 rfl rfl)
theorem dX1_tellWinds_1 : decode cX1_tellWinds 1 = .ok (.getfield 30, 3) := dk_180 0 30 (dk_at dksX1_tellWinds_0 1 rfl rfl)
theorem dX1_tellWinds_4 : decode cX1_tellWinds 4 = .ok (.iconst 0, 1) := dk_3 (dk_at dksX1_tellWinds_0 4 rfl rfl)
theorem dX1_tellWinds_5 : decode cX1_tellWinds 5 = .ok (.invokevirtual 420, 3) := dk_182 1 164 (dk_at dksX1_tellWinds_0 5 rfl rfl)
theorem dX1_tellWinds_8 : decode cX1_tellWinds 8 = .ok (.iconst 1, 1) := dk_4 (dk_at dksX1_tellWinds_0 8 rfl rfl)
theorem dX1_tellWinds_9 : decode cX1_tellWinds 9 = .ok (.istore_n 1, 1) := dk_60 (dk_at dksX1_tellWinds_0 9 rfl rfl)
theorem dX1_tellWinds_10 : decode cX1_tellWinds 10 = .ok (.iload_n 1, 1) := dk_27 (dk_at dksX1_tellWinds_0 10 rfl rfl)
theorem dX1_tellWinds_11 : decode cX1_tellWinds 11 = .ok (.iconst 5, 1) := dk_8 (dk_at dksX1_tellWinds_0 11 rfl rfl)
theorem dX1_tellWinds_12 : decode cX1_tellWinds 12 = .ok (.if_icmp .gt 29, 3) := dk_163 0 29 (dk_at dksX1_tellWinds_0 12 rfl rfl)
theorem dX1_tellWinds_15 : decode cX1_tellWinds 15 = .ok (.aload_n 0, 1) := dk_42 (dk_at dksX1_tellWinds_0 15 rfl rfl)
theorem dX1_tellWinds_16 : decode cX1_tellWinds 16 = .ok (.getfield 30, 3) := dk_180 0 30 (dk_at dksX1_tellWinds_0 16 rfl rfl)
theorem dX1_tellWinds_19 : decode cX1_tellWinds 19 = .ok (.aload_n 0, 1) := dk_42 (dk_at dksX1_tellWinds_0 19 rfl rfl)
theorem dX1_tellWinds_20 : decode cX1_tellWinds 20 = .ok (.getfield 10, 3) := dk_180 0 10 (dk_at dksX1_tellWinds_0 20 rfl rfl)
theorem dX1_tellWinds_23 : decode cX1_tellWinds 23 = .ok (.getfield 151, 3) := dk_180 0 151 (dk_at dksX1_tellWinds_1 0 rfl rfl)
theorem dX1_tellWinds_26 : decode cX1_tellWinds 26 = .ok (.iload_n 1, 1) := dk_27 (dk_at dksX1_tellWinds_1 3 rfl rfl)
theorem dX1_tellWinds_27 : decode cX1_tellWinds 27 = .ok (.iaload, 1) := dk_46 (dk_at dksX1_tellWinds_1 4 rfl rfl)
theorem dX1_tellWinds_28 : decode cX1_tellWinds 28 = .ok (.invokestatic 454, 3) := dk_184 1 198 (dk_at dksX1_tellWinds_1 5 rfl rfl)
theorem dX1_tellWinds_31 : decode cX1_tellWinds 31 = .ok (.invokevirtual 407, 3) := dk_182 1 151 (dk_at dksX1_tellWinds_1 8 rfl rfl)
theorem dX1_tellWinds_34 : decode cX1_tellWinds 34 = .ok (.pop, 1) := dk_87 (dk_at dksX1_tellWinds_1 11 rfl rfl)
theorem dX1_tellWinds_35 : decode cX1_tellWinds 35 = .ok (.iinc 1 1, 3) := dk_132 1 1 (dk_at dksX1_tellWinds_1 12 rfl rfl)
theorem dX1_tellWinds_38 : decode cX1_tellWinds 38 = .ok (.goto (-28), 3) := dk_167 255 228 (dk_at dksX1_tellWinds_1 15 rfl rfl)
theorem dX1_tellWinds_41 : decode cX1_tellWinds 41 = .ok (.aload_n 0, 1) := dk_42 (dk_at dksX1_tellWinds_1 18 rfl rfl)
theorem dX1_tellWinds_42 : decode cX1_tellWinds 42 = .ok (.getfield 30, 3) := dk_180 0 30 (dk_at dksX1_tellWinds_1 19 rfl rfl)
theorem dX1_tellWinds_45 : decode cX1_tellWinds 45 = .ok (.invokevirtual 401, 3) := dk_182 1 145 (dk_at dksX1_tellWinds_2 0 rfl rfl)
theorem dX1_tellWinds_48 : decode cX1_tellWinds 48 = .ok (.ireturn, 1) := dk_172 (dk_at dksX1_tellWinds_2 3 rfl rfl)
def dkwX1_letter_1 : List UInt8 := [160, 0, 8, 16, 115, 167, 0, 15, 26, 7, 160, 0, 8, 16, 119, 167, 0, 5, 16, 45, 172]
abbrev dktX1_letter_1 : List UInt8 := dkwX1_letter_1 ++ []
def dkwX1_letter_0 : List UInt8 := [26, 4, 160, 0, 8, 16, 110, 167, 0, 35, 26, 5, 160, 0, 8, 16, 101, 167, 0, 25, 26, 6]
abbrev dktX1_letter_0 : List UInt8 := dkwX1_letter_0 ++ dktX1_letter_1
theorem dksX1_letter_0 : cX1_letter.data.toList.drop 0 = dktX1_letter_0 := by decide +kernel
theorem dksX1_letter_1 : cX1_letter.data.toList.drop 22 = dktX1_letter_1 := dk_seg dksX1_letter_0 22 rfl rfl
theorem dX1_letter_0 : decode cX1_letter 0 = .ok (.iload_n 0, 1) := dk_26 (dk_at dksX1_letter_0 0 rfl rfl)
theorem dX1_letter_1 : decode cX1_letter 1 = .ok (.iconst 1, 1) := dk_4 (dk_at dksX1_letter_0 1 rfl rfl)
theorem dX1_letter_2 : decode cX1_letter 2 = .ok (.if_icmp .ne 8, 3) := dk_160 0 8 (dk_at dksX1_letter_0 2 rfl rfl)
theorem dX1_letter_5 : decode cX1_letter 5 = .ok (.bipush 110, 2) := dk_16 110 (dk_at dksX1_letter_0 5 rfl rfl)
theorem dX1_letter_7 : decode cX1_letter 7 = .ok (.goto 35, 3) := dk_167 0 35 (dk_at dksX1_letter_0 7 rfl rfl)
theorem dX1_letter_10 : decode cX1_letter 10 = .ok (.iload_n 0, 1) := dk_26 (dk_at dksX1_letter_0 10 rfl rfl)
theorem dX1_letter_11 : decode cX1_letter 11 = .ok (.iconst 2, 1) := dk_5 (dk_at dksX1_letter_0 11 rfl rfl)
theorem dX1_letter_12 : decode cX1_letter 12 = .ok (.if_icmp .ne 8, 3) := dk_160 0 8 (dk_at dksX1_letter_0 12 rfl rfl)
theorem dX1_letter_15 : decode cX1_letter 15 = .ok (.bipush 101, 2) := dk_16 101 (dk_at dksX1_letter_0 15 rfl rfl)
theorem dX1_letter_17 : decode cX1_letter 17 = .ok (.goto 25, 3) := dk_167 0 25 (dk_at dksX1_letter_0 17 rfl rfl)
theorem dX1_letter_20 : decode cX1_letter 20 = .ok (.iload_n 0, 1) := dk_26 (dk_at dksX1_letter_0 20 rfl rfl)
theorem dX1_letter_21 : decode cX1_letter 21 = .ok (.iconst 3, 1) := dk_6 (dk_at dksX1_letter_0 21 rfl rfl)
theorem dX1_letter_22 : decode cX1_letter 22 = .ok (.if_icmp .ne 8, 3) := dk_160 0 8 (dk_at dksX1_letter_1 0 rfl rfl)
theorem dX1_letter_25 : decode cX1_letter 25 = .ok (.bipush 115, 2) := dk_16 115 (dk_at dksX1_letter_1 3 rfl rfl)
theorem dX1_letter_27 : decode cX1_letter 27 = .ok (.goto 15, 3) := dk_167 0 15 (dk_at dksX1_letter_1 5 rfl rfl)
theorem dX1_letter_30 : decode cX1_letter 30 = .ok (.iload_n 0, 1) := dk_26 (dk_at dksX1_letter_1 8 rfl rfl)
theorem dX1_letter_31 : decode cX1_letter 31 = .ok (.iconst 4, 1) := dk_7 (dk_at dksX1_letter_1 9 rfl rfl)
theorem dX1_letter_32 : decode cX1_letter 32 = .ok (.if_icmp .ne 8, 3) := dk_160 0 8 (dk_at dksX1_letter_1 10 rfl rfl)
theorem dX1_letter_35 : decode cX1_letter 35 = .ok (.bipush 119, 2) := dk_16 119 (dk_at dksX1_letter_1 13 rfl rfl)
theorem dX1_letter_37 : decode cX1_letter 37 = .ok (.goto 5, 3) := dk_167 0 5 (dk_at dksX1_letter_1 15 rfl rfl)
theorem dX1_letter_40 : decode cX1_letter 40 = .ok (.bipush 45, 2) := dk_16 45 (dk_at dksX1_letter_1 18 rfl rfl)
theorem dX1_letter_42 : decode cX1_letter 42 = .ok (.ireturn, 1) := dk_172 (dk_at dksX1_letter_1 20 rfl rfl)
def dkwX1_save_0 : List UInt8 := [42, 42, 180, 0, 10, 182, 0, 77, 181, 1, 249, 42, 180, 0, 10, 180, 0, 104, 182, 0, 108, 172]
abbrev dktX1_save_0 : List UInt8 := dkwX1_save_0 ++ []
theorem dksX1_save_0 : cX1_save.data.toList.drop 0 = dktX1_save_0 := by decide +kernel
theorem dX1_save_0 : decode cX1_save 0 = .ok (.aload_n 0, 1) := dk_42 (dk_at dksX1_save_0 0 rfl rfl)
theorem dX1_save_1 : decode cX1_save 1 = .ok (.aload_n 0, 1) := dk_42 (dk_at dksX1_save_0 1 rfl rfl)
theorem dX1_save_2 : decode cX1_save 2 = .ok (.getfield 10, 3) := dk_180 0 10 (dk_at dksX1_save_0 2 rfl rfl)
theorem dX1_save_5 : decode cX1_save 5 = .ok (.invokevirtual 77, 3) := dk_182 0 77 (dk_at dksX1_save_0 5 rfl rfl)
theorem dX1_save_8 : decode cX1_save 8 = .ok (.putfield 505, 3) := dk_181 1 249 (dk_at dksX1_save_0 8 rfl rfl)
theorem dX1_save_11 : decode cX1_save 11 = .ok (.aload_n 0, 1) := dk_42 (dk_at dksX1_save_0 11 rfl rfl)
theorem dX1_save_12 : decode cX1_save 12 = .ok (.getfield 10, 3) := dk_180 0 10 (dk_at dksX1_save_0 12 rfl rfl)
theorem dX1_save_15 : decode cX1_save 15 = .ok (.getfield 104, 3) := dk_180 0 104 (dk_at dksX1_save_0 15 rfl rfl)
theorem dX1_save_18 : decode cX1_save 18 = .ok (.invokevirtual 108, 3) := dk_182 0 108 (dk_at dksX1_save_0 18 rfl rfl)
theorem dX1_save_21 : decode cX1_save 21 = .ok (.ireturn, 1) := dk_172 (dk_at dksX1_save_0 21 rfl rfl)
def dkwX1_enter_4 : List UInt8 := [180, 0, 10, 180, 0, 104, 182, 0, 108, 4, 100, 172]
abbrev dktX1_enter_4 : List UInt8 := dkwX1_enter_4 ++ []
def dkwX1_enter_3 : List UInt8 := [29, 21, 4, 183, 0, 116, 182, 0, 118, 87, 42, 180, 0, 10, 89, 180, 0, 122, 4, 96, 181, 0, 122, 42]
abbrev dktX1_enter_3 : List UInt8 := dkwX1_enter_3 ++ dktX1_enter_4
def dkwX1_enter_2 : List UInt8 := [182, 0, 53, 42, 182, 0, 111, 42, 180, 0, 10, 180, 0, 104, 187, 0, 114, 89, 16, 10, 28, 104, 27, 96]
abbrev dktX1_enter_2 : List UInt8 := dkwX1_enter_2 ++ dktX1_enter_3
def dkwX1_enter_1 : List UInt8 := [42, 180, 0, 10, 180, 0, 104, 182, 0, 108, 16, 6, 160, 0, 7, 4, 167, 0, 4, 3, 4, 16, 6]
abbrev dktX1_enter_1 : List UInt8 := dkwX1_enter_1 ++ dktX1_enter_2
def dkwX1_enter_0 : List UInt8 := [42, 27, 28, 182, 0, 100, 42, 29, 3, 16, 20, 182, 0, 96, 42, 21, 4, 3, 16, 40, 182, 0, 96, 42]
abbrev dktX1_enter_0 : List UInt8 := dkwX1_enter_0 ++ dktX1_enter_1
theorem dksX1_enter_0 : cX1_enter.data.toList.drop 0 = dktX1_enter_0 := by decide +kernel
theorem dksX1_enter_1 : cX1_enter.data.toList.drop 24 = dktX1_enter_1 := dk_seg dksX1_enter_0 24 rfl rfl
theorem dksX1_enter_2 : cX1_enter.data.toList.drop 47 = dktX1_enter_2 := dk_seg dksX1_enter_1 23 rfl rfl
theorem dksX1_enter_3 : cX1_enter.data.toList.drop 71 = dktX1_enter_3 := dk_seg dksX1_enter_2 24 rfl rfl
theorem dksX1_enter_4 : cX1_enter.data.toList.drop 95 = dktX1_enter_4 := dk_seg dksX1_enter_3 24 rfl rfl
theorem dX1_enter_0 : decode cX1_enter 0 = .ok (.aload_n 0, 1) := dk_42 (dk_at dksX1_enter_0 0 rfl rfl)
theorem dX1_enter_1 : decode cX1_enter 1 = .ok (.iload_n 1, 1) := dk_27 (dk_at dksX1_enter_0 1 rfl rfl)
theorem dX1_enter_2 : decode cX1_enter 2 = .ok (.iload_n 2, 1) := dk_28 (dk_at dksX1_enter_0 2 rfl rfl)
theorem dX1_enter_3 : decode cX1_enter 3 = .ok (.invokevirtual 100, 3) := dk_182 0 100 (dk_at dksX1_enter_0 3 rfl rfl)
theorem dX1_enter_6 : decode cX1_enter 6 = .ok (.aload_n 0, 1) := dk_42 (dk_at dksX1_enter_0 6 rfl rfl)
theorem dX1_enter_7 : decode cX1_enter 7 = .ok (.iload_n 3, 1) := dk_29 (dk_at dksX1_enter_0 7 rfl rfl)
theorem dX1_enter_8 : decode cX1_enter 8 = .ok (.iconst 0, 1) := dk_3 (dk_at dksX1_enter_0 8 rfl rfl)
theorem dX1_enter_9 : decode cX1_enter 9 = .ok (.bipush 20, 2) := dk_16 20 (dk_at dksX1_enter_0 9 rfl rfl)
theorem dX1_enter_11 : decode cX1_enter 11 = .ok (.invokevirtual 96, 3) := dk_182 0 96 (dk_at dksX1_enter_0 11 rfl rfl)
theorem dX1_enter_14 : decode cX1_enter 14 = .ok (.aload_n 0, 1) := dk_42 (dk_at dksX1_enter_0 14 rfl rfl)
theorem dX1_enter_15 : decode cX1_enter 15 = .ok (.iload 4, 2) := dk_21 4 (dk_at dksX1_enter_0 15 rfl rfl)
theorem dX1_enter_17 : decode cX1_enter 17 = .ok (.iconst 0, 1) := dk_3 (dk_at dksX1_enter_0 17 rfl rfl)
theorem dX1_enter_18 : decode cX1_enter 18 = .ok (.bipush 40, 2) := dk_16 40 (dk_at dksX1_enter_0 18 rfl rfl)
theorem dX1_enter_20 : decode cX1_enter 20 = .ok (.invokevirtual 96, 3) := dk_182 0 96 (dk_at dksX1_enter_0 20 rfl rfl)
theorem dX1_enter_23 : decode cX1_enter 23 = .ok (.aload_n 0, 1) := dk_42 (dk_at dksX1_enter_0 23 rfl rfl)
theorem dX1_enter_24 : decode cX1_enter 24 = .ok (.aload_n 0, 1) := dk_42 (dk_at dksX1_enter_1 0 rfl rfl)
theorem dX1_enter_25 : decode cX1_enter 25 = .ok (.getfield 10, 3) := dk_180 0 10 (dk_at dksX1_enter_1 1 rfl rfl)
theorem dX1_enter_28 : decode cX1_enter 28 = .ok (.getfield 104, 3) := dk_180 0 104 (dk_at dksX1_enter_1 4 rfl rfl)
theorem dX1_enter_31 : decode cX1_enter 31 = .ok (.invokevirtual 108, 3) := dk_182 0 108 (dk_at dksX1_enter_1 7 rfl rfl)
theorem dX1_enter_34 : decode cX1_enter 34 = .ok (.bipush 6, 2) := dk_16 6 (dk_at dksX1_enter_1 10 rfl rfl)
theorem dX1_enter_36 : decode cX1_enter 36 = .ok (.if_icmp .ne 7, 3) := dk_160 0 7 (dk_at dksX1_enter_1 12 rfl rfl)
theorem dX1_enter_39 : decode cX1_enter 39 = .ok (.iconst 1, 1) := dk_4 (dk_at dksX1_enter_1 15 rfl rfl)
theorem dX1_enter_40 : decode cX1_enter 40 = .ok (.goto 4, 3) := dk_167 0 4 (dk_at dksX1_enter_1 16 rfl rfl)
theorem dX1_enter_43 : decode cX1_enter 43 = .ok (.iconst 0, 1) := dk_3 (dk_at dksX1_enter_1 19 rfl rfl)
theorem dX1_enter_44 : decode cX1_enter 44 = .ok (.iconst 1, 1) := dk_4 (dk_at dksX1_enter_1 20 rfl rfl)
theorem dX1_enter_45 : decode cX1_enter 45 = .ok (.bipush 6, 2) := dk_16 6 (dk_at dksX1_enter_1 21 rfl rfl)
theorem dX1_enter_47 : decode cX1_enter 47 = .ok (.invokevirtual 53, 3) := dk_182 0 53 (dk_at dksX1_enter_2 0 rfl rfl)
theorem dX1_enter_50 : decode cX1_enter 50 = .ok (.aload_n 0, 1) := dk_42 (dk_at dksX1_enter_2 3 rfl rfl)
theorem dX1_enter_51 : decode cX1_enter 51 = .ok (.invokevirtual 111, 3) := dk_182 0 111 (dk_at dksX1_enter_2 4 rfl rfl)
theorem dX1_enter_54 : decode cX1_enter 54 = .ok (.aload_n 0, 1) := dk_42 (dk_at dksX1_enter_2 7 rfl rfl)
theorem dX1_enter_55 : decode cX1_enter 55 = .ok (.getfield 10, 3) := dk_180 0 10 (dk_at dksX1_enter_2 8 rfl rfl)
theorem dX1_enter_58 : decode cX1_enter 58 = .ok (.getfield 104, 3) := dk_180 0 104 (dk_at dksX1_enter_2 11 rfl rfl)
theorem dX1_enter_61 : decode cX1_enter 61 = .ok (.new 114, 3) := dk_187 0 114 (dk_at dksX1_enter_2 14 rfl rfl)
theorem dX1_enter_64 : decode cX1_enter 64 = .ok (.dup, 1) := dk_89 (dk_at dksX1_enter_2 17 rfl rfl)
theorem dX1_enter_65 : decode cX1_enter 65 = .ok (.bipush 10, 2) := dk_16 10 (dk_at dksX1_enter_2 18 rfl rfl)
theorem dX1_enter_67 : decode cX1_enter 67 = .ok (.iload_n 2, 1) := dk_28 (dk_at dksX1_enter_2 20 rfl rfl)
theorem dX1_enter_68 : decode cX1_enter 68 = .ok (.imul, 1) := dk_104 (dk_at dksX1_enter_2 21 rfl rfl)
theorem dX1_enter_69 : decode cX1_enter 69 = .ok (.iload_n 1, 1) := dk_27 (dk_at dksX1_enter_2 22 rfl rfl)
theorem dX1_enter_70 : decode cX1_enter 70 = .ok (.iadd, 1) := dk_96 (dk_at dksX1_enter_2 23 rfl rfl)
theorem dX1_enter_71 : decode cX1_enter 71 = .ok (.iload_n 3, 1) := dk_29 (dk_at dksX1_enter_3 0 rfl rfl)
theorem dX1_enter_72 : decode cX1_enter 72 = .ok (.iload 4, 2) := dk_21 4 (dk_at dksX1_enter_3 1 rfl rfl)
theorem dX1_enter_74 : decode cX1_enter 74 = .ok (.invokespecial 116, 3) := dk_183 0 116 (dk_at dksX1_enter_3 3 rfl rfl)
theorem dX1_enter_77 : decode cX1_enter 77 = .ok (.invokevirtual 118, 3) := dk_182 0 118 (dk_at dksX1_enter_3 6 rfl rfl)
theorem dX1_enter_80 : decode cX1_enter 80 = .ok (.pop, 1) := dk_87 (dk_at dksX1_enter_3 9 rfl rfl)
theorem dX1_enter_81 : decode cX1_enter 81 = .ok (.aload_n 0, 1) := dk_42 (dk_at dksX1_enter_3 10 rfl rfl)
theorem dX1_enter_82 : decode cX1_enter 82 = .ok (.getfield 10, 3) := dk_180 0 10 (dk_at dksX1_enter_3 11 rfl rfl)
theorem dX1_enter_85 : decode cX1_enter 85 = .ok (.dup, 1) := dk_89 (dk_at dksX1_enter_3 14 rfl rfl)
theorem dX1_enter_86 : decode cX1_enter 86 = .ok (.getfield 122, 3) := dk_180 0 122 (dk_at dksX1_enter_3 15 rfl rfl)
theorem dX1_enter_89 : decode cX1_enter 89 = .ok (.iconst 1, 1) := dk_4 (dk_at dksX1_enter_3 18 rfl rfl)
theorem dX1_enter_90 : decode cX1_enter 90 = .ok (.iadd, 1) := dk_96 (dk_at dksX1_enter_3 19 rfl rfl)
theorem dX1_enter_91 : decode cX1_enter 91 = .ok (.putfield 122, 3) := dk_181 0 122 (dk_at dksX1_enter_3 20 rfl rfl)
theorem dX1_enter_94 : decode cX1_enter 94 = .ok (.aload_n 0, 1) := dk_42 (dk_at dksX1_enter_3 23 rfl rfl)
theorem dX1_enter_95 : decode cX1_enter 95 = .ok (.getfield 10, 3) := dk_180 0 10 (dk_at dksX1_enter_4 0 rfl rfl)
theorem dX1_enter_98 : decode cX1_enter 98 = .ok (.getfield 104, 3) := dk_180 0 104 (dk_at dksX1_enter_4 3 rfl rfl)
theorem dX1_enter_101 : decode cX1_enter 101 = .ok (.invokevirtual 108, 3) := dk_182 0 108 (dk_at dksX1_enter_4 6 rfl rfl)
theorem dX1_enter_104 : decode cX1_enter 104 = .ok (.iconst 1, 1) := dk_4 (dk_at dksX1_enter_4 9 rfl rfl)
theorem dX1_enter_105 : decode cX1_enter 105 = .ok (.isub, 1) := dk_100 (dk_at dksX1_enter_4 10 rfl rfl)
theorem dX1_enter_106 : decode cX1_enter 106 = .ok (.ireturn, 1) := dk_172 (dk_at dksX1_enter_4 11 rfl rfl)
def dkwX1_mustBeOn_0 : List UInt8 := [42, 27, 3, 16, 9, 182, 0, 96, 42, 28, 3, 16, 9, 182, 0, 96, 177]
abbrev dktX1_mustBeOn_0 : List UInt8 := dkwX1_mustBeOn_0 ++ []
theorem dksX1_mustBeOn_0 : cX1_mustBeOn.data.toList.drop 0 = dktX1_mustBeOn_0 := by decide +kernel
theorem dX1_mustBeOn_0 : decode cX1_mustBeOn 0 = .ok (.aload_n 0, 1) := dk_42 (dk_at dksX1_mustBeOn_0 0 rfl rfl)
theorem dX1_mustBeOn_1 : decode cX1_mustBeOn 1 = .ok (.iload_n 1, 1) := dk_27 (dk_at dksX1_mustBeOn_0 1 rfl rfl)
theorem dX1_mustBeOn_2 : decode cX1_mustBeOn 2 = .ok (.iconst 0, 1) := dk_3 (dk_at dksX1_mustBeOn_0 2 rfl rfl)
theorem dX1_mustBeOn_3 : decode cX1_mustBeOn 3 = .ok (.bipush 9, 2) := dk_16 9 (dk_at dksX1_mustBeOn_0 3 rfl rfl)
theorem dX1_mustBeOn_5 : decode cX1_mustBeOn 5 = .ok (.invokevirtual 96, 3) := dk_182 0 96 (dk_at dksX1_mustBeOn_0 5 rfl rfl)
theorem dX1_mustBeOn_8 : decode cX1_mustBeOn 8 = .ok (.aload_n 0, 1) := dk_42 (dk_at dksX1_mustBeOn_0 8 rfl rfl)
theorem dX1_mustBeOn_9 : decode cX1_mustBeOn 9 = .ok (.iload_n 2, 1) := dk_28 (dk_at dksX1_mustBeOn_0 9 rfl rfl)
theorem dX1_mustBeOn_10 : decode cX1_mustBeOn 10 = .ok (.iconst 0, 1) := dk_3 (dk_at dksX1_mustBeOn_0 10 rfl rfl)
theorem dX1_mustBeOn_11 : decode cX1_mustBeOn 11 = .ok (.bipush 9, 2) := dk_16 9 (dk_at dksX1_mustBeOn_0 11 rfl rfl)
theorem dX1_mustBeOn_13 : decode cX1_mustBeOn 13 = .ok (.invokevirtual 96, 3) := dk_182 0 96 (dk_at dksX1_mustBeOn_0 13 rfl rfl)
theorem dX1_mustBeOn_16 : decode cX1_mustBeOn 16 = .ok (.return_, 1) := dk_177 (dk_at dksX1_mustBeOn_0 16 rfl rfl)
def dkwX1_inRange_0 : List UInt8 := [42, 27, 28, 29, 184, 0, 49, 154, 0, 7, 4, 167, 0, 4, 3, 7, 27, 182, 0, 53, 177]
abbrev dktX1_inRange_0 : List UInt8 := dkwX1_inRange_0 ++ []
theorem dksX1_inRange_0 : cX1_inRange.data.toList.drop 0 = dktX1_inRange_0 := by decide +kernel
theorem dX1_inRange_0 : decode cX1_inRange 0 = .ok (.aload_n 0, 1) := dk_42 (dk_at dksX1_inRange_0 0 rfl rfl)
theorem dX1_inRange_1 : decode cX1_inRange 1 = .ok (.iload_n 1, 1) := dk_27 (dk_at dksX1_inRange_0 1 rfl rfl)
theorem dX1_inRange_2 : decode cX1_inRange 2 = .ok (.iload_n 2, 1) := dk_28 (dk_at dksX1_inRange_0 2 rfl rfl)
theorem dX1_inRange_3 : decode cX1_inRange 3 = .ok (.iload_n 3, 1) := dk_29 (dk_at dksX1_inRange_0 3 rfl rfl)
theorem dX1_inRange_4 : decode cX1_inRange 4 = .ok (.invokestatic 49, 3) := dk_184 0 49 (dk_at dksX1_inRange_0 4 rfl rfl)
theorem dX1_inRange_7 : decode cX1_inRange 7 = .ok (.ifCond .ne 7, 3) := dk_154 0 7 (dk_at dksX1_inRange_0 7 rfl rfl)
theorem dX1_inRange_10 : decode cX1_inRange 10 = .ok (.iconst 1, 1) := dk_4 (dk_at dksX1_inRange_0 10 rfl rfl)
theorem dX1_inRange_11 : decode cX1_inRange 11 = .ok (.goto 4, 3) := dk_167 0 4 (dk_at dksX1_inRange_0 11 rfl rfl)
theorem dX1_inRange_14 : decode cX1_inRange 14 = .ok (.iconst 0, 1) := dk_3 (dk_at dksX1_inRange_0 14 rfl rfl)
theorem dX1_inRange_15 : decode cX1_inRange 15 = .ok (.iconst 4, 1) := dk_7 (dk_at dksX1_inRange_0 15 rfl rfl)
theorem dX1_inRange_16 : decode cX1_inRange 16 = .ok (.iload_n 1, 1) := dk_27 (dk_at dksX1_inRange_0 16 rfl rfl)
theorem dX1_inRange_17 : decode cX1_inRange 17 = .ok (.invokevirtual 53, 3) := dk_182 0 53 (dk_at dksX1_inRange_0 17 rfl rfl)
theorem dX1_inRange_20 : decode cX1_inRange 20 = .ok (.return_, 1) := dk_177 (dk_at dksX1_inRange_0 20 rfl rfl)
def dkwX1_refuse_1 : List UInt8 := [183, 0, 48, 191, 177]
abbrev dktX1_refuse_1 : List UInt8 := dkwX1_refuse_1 ++ []
def dkwX1_refuse_0 : List UInt8 := [27, 153, 0, 25, 42, 187, 0, 37, 89, 28, 29, 1, 183, 0, 39, 181, 0, 42, 187, 0, 46, 89]
abbrev dktX1_refuse_0 : List UInt8 := dkwX1_refuse_0 ++ dktX1_refuse_1
theorem dksX1_refuse_0 : cX1_refuse.data.toList.drop 0 = dktX1_refuse_0 := by decide +kernel
theorem dksX1_refuse_1 : cX1_refuse.data.toList.drop 22 = dktX1_refuse_1 := dk_seg dksX1_refuse_0 22 rfl rfl
theorem dX1_refuse_0 : decode cX1_refuse 0 = .ok (.iload_n 1, 1) := dk_27 (dk_at dksX1_refuse_0 0 rfl rfl)
theorem dX1_refuse_1 : decode cX1_refuse 1 = .ok (.ifCond .eq 25, 3) := dk_153 0 25 (dk_at dksX1_refuse_0 1 rfl rfl)
theorem dX1_refuse_4 : decode cX1_refuse 4 = .ok (.aload_n 0, 1) := dk_42 (dk_at dksX1_refuse_0 4 rfl rfl)
theorem dX1_refuse_5 : decode cX1_refuse 5 = .ok (.new 37, 3) := dk_187 0 37 (dk_at dksX1_refuse_0 5 rfl rfl)
theorem dX1_refuse_8 : decode cX1_refuse 8 = .ok (.dup, 1) := dk_89 (dk_at dksX1_refuse_0 8 rfl rfl)
theorem dX1_refuse_9 : decode cX1_refuse 9 = .ok (.iload_n 2, 1) := dk_28 (dk_at dksX1_refuse_0 9 rfl rfl)
theorem dX1_refuse_10 : decode cX1_refuse 10 = .ok (.iload_n 3, 1) := dk_29 (dk_at dksX1_refuse_0 10 rfl rfl)
theorem dX1_refuse_11 : decode cX1_refuse 11 = .ok (.aconst_null, 1) := dk_1 (dk_at dksX1_refuse_0 11 rfl rfl)
theorem dX1_refuse_12 : decode cX1_refuse 12 = .ok (.invokespecial 39, 3) := dk_183 0 39 (dk_at dksX1_refuse_0 12 rfl rfl)
theorem dX1_refuse_15 : decode cX1_refuse 15 = .ok (.putfield 42, 3) := dk_181 0 42 (dk_at dksX1_refuse_0 15 rfl rfl)
theorem dX1_refuse_18 : decode cX1_refuse 18 = .ok (.new 46, 3) := dk_187 0 46 (dk_at dksX1_refuse_0 18 rfl rfl)
theorem dX1_refuse_21 : decode cX1_refuse 21 = .ok (.dup, 1) := dk_89 (dk_at dksX1_refuse_0 21 rfl rfl)
theorem dX1_refuse_22 : decode cX1_refuse 22 = .ok (.invokespecial 48, 3) := dk_183 0 48 (dk_at dksX1_refuse_1 0 rfl rfl)
theorem dX1_refuse_25 : decode cX1_refuse 25 = .ok (.athrow, 1) := dk_191 (dk_at dksX1_refuse_1 3 rfl rfl)
theorem dX1_refuse_26 : decode cX1_refuse 26 = .ok (.return_, 1) := dk_177 (dk_at dksX1_refuse_1 4 rfl rfl)
def dkwX1_change_1 : List UInt8 := [180, 0, 19, 182, 0, 85, 16, 8, 164, 0, 11, 42, 180, 0, 19, 182, 0, 89, 87, 177]
abbrev dktX1_change_1 : List UInt8 := dkwX1_change_1 ++ []
def dkwX1_change_0 : List UInt8 := [42, 180, 0, 73, 153, 0, 4, 177, 42, 180, 0, 19, 42, 180, 0, 10, 182, 0, 77, 182, 0, 81, 42]
abbrev dktX1_change_0 : List UInt8 := dkwX1_change_0 ++ dktX1_change_1
theorem dksX1_change_0 : cX1_change.data.toList.drop 0 = dktX1_change_0 := by decide +kernel
theorem dksX1_change_1 : cX1_change.data.toList.drop 23 = dktX1_change_1 := dk_seg dksX1_change_0 23 rfl rfl
theorem dX1_change_0 : decode cX1_change 0 = .ok (.aload_n 0, 1) := dk_42 (dk_at dksX1_change_0 0 rfl rfl)
theorem dX1_change_1 : decode cX1_change 1 = .ok (.getfield 73, 3) := dk_180 0 73 (dk_at dksX1_change_0 1 rfl rfl)
theorem dX1_change_4 : decode cX1_change 4 = .ok (.ifCond .eq 4, 3) := dk_153 0 4 (dk_at dksX1_change_0 4 rfl rfl)
theorem dX1_change_7 : decode cX1_change 7 = .ok (.return_, 1) := dk_177 (dk_at dksX1_change_0 7 rfl rfl)
theorem dX1_change_8 : decode cX1_change 8 = .ok (.aload_n 0, 1) := dk_42 (dk_at dksX1_change_0 8 rfl rfl)
theorem dX1_change_9 : decode cX1_change 9 = .ok (.getfield 19, 3) := dk_180 0 19 (dk_at dksX1_change_0 9 rfl rfl)
theorem dX1_change_12 : decode cX1_change 12 = .ok (.aload_n 0, 1) := dk_42 (dk_at dksX1_change_0 12 rfl rfl)
theorem dX1_change_13 : decode cX1_change 13 = .ok (.getfield 10, 3) := dk_180 0 10 (dk_at dksX1_change_0 13 rfl rfl)
theorem dX1_change_16 : decode cX1_change 16 = .ok (.invokevirtual 77, 3) := dk_182 0 77 (dk_at dksX1_change_0 16 rfl rfl)
theorem dX1_change_19 : decode cX1_change 19 = .ok (.invokevirtual 81, 3) := dk_182 0 81 (dk_at dksX1_change_0 19 rfl rfl)
theorem dX1_change_22 : decode cX1_change 22 = .ok (.aload_n 0, 1) := dk_42 (dk_at dksX1_change_0 22 rfl rfl)
theorem dX1_change_23 : decode cX1_change 23 = .ok (.getfield 19, 3) := dk_180 0 19 (dk_at dksX1_change_1 0 rfl rfl)
theorem dX1_change_26 : decode cX1_change 26 = .ok (.invokevirtual 85, 3) := dk_182 0 85 (dk_at dksX1_change_1 3 rfl rfl)
theorem dX1_change_29 : decode cX1_change 29 = .ok (.bipush 8, 2) := dk_16 8 (dk_at dksX1_change_1 6 rfl rfl)
theorem dX1_change_31 : decode cX1_change 31 = .ok (.if_icmp .le 11, 3) := dk_164 0 11 (dk_at dksX1_change_1 8 rfl rfl)
theorem dX1_change_34 : decode cX1_change 34 = .ok (.aload_n 0, 1) := dk_42 (dk_at dksX1_change_1 11 rfl rfl)
theorem dX1_change_35 : decode cX1_change 35 = .ok (.getfield 19, 3) := dk_180 0 19 (dk_at dksX1_change_1 12 rfl rfl)
theorem dX1_change_38 : decode cX1_change 38 = .ok (.invokevirtual 89, 3) := dk_182 0 89 (dk_at dksX1_change_1 15 rfl rfl)
theorem dX1_change_41 : decode cX1_change 41 = .ok (.pop, 1) := dk_87 (dk_at dksX1_change_1 18 rfl rfl)
theorem dX1_change_42 : decode cX1_change 42 = .ok (.return_, 1) := dk_177 (dk_at dksX1_change_1 19 rfl rfl)
def dkwX1_spire_5 : List UInt8 := [87, 42, 180, 0, 10, 180, 0, 125, 182, 0, 108, 4, 100, 172]
abbrev dktX1_spire_5 : List UInt8 := dkwX1_spire_5 ++ []
def dkwX1_spire_4 : List UInt8 := [42, 182, 0, 111, 42, 180, 0, 10, 180, 0, 125, 187, 0, 132, 89, 21, 4, 29, 183, 0, 145, 182, 0, 118]
abbrev dktX1_spire_4 : List UInt8 := dkwX1_spire_4 ++ dktX1_spire_5
def dkwX1_spire_3 : List UInt8 := [42, 180, 0, 10, 180, 0, 125, 182, 0, 108, 8, 160, 0, 7, 4, 167, 0, 4, 3, 4, 8, 182, 0, 53]
abbrev dktX1_spire_3 : List UInt8 := dkwX1_spire_3 ++ dktX1_spire_4
def dkwX1_spire_2 : List UInt8 := [182, 0, 141, 54, 5, 42, 21, 5, 2, 159, 0, 7, 4, 167, 0, 4, 3, 5, 21, 5, 182, 0, 53, 42]
abbrev dktX1_spire_2 : List UInt8 := dkwX1_spire_2 ++ dktX1_spire_3
def dkwX1_spire_1 : List UInt8 := [29, 184, 0, 137, 21, 4, 160, 0, 7, 4, 167, 0, 4, 3, 7, 29, 182, 0, 53, 42, 21, 4]
abbrev dktX1_spire_1 : List UInt8 := dkwX1_spire_1 ++ dktX1_spire_2
def dkwX1_spire_0 : List UInt8 := [42, 27, 28, 182, 0, 100, 42, 29, 4, 7, 182, 0, 96, 16, 10, 28, 104, 27, 96, 54, 4, 42, 21, 4]
abbrev dktX1_spire_0 : List UInt8 := dkwX1_spire_0 ++ dktX1_spire_1
theorem dksX1_spire_0 : cX1_spire.data.toList.drop 0 = dktX1_spire_0 := by decide +kernel
theorem dksX1_spire_1 : cX1_spire.data.toList.drop 24 = dktX1_spire_1 := dk_seg dksX1_spire_0 24 rfl rfl
theorem dksX1_spire_2 : cX1_spire.data.toList.drop 46 = dktX1_spire_2 := dk_seg dksX1_spire_1 22 rfl rfl
theorem dksX1_spire_3 : cX1_spire.data.toList.drop 70 = dktX1_spire_3 := dk_seg dksX1_spire_2 24 rfl rfl
theorem dksX1_spire_4 : cX1_spire.data.toList.drop 94 = dktX1_spire_4 := dk_seg dksX1_spire_3 24 rfl rfl
theorem dksX1_spire_5 : cX1_spire.data.toList.drop 118 = dktX1_spire_5 := dk_seg dksX1_spire_4 24 rfl rfl
theorem dX1_spire_0 : decode cX1_spire 0 = .ok (.aload_n 0, 1) := dk_42 (dk_at dksX1_spire_0 0 rfl rfl)
theorem dX1_spire_1 : decode cX1_spire 1 = .ok (.iload_n 1, 1) := dk_27 (dk_at dksX1_spire_0 1 rfl rfl)
theorem dX1_spire_2 : decode cX1_spire 2 = .ok (.iload_n 2, 1) := dk_28 (dk_at dksX1_spire_0 2 rfl rfl)
theorem dX1_spire_3 : decode cX1_spire 3 = .ok (.invokevirtual 100, 3) := dk_182 0 100 (dk_at dksX1_spire_0 3 rfl rfl)
theorem dX1_spire_6 : decode cX1_spire 6 = .ok (.aload_n 0, 1) := dk_42 (dk_at dksX1_spire_0 6 rfl rfl)
theorem dX1_spire_7 : decode cX1_spire 7 = .ok (.iload_n 3, 1) := dk_29 (dk_at dksX1_spire_0 7 rfl rfl)
theorem dX1_spire_8 : decode cX1_spire 8 = .ok (.iconst 1, 1) := dk_4 (dk_at dksX1_spire_0 8 rfl rfl)
theorem dX1_spire_9 : decode cX1_spire 9 = .ok (.iconst 4, 1) := dk_7 (dk_at dksX1_spire_0 9 rfl rfl)
theorem dX1_spire_10 : decode cX1_spire 10 = .ok (.invokevirtual 96, 3) := dk_182 0 96 (dk_at dksX1_spire_0 10 rfl rfl)
theorem dX1_spire_13 : decode cX1_spire 13 = .ok (.bipush 10, 2) := dk_16 10 (dk_at dksX1_spire_0 13 rfl rfl)
theorem dX1_spire_15 : decode cX1_spire 15 = .ok (.iload_n 2, 1) := dk_28 (dk_at dksX1_spire_0 15 rfl rfl)
theorem dX1_spire_16 : decode cX1_spire 16 = .ok (.imul, 1) := dk_104 (dk_at dksX1_spire_0 16 rfl rfl)
theorem dX1_spire_17 : decode cX1_spire 17 = .ok (.iload_n 1, 1) := dk_27 (dk_at dksX1_spire_0 17 rfl rfl)
theorem dX1_spire_18 : decode cX1_spire 18 = .ok (.iadd, 1) := dk_96 (dk_at dksX1_spire_0 18 rfl rfl)
theorem dX1_spire_19 : decode cX1_spire 19 = .ok (.istore 4, 2) := dk_54 4 (dk_at dksX1_spire_0 19 rfl rfl)
theorem dX1_spire_21 : decode cX1_spire 21 = .ok (.aload_n 0, 1) := dk_42 (dk_at dksX1_spire_0 21 rfl rfl)
theorem dX1_spire_22 : decode cX1_spire 22 = .ok (.iload 4, 2) := dk_21 4 (dk_at dksX1_spire_0 22 rfl rfl)
theorem dX1_spire_24 : decode cX1_spire 24 = .ok (.iload_n 3, 1) := dk_29 (dk_at dksX1_spire_1 0 rfl rfl)
theorem dX1_spire_25 : decode cX1_spire 25 = .ok (.invokestatic 137, 3) := dk_184 0 137 (dk_at dksX1_spire_1 1 rfl rfl)
theorem dX1_spire_28 : decode cX1_spire 28 = .ok (.iload 4, 2) := dk_21 4 (dk_at dksX1_spire_1 4 rfl rfl)
theorem dX1_spire_30 : decode cX1_spire 30 = .ok (.if_icmp .ne 7, 3) := dk_160 0 7 (dk_at dksX1_spire_1 6 rfl rfl)
theorem dX1_spire_33 : decode cX1_spire 33 = .ok (.iconst 1, 1) := dk_4 (dk_at dksX1_spire_1 9 rfl rfl)
theorem dX1_spire_34 : decode cX1_spire 34 = .ok (.goto 4, 3) := dk_167 0 4 (dk_at dksX1_spire_1 10 rfl rfl)
theorem dX1_spire_37 : decode cX1_spire 37 = .ok (.iconst 0, 1) := dk_3 (dk_at dksX1_spire_1 13 rfl rfl)
theorem dX1_spire_38 : decode cX1_spire 38 = .ok (.iconst 4, 1) := dk_7 (dk_at dksX1_spire_1 14 rfl rfl)
theorem dX1_spire_39 : decode cX1_spire 39 = .ok (.iload_n 3, 1) := dk_29 (dk_at dksX1_spire_1 15 rfl rfl)
theorem dX1_spire_40 : decode cX1_spire 40 = .ok (.invokevirtual 53, 3) := dk_182 0 53 (dk_at dksX1_spire_1 16 rfl rfl)
theorem dX1_spire_43 : decode cX1_spire 43 = .ok (.aload_n 0, 1) := dk_42 (dk_at dksX1_spire_1 19 rfl rfl)
theorem dX1_spire_44 : decode cX1_spire 44 = .ok (.iload 4, 2) := dk_21 4 (dk_at dksX1_spire_1 20 rfl rfl)
theorem dX1_spire_46 : decode cX1_spire 46 = .ok (.invokevirtual 141, 3) := dk_182 0 141 (dk_at dksX1_spire_2 0 rfl rfl)
theorem dX1_spire_49 : decode cX1_spire 49 = .ok (.istore 5, 2) := dk_54 5 (dk_at dksX1_spire_2 3 rfl rfl)
theorem dX1_spire_51 : decode cX1_spire 51 = .ok (.aload_n 0, 1) := dk_42 (dk_at dksX1_spire_2 5 rfl rfl)
theorem dX1_spire_52 : decode cX1_spire 52 = .ok (.iload 5, 2) := dk_21 5 (dk_at dksX1_spire_2 6 rfl rfl)
theorem dX1_spire_54 : decode cX1_spire 54 = .ok (.iconst (-1), 1) := dk_2 (dk_at dksX1_spire_2 8 rfl rfl)
theorem dX1_spire_55 : decode cX1_spire 55 = .ok (.if_icmp .eq 7, 3) := dk_159 0 7 (dk_at dksX1_spire_2 9 rfl rfl)
theorem dX1_spire_58 : decode cX1_spire 58 = .ok (.iconst 1, 1) := dk_4 (dk_at dksX1_spire_2 12 rfl rfl)
theorem dX1_spire_59 : decode cX1_spire 59 = .ok (.goto 4, 3) := dk_167 0 4 (dk_at dksX1_spire_2 13 rfl rfl)
theorem dX1_spire_62 : decode cX1_spire 62 = .ok (.iconst 0, 1) := dk_3 (dk_at dksX1_spire_2 16 rfl rfl)
theorem dX1_spire_63 : decode cX1_spire 63 = .ok (.iconst 2, 1) := dk_5 (dk_at dksX1_spire_2 17 rfl rfl)
theorem dX1_spire_64 : decode cX1_spire 64 = .ok (.iload 5, 2) := dk_21 5 (dk_at dksX1_spire_2 18 rfl rfl)
theorem dX1_spire_66 : decode cX1_spire 66 = .ok (.invokevirtual 53, 3) := dk_182 0 53 (dk_at dksX1_spire_2 20 rfl rfl)
theorem dX1_spire_69 : decode cX1_spire 69 = .ok (.aload_n 0, 1) := dk_42 (dk_at dksX1_spire_2 23 rfl rfl)
theorem dX1_spire_70 : decode cX1_spire 70 = .ok (.aload_n 0, 1) := dk_42 (dk_at dksX1_spire_3 0 rfl rfl)
theorem dX1_spire_71 : decode cX1_spire 71 = .ok (.getfield 10, 3) := dk_180 0 10 (dk_at dksX1_spire_3 1 rfl rfl)
theorem dX1_spire_74 : decode cX1_spire 74 = .ok (.getfield 125, 3) := dk_180 0 125 (dk_at dksX1_spire_3 4 rfl rfl)
theorem dX1_spire_77 : decode cX1_spire 77 = .ok (.invokevirtual 108, 3) := dk_182 0 108 (dk_at dksX1_spire_3 7 rfl rfl)
theorem dX1_spire_80 : decode cX1_spire 80 = .ok (.iconst 5, 1) := dk_8 (dk_at dksX1_spire_3 10 rfl rfl)
theorem dX1_spire_81 : decode cX1_spire 81 = .ok (.if_icmp .ne 7, 3) := dk_160 0 7 (dk_at dksX1_spire_3 11 rfl rfl)
theorem dX1_spire_84 : decode cX1_spire 84 = .ok (.iconst 1, 1) := dk_4 (dk_at dksX1_spire_3 14 rfl rfl)
theorem dX1_spire_85 : decode cX1_spire 85 = .ok (.goto 4, 3) := dk_167 0 4 (dk_at dksX1_spire_3 15 rfl rfl)
theorem dX1_spire_88 : decode cX1_spire 88 = .ok (.iconst 0, 1) := dk_3 (dk_at dksX1_spire_3 18 rfl rfl)
theorem dX1_spire_89 : decode cX1_spire 89 = .ok (.iconst 1, 1) := dk_4 (dk_at dksX1_spire_3 19 rfl rfl)
theorem dX1_spire_90 : decode cX1_spire 90 = .ok (.iconst 5, 1) := dk_8 (dk_at dksX1_spire_3 20 rfl rfl)
theorem dX1_spire_91 : decode cX1_spire 91 = .ok (.invokevirtual 53, 3) := dk_182 0 53 (dk_at dksX1_spire_3 21 rfl rfl)
theorem dX1_spire_94 : decode cX1_spire 94 = .ok (.aload_n 0, 1) := dk_42 (dk_at dksX1_spire_4 0 rfl rfl)
theorem dX1_spire_95 : decode cX1_spire 95 = .ok (.invokevirtual 111, 3) := dk_182 0 111 (dk_at dksX1_spire_4 1 rfl rfl)
theorem dX1_spire_98 : decode cX1_spire 98 = .ok (.aload_n 0, 1) := dk_42 (dk_at dksX1_spire_4 4 rfl rfl)
theorem dX1_spire_99 : decode cX1_spire 99 = .ok (.getfield 10, 3) := dk_180 0 10 (dk_at dksX1_spire_4 5 rfl rfl)
theorem dX1_spire_102 : decode cX1_spire 102 = .ok (.getfield 125, 3) := dk_180 0 125 (dk_at dksX1_spire_4 8 rfl rfl)
theorem dX1_spire_105 : decode cX1_spire 105 = .ok (.new 132, 3) := dk_187 0 132 (dk_at dksX1_spire_4 11 rfl rfl)
theorem dX1_spire_108 : decode cX1_spire 108 = .ok (.dup, 1) := dk_89 (dk_at dksX1_spire_4 14 rfl rfl)
theorem dX1_spire_109 : decode cX1_spire 109 = .ok (.iload 4, 2) := dk_21 4 (dk_at dksX1_spire_4 15 rfl rfl)
theorem dX1_spire_111 : decode cX1_spire 111 = .ok (.iload_n 3, 1) := dk_29 (dk_at dksX1_spire_4 17 rfl rfl)
theorem dX1_spire_112 : decode cX1_spire 112 = .ok (.invokespecial 145, 3) := dk_183 0 145 (dk_at dksX1_spire_4 18 rfl rfl)
theorem dX1_spire_115 : decode cX1_spire 115 = .ok (.invokevirtual 118, 3) := dk_182 0 118 (dk_at dksX1_spire_4 21 rfl rfl)
theorem dX1_spire_118 : decode cX1_spire 118 = .ok (.pop, 1) := dk_87 (dk_at dksX1_spire_5 0 rfl rfl)
theorem dX1_spire_119 : decode cX1_spire 119 = .ok (.aload_n 0, 1) := dk_42 (dk_at dksX1_spire_5 1 rfl rfl)
theorem dX1_spire_120 : decode cX1_spire 120 = .ok (.getfield 10, 3) := dk_180 0 10 (dk_at dksX1_spire_5 2 rfl rfl)
theorem dX1_spire_123 : decode cX1_spire 123 = .ok (.getfield 125, 3) := dk_180 0 125 (dk_at dksX1_spire_5 5 rfl rfl)
theorem dX1_spire_126 : decode cX1_spire 126 = .ok (.invokevirtual 108, 3) := dk_182 0 108 (dk_at dksX1_spire_5 8 rfl rfl)
theorem dX1_spire_129 : decode cX1_spire 129 = .ok (.iconst 1, 1) := dk_4 (dk_at dksX1_spire_5 11 rfl rfl)
theorem dX1_spire_130 : decode cX1_spire 130 = .ok (.isub, 1) := dk_100 (dk_at dksX1_spire_5 12 rfl rfl)
theorem dX1_spire_131 : decode cX1_spire 131 = .ok (.ireturn, 1) := dk_172 (dk_at dksX1_spire_5 13 rfl rfl)
def dkwX1_spireAt_1 : List UInt8 := [182, 0, 128, 192, 0, 132, 180, 0, 134, 27, 160, 0, 5, 28, 172, 132, 2, 1, 167, 255, 216, 2, 172]
abbrev dktX1_spireAt_1 : List UInt8 := dkwX1_spireAt_1 ++ []
def dkwX1_spireAt_0 : List UInt8 := [3, 61, 28, 42, 180, 0, 10, 180, 0, 125, 182, 0, 108, 162, 0, 32, 42, 180, 0, 10, 180, 0, 125, 28]
abbrev dktX1_spireAt_0 : List UInt8 := dkwX1_spireAt_0 ++ dktX1_spireAt_1
theorem dksX1_spireAt_0 : cX1_spireAt.data.toList.drop 0 = dktX1_spireAt_0 := by decide +kernel
theorem dksX1_spireAt_1 : cX1_spireAt.data.toList.drop 24 = dktX1_spireAt_1 := dk_seg dksX1_spireAt_0 24 rfl rfl
theorem dX1_spireAt_0 : decode cX1_spireAt 0 = .ok (.iconst 0, 1) := dk_3 (dk_at dksX1_spireAt_0 0 rfl rfl)
theorem dX1_spireAt_1 : decode cX1_spireAt 1 = .ok (.istore_n 2, 1) := dk_61 (dk_at dksX1_spireAt_0 1 rfl rfl)
theorem dX1_spireAt_2 : decode cX1_spireAt 2 = .ok (.iload_n 2, 1) := dk_28 (dk_at dksX1_spireAt_0 2 rfl rfl)
theorem dX1_spireAt_3 : decode cX1_spireAt 3 = .ok (.aload_n 0, 1) := dk_42 (dk_at dksX1_spireAt_0 3 rfl rfl)
theorem dX1_spireAt_4 : decode cX1_spireAt 4 = .ok (.getfield 10, 3) := dk_180 0 10 (dk_at dksX1_spireAt_0 4 rfl rfl)
theorem dX1_spireAt_7 : decode cX1_spireAt 7 = .ok (.getfield 125, 3) := dk_180 0 125 (dk_at dksX1_spireAt_0 7 rfl rfl)
theorem dX1_spireAt_10 : decode cX1_spireAt 10 = .ok (.invokevirtual 108, 3) := dk_182 0 108 (dk_at dksX1_spireAt_0 10 rfl rfl)
theorem dX1_spireAt_13 : decode cX1_spireAt 13 = .ok (.if_icmp .ge 32, 3) := dk_162 0 32 (dk_at dksX1_spireAt_0 13 rfl rfl)
theorem dX1_spireAt_16 : decode cX1_spireAt 16 = .ok (.aload_n 0, 1) := dk_42 (dk_at dksX1_spireAt_0 16 rfl rfl)
theorem dX1_spireAt_17 : decode cX1_spireAt 17 = .ok (.getfield 10, 3) := dk_180 0 10 (dk_at dksX1_spireAt_0 17 rfl rfl)
theorem dX1_spireAt_20 : decode cX1_spireAt 20 = .ok (.getfield 125, 3) := dk_180 0 125 (dk_at dksX1_spireAt_0 20 rfl rfl)
theorem dX1_spireAt_23 : decode cX1_spireAt 23 = .ok (.iload_n 2, 1) := dk_28 (dk_at dksX1_spireAt_0 23 rfl rfl)
theorem dX1_spireAt_24 : decode cX1_spireAt 24 = .ok (.invokevirtual 128, 3) := dk_182 0 128 (dk_at dksX1_spireAt_1 0 rfl rfl)
theorem dX1_spireAt_27 : decode cX1_spireAt 27 = .ok (.checkcast 132, 3) := dk_192 0 132 (dk_at dksX1_spireAt_1 3 rfl rfl)
theorem dX1_spireAt_30 : decode cX1_spireAt 30 = .ok (.getfield 134, 3) := dk_180 0 134 (dk_at dksX1_spireAt_1 6 rfl rfl)
theorem dX1_spireAt_33 : decode cX1_spireAt 33 = .ok (.iload_n 1, 1) := dk_27 (dk_at dksX1_spireAt_1 9 rfl rfl)
theorem dX1_spireAt_34 : decode cX1_spireAt 34 = .ok (.if_icmp .ne 5, 3) := dk_160 0 5 (dk_at dksX1_spireAt_1 10 rfl rfl)
theorem dX1_spireAt_37 : decode cX1_spireAt 37 = .ok (.iload_n 2, 1) := dk_28 (dk_at dksX1_spireAt_1 13 rfl rfl)
theorem dX1_spireAt_38 : decode cX1_spireAt 38 = .ok (.ireturn, 1) := dk_172 (dk_at dksX1_spireAt_1 14 rfl rfl)
theorem dX1_spireAt_39 : decode cX1_spireAt 39 = .ok (.iinc 2 1, 3) := dk_132 2 1 (dk_at dksX1_spireAt_1 15 rfl rfl)
theorem dX1_spireAt_42 : decode cX1_spireAt 42 = .ok (.goto (-40), 3) := dk_167 255 216 (dk_at dksX1_spireAt_1 18 rfl rfl)
theorem dX1_spireAt_45 : decode cX1_spireAt 45 = .ok (.iconst (-1), 1) := dk_2 (dk_at dksX1_spireAt_1 21 rfl rfl)
theorem dX1_spireAt_46 : decode cX1_spireAt 46 = .ok (.ireturn, 1) := dk_172 (dk_at dksX1_spireAt_1 22 rfl rfl)
def dkwX1_farm_2 : List UInt8 := [182, 0, 111, 42, 180, 0, 10, 180, 0, 147, 16, 10, 28, 104, 27, 96, 29, 79, 21, 4, 172]
abbrev dktX1_farm_2 : List UInt8 := dkwX1_farm_2 ++ []
def dkwX1_farm_1 : List UInt8 := [104, 27, 96, 46, 54, 4, 42, 21, 4, 29, 160, 0, 7, 4, 167, 0, 4, 3, 6, 29, 182, 0, 53, 42]
abbrev dktX1_farm_1 : List UInt8 := dkwX1_farm_1 ++ dktX1_farm_2
def dkwX1_farm_0 : List UInt8 := [42, 27, 28, 182, 0, 100, 42, 29, 3, 16, 9, 182, 0, 96, 42, 180, 0, 10, 180, 0, 147, 16, 10, 28]
abbrev dktX1_farm_0 : List UInt8 := dkwX1_farm_0 ++ dktX1_farm_1
theorem dksX1_farm_0 : cX1_farm.data.toList.drop 0 = dktX1_farm_0 := by decide +kernel
theorem dksX1_farm_1 : cX1_farm.data.toList.drop 24 = dktX1_farm_1 := dk_seg dksX1_farm_0 24 rfl rfl
theorem dksX1_farm_2 : cX1_farm.data.toList.drop 48 = dktX1_farm_2 := dk_seg dksX1_farm_1 24 rfl rfl
theorem dX1_farm_0 : decode cX1_farm 0 = .ok (.aload_n 0, 1) := dk_42 (dk_at dksX1_farm_0 0 rfl rfl)
theorem dX1_farm_1 : decode cX1_farm 1 = .ok (.iload_n 1, 1) := dk_27 (dk_at dksX1_farm_0 1 rfl rfl)
theorem dX1_farm_2 : decode cX1_farm 2 = .ok (.iload_n 2, 1) := dk_28 (dk_at dksX1_farm_0 2 rfl rfl)
theorem dX1_farm_3 : decode cX1_farm 3 = .ok (.invokevirtual 100, 3) := dk_182 0 100 (dk_at dksX1_farm_0 3 rfl rfl)
theorem dX1_farm_6 : decode cX1_farm 6 = .ok (.aload_n 0, 1) := dk_42 (dk_at dksX1_farm_0 6 rfl rfl)
theorem dX1_farm_7 : decode cX1_farm 7 = .ok (.iload_n 3, 1) := dk_29 (dk_at dksX1_farm_0 7 rfl rfl)
theorem dX1_farm_8 : decode cX1_farm 8 = .ok (.iconst 0, 1) := dk_3 (dk_at dksX1_farm_0 8 rfl rfl)
theorem dX1_farm_9 : decode cX1_farm 9 = .ok (.bipush 9, 2) := dk_16 9 (dk_at dksX1_farm_0 9 rfl rfl)
theorem dX1_farm_11 : decode cX1_farm 11 = .ok (.invokevirtual 96, 3) := dk_182 0 96 (dk_at dksX1_farm_0 11 rfl rfl)
theorem dX1_farm_14 : decode cX1_farm 14 = .ok (.aload_n 0, 1) := dk_42 (dk_at dksX1_farm_0 14 rfl rfl)
theorem dX1_farm_15 : decode cX1_farm 15 = .ok (.getfield 10, 3) := dk_180 0 10 (dk_at dksX1_farm_0 15 rfl rfl)
theorem dX1_farm_18 : decode cX1_farm 18 = .ok (.getfield 147, 3) := dk_180 0 147 (dk_at dksX1_farm_0 18 rfl rfl)
theorem dX1_farm_21 : decode cX1_farm 21 = .ok (.bipush 10, 2) := dk_16 10 (dk_at dksX1_farm_0 21 rfl rfl)
theorem dX1_farm_23 : decode cX1_farm 23 = .ok (.iload_n 2, 1) := dk_28 (dk_at dksX1_farm_0 23 rfl rfl)
theorem dX1_farm_24 : decode cX1_farm 24 = .ok (.imul, 1) := dk_104 (dk_at dksX1_farm_1 0 rfl rfl)
theorem dX1_farm_25 : decode cX1_farm 25 = .ok (.iload_n 1, 1) := dk_27 (dk_at dksX1_farm_1 1 rfl rfl)
theorem dX1_farm_26 : decode cX1_farm 26 = .ok (.iadd, 1) := dk_96 (dk_at dksX1_farm_1 2 rfl rfl)
theorem dX1_farm_27 : decode cX1_farm 27 = .ok (.iaload, 1) := dk_46 (dk_at dksX1_farm_1 3 rfl rfl)
theorem dX1_farm_28 : decode cX1_farm 28 = .ok (.istore 4, 2) := dk_54 4 (dk_at dksX1_farm_1 4 rfl rfl)
theorem dX1_farm_30 : decode cX1_farm 30 = .ok (.aload_n 0, 1) := dk_42 (dk_at dksX1_farm_1 6 rfl rfl)
theorem dX1_farm_31 : decode cX1_farm 31 = .ok (.iload 4, 2) := dk_21 4 (dk_at dksX1_farm_1 7 rfl rfl)
theorem dX1_farm_33 : decode cX1_farm 33 = .ok (.iload_n 3, 1) := dk_29 (dk_at dksX1_farm_1 9 rfl rfl)
theorem dX1_farm_34 : decode cX1_farm 34 = .ok (.if_icmp .ne 7, 3) := dk_160 0 7 (dk_at dksX1_farm_1 10 rfl rfl)
theorem dX1_farm_37 : decode cX1_farm 37 = .ok (.iconst 1, 1) := dk_4 (dk_at dksX1_farm_1 13 rfl rfl)
theorem dX1_farm_38 : decode cX1_farm 38 = .ok (.goto 4, 3) := dk_167 0 4 (dk_at dksX1_farm_1 14 rfl rfl)
theorem dX1_farm_41 : decode cX1_farm 41 = .ok (.iconst 0, 1) := dk_3 (dk_at dksX1_farm_1 17 rfl rfl)
theorem dX1_farm_42 : decode cX1_farm 42 = .ok (.iconst 3, 1) := dk_6 (dk_at dksX1_farm_1 18 rfl rfl)
theorem dX1_farm_43 : decode cX1_farm 43 = .ok (.iload_n 3, 1) := dk_29 (dk_at dksX1_farm_1 19 rfl rfl)
theorem dX1_farm_44 : decode cX1_farm 44 = .ok (.invokevirtual 53, 3) := dk_182 0 53 (dk_at dksX1_farm_1 20 rfl rfl)
theorem dX1_farm_47 : decode cX1_farm 47 = .ok (.aload_n 0, 1) := dk_42 (dk_at dksX1_farm_1 23 rfl rfl)
theorem dX1_farm_48 : decode cX1_farm 48 = .ok (.invokevirtual 111, 3) := dk_182 0 111 (dk_at dksX1_farm_2 0 rfl rfl)
theorem dX1_farm_51 : decode cX1_farm 51 = .ok (.aload_n 0, 1) := dk_42 (dk_at dksX1_farm_2 3 rfl rfl)
theorem dX1_farm_52 : decode cX1_farm 52 = .ok (.getfield 10, 3) := dk_180 0 10 (dk_at dksX1_farm_2 4 rfl rfl)
theorem dX1_farm_55 : decode cX1_farm 55 = .ok (.getfield 147, 3) := dk_180 0 147 (dk_at dksX1_farm_2 7 rfl rfl)
theorem dX1_farm_58 : decode cX1_farm 58 = .ok (.bipush 10, 2) := dk_16 10 (dk_at dksX1_farm_2 10 rfl rfl)
theorem dX1_farm_60 : decode cX1_farm 60 = .ok (.iload_n 2, 1) := dk_28 (dk_at dksX1_farm_2 12 rfl rfl)
theorem dX1_farm_61 : decode cX1_farm 61 = .ok (.imul, 1) := dk_104 (dk_at dksX1_farm_2 13 rfl rfl)
theorem dX1_farm_62 : decode cX1_farm 62 = .ok (.iload_n 1, 1) := dk_27 (dk_at dksX1_farm_2 14 rfl rfl)
theorem dX1_farm_63 : decode cX1_farm 63 = .ok (.iadd, 1) := dk_96 (dk_at dksX1_farm_2 15 rfl rfl)
theorem dX1_farm_64 : decode cX1_farm 64 = .ok (.iload_n 3, 1) := dk_29 (dk_at dksX1_farm_2 16 rfl rfl)
theorem dX1_farm_65 : decode cX1_farm 65 = .ok (.iastore, 1) := dk_79 (dk_at dksX1_farm_2 17 rfl rfl)
theorem dX1_farm_66 : decode cX1_farm 66 = .ok (.iload 4, 2) := dk_21 4 (dk_at dksX1_farm_2 18 rfl rfl)
theorem dX1_farm_68 : decode cX1_farm 68 = .ok (.ireturn, 1) := dk_172 (dk_at dksX1_farm_2 20 rfl rfl)
def dkwX1_wind_2 : List UInt8 := [180, 0, 151, 27, 28, 79, 29, 172]
abbrev dktX1_wind_2 : List UInt8 := dkwX1_wind_2 ++ []
def dkwX1_wind_1 : List UInt8 := [42, 29, 28, 160, 0, 7, 4, 167, 0, 4, 3, 6, 28, 182, 0, 53, 42, 182, 0, 111, 42, 180, 0, 10]
abbrev dktX1_wind_1 : List UInt8 := dkwX1_wind_1 ++ dktX1_wind_2
def dkwX1_wind_0 : List UInt8 := [42, 27, 4, 8, 182, 0, 96, 42, 28, 3, 7, 182, 0, 96, 42, 180, 0, 10, 180, 0, 151, 27, 46, 62]
abbrev dktX1_wind_0 : List UInt8 := dkwX1_wind_0 ++ dktX1_wind_1
theorem dksX1_wind_0 : cX1_wind.data.toList.drop 0 = dktX1_wind_0 := by decide +kernel
theorem dksX1_wind_1 : cX1_wind.data.toList.drop 24 = dktX1_wind_1 := dk_seg dksX1_wind_0 24 rfl rfl
theorem dksX1_wind_2 : cX1_wind.data.toList.drop 48 = dktX1_wind_2 := dk_seg dksX1_wind_1 24 rfl rfl
theorem dX1_wind_0 : decode cX1_wind 0 = .ok (.aload_n 0, 1) := dk_42 (dk_at dksX1_wind_0 0 rfl rfl)
theorem dX1_wind_1 : decode cX1_wind 1 = .ok (.iload_n 1, 1) := dk_27 (dk_at dksX1_wind_0 1 rfl rfl)
theorem dX1_wind_2 : decode cX1_wind 2 = .ok (.iconst 1, 1) := dk_4 (dk_at dksX1_wind_0 2 rfl rfl)
theorem dX1_wind_3 : decode cX1_wind 3 = .ok (.iconst 5, 1) := dk_8 (dk_at dksX1_wind_0 3 rfl rfl)
theorem dX1_wind_4 : decode cX1_wind 4 = .ok (.invokevirtual 96, 3) := dk_182 0 96 (dk_at dksX1_wind_0 4 rfl rfl)
theorem dX1_wind_7 : decode cX1_wind 7 = .ok (.aload_n 0, 1) := dk_42 (dk_at dksX1_wind_0 7 rfl rfl)
theorem dX1_wind_8 : decode cX1_wind 8 = .ok (.iload_n 2, 1) := dk_28 (dk_at dksX1_wind_0 8 rfl rfl)
theorem dX1_wind_9 : decode cX1_wind 9 = .ok (.iconst 0, 1) := dk_3 (dk_at dksX1_wind_0 9 rfl rfl)
theorem dX1_wind_10 : decode cX1_wind 10 = .ok (.iconst 4, 1) := dk_7 (dk_at dksX1_wind_0 10 rfl rfl)
theorem dX1_wind_11 : decode cX1_wind 11 = .ok (.invokevirtual 96, 3) := dk_182 0 96 (dk_at dksX1_wind_0 11 rfl rfl)
theorem dX1_wind_14 : decode cX1_wind 14 = .ok (.aload_n 0, 1) := dk_42 (dk_at dksX1_wind_0 14 rfl rfl)
theorem dX1_wind_15 : decode cX1_wind 15 = .ok (.getfield 10, 3) := dk_180 0 10 (dk_at dksX1_wind_0 15 rfl rfl)
theorem dX1_wind_18 : decode cX1_wind 18 = .ok (.getfield 151, 3) := dk_180 0 151 (dk_at dksX1_wind_0 18 rfl rfl)
theorem dX1_wind_21 : decode cX1_wind 21 = .ok (.iload_n 1, 1) := dk_27 (dk_at dksX1_wind_0 21 rfl rfl)
theorem dX1_wind_22 : decode cX1_wind 22 = .ok (.iaload, 1) := dk_46 (dk_at dksX1_wind_0 22 rfl rfl)
theorem dX1_wind_23 : decode cX1_wind 23 = .ok (.istore_n 3, 1) := dk_62 (dk_at dksX1_wind_0 23 rfl rfl)
theorem dX1_wind_24 : decode cX1_wind 24 = .ok (.aload_n 0, 1) := dk_42 (dk_at dksX1_wind_1 0 rfl rfl)
theorem dX1_wind_25 : decode cX1_wind 25 = .ok (.iload_n 3, 1) := dk_29 (dk_at dksX1_wind_1 1 rfl rfl)
theorem dX1_wind_26 : decode cX1_wind 26 = .ok (.iload_n 2, 1) := dk_28 (dk_at dksX1_wind_1 2 rfl rfl)
theorem dX1_wind_27 : decode cX1_wind 27 = .ok (.if_icmp .ne 7, 3) := dk_160 0 7 (dk_at dksX1_wind_1 3 rfl rfl)
theorem dX1_wind_30 : decode cX1_wind 30 = .ok (.iconst 1, 1) := dk_4 (dk_at dksX1_wind_1 6 rfl rfl)
theorem dX1_wind_31 : decode cX1_wind 31 = .ok (.goto 4, 3) := dk_167 0 4 (dk_at dksX1_wind_1 7 rfl rfl)
theorem dX1_wind_34 : decode cX1_wind 34 = .ok (.iconst 0, 1) := dk_3 (dk_at dksX1_wind_1 10 rfl rfl)
theorem dX1_wind_35 : decode cX1_wind 35 = .ok (.iconst 3, 1) := dk_6 (dk_at dksX1_wind_1 11 rfl rfl)
theorem dX1_wind_36 : decode cX1_wind 36 = .ok (.iload_n 2, 1) := dk_28 (dk_at dksX1_wind_1 12 rfl rfl)
theorem dX1_wind_37 : decode cX1_wind 37 = .ok (.invokevirtual 53, 3) := dk_182 0 53 (dk_at dksX1_wind_1 13 rfl rfl)
theorem dX1_wind_40 : decode cX1_wind 40 = .ok (.aload_n 0, 1) := dk_42 (dk_at dksX1_wind_1 16 rfl rfl)
theorem dX1_wind_41 : decode cX1_wind 41 = .ok (.invokevirtual 111, 3) := dk_182 0 111 (dk_at dksX1_wind_1 17 rfl rfl)
theorem dX1_wind_44 : decode cX1_wind 44 = .ok (.aload_n 0, 1) := dk_42 (dk_at dksX1_wind_1 20 rfl rfl)
theorem dX1_wind_45 : decode cX1_wind 45 = .ok (.getfield 10, 3) := dk_180 0 10 (dk_at dksX1_wind_1 21 rfl rfl)
theorem dX1_wind_48 : decode cX1_wind 48 = .ok (.getfield 151, 3) := dk_180 0 151 (dk_at dksX1_wind_2 0 rfl rfl)
theorem dX1_wind_51 : decode cX1_wind 51 = .ok (.iload_n 1, 1) := dk_27 (dk_at dksX1_wind_2 3 rfl rfl)
theorem dX1_wind_52 : decode cX1_wind 52 = .ok (.iload_n 2, 1) := dk_28 (dk_at dksX1_wind_2 4 rfl rfl)
theorem dX1_wind_53 : decode cX1_wind 53 = .ok (.iastore, 1) := dk_79 (dk_at dksX1_wind_2 5 rfl rfl)
theorem dX1_wind_54 : decode cX1_wind 54 = .ok (.iload_n 3, 1) := dk_29 (dk_at dksX1_wind_2 6 rfl rfl)
theorem dX1_wind_55 : decode cX1_wind 55 = .ok (.ireturn, 1) := dk_172 (dk_at dksX1_wind_2 7 rfl rfl)
def dkwX1_drop_6 : List UInt8 := [180, 0, 161, 172]
abbrev dktX1_drop_6 : List UInt8 := dkwX1_drop_6 ++ []
def dkwX1_drop_5 : List UInt8 := [180, 0, 161, 28, 96, 181, 0, 161, 42, 180, 0, 10, 89, 180, 0, 167, 28, 96, 181, 0, 167, 45]
abbrev dktX1_drop_5 : List UInt8 := dkwX1_drop_5 ++ dktX1_drop_6
def dkwX1_drop_4 : List UInt8 := [180, 0, 161, 100, 182, 0, 53, 42, 182, 0, 111, 45, 89, 180, 0, 164, 28, 100, 181, 0, 164, 45, 89]
abbrev dktX1_drop_4 : List UInt8 := dkwX1_drop_4 ++ dktX1_drop_5
def dkwX1_drop_3 : List UInt8 := [182, 0, 53, 42, 45, 180, 0, 161, 28, 96, 8, 164, 0, 7, 4, 167, 0, 4, 3, 16, 7, 8, 45]
abbrev dktX1_drop_3 : List UInt8 := dkwX1_drop_3 ++ dktX1_drop_4
def dkwX1_drop_2 : List UInt8 := [182, 0, 53, 42, 45, 180, 0, 164, 28, 162, 0, 7, 4, 167, 0, 4, 3, 16, 6, 45, 180, 0, 164]
abbrev dktX1_drop_2 : List UInt8 := dkwX1_drop_2 ++ dktX1_drop_3
def dkwX1_drop_1 : List UInt8 := [192, 0, 114, 78, 42, 45, 180, 0, 158, 154, 0, 7, 4, 167, 0, 4, 3, 16, 8, 45, 180, 0, 161]
abbrev dktX1_drop_1 : List UInt8 := dkwX1_drop_1 ++ dktX1_drop_2
def dkwX1_drop_0 : List UInt8 := [42, 27, 182, 0, 154, 42, 28, 4, 16, 9, 182, 0, 96, 42, 180, 0, 10, 180, 0, 104, 27, 182, 0, 128]
abbrev dktX1_drop_0 : List UInt8 := dkwX1_drop_0 ++ dktX1_drop_1
theorem dksX1_drop_0 : cX1_drop.data.toList.drop 0 = dktX1_drop_0 := by decide +kernel
theorem dksX1_drop_1 : cX1_drop.data.toList.drop 24 = dktX1_drop_1 := dk_seg dksX1_drop_0 24 rfl rfl
theorem dksX1_drop_2 : cX1_drop.data.toList.drop 47 = dktX1_drop_2 := dk_seg dksX1_drop_1 23 rfl rfl
theorem dksX1_drop_3 : cX1_drop.data.toList.drop 70 = dktX1_drop_3 := dk_seg dksX1_drop_2 23 rfl rfl
theorem dksX1_drop_4 : cX1_drop.data.toList.drop 93 = dktX1_drop_4 := dk_seg dksX1_drop_3 23 rfl rfl
theorem dksX1_drop_5 : cX1_drop.data.toList.drop 116 = dktX1_drop_5 := dk_seg dksX1_drop_4 23 rfl rfl
theorem dksX1_drop_6 : cX1_drop.data.toList.drop 138 = dktX1_drop_6 := dk_seg dksX1_drop_5 22 rfl rfl
theorem dX1_drop_0 : decode cX1_drop 0 = .ok (.aload_n 0, 1) := dk_42 (dk_at dksX1_drop_0 0 rfl rfl)
theorem dX1_drop_1 : decode cX1_drop 1 = .ok (.iload_n 1, 1) := dk_27 (dk_at dksX1_drop_0 1 rfl rfl)
theorem dX1_drop_2 : decode cX1_drop 2 = .ok (.invokevirtual 154, 3) := dk_182 0 154 (dk_at dksX1_drop_0 2 rfl rfl)
theorem dX1_drop_5 : decode cX1_drop 5 = .ok (.aload_n 0, 1) := dk_42 (dk_at dksX1_drop_0 5 rfl rfl)
theorem dX1_drop_6 : decode cX1_drop 6 = .ok (.iload_n 2, 1) := dk_28 (dk_at dksX1_drop_0 6 rfl rfl)
theorem dX1_drop_7 : decode cX1_drop 7 = .ok (.iconst 1, 1) := dk_4 (dk_at dksX1_drop_0 7 rfl rfl)
theorem dX1_drop_8 : decode cX1_drop 8 = .ok (.bipush 9, 2) := dk_16 9 (dk_at dksX1_drop_0 8 rfl rfl)
theorem dX1_drop_10 : decode cX1_drop 10 = .ok (.invokevirtual 96, 3) := dk_182 0 96 (dk_at dksX1_drop_0 10 rfl rfl)
theorem dX1_drop_13 : decode cX1_drop 13 = .ok (.aload_n 0, 1) := dk_42 (dk_at dksX1_drop_0 13 rfl rfl)
theorem dX1_drop_14 : decode cX1_drop 14 = .ok (.getfield 10, 3) := dk_180 0 10 (dk_at dksX1_drop_0 14 rfl rfl)
theorem dX1_drop_17 : decode cX1_drop 17 = .ok (.getfield 104, 3) := dk_180 0 104 (dk_at dksX1_drop_0 17 rfl rfl)
theorem dX1_drop_20 : decode cX1_drop 20 = .ok (.iload_n 1, 1) := dk_27 (dk_at dksX1_drop_0 20 rfl rfl)
theorem dX1_drop_21 : decode cX1_drop 21 = .ok (.invokevirtual 128, 3) := dk_182 0 128 (dk_at dksX1_drop_0 21 rfl rfl)
theorem dX1_drop_24 : decode cX1_drop 24 = .ok (.checkcast 114, 3) := dk_192 0 114 (dk_at dksX1_drop_1 0 rfl rfl)
theorem dX1_drop_27 : decode cX1_drop 27 = .ok (.astore_n 3, 1) := dk_78 (dk_at dksX1_drop_1 3 rfl rfl)
theorem dX1_drop_28 : decode cX1_drop 28 = .ok (.aload_n 0, 1) := dk_42 (dk_at dksX1_drop_1 4 rfl rfl)
theorem dX1_drop_29 : decode cX1_drop 29 = .ok (.aload_n 3, 1) := dk_45 (dk_at dksX1_drop_1 5 rfl rfl)
theorem dX1_drop_30 : decode cX1_drop 30 = .ok (.getfield 158, 3) := dk_180 0 158 (dk_at dksX1_drop_1 6 rfl rfl)
theorem dX1_drop_33 : decode cX1_drop 33 = .ok (.ifCond .ne 7, 3) := dk_154 0 7 (dk_at dksX1_drop_1 9 rfl rfl)
theorem dX1_drop_36 : decode cX1_drop 36 = .ok (.iconst 1, 1) := dk_4 (dk_at dksX1_drop_1 12 rfl rfl)
theorem dX1_drop_37 : decode cX1_drop 37 = .ok (.goto 4, 3) := dk_167 0 4 (dk_at dksX1_drop_1 13 rfl rfl)
theorem dX1_drop_40 : decode cX1_drop 40 = .ok (.iconst 0, 1) := dk_3 (dk_at dksX1_drop_1 16 rfl rfl)
theorem dX1_drop_41 : decode cX1_drop 41 = .ok (.bipush 8, 2) := dk_16 8 (dk_at dksX1_drop_1 17 rfl rfl)
theorem dX1_drop_43 : decode cX1_drop 43 = .ok (.aload_n 3, 1) := dk_45 (dk_at dksX1_drop_1 19 rfl rfl)
theorem dX1_drop_44 : decode cX1_drop 44 = .ok (.getfield 161, 3) := dk_180 0 161 (dk_at dksX1_drop_1 20 rfl rfl)
theorem dX1_drop_47 : decode cX1_drop 47 = .ok (.invokevirtual 53, 3) := dk_182 0 53 (dk_at dksX1_drop_2 0 rfl rfl)
theorem dX1_drop_50 : decode cX1_drop 50 = .ok (.aload_n 0, 1) := dk_42 (dk_at dksX1_drop_2 3 rfl rfl)
theorem dX1_drop_51 : decode cX1_drop 51 = .ok (.aload_n 3, 1) := dk_45 (dk_at dksX1_drop_2 4 rfl rfl)
theorem dX1_drop_52 : decode cX1_drop 52 = .ok (.getfield 164, 3) := dk_180 0 164 (dk_at dksX1_drop_2 5 rfl rfl)
theorem dX1_drop_55 : decode cX1_drop 55 = .ok (.iload_n 2, 1) := dk_28 (dk_at dksX1_drop_2 8 rfl rfl)
theorem dX1_drop_56 : decode cX1_drop 56 = .ok (.if_icmp .ge 7, 3) := dk_162 0 7 (dk_at dksX1_drop_2 9 rfl rfl)
theorem dX1_drop_59 : decode cX1_drop 59 = .ok (.iconst 1, 1) := dk_4 (dk_at dksX1_drop_2 12 rfl rfl)
theorem dX1_drop_60 : decode cX1_drop 60 = .ok (.goto 4, 3) := dk_167 0 4 (dk_at dksX1_drop_2 13 rfl rfl)
theorem dX1_drop_63 : decode cX1_drop 63 = .ok (.iconst 0, 1) := dk_3 (dk_at dksX1_drop_2 16 rfl rfl)
theorem dX1_drop_64 : decode cX1_drop 64 = .ok (.bipush 6, 2) := dk_16 6 (dk_at dksX1_drop_2 17 rfl rfl)
theorem dX1_drop_66 : decode cX1_drop 66 = .ok (.aload_n 3, 1) := dk_45 (dk_at dksX1_drop_2 19 rfl rfl)
theorem dX1_drop_67 : decode cX1_drop 67 = .ok (.getfield 164, 3) := dk_180 0 164 (dk_at dksX1_drop_2 20 rfl rfl)
theorem dX1_drop_70 : decode cX1_drop 70 = .ok (.invokevirtual 53, 3) := dk_182 0 53 (dk_at dksX1_drop_3 0 rfl rfl)
theorem dX1_drop_73 : decode cX1_drop 73 = .ok (.aload_n 0, 1) := dk_42 (dk_at dksX1_drop_3 3 rfl rfl)
theorem dX1_drop_74 : decode cX1_drop 74 = .ok (.aload_n 3, 1) := dk_45 (dk_at dksX1_drop_3 4 rfl rfl)
theorem dX1_drop_75 : decode cX1_drop 75 = .ok (.getfield 161, 3) := dk_180 0 161 (dk_at dksX1_drop_3 5 rfl rfl)
theorem dX1_drop_78 : decode cX1_drop 78 = .ok (.iload_n 2, 1) := dk_28 (dk_at dksX1_drop_3 8 rfl rfl)
theorem dX1_drop_79 : decode cX1_drop 79 = .ok (.iadd, 1) := dk_96 (dk_at dksX1_drop_3 9 rfl rfl)
theorem dX1_drop_80 : decode cX1_drop 80 = .ok (.iconst 5, 1) := dk_8 (dk_at dksX1_drop_3 10 rfl rfl)
theorem dX1_drop_81 : decode cX1_drop 81 = .ok (.if_icmp .le 7, 3) := dk_164 0 7 (dk_at dksX1_drop_3 11 rfl rfl)
theorem dX1_drop_84 : decode cX1_drop 84 = .ok (.iconst 1, 1) := dk_4 (dk_at dksX1_drop_3 14 rfl rfl)
theorem dX1_drop_85 : decode cX1_drop 85 = .ok (.goto 4, 3) := dk_167 0 4 (dk_at dksX1_drop_3 15 rfl rfl)
theorem dX1_drop_88 : decode cX1_drop 88 = .ok (.iconst 0, 1) := dk_3 (dk_at dksX1_drop_3 18 rfl rfl)
theorem dX1_drop_89 : decode cX1_drop 89 = .ok (.bipush 7, 2) := dk_16 7 (dk_at dksX1_drop_3 19 rfl rfl)
theorem dX1_drop_91 : decode cX1_drop 91 = .ok (.iconst 5, 1) := dk_8 (dk_at dksX1_drop_3 21 rfl rfl)
theorem dX1_drop_92 : decode cX1_drop 92 = .ok (.aload_n 3, 1) := dk_45 (dk_at dksX1_drop_3 22 rfl rfl)
theorem dX1_drop_93 : decode cX1_drop 93 = .ok (.getfield 161, 3) := dk_180 0 161 (dk_at dksX1_drop_4 0 rfl rfl)
theorem dX1_drop_96 : decode cX1_drop 96 = .ok (.isub, 1) := dk_100 (dk_at dksX1_drop_4 3 rfl rfl)
theorem dX1_drop_97 : decode cX1_drop 97 = .ok (.invokevirtual 53, 3) := dk_182 0 53 (dk_at dksX1_drop_4 4 rfl rfl)
theorem dX1_drop_100 : decode cX1_drop 100 = .ok (.aload_n 0, 1) := dk_42 (dk_at dksX1_drop_4 7 rfl rfl)
theorem dX1_drop_101 : decode cX1_drop 101 = .ok (.invokevirtual 111, 3) := dk_182 0 111 (dk_at dksX1_drop_4 8 rfl rfl)
theorem dX1_drop_104 : decode cX1_drop 104 = .ok (.aload_n 3, 1) := dk_45 (dk_at dksX1_drop_4 11 rfl rfl)
theorem dX1_drop_105 : decode cX1_drop 105 = .ok (.dup, 1) := dk_89 (dk_at dksX1_drop_4 12 rfl rfl)
theorem dX1_drop_106 : decode cX1_drop 106 = .ok (.getfield 164, 3) := dk_180 0 164 (dk_at dksX1_drop_4 13 rfl rfl)
theorem dX1_drop_109 : decode cX1_drop 109 = .ok (.iload_n 2, 1) := dk_28 (dk_at dksX1_drop_4 16 rfl rfl)
theorem dX1_drop_110 : decode cX1_drop 110 = .ok (.isub, 1) := dk_100 (dk_at dksX1_drop_4 17 rfl rfl)
theorem dX1_drop_111 : decode cX1_drop 111 = .ok (.putfield 164, 3) := dk_181 0 164 (dk_at dksX1_drop_4 18 rfl rfl)
theorem dX1_drop_114 : decode cX1_drop 114 = .ok (.aload_n 3, 1) := dk_45 (dk_at dksX1_drop_4 21 rfl rfl)
theorem dX1_drop_115 : decode cX1_drop 115 = .ok (.dup, 1) := dk_89 (dk_at dksX1_drop_4 22 rfl rfl)
theorem dX1_drop_116 : decode cX1_drop 116 = .ok (.getfield 161, 3) := dk_180 0 161 (dk_at dksX1_drop_5 0 rfl rfl)
theorem dX1_drop_119 : decode cX1_drop 119 = .ok (.iload_n 2, 1) := dk_28 (dk_at dksX1_drop_5 3 rfl rfl)
theorem dX1_drop_120 : decode cX1_drop 120 = .ok (.iadd, 1) := dk_96 (dk_at dksX1_drop_5 4 rfl rfl)
theorem dX1_drop_121 : decode cX1_drop 121 = .ok (.putfield 161, 3) := dk_181 0 161 (dk_at dksX1_drop_5 5 rfl rfl)
theorem dX1_drop_124 : decode cX1_drop 124 = .ok (.aload_n 0, 1) := dk_42 (dk_at dksX1_drop_5 8 rfl rfl)
theorem dX1_drop_125 : decode cX1_drop 125 = .ok (.getfield 10, 3) := dk_180 0 10 (dk_at dksX1_drop_5 9 rfl rfl)
theorem dX1_drop_128 : decode cX1_drop 128 = .ok (.dup, 1) := dk_89 (dk_at dksX1_drop_5 12 rfl rfl)
theorem dX1_drop_129 : decode cX1_drop 129 = .ok (.getfield 167, 3) := dk_180 0 167 (dk_at dksX1_drop_5 13 rfl rfl)
theorem dX1_drop_132 : decode cX1_drop 132 = .ok (.iload_n 2, 1) := dk_28 (dk_at dksX1_drop_5 16 rfl rfl)
theorem dX1_drop_133 : decode cX1_drop 133 = .ok (.iadd, 1) := dk_96 (dk_at dksX1_drop_5 17 rfl rfl)
theorem dX1_drop_134 : decode cX1_drop 134 = .ok (.putfield 167, 3) := dk_181 0 167 (dk_at dksX1_drop_5 18 rfl rfl)
theorem dX1_drop_137 : decode cX1_drop 137 = .ok (.aload_n 3, 1) := dk_45 (dk_at dksX1_drop_5 21 rfl rfl)
theorem dX1_drop_138 : decode cX1_drop 138 = .ok (.getfield 161, 3) := dk_180 0 161 (dk_at dksX1_drop_6 0 rfl rfl)
theorem dX1_drop_141 : decode cX1_drop 141 = .ok (.ireturn, 1) := dk_172 (dk_at dksX1_drop_6 3 rfl rfl)
def dkwX1_mustBeBalloon_0 : List UInt8 := [42, 42, 180, 0, 10, 27, 182, 0, 93, 154, 0, 7, 4, 167, 0, 4, 3, 8, 27, 182, 0, 53, 177]
abbrev dktX1_mustBeBalloon_0 : List UInt8 := dkwX1_mustBeBalloon_0 ++ []
theorem dksX1_mustBeBalloon_0 : cX1_mustBeBalloon.data.toList.drop 0 = dktX1_mustBeBalloon_0 := by decide +kernel
theorem dX1_mustBeBalloon_0 : decode cX1_mustBeBalloon 0 = .ok (.aload_n 0, 1) := dk_42 (dk_at dksX1_mustBeBalloon_0 0 rfl rfl)
theorem dX1_mustBeBalloon_1 : decode cX1_mustBeBalloon 1 = .ok (.aload_n 0, 1) := dk_42 (dk_at dksX1_mustBeBalloon_0 1 rfl rfl)
theorem dX1_mustBeBalloon_2 : decode cX1_mustBeBalloon 2 = .ok (.getfield 10, 3) := dk_180 0 10 (dk_at dksX1_mustBeBalloon_0 2 rfl rfl)
theorem dX1_mustBeBalloon_5 : decode cX1_mustBeBalloon 5 = .ok (.iload_n 1, 1) := dk_27 (dk_at dksX1_mustBeBalloon_0 5 rfl rfl)
theorem dX1_mustBeBalloon_6 : decode cX1_mustBeBalloon 6 = .ok (.invokevirtual 93, 3) := dk_182 0 93 (dk_at dksX1_mustBeBalloon_0 6 rfl rfl)
theorem dX1_mustBeBalloon_9 : decode cX1_mustBeBalloon 9 = .ok (.ifCond .ne 7, 3) := dk_154 0 7 (dk_at dksX1_mustBeBalloon_0 9 rfl rfl)
theorem dX1_mustBeBalloon_12 : decode cX1_mustBeBalloon 12 = .ok (.iconst 1, 1) := dk_4 (dk_at dksX1_mustBeBalloon_0 12 rfl rfl)
theorem dX1_mustBeBalloon_13 : decode cX1_mustBeBalloon 13 = .ok (.goto 4, 3) := dk_167 0 4 (dk_at dksX1_mustBeBalloon_0 13 rfl rfl)
theorem dX1_mustBeBalloon_16 : decode cX1_mustBeBalloon 16 = .ok (.iconst 0, 1) := dk_3 (dk_at dksX1_mustBeBalloon_0 16 rfl rfl)
theorem dX1_mustBeBalloon_17 : decode cX1_mustBeBalloon 17 = .ok (.iconst 5, 1) := dk_8 (dk_at dksX1_mustBeBalloon_0 17 rfl rfl)
theorem dX1_mustBeBalloon_18 : decode cX1_mustBeBalloon 18 = .ok (.iload_n 1, 1) := dk_27 (dk_at dksX1_mustBeBalloon_0 18 rfl rfl)
theorem dX1_mustBeBalloon_19 : decode cX1_mustBeBalloon 19 = .ok (.invokevirtual 53, 3) := dk_182 0 53 (dk_at dksX1_mustBeBalloon_0 19 rfl rfl)
theorem dX1_mustBeBalloon_22 : decode cX1_mustBeBalloon 22 = .ok (.return_, 1) := dk_177 (dk_at dksX1_mustBeBalloon_0 22 rfl rfl)
def dkwX1_vent_4 : List UInt8 := [182, 0, 179, 172]
abbrev dktX1_vent_4 : List UInt8 := dkwX1_vent_4 ++ []
def dkwX1_vent_3 : List UInt8 := [100, 184, 0, 170, 181, 0, 158, 45, 182, 0, 175, 153, 0, 7, 3, 167, 0, 11, 42, 180, 0, 10, 45]
abbrev dktX1_vent_3 : List UInt8 := dkwX1_vent_3 ++ dktX1_vent_4
def dkwX1_vent_2 : List UInt8 := [182, 0, 53, 42, 182, 0, 111, 45, 89, 180, 0, 161, 28, 100, 181, 0, 161, 45, 3, 45, 180, 0, 158, 28]
abbrev dktX1_vent_2 : List UInt8 := dkwX1_vent_2 ++ dktX1_vent_3
def dkwX1_vent_1 : List UInt8 := [192, 0, 114, 78, 42, 45, 180, 0, 161, 28, 162, 0, 7, 4, 167, 0, 4, 3, 16, 7, 45, 180, 0, 161]
abbrev dktX1_vent_1 : List UInt8 := dkwX1_vent_1 ++ dktX1_vent_2
def dkwX1_vent_0 : List UInt8 := [42, 27, 182, 0, 154, 42, 28, 4, 8, 182, 0, 96, 42, 180, 0, 10, 180, 0, 104, 27, 182, 0, 128]
abbrev dktX1_vent_0 : List UInt8 := dkwX1_vent_0 ++ dktX1_vent_1
theorem dksX1_vent_0 : cX1_vent.data.toList.drop 0 = dktX1_vent_0 := by decide +kernel
theorem dksX1_vent_1 : cX1_vent.data.toList.drop 23 = dktX1_vent_1 := dk_seg dksX1_vent_0 23 rfl rfl
theorem dksX1_vent_2 : cX1_vent.data.toList.drop 47 = dktX1_vent_2 := dk_seg dksX1_vent_1 24 rfl rfl
theorem dksX1_vent_3 : cX1_vent.data.toList.drop 71 = dktX1_vent_3 := dk_seg dksX1_vent_2 24 rfl rfl
theorem dksX1_vent_4 : cX1_vent.data.toList.drop 94 = dktX1_vent_4 := dk_seg dksX1_vent_3 23 rfl rfl
theorem dX1_vent_0 : decode cX1_vent 0 = .ok (.aload_n 0, 1) := dk_42 (dk_at dksX1_vent_0 0 rfl rfl)
theorem dX1_vent_1 : decode cX1_vent 1 = .ok (.iload_n 1, 1) := dk_27 (dk_at dksX1_vent_0 1 rfl rfl)
theorem dX1_vent_2 : decode cX1_vent 2 = .ok (.invokevirtual 154, 3) := dk_182 0 154 (dk_at dksX1_vent_0 2 rfl rfl)
theorem dX1_vent_5 : decode cX1_vent 5 = .ok (.aload_n 0, 1) := dk_42 (dk_at dksX1_vent_0 5 rfl rfl)
theorem dX1_vent_6 : decode cX1_vent 6 = .ok (.iload_n 2, 1) := dk_28 (dk_at dksX1_vent_0 6 rfl rfl)
theorem dX1_vent_7 : decode cX1_vent 7 = .ok (.iconst 1, 1) := dk_4 (dk_at dksX1_vent_0 7 rfl rfl)
theorem dX1_vent_8 : decode cX1_vent 8 = .ok (.iconst 5, 1) := dk_8 (dk_at dksX1_vent_0 8 rfl rfl)
theorem dX1_vent_9 : decode cX1_vent 9 = .ok (.invokevirtual 96, 3) := dk_182 0 96 (dk_at dksX1_vent_0 9 rfl rfl)
theorem dX1_vent_12 : decode cX1_vent 12 = .ok (.aload_n 0, 1) := dk_42 (dk_at dksX1_vent_0 12 rfl rfl)
theorem dX1_vent_13 : decode cX1_vent 13 = .ok (.getfield 10, 3) := dk_180 0 10 (dk_at dksX1_vent_0 13 rfl rfl)
theorem dX1_vent_16 : decode cX1_vent 16 = .ok (.getfield 104, 3) := dk_180 0 104 (dk_at dksX1_vent_0 16 rfl rfl)
theorem dX1_vent_19 : decode cX1_vent 19 = .ok (.iload_n 1, 1) := dk_27 (dk_at dksX1_vent_0 19 rfl rfl)
theorem dX1_vent_20 : decode cX1_vent 20 = .ok (.invokevirtual 128, 3) := dk_182 0 128 (dk_at dksX1_vent_0 20 rfl rfl)
theorem dX1_vent_23 : decode cX1_vent 23 = .ok (.checkcast 114, 3) := dk_192 0 114 (dk_at dksX1_vent_1 0 rfl rfl)
theorem dX1_vent_26 : decode cX1_vent 26 = .ok (.astore_n 3, 1) := dk_78 (dk_at dksX1_vent_1 3 rfl rfl)
theorem dX1_vent_27 : decode cX1_vent 27 = .ok (.aload_n 0, 1) := dk_42 (dk_at dksX1_vent_1 4 rfl rfl)
theorem dX1_vent_28 : decode cX1_vent 28 = .ok (.aload_n 3, 1) := dk_45 (dk_at dksX1_vent_1 5 rfl rfl)
theorem dX1_vent_29 : decode cX1_vent 29 = .ok (.getfield 161, 3) := dk_180 0 161 (dk_at dksX1_vent_1 6 rfl rfl)
theorem dX1_vent_32 : decode cX1_vent 32 = .ok (.iload_n 2, 1) := dk_28 (dk_at dksX1_vent_1 9 rfl rfl)
theorem dX1_vent_33 : decode cX1_vent 33 = .ok (.if_icmp .ge 7, 3) := dk_162 0 7 (dk_at dksX1_vent_1 10 rfl rfl)
theorem dX1_vent_36 : decode cX1_vent 36 = .ok (.iconst 1, 1) := dk_4 (dk_at dksX1_vent_1 13 rfl rfl)
theorem dX1_vent_37 : decode cX1_vent 37 = .ok (.goto 4, 3) := dk_167 0 4 (dk_at dksX1_vent_1 14 rfl rfl)
theorem dX1_vent_40 : decode cX1_vent 40 = .ok (.iconst 0, 1) := dk_3 (dk_at dksX1_vent_1 17 rfl rfl)
theorem dX1_vent_41 : decode cX1_vent 41 = .ok (.bipush 7, 2) := dk_16 7 (dk_at dksX1_vent_1 18 rfl rfl)
theorem dX1_vent_43 : decode cX1_vent 43 = .ok (.aload_n 3, 1) := dk_45 (dk_at dksX1_vent_1 20 rfl rfl)
theorem dX1_vent_44 : decode cX1_vent 44 = .ok (.getfield 161, 3) := dk_180 0 161 (dk_at dksX1_vent_1 21 rfl rfl)
theorem dX1_vent_47 : decode cX1_vent 47 = .ok (.invokevirtual 53, 3) := dk_182 0 53 (dk_at dksX1_vent_2 0 rfl rfl)
theorem dX1_vent_50 : decode cX1_vent 50 = .ok (.aload_n 0, 1) := dk_42 (dk_at dksX1_vent_2 3 rfl rfl)
theorem dX1_vent_51 : decode cX1_vent 51 = .ok (.invokevirtual 111, 3) := dk_182 0 111 (dk_at dksX1_vent_2 4 rfl rfl)
theorem dX1_vent_54 : decode cX1_vent 54 = .ok (.aload_n 3, 1) := dk_45 (dk_at dksX1_vent_2 7 rfl rfl)
theorem dX1_vent_55 : decode cX1_vent 55 = .ok (.dup, 1) := dk_89 (dk_at dksX1_vent_2 8 rfl rfl)
theorem dX1_vent_56 : decode cX1_vent 56 = .ok (.getfield 161, 3) := dk_180 0 161 (dk_at dksX1_vent_2 9 rfl rfl)
theorem dX1_vent_59 : decode cX1_vent 59 = .ok (.iload_n 2, 1) := dk_28 (dk_at dksX1_vent_2 12 rfl rfl)
theorem dX1_vent_60 : decode cX1_vent 60 = .ok (.isub, 1) := dk_100 (dk_at dksX1_vent_2 13 rfl rfl)
theorem dX1_vent_61 : decode cX1_vent 61 = .ok (.putfield 161, 3) := dk_181 0 161 (dk_at dksX1_vent_2 14 rfl rfl)
theorem dX1_vent_64 : decode cX1_vent 64 = .ok (.aload_n 3, 1) := dk_45 (dk_at dksX1_vent_2 17 rfl rfl)
theorem dX1_vent_65 : decode cX1_vent 65 = .ok (.iconst 0, 1) := dk_3 (dk_at dksX1_vent_2 18 rfl rfl)
theorem dX1_vent_66 : decode cX1_vent 66 = .ok (.aload_n 3, 1) := dk_45 (dk_at dksX1_vent_2 19 rfl rfl)
theorem dX1_vent_67 : decode cX1_vent 67 = .ok (.getfield 158, 3) := dk_180 0 158 (dk_at dksX1_vent_2 20 rfl rfl)
theorem dX1_vent_70 : decode cX1_vent 70 = .ok (.iload_n 2, 1) := dk_28 (dk_at dksX1_vent_2 23 rfl rfl)
theorem dX1_vent_71 : decode cX1_vent 71 = .ok (.isub, 1) := dk_100 (dk_at dksX1_vent_3 0 rfl rfl)
theorem dX1_vent_72 : decode cX1_vent 72 = .ok (.invokestatic 170, 3) := dk_184 0 170 (dk_at dksX1_vent_3 1 rfl rfl)
theorem dX1_vent_75 : decode cX1_vent 75 = .ok (.putfield 158, 3) := dk_181 0 158 (dk_at dksX1_vent_3 4 rfl rfl)
theorem dX1_vent_78 : decode cX1_vent 78 = .ok (.aload_n 3, 1) := dk_45 (dk_at dksX1_vent_3 7 rfl rfl)
theorem dX1_vent_79 : decode cX1_vent 79 = .ok (.invokevirtual 175, 3) := dk_182 0 175 (dk_at dksX1_vent_3 8 rfl rfl)
theorem dX1_vent_82 : decode cX1_vent 82 = .ok (.ifCond .eq 7, 3) := dk_153 0 7 (dk_at dksX1_vent_3 11 rfl rfl)
theorem dX1_vent_85 : decode cX1_vent 85 = .ok (.iconst 0, 1) := dk_3 (dk_at dksX1_vent_3 14 rfl rfl)
theorem dX1_vent_86 : decode cX1_vent 86 = .ok (.goto 11, 3) := dk_167 0 11 (dk_at dksX1_vent_3 15 rfl rfl)
theorem dX1_vent_89 : decode cX1_vent 89 = .ok (.aload_n 0, 1) := dk_42 (dk_at dksX1_vent_3 18 rfl rfl)
theorem dX1_vent_90 : decode cX1_vent 90 = .ok (.getfield 10, 3) := dk_180 0 10 (dk_at dksX1_vent_3 19 rfl rfl)
theorem dX1_vent_93 : decode cX1_vent 93 = .ok (.aload_n 3, 1) := dk_45 (dk_at dksX1_vent_3 22 rfl rfl)
theorem dX1_vent_94 : decode cX1_vent 94 = .ok (.invokevirtual 179, 3) := dk_182 0 179 (dk_at dksX1_vent_4 0 rfl rfl)
theorem dX1_vent_97 : decode cX1_vent 97 = .ok (.ireturn, 1) := dk_172 (dk_at dksX1_vent_4 3 rfl rfl)
def dkwX1_trade_7 : List UInt8 := [100, 181, 0, 164, 25, 5, 89, 180, 0, 164, 29, 96, 181, 0, 164, 25, 5, 180, 0, 164, 172]
abbrev dktX1_trade_7 : List UInt8 := dkwX1_trade_7 ++ []
def dkwX1_trade_6 : List UInt8 := [16, 10, 16, 20, 25, 5, 180, 0, 164, 100, 182, 0, 53, 42, 182, 0, 111, 25, 4, 89, 180, 0, 164, 29]
abbrev dktX1_trade_6 : List UInt8 := dkwX1_trade_6 ++ dktX1_trade_7
def dkwX1_trade_5 : List UInt8 := [180, 0, 164, 182, 0, 53, 42, 25, 5, 180, 0, 164, 29, 96, 16, 20, 164, 0, 7, 4, 167, 0, 4, 3]
abbrev dktX1_trade_5 : List UInt8 := dkwX1_trade_5 ++ dktX1_trade_6
def dkwX1_trade_4 : List UInt8 := [182, 0, 53, 42, 25, 4, 180, 0, 164, 29, 162, 0, 7, 4, 167, 0, 4, 3, 16, 6, 25, 4]
abbrev dktX1_trade_4 : List UInt8 := dkwX1_trade_4 ++ dktX1_trade_5
def dkwX1_trade_3 : List UInt8 := [25, 5, 182, 0, 183, 154, 0, 7, 4, 167, 0, 4, 3, 16, 9, 25, 4, 25, 5, 182, 0, 187]
abbrev dktX1_trade_3 : List UInt8 := dkwX1_trade_3 ++ dktX1_trade_4
def dkwX1_trade_2 : List UInt8 := [192, 0, 114, 58, 4, 42, 180, 0, 10, 180, 0, 104, 28, 182, 0, 128, 192, 0, 114, 58, 5, 42, 25, 4]
abbrev dktX1_trade_2 : List UInt8 := dkwX1_trade_2 ++ dktX1_trade_3
def dkwX1_trade_1 : List UInt8 := [182, 0, 53, 42, 29, 4, 16, 9, 182, 0, 96, 42, 180, 0, 10, 180, 0, 104, 27, 182, 0, 128]
abbrev dktX1_trade_1 : List UInt8 := dkwX1_trade_1 ++ dktX1_trade_2
def dkwX1_trade_0 : List UInt8 := [42, 27, 182, 0, 154, 42, 28, 182, 0, 154, 42, 27, 28, 160, 0, 7, 4, 167, 0, 4, 3, 16, 11, 27]
abbrev dktX1_trade_0 : List UInt8 := dkwX1_trade_0 ++ dktX1_trade_1
theorem dksX1_trade_0 : cX1_trade.data.toList.drop 0 = dktX1_trade_0 := by decide +kernel
theorem dksX1_trade_1 : cX1_trade.data.toList.drop 24 = dktX1_trade_1 := dk_seg dksX1_trade_0 24 rfl rfl
theorem dksX1_trade_2 : cX1_trade.data.toList.drop 46 = dktX1_trade_2 := dk_seg dksX1_trade_1 22 rfl rfl
theorem dksX1_trade_3 : cX1_trade.data.toList.drop 70 = dktX1_trade_3 := dk_seg dksX1_trade_2 24 rfl rfl
theorem dksX1_trade_4 : cX1_trade.data.toList.drop 92 = dktX1_trade_4 := dk_seg dksX1_trade_3 22 rfl rfl
theorem dksX1_trade_5 : cX1_trade.data.toList.drop 114 = dktX1_trade_5 := dk_seg dksX1_trade_4 22 rfl rfl
theorem dksX1_trade_6 : cX1_trade.data.toList.drop 138 = dktX1_trade_6 := dk_seg dksX1_trade_5 24 rfl rfl
theorem dksX1_trade_7 : cX1_trade.data.toList.drop 162 = dktX1_trade_7 := dk_seg dksX1_trade_6 24 rfl rfl
theorem dX1_trade_0 : decode cX1_trade 0 = .ok (.aload_n 0, 1) := dk_42 (dk_at dksX1_trade_0 0 rfl rfl)
theorem dX1_trade_1 : decode cX1_trade 1 = .ok (.iload_n 1, 1) := dk_27 (dk_at dksX1_trade_0 1 rfl rfl)
theorem dX1_trade_2 : decode cX1_trade 2 = .ok (.invokevirtual 154, 3) := dk_182 0 154 (dk_at dksX1_trade_0 2 rfl rfl)
theorem dX1_trade_5 : decode cX1_trade 5 = .ok (.aload_n 0, 1) := dk_42 (dk_at dksX1_trade_0 5 rfl rfl)
theorem dX1_trade_6 : decode cX1_trade 6 = .ok (.iload_n 2, 1) := dk_28 (dk_at dksX1_trade_0 6 rfl rfl)
theorem dX1_trade_7 : decode cX1_trade 7 = .ok (.invokevirtual 154, 3) := dk_182 0 154 (dk_at dksX1_trade_0 7 rfl rfl)
theorem dX1_trade_10 : decode cX1_trade 10 = .ok (.aload_n 0, 1) := dk_42 (dk_at dksX1_trade_0 10 rfl rfl)
theorem dX1_trade_11 : decode cX1_trade 11 = .ok (.iload_n 1, 1) := dk_27 (dk_at dksX1_trade_0 11 rfl rfl)
theorem dX1_trade_12 : decode cX1_trade 12 = .ok (.iload_n 2, 1) := dk_28 (dk_at dksX1_trade_0 12 rfl rfl)
theorem dX1_trade_13 : decode cX1_trade 13 = .ok (.if_icmp .ne 7, 3) := dk_160 0 7 (dk_at dksX1_trade_0 13 rfl rfl)
theorem dX1_trade_16 : decode cX1_trade 16 = .ok (.iconst 1, 1) := dk_4 (dk_at dksX1_trade_0 16 rfl rfl)
theorem dX1_trade_17 : decode cX1_trade 17 = .ok (.goto 4, 3) := dk_167 0 4 (dk_at dksX1_trade_0 17 rfl rfl)
theorem dX1_trade_20 : decode cX1_trade 20 = .ok (.iconst 0, 1) := dk_3 (dk_at dksX1_trade_0 20 rfl rfl)
theorem dX1_trade_21 : decode cX1_trade 21 = .ok (.bipush 11, 2) := dk_16 11 (dk_at dksX1_trade_0 21 rfl rfl)
theorem dX1_trade_23 : decode cX1_trade 23 = .ok (.iload_n 1, 1) := dk_27 (dk_at dksX1_trade_0 23 rfl rfl)
theorem dX1_trade_24 : decode cX1_trade 24 = .ok (.invokevirtual 53, 3) := dk_182 0 53 (dk_at dksX1_trade_1 0 rfl rfl)
theorem dX1_trade_27 : decode cX1_trade 27 = .ok (.aload_n 0, 1) := dk_42 (dk_at dksX1_trade_1 3 rfl rfl)
theorem dX1_trade_28 : decode cX1_trade 28 = .ok (.iload_n 3, 1) := dk_29 (dk_at dksX1_trade_1 4 rfl rfl)
theorem dX1_trade_29 : decode cX1_trade 29 = .ok (.iconst 1, 1) := dk_4 (dk_at dksX1_trade_1 5 rfl rfl)
theorem dX1_trade_30 : decode cX1_trade 30 = .ok (.bipush 9, 2) := dk_16 9 (dk_at dksX1_trade_1 6 rfl rfl)
theorem dX1_trade_32 : decode cX1_trade 32 = .ok (.invokevirtual 96, 3) := dk_182 0 96 (dk_at dksX1_trade_1 8 rfl rfl)
theorem dX1_trade_35 : decode cX1_trade 35 = .ok (.aload_n 0, 1) := dk_42 (dk_at dksX1_trade_1 11 rfl rfl)
theorem dX1_trade_36 : decode cX1_trade 36 = .ok (.getfield 10, 3) := dk_180 0 10 (dk_at dksX1_trade_1 12 rfl rfl)
theorem dX1_trade_39 : decode cX1_trade 39 = .ok (.getfield 104, 3) := dk_180 0 104 (dk_at dksX1_trade_1 15 rfl rfl)
theorem dX1_trade_42 : decode cX1_trade 42 = .ok (.iload_n 1, 1) := dk_27 (dk_at dksX1_trade_1 18 rfl rfl)
theorem dX1_trade_43 : decode cX1_trade 43 = .ok (.invokevirtual 128, 3) := dk_182 0 128 (dk_at dksX1_trade_1 19 rfl rfl)
theorem dX1_trade_46 : decode cX1_trade 46 = .ok (.checkcast 114, 3) := dk_192 0 114 (dk_at dksX1_trade_2 0 rfl rfl)
theorem dX1_trade_49 : decode cX1_trade 49 = .ok (.astore 4, 2) := dk_58 4 (dk_at dksX1_trade_2 3 rfl rfl)
theorem dX1_trade_51 : decode cX1_trade 51 = .ok (.aload_n 0, 1) := dk_42 (dk_at dksX1_trade_2 5 rfl rfl)
theorem dX1_trade_52 : decode cX1_trade 52 = .ok (.getfield 10, 3) := dk_180 0 10 (dk_at dksX1_trade_2 6 rfl rfl)
theorem dX1_trade_55 : decode cX1_trade 55 = .ok (.getfield 104, 3) := dk_180 0 104 (dk_at dksX1_trade_2 9 rfl rfl)
theorem dX1_trade_58 : decode cX1_trade 58 = .ok (.iload_n 2, 1) := dk_28 (dk_at dksX1_trade_2 12 rfl rfl)
theorem dX1_trade_59 : decode cX1_trade 59 = .ok (.invokevirtual 128, 3) := dk_182 0 128 (dk_at dksX1_trade_2 13 rfl rfl)
theorem dX1_trade_62 : decode cX1_trade 62 = .ok (.checkcast 114, 3) := dk_192 0 114 (dk_at dksX1_trade_2 16 rfl rfl)
theorem dX1_trade_65 : decode cX1_trade 65 = .ok (.astore 5, 2) := dk_58 5 (dk_at dksX1_trade_2 19 rfl rfl)
theorem dX1_trade_67 : decode cX1_trade 67 = .ok (.aload_n 0, 1) := dk_42 (dk_at dksX1_trade_2 21 rfl rfl)
theorem dX1_trade_68 : decode cX1_trade 68 = .ok (.aload 4, 2) := dk_25 4 (dk_at dksX1_trade_2 22 rfl rfl)
theorem dX1_trade_70 : decode cX1_trade 70 = .ok (.aload 5, 2) := dk_25 5 (dk_at dksX1_trade_3 0 rfl rfl)
theorem dX1_trade_72 : decode cX1_trade 72 = .ok (.invokevirtual 183, 3) := dk_182 0 183 (dk_at dksX1_trade_3 2 rfl rfl)
theorem dX1_trade_75 : decode cX1_trade 75 = .ok (.ifCond .ne 7, 3) := dk_154 0 7 (dk_at dksX1_trade_3 5 rfl rfl)
theorem dX1_trade_78 : decode cX1_trade 78 = .ok (.iconst 1, 1) := dk_4 (dk_at dksX1_trade_3 8 rfl rfl)
theorem dX1_trade_79 : decode cX1_trade 79 = .ok (.goto 4, 3) := dk_167 0 4 (dk_at dksX1_trade_3 9 rfl rfl)
theorem dX1_trade_82 : decode cX1_trade 82 = .ok (.iconst 0, 1) := dk_3 (dk_at dksX1_trade_3 12 rfl rfl)
theorem dX1_trade_83 : decode cX1_trade 83 = .ok (.bipush 9, 2) := dk_16 9 (dk_at dksX1_trade_3 13 rfl rfl)
theorem dX1_trade_85 : decode cX1_trade 85 = .ok (.aload 4, 2) := dk_25 4 (dk_at dksX1_trade_3 15 rfl rfl)
theorem dX1_trade_87 : decode cX1_trade 87 = .ok (.aload 5, 2) := dk_25 5 (dk_at dksX1_trade_3 17 rfl rfl)
theorem dX1_trade_89 : decode cX1_trade 89 = .ok (.invokevirtual 187, 3) := dk_182 0 187 (dk_at dksX1_trade_3 19 rfl rfl)
theorem dX1_trade_92 : decode cX1_trade 92 = .ok (.invokevirtual 53, 3) := dk_182 0 53 (dk_at dksX1_trade_4 0 rfl rfl)
theorem dX1_trade_95 : decode cX1_trade 95 = .ok (.aload_n 0, 1) := dk_42 (dk_at dksX1_trade_4 3 rfl rfl)
theorem dX1_trade_96 : decode cX1_trade 96 = .ok (.aload 4, 2) := dk_25 4 (dk_at dksX1_trade_4 4 rfl rfl)
theorem dX1_trade_98 : decode cX1_trade 98 = .ok (.getfield 164, 3) := dk_180 0 164 (dk_at dksX1_trade_4 6 rfl rfl)
theorem dX1_trade_101 : decode cX1_trade 101 = .ok (.iload_n 3, 1) := dk_29 (dk_at dksX1_trade_4 9 rfl rfl)
theorem dX1_trade_102 : decode cX1_trade 102 = .ok (.if_icmp .ge 7, 3) := dk_162 0 7 (dk_at dksX1_trade_4 10 rfl rfl)
theorem dX1_trade_105 : decode cX1_trade 105 = .ok (.iconst 1, 1) := dk_4 (dk_at dksX1_trade_4 13 rfl rfl)
theorem dX1_trade_106 : decode cX1_trade 106 = .ok (.goto 4, 3) := dk_167 0 4 (dk_at dksX1_trade_4 14 rfl rfl)
theorem dX1_trade_109 : decode cX1_trade 109 = .ok (.iconst 0, 1) := dk_3 (dk_at dksX1_trade_4 17 rfl rfl)
theorem dX1_trade_110 : decode cX1_trade 110 = .ok (.bipush 6, 2) := dk_16 6 (dk_at dksX1_trade_4 18 rfl rfl)
theorem dX1_trade_112 : decode cX1_trade 112 = .ok (.aload 4, 2) := dk_25 4 (dk_at dksX1_trade_4 20 rfl rfl)
theorem dX1_trade_114 : decode cX1_trade 114 = .ok (.getfield 164, 3) := dk_180 0 164 (dk_at dksX1_trade_5 0 rfl rfl)
theorem dX1_trade_117 : decode cX1_trade 117 = .ok (.invokevirtual 53, 3) := dk_182 0 53 (dk_at dksX1_trade_5 3 rfl rfl)
theorem dX1_trade_120 : decode cX1_trade 120 = .ok (.aload_n 0, 1) := dk_42 (dk_at dksX1_trade_5 6 rfl rfl)
theorem dX1_trade_121 : decode cX1_trade 121 = .ok (.aload 5, 2) := dk_25 5 (dk_at dksX1_trade_5 7 rfl rfl)
theorem dX1_trade_123 : decode cX1_trade 123 = .ok (.getfield 164, 3) := dk_180 0 164 (dk_at dksX1_trade_5 9 rfl rfl)
theorem dX1_trade_126 : decode cX1_trade 126 = .ok (.iload_n 3, 1) := dk_29 (dk_at dksX1_trade_5 12 rfl rfl)
theorem dX1_trade_127 : decode cX1_trade 127 = .ok (.iadd, 1) := dk_96 (dk_at dksX1_trade_5 13 rfl rfl)
theorem dX1_trade_128 : decode cX1_trade 128 = .ok (.bipush 20, 2) := dk_16 20 (dk_at dksX1_trade_5 14 rfl rfl)
theorem dX1_trade_130 : decode cX1_trade 130 = .ok (.if_icmp .le 7, 3) := dk_164 0 7 (dk_at dksX1_trade_5 16 rfl rfl)
theorem dX1_trade_133 : decode cX1_trade 133 = .ok (.iconst 1, 1) := dk_4 (dk_at dksX1_trade_5 19 rfl rfl)
theorem dX1_trade_134 : decode cX1_trade 134 = .ok (.goto 4, 3) := dk_167 0 4 (dk_at dksX1_trade_5 20 rfl rfl)
theorem dX1_trade_137 : decode cX1_trade 137 = .ok (.iconst 0, 1) := dk_3 (dk_at dksX1_trade_5 23 rfl rfl)
theorem dX1_trade_138 : decode cX1_trade 138 = .ok (.bipush 10, 2) := dk_16 10 (dk_at dksX1_trade_6 0 rfl rfl)
theorem dX1_trade_140 : decode cX1_trade 140 = .ok (.bipush 20, 2) := dk_16 20 (dk_at dksX1_trade_6 2 rfl rfl)
theorem dX1_trade_142 : decode cX1_trade 142 = .ok (.aload 5, 2) := dk_25 5 (dk_at dksX1_trade_6 4 rfl rfl)
theorem dX1_trade_144 : decode cX1_trade 144 = .ok (.getfield 164, 3) := dk_180 0 164 (dk_at dksX1_trade_6 6 rfl rfl)
theorem dX1_trade_147 : decode cX1_trade 147 = .ok (.isub, 1) := dk_100 (dk_at dksX1_trade_6 9 rfl rfl)
theorem dX1_trade_148 : decode cX1_trade 148 = .ok (.invokevirtual 53, 3) := dk_182 0 53 (dk_at dksX1_trade_6 10 rfl rfl)
theorem dX1_trade_151 : decode cX1_trade 151 = .ok (.aload_n 0, 1) := dk_42 (dk_at dksX1_trade_6 13 rfl rfl)
theorem dX1_trade_152 : decode cX1_trade 152 = .ok (.invokevirtual 111, 3) := dk_182 0 111 (dk_at dksX1_trade_6 14 rfl rfl)
theorem dX1_trade_155 : decode cX1_trade 155 = .ok (.aload 4, 2) := dk_25 4 (dk_at dksX1_trade_6 17 rfl rfl)
theorem dX1_trade_157 : decode cX1_trade 157 = .ok (.dup, 1) := dk_89 (dk_at dksX1_trade_6 19 rfl rfl)
theorem dX1_trade_158 : decode cX1_trade 158 = .ok (.getfield 164, 3) := dk_180 0 164 (dk_at dksX1_trade_6 20 rfl rfl)
theorem dX1_trade_161 : decode cX1_trade 161 = .ok (.iload_n 3, 1) := dk_29 (dk_at dksX1_trade_6 23 rfl rfl)
theorem dX1_trade_162 : decode cX1_trade 162 = .ok (.isub, 1) := dk_100 (dk_at dksX1_trade_7 0 rfl rfl)
theorem dX1_trade_163 : decode cX1_trade 163 = .ok (.putfield 164, 3) := dk_181 0 164 (dk_at dksX1_trade_7 1 rfl rfl)
theorem dX1_trade_166 : decode cX1_trade 166 = .ok (.aload 5, 2) := dk_25 5 (dk_at dksX1_trade_7 4 rfl rfl)
theorem dX1_trade_168 : decode cX1_trade 168 = .ok (.dup, 1) := dk_89 (dk_at dksX1_trade_7 6 rfl rfl)
theorem dX1_trade_169 : decode cX1_trade 169 = .ok (.getfield 164, 3) := dk_180 0 164 (dk_at dksX1_trade_7 7 rfl rfl)
theorem dX1_trade_172 : decode cX1_trade 172 = .ok (.iload_n 3, 1) := dk_29 (dk_at dksX1_trade_7 10 rfl rfl)
theorem dX1_trade_173 : decode cX1_trade 173 = .ok (.iadd, 1) := dk_96 (dk_at dksX1_trade_7 11 rfl rfl)
theorem dX1_trade_174 : decode cX1_trade 174 = .ok (.putfield 164, 3) := dk_181 0 164 (dk_at dksX1_trade_7 12 rfl rfl)
theorem dX1_trade_177 : decode cX1_trade 177 = .ok (.aload 5, 2) := dk_25 5 (dk_at dksX1_trade_7 15 rfl rfl)
theorem dX1_trade_179 : decode cX1_trade 179 = .ok (.getfield 164, 3) := dk_180 0 164 (dk_at dksX1_trade_7 17 rfl rfl)
theorem dX1_trade_182 : decode cX1_trade 182 = .ok (.ireturn, 1) := dk_172 (dk_at dksX1_trade_7 20 rfl rfl)
def dkwX1_seal_2 : List UInt8 := [182, 0, 53, 42, 182, 0, 111, 45, 28, 181, 0, 190, 21, 4, 172]
abbrev dktX1_seal_2 : List UInt8 := dkwX1_seal_2 ++ []
def dkwX1_seal_1 : List UInt8 := [192, 0, 114, 78, 45, 180, 0, 190, 54, 4, 42, 21, 4, 28, 160, 0, 7, 4, 167, 0, 4, 3, 6, 28]
abbrev dktX1_seal_1 : List UInt8 := dkwX1_seal_1 ++ dktX1_seal_2
def dkwX1_seal_0 : List UInt8 := [42, 27, 182, 0, 154, 42, 28, 3, 8, 182, 0, 96, 42, 180, 0, 10, 180, 0, 104, 27, 182, 0, 128]
abbrev dktX1_seal_0 : List UInt8 := dkwX1_seal_0 ++ dktX1_seal_1
theorem dksX1_seal_0 : cX1_seal.data.toList.drop 0 = dktX1_seal_0 := by decide +kernel
theorem dksX1_seal_1 : cX1_seal.data.toList.drop 23 = dktX1_seal_1 := dk_seg dksX1_seal_0 23 rfl rfl
theorem dksX1_seal_2 : cX1_seal.data.toList.drop 47 = dktX1_seal_2 := dk_seg dksX1_seal_1 24 rfl rfl
theorem dX1_seal_0 : decode cX1_seal 0 = .ok (.aload_n 0, 1) := dk_42 (dk_at dksX1_seal_0 0 rfl rfl)
theorem dX1_seal_1 : decode cX1_seal 1 = .ok (.iload_n 1, 1) := dk_27 (dk_at dksX1_seal_0 1 rfl rfl)
theorem dX1_seal_2 : decode cX1_seal 2 = .ok (.invokevirtual 154, 3) := dk_182 0 154 (dk_at dksX1_seal_0 2 rfl rfl)
theorem dX1_seal_5 : decode cX1_seal 5 = .ok (.aload_n 0, 1) := dk_42 (dk_at dksX1_seal_0 5 rfl rfl)
theorem dX1_seal_6 : decode cX1_seal 6 = .ok (.iload_n 2, 1) := dk_28 (dk_at dksX1_seal_0 6 rfl rfl)
theorem dX1_seal_7 : decode cX1_seal 7 = .ok (.iconst 0, 1) := dk_3 (dk_at dksX1_seal_0 7 rfl rfl)
theorem dX1_seal_8 : decode cX1_seal 8 = .ok (.iconst 5, 1) := dk_8 (dk_at dksX1_seal_0 8 rfl rfl)
theorem dX1_seal_9 : decode cX1_seal 9 = .ok (.invokevirtual 96, 3) := dk_182 0 96 (dk_at dksX1_seal_0 9 rfl rfl)
theorem dX1_seal_12 : decode cX1_seal 12 = .ok (.aload_n 0, 1) := dk_42 (dk_at dksX1_seal_0 12 rfl rfl)
theorem dX1_seal_13 : decode cX1_seal 13 = .ok (.getfield 10, 3) := dk_180 0 10 (dk_at dksX1_seal_0 13 rfl rfl)
theorem dX1_seal_16 : decode cX1_seal 16 = .ok (.getfield 104, 3) := dk_180 0 104 (dk_at dksX1_seal_0 16 rfl rfl)
theorem dX1_seal_19 : decode cX1_seal 19 = .ok (.iload_n 1, 1) := dk_27 (dk_at dksX1_seal_0 19 rfl rfl)
theorem dX1_seal_20 : decode cX1_seal 20 = .ok (.invokevirtual 128, 3) := dk_182 0 128 (dk_at dksX1_seal_0 20 rfl rfl)
theorem dX1_seal_23 : decode cX1_seal 23 = .ok (.checkcast 114, 3) := dk_192 0 114 (dk_at dksX1_seal_1 0 rfl rfl)
theorem dX1_seal_26 : decode cX1_seal 26 = .ok (.astore_n 3, 1) := dk_78 (dk_at dksX1_seal_1 3 rfl rfl)
theorem dX1_seal_27 : decode cX1_seal 27 = .ok (.aload_n 3, 1) := dk_45 (dk_at dksX1_seal_1 4 rfl rfl)
theorem dX1_seal_28 : decode cX1_seal 28 = .ok (.getfield 190, 3) := dk_180 0 190 (dk_at dksX1_seal_1 5 rfl rfl)
theorem dX1_seal_31 : decode cX1_seal 31 = .ok (.istore 4, 2) := dk_54 4 (dk_at dksX1_seal_1 8 rfl rfl)
theorem dX1_seal_33 : decode cX1_seal 33 = .ok (.aload_n 0, 1) := dk_42 (dk_at dksX1_seal_1 10 rfl rfl)
theorem dX1_seal_34 : decode cX1_seal 34 = .ok (.iload 4, 2) := dk_21 4 (dk_at dksX1_seal_1 11 rfl rfl)
theorem dX1_seal_36 : decode cX1_seal 36 = .ok (.iload_n 2, 1) := dk_28 (dk_at dksX1_seal_1 13 rfl rfl)
theorem dX1_seal_37 : decode cX1_seal 37 = .ok (.if_icmp .ne 7, 3) := dk_160 0 7 (dk_at dksX1_seal_1 14 rfl rfl)
theorem dX1_seal_40 : decode cX1_seal 40 = .ok (.iconst 1, 1) := dk_4 (dk_at dksX1_seal_1 17 rfl rfl)
theorem dX1_seal_41 : decode cX1_seal 41 = .ok (.goto 4, 3) := dk_167 0 4 (dk_at dksX1_seal_1 18 rfl rfl)
theorem dX1_seal_44 : decode cX1_seal 44 = .ok (.iconst 0, 1) := dk_3 (dk_at dksX1_seal_1 21 rfl rfl)
theorem dX1_seal_45 : decode cX1_seal 45 = .ok (.iconst 3, 1) := dk_6 (dk_at dksX1_seal_1 22 rfl rfl)
theorem dX1_seal_46 : decode cX1_seal 46 = .ok (.iload_n 2, 1) := dk_28 (dk_at dksX1_seal_1 23 rfl rfl)
theorem dX1_seal_47 : decode cX1_seal 47 = .ok (.invokevirtual 53, 3) := dk_182 0 53 (dk_at dksX1_seal_2 0 rfl rfl)
theorem dX1_seal_50 : decode cX1_seal 50 = .ok (.aload_n 0, 1) := dk_42 (dk_at dksX1_seal_2 3 rfl rfl)
theorem dX1_seal_51 : decode cX1_seal 51 = .ok (.invokevirtual 111, 3) := dk_182 0 111 (dk_at dksX1_seal_2 4 rfl rfl)
theorem dX1_seal_54 : decode cX1_seal 54 = .ok (.aload_n 3, 1) := dk_45 (dk_at dksX1_seal_2 7 rfl rfl)
theorem dX1_seal_55 : decode cX1_seal 55 = .ok (.iload_n 2, 1) := dk_28 (dk_at dksX1_seal_2 8 rfl rfl)
theorem dX1_seal_56 : decode cX1_seal 56 = .ok (.putfield 190, 3) := dk_181 0 190 (dk_at dksX1_seal_2 9 rfl rfl)
theorem dX1_seal_59 : decode cX1_seal 59 = .ok (.iload 4, 2) := dk_21 4 (dk_at dksX1_seal_2 12 rfl rfl)
theorem dX1_seal_61 : decode cX1_seal 61 = .ok (.ireturn, 1) := dk_172 (dk_at dksX1_seal_2 14 rfl rfl)
def dkwX1_hour_1 : List UInt8 := [180, 0, 10, 182, 0, 193, 96, 61, 132, 3, 1, 167, 255, 238, 28, 172]
abbrev dktX1_hour_1 : List UInt8 := dkwX1_hour_1 ++ []
def dkwX1_hour_0 : List UInt8 := [42, 27, 4, 16, 24, 182, 0, 96, 42, 182, 0, 111, 3, 61, 3, 62, 29, 27, 162, 0, 19, 28, 42]
abbrev dktX1_hour_0 : List UInt8 := dkwX1_hour_0 ++ dktX1_hour_1
theorem dksX1_hour_0 : cX1_hour.data.toList.drop 0 = dktX1_hour_0 := by decide +kernel
theorem dksX1_hour_1 : cX1_hour.data.toList.drop 23 = dktX1_hour_1 := dk_seg dksX1_hour_0 23 rfl rfl
theorem dX1_hour_0 : decode cX1_hour 0 = .ok (.aload_n 0, 1) := dk_42 (dk_at dksX1_hour_0 0 rfl rfl)
theorem dX1_hour_1 : decode cX1_hour 1 = .ok (.iload_n 1, 1) := dk_27 (dk_at dksX1_hour_0 1 rfl rfl)
theorem dX1_hour_2 : decode cX1_hour 2 = .ok (.iconst 1, 1) := dk_4 (dk_at dksX1_hour_0 2 rfl rfl)
theorem dX1_hour_3 : decode cX1_hour 3 = .ok (.bipush 24, 2) := dk_16 24 (dk_at dksX1_hour_0 3 rfl rfl)
theorem dX1_hour_5 : decode cX1_hour 5 = .ok (.invokevirtual 96, 3) := dk_182 0 96 (dk_at dksX1_hour_0 5 rfl rfl)
theorem dX1_hour_8 : decode cX1_hour 8 = .ok (.aload_n 0, 1) := dk_42 (dk_at dksX1_hour_0 8 rfl rfl)
theorem dX1_hour_9 : decode cX1_hour 9 = .ok (.invokevirtual 111, 3) := dk_182 0 111 (dk_at dksX1_hour_0 9 rfl rfl)
theorem dX1_hour_12 : decode cX1_hour 12 = .ok (.iconst 0, 1) := dk_3 (dk_at dksX1_hour_0 12 rfl rfl)
theorem dX1_hour_13 : decode cX1_hour 13 = .ok (.istore_n 2, 1) := dk_61 (dk_at dksX1_hour_0 13 rfl rfl)
theorem dX1_hour_14 : decode cX1_hour 14 = .ok (.iconst 0, 1) := dk_3 (dk_at dksX1_hour_0 14 rfl rfl)
theorem dX1_hour_15 : decode cX1_hour 15 = .ok (.istore_n 3, 1) := dk_62 (dk_at dksX1_hour_0 15 rfl rfl)
theorem dX1_hour_16 : decode cX1_hour 16 = .ok (.iload_n 3, 1) := dk_29 (dk_at dksX1_hour_0 16 rfl rfl)
theorem dX1_hour_17 : decode cX1_hour 17 = .ok (.iload_n 1, 1) := dk_27 (dk_at dksX1_hour_0 17 rfl rfl)
theorem dX1_hour_18 : decode cX1_hour 18 = .ok (.if_icmp .ge 19, 3) := dk_162 0 19 (dk_at dksX1_hour_0 18 rfl rfl)
theorem dX1_hour_21 : decode cX1_hour 21 = .ok (.iload_n 2, 1) := dk_28 (dk_at dksX1_hour_0 21 rfl rfl)
theorem dX1_hour_22 : decode cX1_hour 22 = .ok (.aload_n 0, 1) := dk_42 (dk_at dksX1_hour_0 22 rfl rfl)
theorem dX1_hour_23 : decode cX1_hour 23 = .ok (.getfield 10, 3) := dk_180 0 10 (dk_at dksX1_hour_1 0 rfl rfl)
theorem dX1_hour_26 : decode cX1_hour 26 = .ok (.invokevirtual 193, 3) := dk_182 0 193 (dk_at dksX1_hour_1 3 rfl rfl)
theorem dX1_hour_29 : decode cX1_hour 29 = .ok (.iadd, 1) := dk_96 (dk_at dksX1_hour_1 6 rfl rfl)
theorem dX1_hour_30 : decode cX1_hour 30 = .ok (.istore_n 2, 1) := dk_61 (dk_at dksX1_hour_1 7 rfl rfl)
theorem dX1_hour_31 : decode cX1_hour 31 = .ok (.iinc 3 1, 3) := dk_132 3 1 (dk_at dksX1_hour_1 8 rfl rfl)
theorem dX1_hour_34 : decode cX1_hour 34 = .ok (.goto (-18), 3) := dk_167 255 238 (dk_at dksX1_hour_1 11 rfl rfl)
theorem dX1_hour_37 : decode cX1_hour 37 = .ok (.iload_n 2, 1) := dk_28 (dk_at dksX1_hour_1 14 rfl rfl)
theorem dX1_hour_38 : decode cX1_hour 38 = .ok (.ireturn, 1) := dk_172 (dk_at dksX1_hour_1 15 rfl rfl)
def dkwX1_retire_1 : List UInt8 := [180, 0, 10, 180, 0, 104, 182, 0, 108, 172]
abbrev dktX1_retire_1 : List UInt8 := dkwX1_retire_1 ++ []
def dkwX1_retire_0 : List UInt8 := [42, 27, 182, 0, 154, 42, 182, 0, 111, 42, 180, 0, 10, 180, 0, 104, 27, 182, 0, 196, 87, 42]
abbrev dktX1_retire_0 : List UInt8 := dkwX1_retire_0 ++ dktX1_retire_1
theorem dksX1_retire_0 : cX1_retire.data.toList.drop 0 = dktX1_retire_0 := by decide +kernel
theorem dksX1_retire_1 : cX1_retire.data.toList.drop 22 = dktX1_retire_1 := dk_seg dksX1_retire_0 22 rfl rfl
theorem dX1_retire_0 : decode cX1_retire 0 = .ok (.aload_n 0, 1) := dk_42 (dk_at dksX1_retire_0 0 rfl rfl)
theorem dX1_retire_1 : decode cX1_retire 1 = .ok (.iload_n 1, 1) := dk_27 (dk_at dksX1_retire_0 1 rfl rfl)
theorem dX1_retire_2 : decode cX1_retire 2 = .ok (.invokevirtual 154, 3) := dk_182 0 154 (dk_at dksX1_retire_0 2 rfl rfl)
theorem dX1_retire_5 : decode cX1_retire 5 = .ok (.aload_n 0, 1) := dk_42 (dk_at dksX1_retire_0 5 rfl rfl)
theorem dX1_retire_6 : decode cX1_retire 6 = .ok (.invokevirtual 111, 3) := dk_182 0 111 (dk_at dksX1_retire_0 6 rfl rfl)
theorem dX1_retire_9 : decode cX1_retire 9 = .ok (.aload_n 0, 1) := dk_42 (dk_at dksX1_retire_0 9 rfl rfl)
theorem dX1_retire_10 : decode cX1_retire 10 = .ok (.getfield 10, 3) := dk_180 0 10 (dk_at dksX1_retire_0 10 rfl rfl)
theorem dX1_retire_13 : decode cX1_retire 13 = .ok (.getfield 104, 3) := dk_180 0 104 (dk_at dksX1_retire_0 13 rfl rfl)
theorem dX1_retire_16 : decode cX1_retire 16 = .ok (.iload_n 1, 1) := dk_27 (dk_at dksX1_retire_0 16 rfl rfl)
theorem dX1_retire_17 : decode cX1_retire 17 = .ok (.invokevirtual 196, 3) := dk_182 0 196 (dk_at dksX1_retire_0 17 rfl rfl)
theorem dX1_retire_20 : decode cX1_retire 20 = .ok (.pop, 1) := dk_87 (dk_at dksX1_retire_0 20 rfl rfl)
theorem dX1_retire_21 : decode cX1_retire 21 = .ok (.aload_n 0, 1) := dk_42 (dk_at dksX1_retire_0 21 rfl rfl)
theorem dX1_retire_22 : decode cX1_retire 22 = .ok (.getfield 10, 3) := dk_180 0 10 (dk_at dksX1_retire_1 0 rfl rfl)
theorem dX1_retire_25 : decode cX1_retire 25 = .ok (.getfield 104, 3) := dk_180 0 104 (dk_at dksX1_retire_1 3 rfl rfl)
theorem dX1_retire_28 : decode cX1_retire 28 = .ok (.invokevirtual 108, 3) := dk_182 0 108 (dk_at dksX1_retire_1 6 rfl rfl)
theorem dX1_retire_31 : decode cX1_retire 31 = .ok (.ireturn, 1) := dk_172 (dk_at dksX1_retire_1 9 rfl rfl)
def dkwX1_balloonOf_5 : List UInt8 := [45, 180, 0, 190, 172]
abbrev dktX1_balloonOf_5 : List UInt8 := dkwX1_balloonOf_5 ++ []
def dkwX1_balloonOf_4 : List UInt8 := [180, 0, 164, 172, 45, 180, 0, 158, 172, 45, 180, 0, 210, 172, 45, 180, 0, 213, 172, 45, 180, 0, 216, 172]
abbrev dktX1_balloonOf_4 : List UInt8 := dkwX1_balloonOf_4 ++ dktX1_balloonOf_5
def dkwX1_balloonOf_3 : List UInt8 := [45, 180, 0, 209, 16, 10, 112, 172, 45, 180, 0, 209, 16, 10, 108, 172, 45, 180, 0, 161, 172, 45]
abbrev dktX1_balloonOf_3 : List UInt8 := dkwX1_balloonOf_3 ++ dktX1_balloonOf_4
def dkwX1_balloonOf_2 : List UInt8 := [170, 0, 0, 0, 91, 0, 0, 0, 0, 0, 0, 0, 7, 0, 0, 0, 45, 0, 0, 0, 53, 0, 0, 0, 61, 0, 0, 0, 66, 0, 0, 0, 71, 0, 0, 0, 76, 0, 0, 0, 81, 0, 0, 0, 86]
abbrev dktX1_balloonOf_2 : List UInt8 := dkwX1_balloonOf_2 ++ dktX1_balloonOf_3
def dkwX1_balloonOf_1 : List UInt8 := [182, 0, 128, 192, 0, 114, 78, 28]
abbrev dktX1_balloonOf_1 : List UInt8 := dkwX1_balloonOf_1 ++ dktX1_balloonOf_2
def dkwX1_balloonOf_0 : List UInt8 := [42, 27, 182, 0, 203, 28, 3, 16, 8, 184, 0, 49, 184, 0, 206, 42, 180, 0, 10, 180, 0, 104, 27]
abbrev dktX1_balloonOf_0 : List UInt8 := dkwX1_balloonOf_0 ++ dktX1_balloonOf_1
theorem dksX1_balloonOf_0 : cX1_balloonOf.data.toList.drop 0 = dktX1_balloonOf_0 := by decide +kernel
theorem dksX1_balloonOf_1 : cX1_balloonOf.data.toList.drop 23 = dktX1_balloonOf_1 := dk_seg dksX1_balloonOf_0 23 rfl rfl
theorem dksX1_balloonOf_2 : cX1_balloonOf.data.toList.drop 31 = dktX1_balloonOf_2 := dk_seg dksX1_balloonOf_1 8 rfl rfl
theorem dksX1_balloonOf_3 : cX1_balloonOf.data.toList.drop 76 = dktX1_balloonOf_3 := dk_seg dksX1_balloonOf_2 45 rfl rfl
theorem dksX1_balloonOf_4 : cX1_balloonOf.data.toList.drop 98 = dktX1_balloonOf_4 := dk_seg dksX1_balloonOf_3 22 rfl rfl
theorem dksX1_balloonOf_5 : cX1_balloonOf.data.toList.drop 122 = dktX1_balloonOf_5 := dk_seg dksX1_balloonOf_4 24 rfl rfl
theorem dX1_balloonOf_0 : decode cX1_balloonOf 0 = .ok (.aload_n 0, 1) := dk_42 (dk_at dksX1_balloonOf_0 0 rfl rfl)
theorem dX1_balloonOf_1 : decode cX1_balloonOf 1 = .ok (.iload_n 1, 1) := dk_27 (dk_at dksX1_balloonOf_0 1 rfl rfl)
theorem dX1_balloonOf_2 : decode cX1_balloonOf 2 = .ok (.invokevirtual 203, 3) := dk_182 0 203 (dk_at dksX1_balloonOf_0 2 rfl rfl)
theorem dX1_balloonOf_5 : decode cX1_balloonOf 5 = .ok (.iload_n 2, 1) := dk_28 (dk_at dksX1_balloonOf_0 5 rfl rfl)
theorem dX1_balloonOf_6 : decode cX1_balloonOf 6 = .ok (.iconst 0, 1) := dk_3 (dk_at dksX1_balloonOf_0 6 rfl rfl)
theorem dX1_balloonOf_7 : decode cX1_balloonOf 7 = .ok (.bipush 8, 2) := dk_16 8 (dk_at dksX1_balloonOf_0 7 rfl rfl)
theorem dX1_balloonOf_9 : decode cX1_balloonOf 9 = .ok (.invokestatic 49, 3) := dk_184 0 49 (dk_at dksX1_balloonOf_0 9 rfl rfl)
theorem dX1_balloonOf_12 : decode cX1_balloonOf 12 = .ok (.invokestatic 206, 3) := dk_184 0 206 (dk_at dksX1_balloonOf_0 12 rfl rfl)
theorem dX1_balloonOf_15 : decode cX1_balloonOf 15 = .ok (.aload_n 0, 1) := dk_42 (dk_at dksX1_balloonOf_0 15 rfl rfl)
theorem dX1_balloonOf_16 : decode cX1_balloonOf 16 = .ok (.getfield 10, 3) := dk_180 0 10 (dk_at dksX1_balloonOf_0 16 rfl rfl)
theorem dX1_balloonOf_19 : decode cX1_balloonOf 19 = .ok (.getfield 104, 3) := dk_180 0 104 (dk_at dksX1_balloonOf_0 19 rfl rfl)
theorem dX1_balloonOf_22 : decode cX1_balloonOf 22 = .ok (.iload_n 1, 1) := dk_27 (dk_at dksX1_balloonOf_0 22 rfl rfl)
theorem dX1_balloonOf_23 : decode cX1_balloonOf 23 = .ok (.invokevirtual 128, 3) := dk_182 0 128 (dk_at dksX1_balloonOf_1 0 rfl rfl)
theorem dX1_balloonOf_26 : decode cX1_balloonOf 26 = .ok (.checkcast 114, 3) := dk_192 0 114 (dk_at dksX1_balloonOf_1 3 rfl rfl)
theorem dX1_balloonOf_29 : decode cX1_balloonOf 29 = .ok (.astore_n 3, 1) := dk_78 (dk_at dksX1_balloonOf_1 6 rfl rfl)
theorem dX1_balloonOf_30 : decode cX1_balloonOf 30 = .ok (.iload_n 2, 1) := dk_28 (dk_at dksX1_balloonOf_1 7 rfl rfl)
theorem dX1_balloonOf_31 : decode cX1_balloonOf 31 = .ok (.tableswitch 91 0 7 #[45, 53, 61, 66, 71, 76, 81, 86], 45) := by decide +kernel
theorem dX1_balloonOf_76 : decode cX1_balloonOf 76 = .ok (.aload_n 3, 1) := dk_45 (dk_at dksX1_balloonOf_3 0 rfl rfl)
theorem dX1_balloonOf_77 : decode cX1_balloonOf 77 = .ok (.getfield 209, 3) := dk_180 0 209 (dk_at dksX1_balloonOf_3 1 rfl rfl)
theorem dX1_balloonOf_80 : decode cX1_balloonOf 80 = .ok (.bipush 10, 2) := dk_16 10 (dk_at dksX1_balloonOf_3 4 rfl rfl)
theorem dX1_balloonOf_82 : decode cX1_balloonOf 82 = .ok (.irem, 1) := dk_112 (dk_at dksX1_balloonOf_3 6 rfl rfl)
theorem dX1_balloonOf_83 : decode cX1_balloonOf 83 = .ok (.ireturn, 1) := dk_172 (dk_at dksX1_balloonOf_3 7 rfl rfl)
theorem dX1_balloonOf_84 : decode cX1_balloonOf 84 = .ok (.aload_n 3, 1) := dk_45 (dk_at dksX1_balloonOf_3 8 rfl rfl)
theorem dX1_balloonOf_85 : decode cX1_balloonOf 85 = .ok (.getfield 209, 3) := dk_180 0 209 (dk_at dksX1_balloonOf_3 9 rfl rfl)
theorem dX1_balloonOf_88 : decode cX1_balloonOf 88 = .ok (.bipush 10, 2) := dk_16 10 (dk_at dksX1_balloonOf_3 12 rfl rfl)
theorem dX1_balloonOf_90 : decode cX1_balloonOf 90 = .ok (.idiv, 1) := dk_108 (dk_at dksX1_balloonOf_3 14 rfl rfl)
theorem dX1_balloonOf_91 : decode cX1_balloonOf 91 = .ok (.ireturn, 1) := dk_172 (dk_at dksX1_balloonOf_3 15 rfl rfl)
theorem dX1_balloonOf_92 : decode cX1_balloonOf 92 = .ok (.aload_n 3, 1) := dk_45 (dk_at dksX1_balloonOf_3 16 rfl rfl)
theorem dX1_balloonOf_93 : decode cX1_balloonOf 93 = .ok (.getfield 161, 3) := dk_180 0 161 (dk_at dksX1_balloonOf_3 17 rfl rfl)
theorem dX1_balloonOf_96 : decode cX1_balloonOf 96 = .ok (.ireturn, 1) := dk_172 (dk_at dksX1_balloonOf_3 20 rfl rfl)
theorem dX1_balloonOf_97 : decode cX1_balloonOf 97 = .ok (.aload_n 3, 1) := dk_45 (dk_at dksX1_balloonOf_3 21 rfl rfl)
theorem dX1_balloonOf_98 : decode cX1_balloonOf 98 = .ok (.getfield 164, 3) := dk_180 0 164 (dk_at dksX1_balloonOf_4 0 rfl rfl)
theorem dX1_balloonOf_101 : decode cX1_balloonOf 101 = .ok (.ireturn, 1) := dk_172 (dk_at dksX1_balloonOf_4 3 rfl rfl)
theorem dX1_balloonOf_102 : decode cX1_balloonOf 102 = .ok (.aload_n 3, 1) := dk_45 (dk_at dksX1_balloonOf_4 4 rfl rfl)
theorem dX1_balloonOf_103 : decode cX1_balloonOf 103 = .ok (.getfield 158, 3) := dk_180 0 158 (dk_at dksX1_balloonOf_4 5 rfl rfl)
theorem dX1_balloonOf_106 : decode cX1_balloonOf 106 = .ok (.ireturn, 1) := dk_172 (dk_at dksX1_balloonOf_4 8 rfl rfl)
theorem dX1_balloonOf_107 : decode cX1_balloonOf 107 = .ok (.aload_n 3, 1) := dk_45 (dk_at dksX1_balloonOf_4 9 rfl rfl)
theorem dX1_balloonOf_108 : decode cX1_balloonOf 108 = .ok (.getfield 210, 3) := dk_180 0 210 (dk_at dksX1_balloonOf_4 10 rfl rfl)
theorem dX1_balloonOf_111 : decode cX1_balloonOf 111 = .ok (.ireturn, 1) := dk_172 (dk_at dksX1_balloonOf_4 13 rfl rfl)
theorem dX1_balloonOf_112 : decode cX1_balloonOf 112 = .ok (.aload_n 3, 1) := dk_45 (dk_at dksX1_balloonOf_4 14 rfl rfl)
theorem dX1_balloonOf_113 : decode cX1_balloonOf 113 = .ok (.getfield 213, 3) := dk_180 0 213 (dk_at dksX1_balloonOf_4 15 rfl rfl)
theorem dX1_balloonOf_116 : decode cX1_balloonOf 116 = .ok (.ireturn, 1) := dk_172 (dk_at dksX1_balloonOf_4 18 rfl rfl)
theorem dX1_balloonOf_117 : decode cX1_balloonOf 117 = .ok (.aload_n 3, 1) := dk_45 (dk_at dksX1_balloonOf_4 19 rfl rfl)
theorem dX1_balloonOf_118 : decode cX1_balloonOf 118 = .ok (.getfield 216, 3) := dk_180 0 216 (dk_at dksX1_balloonOf_4 20 rfl rfl)
theorem dX1_balloonOf_121 : decode cX1_balloonOf 121 = .ok (.ireturn, 1) := dk_172 (dk_at dksX1_balloonOf_4 23 rfl rfl)
theorem dX1_balloonOf_122 : decode cX1_balloonOf 122 = .ok (.aload_n 3, 1) := dk_45 (dk_at dksX1_balloonOf_5 0 rfl rfl)
theorem dX1_balloonOf_123 : decode cX1_balloonOf 123 = .ok (.getfield 190, 3) := dk_180 0 190 (dk_at dksX1_balloonOf_5 1 rfl rfl)
theorem dX1_balloonOf_126 : decode cX1_balloonOf 126 = .ok (.ireturn, 1) := dk_172 (dk_at dksX1_balloonOf_5 4 rfl rfl)
def dkwX1_checkBalloon_0 : List UInt8 := [42, 180, 0, 10, 27, 182, 0, 93, 184, 0, 199, 177]
abbrev dktX1_checkBalloon_0 : List UInt8 := dkwX1_checkBalloon_0 ++ []
theorem dksX1_checkBalloon_0 : cX1_checkBalloon.data.toList.drop 0 = dktX1_checkBalloon_0 := by decide +kernel
theorem dX1_checkBalloon_0 : decode cX1_checkBalloon 0 = .ok (.aload_n 0, 1) := dk_42 (dk_at dksX1_checkBalloon_0 0 rfl rfl)
theorem dX1_checkBalloon_1 : decode cX1_checkBalloon 1 = .ok (.getfield 10, 3) := dk_180 0 10 (dk_at dksX1_checkBalloon_0 1 rfl rfl)
theorem dX1_checkBalloon_4 : decode cX1_checkBalloon 4 = .ok (.iload_n 1, 1) := dk_27 (dk_at dksX1_checkBalloon_0 4 rfl rfl)
theorem dX1_checkBalloon_5 : decode cX1_checkBalloon 5 = .ok (.invokevirtual 93, 3) := dk_182 0 93 (dk_at dksX1_checkBalloon_0 5 rfl rfl)
theorem dX1_checkBalloon_8 : decode cX1_checkBalloon 8 = .ok (.invokestatic 199, 3) := dk_184 0 199 (dk_at dksX1_checkBalloon_0 8 rfl rfl)
theorem dX1_checkBalloon_11 : decode cX1_checkBalloon 11 = .ok (.return_, 1) := dk_177 (dk_at dksX1_checkBalloon_0 11 rfl rfl)
def dkwX1_checkIndex_0 : List UInt8 := [26, 154, 0, 11, 187, 0, 60, 89, 183, 0, 62, 191, 177]
abbrev dktX1_checkIndex_0 : List UInt8 := dkwX1_checkIndex_0 ++ []
theorem dksX1_checkIndex_0 : cX1_checkIndex.data.toList.drop 0 = dktX1_checkIndex_0 := by decide +kernel
theorem dX1_checkIndex_0 : decode cX1_checkIndex 0 = .ok (.iload_n 0, 1) := dk_26 (dk_at dksX1_checkIndex_0 0 rfl rfl)
theorem dX1_checkIndex_1 : decode cX1_checkIndex 1 = .ok (.ifCond .ne 11, 3) := dk_154 0 11 (dk_at dksX1_checkIndex_0 1 rfl rfl)
theorem dX1_checkIndex_4 : decode cX1_checkIndex 4 = .ok (.new 60, 3) := dk_187 0 60 (dk_at dksX1_checkIndex_0 4 rfl rfl)
theorem dX1_checkIndex_7 : decode cX1_checkIndex 7 = .ok (.dup, 1) := dk_89 (dk_at dksX1_checkIndex_0 7 rfl rfl)
theorem dX1_checkIndex_8 : decode cX1_checkIndex 8 = .ok (.invokespecial 62, 3) := dk_183 0 62 (dk_at dksX1_checkIndex_0 8 rfl rfl)
theorem dX1_checkIndex_11 : decode cX1_checkIndex 11 = .ok (.athrow, 1) := dk_191 (dk_at dksX1_checkIndex_0 11 rfl rfl)
theorem dX1_checkIndex_12 : decode cX1_checkIndex 12 = .ok (.return_, 1) := dk_177 (dk_at dksX1_checkIndex_0 12 rfl rfl)
def dkwX1_check_0 : List UInt8 := [26, 154, 0, 11, 187, 0, 57, 89, 183, 0, 59, 191, 177]
abbrev dktX1_check_0 : List UInt8 := dkwX1_check_0 ++ []
theorem dksX1_check_0 : cX1_check.data.toList.drop 0 = dktX1_check_0 := by decide +kernel
theorem dX1_check_0 : decode cX1_check 0 = .ok (.iload_n 0, 1) := dk_26 (dk_at dksX1_check_0 0 rfl rfl)
theorem dX1_check_1 : decode cX1_check 1 = .ok (.ifCond .ne 11, 3) := dk_154 0 11 (dk_at dksX1_check_0 1 rfl rfl)
theorem dX1_check_4 : decode cX1_check 4 = .ok (.new 57, 3) := dk_187 0 57 (dk_at dksX1_check_0 4 rfl rfl)
theorem dX1_check_7 : decode cX1_check 7 = .ok (.dup, 1) := dk_89 (dk_at dksX1_check_0 7 rfl rfl)
theorem dX1_check_8 : decode cX1_check 8 = .ok (.invokespecial 59, 3) := dk_183 0 59 (dk_at dksX1_check_0 8 rfl rfl)
theorem dX1_check_11 : decode cX1_check 11 = .ok (.athrow, 1) := dk_191 (dk_at dksX1_check_0 11 rfl rfl)
theorem dX1_check_12 : decode cX1_check 12 = .ok (.return_, 1) := dk_177 (dk_at dksX1_check_0 12 rfl rfl)
def dkwX1_spireOf_4 : List UInt8 := [182, 0, 225, 172, 45, 180, 0, 228, 172]
abbrev dktX1_spireOf_4 : List UInt8 := dkwX1_spireOf_4 ++ []
def dkwX1_spireOf_3 : List UInt8 := [45, 180, 0, 134, 16, 10, 112, 172, 45, 180, 0, 134, 16, 10, 108, 172, 45, 180, 0, 222, 172, 45]
abbrev dktX1_spireOf_3 : List UInt8 := dkwX1_spireOf_3 ++ dktX1_spireOf_4
def dkwX1_spireOf_2 : List UInt8 := [170, 0, 0, 0, 0, 56, 0, 0, 0, 0, 0, 0, 0, 3, 0, 0, 0, 30, 0, 0, 0, 38, 0, 0, 0, 46, 0, 0, 0, 51]
abbrev dktX1_spireOf_2 : List UInt8 := dkwX1_spireOf_2 ++ dktX1_spireOf_3
def dkwX1_spireOf_1 : List UInt8 := [182, 0, 128, 192, 0, 132, 78, 28]
abbrev dktX1_spireOf_1 : List UInt8 := dkwX1_spireOf_1 ++ dktX1_spireOf_2
def dkwX1_spireOf_0 : List UInt8 := [42, 27, 182, 0, 219, 28, 3, 7, 184, 0, 49, 184, 0, 206, 42, 180, 0, 10, 180, 0, 125, 27]
abbrev dktX1_spireOf_0 : List UInt8 := dkwX1_spireOf_0 ++ dktX1_spireOf_1
theorem dksX1_spireOf_0 : cX1_spireOf.data.toList.drop 0 = dktX1_spireOf_0 := by decide +kernel
theorem dksX1_spireOf_1 : cX1_spireOf.data.toList.drop 22 = dktX1_spireOf_1 := dk_seg dksX1_spireOf_0 22 rfl rfl
theorem dksX1_spireOf_2 : cX1_spireOf.data.toList.drop 30 = dktX1_spireOf_2 := dk_seg dksX1_spireOf_1 8 rfl rfl
theorem dksX1_spireOf_3 : cX1_spireOf.data.toList.drop 60 = dktX1_spireOf_3 := dk_seg dksX1_spireOf_2 30 rfl rfl
theorem dksX1_spireOf_4 : cX1_spireOf.data.toList.drop 82 = dktX1_spireOf_4 := dk_seg dksX1_spireOf_3 22 rfl rfl
theorem dX1_spireOf_0 : decode cX1_spireOf 0 = .ok (.aload_n 0, 1) := dk_42 (dk_at dksX1_spireOf_0 0 rfl rfl)
theorem dX1_spireOf_1 : decode cX1_spireOf 1 = .ok (.iload_n 1, 1) := dk_27 (dk_at dksX1_spireOf_0 1 rfl rfl)
theorem dX1_spireOf_2 : decode cX1_spireOf 2 = .ok (.invokevirtual 219, 3) := dk_182 0 219 (dk_at dksX1_spireOf_0 2 rfl rfl)
theorem dX1_spireOf_5 : decode cX1_spireOf 5 = .ok (.iload_n 2, 1) := dk_28 (dk_at dksX1_spireOf_0 5 rfl rfl)
theorem dX1_spireOf_6 : decode cX1_spireOf 6 = .ok (.iconst 0, 1) := dk_3 (dk_at dksX1_spireOf_0 6 rfl rfl)
theorem dX1_spireOf_7 : decode cX1_spireOf 7 = .ok (.iconst 4, 1) := dk_7 (dk_at dksX1_spireOf_0 7 rfl rfl)
theorem dX1_spireOf_8 : decode cX1_spireOf 8 = .ok (.invokestatic 49, 3) := dk_184 0 49 (dk_at dksX1_spireOf_0 8 rfl rfl)
theorem dX1_spireOf_11 : decode cX1_spireOf 11 = .ok (.invokestatic 206, 3) := dk_184 0 206 (dk_at dksX1_spireOf_0 11 rfl rfl)
theorem dX1_spireOf_14 : decode cX1_spireOf 14 = .ok (.aload_n 0, 1) := dk_42 (dk_at dksX1_spireOf_0 14 rfl rfl)
theorem dX1_spireOf_15 : decode cX1_spireOf 15 = .ok (.getfield 10, 3) := dk_180 0 10 (dk_at dksX1_spireOf_0 15 rfl rfl)
theorem dX1_spireOf_18 : decode cX1_spireOf 18 = .ok (.getfield 125, 3) := dk_180 0 125 (dk_at dksX1_spireOf_0 18 rfl rfl)
theorem dX1_spireOf_21 : decode cX1_spireOf 21 = .ok (.iload_n 1, 1) := dk_27 (dk_at dksX1_spireOf_0 21 rfl rfl)
theorem dX1_spireOf_22 : decode cX1_spireOf 22 = .ok (.invokevirtual 128, 3) := dk_182 0 128 (dk_at dksX1_spireOf_1 0 rfl rfl)
theorem dX1_spireOf_25 : decode cX1_spireOf 25 = .ok (.checkcast 132, 3) := dk_192 0 132 (dk_at dksX1_spireOf_1 3 rfl rfl)
theorem dX1_spireOf_28 : decode cX1_spireOf 28 = .ok (.astore_n 3, 1) := dk_78 (dk_at dksX1_spireOf_1 6 rfl rfl)
theorem dX1_spireOf_29 : decode cX1_spireOf 29 = .ok (.iload_n 2, 1) := dk_28 (dk_at dksX1_spireOf_1 7 rfl rfl)
theorem dX1_spireOf_30 : decode cX1_spireOf 30 = .ok (.tableswitch 56 0 3 #[30, 38, 46, 51], 30) := by decide +kernel
theorem dX1_spireOf_60 : decode cX1_spireOf 60 = .ok (.aload_n 3, 1) := dk_45 (dk_at dksX1_spireOf_3 0 rfl rfl)
theorem dX1_spireOf_61 : decode cX1_spireOf 61 = .ok (.getfield 134, 3) := dk_180 0 134 (dk_at dksX1_spireOf_3 1 rfl rfl)
theorem dX1_spireOf_64 : decode cX1_spireOf 64 = .ok (.bipush 10, 2) := dk_16 10 (dk_at dksX1_spireOf_3 4 rfl rfl)
theorem dX1_spireOf_66 : decode cX1_spireOf 66 = .ok (.irem, 1) := dk_112 (dk_at dksX1_spireOf_3 6 rfl rfl)
theorem dX1_spireOf_67 : decode cX1_spireOf 67 = .ok (.ireturn, 1) := dk_172 (dk_at dksX1_spireOf_3 7 rfl rfl)
theorem dX1_spireOf_68 : decode cX1_spireOf 68 = .ok (.aload_n 3, 1) := dk_45 (dk_at dksX1_spireOf_3 8 rfl rfl)
theorem dX1_spireOf_69 : decode cX1_spireOf 69 = .ok (.getfield 134, 3) := dk_180 0 134 (dk_at dksX1_spireOf_3 9 rfl rfl)
theorem dX1_spireOf_72 : decode cX1_spireOf 72 = .ok (.bipush 10, 2) := dk_16 10 (dk_at dksX1_spireOf_3 12 rfl rfl)
theorem dX1_spireOf_74 : decode cX1_spireOf 74 = .ok (.idiv, 1) := dk_108 (dk_at dksX1_spireOf_3 14 rfl rfl)
theorem dX1_spireOf_75 : decode cX1_spireOf 75 = .ok (.ireturn, 1) := dk_172 (dk_at dksX1_spireOf_3 15 rfl rfl)
theorem dX1_spireOf_76 : decode cX1_spireOf 76 = .ok (.aload_n 3, 1) := dk_45 (dk_at dksX1_spireOf_3 16 rfl rfl)
theorem dX1_spireOf_77 : decode cX1_spireOf 77 = .ok (.getfield 222, 3) := dk_180 0 222 (dk_at dksX1_spireOf_3 17 rfl rfl)
theorem dX1_spireOf_80 : decode cX1_spireOf 80 = .ok (.ireturn, 1) := dk_172 (dk_at dksX1_spireOf_3 20 rfl rfl)
theorem dX1_spireOf_81 : decode cX1_spireOf 81 = .ok (.aload_n 3, 1) := dk_45 (dk_at dksX1_spireOf_3 21 rfl rfl)
theorem dX1_spireOf_82 : decode cX1_spireOf 82 = .ok (.invokevirtual 225, 3) := dk_182 0 225 (dk_at dksX1_spireOf_4 0 rfl rfl)
theorem dX1_spireOf_85 : decode cX1_spireOf 85 = .ok (.ireturn, 1) := dk_172 (dk_at dksX1_spireOf_4 3 rfl rfl)
theorem dX1_spireOf_86 : decode cX1_spireOf 86 = .ok (.aload_n 3, 1) := dk_45 (dk_at dksX1_spireOf_4 4 rfl rfl)
theorem dX1_spireOf_87 : decode cX1_spireOf 87 = .ok (.getfield 228, 3) := dk_180 0 228 (dk_at dksX1_spireOf_4 5 rfl rfl)
theorem dX1_spireOf_90 : decode cX1_spireOf 90 = .ok (.ireturn, 1) := dk_172 (dk_at dksX1_spireOf_4 8 rfl rfl)
def dkwX1_checkSpire_0 : List UInt8 := [27, 3, 42, 180, 0, 10, 180, 0, 125, 182, 0, 108, 4, 100, 184, 0, 49, 184, 0, 199, 177]
abbrev dktX1_checkSpire_0 : List UInt8 := dkwX1_checkSpire_0 ++ []
theorem dksX1_checkSpire_0 : cX1_checkSpire.data.toList.drop 0 = dktX1_checkSpire_0 := by decide +kernel
theorem dX1_checkSpire_0 : decode cX1_checkSpire 0 = .ok (.iload_n 1, 1) := dk_27 (dk_at dksX1_checkSpire_0 0 rfl rfl)
theorem dX1_checkSpire_1 : decode cX1_checkSpire 1 = .ok (.iconst 0, 1) := dk_3 (dk_at dksX1_checkSpire_0 1 rfl rfl)
theorem dX1_checkSpire_2 : decode cX1_checkSpire 2 = .ok (.aload_n 0, 1) := dk_42 (dk_at dksX1_checkSpire_0 2 rfl rfl)
theorem dX1_checkSpire_3 : decode cX1_checkSpire 3 = .ok (.getfield 10, 3) := dk_180 0 10 (dk_at dksX1_checkSpire_0 3 rfl rfl)
theorem dX1_checkSpire_6 : decode cX1_checkSpire 6 = .ok (.getfield 125, 3) := dk_180 0 125 (dk_at dksX1_checkSpire_0 6 rfl rfl)
theorem dX1_checkSpire_9 : decode cX1_checkSpire 9 = .ok (.invokevirtual 108, 3) := dk_182 0 108 (dk_at dksX1_checkSpire_0 9 rfl rfl)
theorem dX1_checkSpire_12 : decode cX1_checkSpire 12 = .ok (.iconst 1, 1) := dk_4 (dk_at dksX1_checkSpire_0 12 rfl rfl)
theorem dX1_checkSpire_13 : decode cX1_checkSpire 13 = .ok (.isub, 1) := dk_100 (dk_at dksX1_checkSpire_0 13 rfl rfl)
theorem dX1_checkSpire_14 : decode cX1_checkSpire 14 = .ok (.invokestatic 49, 3) := dk_184 0 49 (dk_at dksX1_checkSpire_0 14 rfl rfl)
theorem dX1_checkSpire_17 : decode cX1_checkSpire 17 = .ok (.invokestatic 199, 3) := dk_184 0 199 (dk_at dksX1_checkSpire_0 17 rfl rfl)
theorem dX1_checkSpire_20 : decode cX1_checkSpire 20 = .ok (.return_, 1) := dk_177 (dk_at dksX1_checkSpire_0 20 rfl rfl)
def dkwX1_fee_0 : List UInt8 := [42, 180, 0, 10, 180, 0, 147, 27, 28, 184, 0, 229, 46, 172]
abbrev dktX1_fee_0 : List UInt8 := dkwX1_fee_0 ++ []
theorem dksX1_fee_0 : cX1_fee.data.toList.drop 0 = dktX1_fee_0 := by decide +kernel
theorem dX1_fee_0 : decode cX1_fee 0 = .ok (.aload_n 0, 1) := dk_42 (dk_at dksX1_fee_0 0 rfl rfl)
theorem dX1_fee_1 : decode cX1_fee 1 = .ok (.getfield 10, 3) := dk_180 0 10 (dk_at dksX1_fee_0 1 rfl rfl)
theorem dX1_fee_4 : decode cX1_fee 4 = .ok (.getfield 147, 3) := dk_180 0 147 (dk_at dksX1_fee_0 4 rfl rfl)
theorem dX1_fee_7 : decode cX1_fee 7 = .ok (.iload_n 1, 1) := dk_27 (dk_at dksX1_fee_0 7 rfl rfl)
theorem dX1_fee_8 : decode cX1_fee 8 = .ok (.iload_n 2, 1) := dk_28 (dk_at dksX1_fee_0 8 rfl rfl)
theorem dX1_fee_9 : decode cX1_fee 9 = .ok (.invokestatic 229, 3) := dk_184 0 229 (dk_at dksX1_fee_0 9 rfl rfl)
theorem dX1_fee_12 : decode cX1_fee 12 = .ok (.iaload, 1) := dk_46 (dk_at dksX1_fee_0 12 rfl rfl)
theorem dX1_fee_13 : decode cX1_fee 13 = .ok (.ireturn, 1) := dk_172 (dk_at dksX1_fee_0 13 rfl rfl)
def dkwX1_checkedPoint_1 : List UInt8 := [27, 104, 26, 96, 172]
abbrev dktX1_checkedPoint_1 : List UInt8 := dkwX1_checkedPoint_1 ++ []
def dkwX1_checkedPoint_0 : List UInt8 := [26, 184, 0, 69, 153, 0, 14, 27, 184, 0, 69, 153, 0, 7, 4, 167, 0, 4, 3, 184, 0, 199, 16, 10]
abbrev dktX1_checkedPoint_0 : List UInt8 := dkwX1_checkedPoint_0 ++ dktX1_checkedPoint_1
theorem dksX1_checkedPoint_0 : cX1_checkedPoint.data.toList.drop 0 = dktX1_checkedPoint_0 := by decide +kernel
theorem dksX1_checkedPoint_1 : cX1_checkedPoint.data.toList.drop 24 = dktX1_checkedPoint_1 := dk_seg dksX1_checkedPoint_0 24 rfl rfl
theorem dX1_checkedPoint_0 : decode cX1_checkedPoint 0 = .ok (.iload_n 0, 1) := dk_26 (dk_at dksX1_checkedPoint_0 0 rfl rfl)
theorem dX1_checkedPoint_1 : decode cX1_checkedPoint 1 = .ok (.invokestatic 69, 3) := dk_184 0 69 (dk_at dksX1_checkedPoint_0 1 rfl rfl)
theorem dX1_checkedPoint_4 : decode cX1_checkedPoint 4 = .ok (.ifCond .eq 14, 3) := dk_153 0 14 (dk_at dksX1_checkedPoint_0 4 rfl rfl)
theorem dX1_checkedPoint_7 : decode cX1_checkedPoint 7 = .ok (.iload_n 1, 1) := dk_27 (dk_at dksX1_checkedPoint_0 7 rfl rfl)
theorem dX1_checkedPoint_8 : decode cX1_checkedPoint 8 = .ok (.invokestatic 69, 3) := dk_184 0 69 (dk_at dksX1_checkedPoint_0 8 rfl rfl)
theorem dX1_checkedPoint_11 : decode cX1_checkedPoint 11 = .ok (.ifCond .eq 7, 3) := dk_153 0 7 (dk_at dksX1_checkedPoint_0 11 rfl rfl)
theorem dX1_checkedPoint_14 : decode cX1_checkedPoint 14 = .ok (.iconst 1, 1) := dk_4 (dk_at dksX1_checkedPoint_0 14 rfl rfl)
theorem dX1_checkedPoint_15 : decode cX1_checkedPoint 15 = .ok (.goto 4, 3) := dk_167 0 4 (dk_at dksX1_checkedPoint_0 15 rfl rfl)
theorem dX1_checkedPoint_18 : decode cX1_checkedPoint 18 = .ok (.iconst 0, 1) := dk_3 (dk_at dksX1_checkedPoint_0 18 rfl rfl)
theorem dX1_checkedPoint_19 : decode cX1_checkedPoint 19 = .ok (.invokestatic 199, 3) := dk_184 0 199 (dk_at dksX1_checkedPoint_0 19 rfl rfl)
theorem dX1_checkedPoint_22 : decode cX1_checkedPoint 22 = .ok (.bipush 10, 2) := dk_16 10 (dk_at dksX1_checkedPoint_0 22 rfl rfl)
theorem dX1_checkedPoint_24 : decode cX1_checkedPoint 24 = .ok (.iload_n 1, 1) := dk_27 (dk_at dksX1_checkedPoint_1 0 rfl rfl)
theorem dX1_checkedPoint_25 : decode cX1_checkedPoint 25 = .ok (.imul, 1) := dk_104 (dk_at dksX1_checkedPoint_1 1 rfl rfl)
theorem dX1_checkedPoint_26 : decode cX1_checkedPoint 26 = .ok (.iload_n 0, 1) := dk_26 (dk_at dksX1_checkedPoint_1 2 rfl rfl)
theorem dX1_checkedPoint_27 : decode cX1_checkedPoint 27 = .ok (.iadd, 1) := dk_96 (dk_at dksX1_checkedPoint_1 3 rfl rfl)
theorem dX1_checkedPoint_28 : decode cX1_checkedPoint 28 = .ok (.ireturn, 1) := dk_172 (dk_at dksX1_checkedPoint_1 4 rfl rfl)
def dkwX1_claims_0 : List UInt8 := [42, 180, 0, 10, 180, 0, 232, 27, 28, 184, 0, 229, 46, 172]
abbrev dktX1_claims_0 : List UInt8 := dkwX1_claims_0 ++ []
theorem dksX1_claims_0 : cX1_claims.data.toList.drop 0 = dktX1_claims_0 := by decide +kernel
theorem dX1_claims_0 : decode cX1_claims 0 = .ok (.aload_n 0, 1) := dk_42 (dk_at dksX1_claims_0 0 rfl rfl)
theorem dX1_claims_1 : decode cX1_claims 1 = .ok (.getfield 10, 3) := dk_180 0 10 (dk_at dksX1_claims_0 1 rfl rfl)
theorem dX1_claims_4 : decode cX1_claims 4 = .ok (.getfield 232, 3) := dk_180 0 232 (dk_at dksX1_claims_0 4 rfl rfl)
theorem dX1_claims_7 : decode cX1_claims 7 = .ok (.iload_n 1, 1) := dk_27 (dk_at dksX1_claims_0 7 rfl rfl)
theorem dX1_claims_8 : decode cX1_claims 8 = .ok (.iload_n 2, 1) := dk_28 (dk_at dksX1_claims_0 8 rfl rfl)
theorem dX1_claims_9 : decode cX1_claims 9 = .ok (.invokestatic 229, 3) := dk_184 0 229 (dk_at dksX1_claims_0 9 rfl rfl)
theorem dX1_claims_12 : decode cX1_claims 12 = .ok (.iaload, 1) := dk_46 (dk_at dksX1_claims_0 12 rfl rfl)
theorem dX1_claims_13 : decode cX1_claims 13 = .ok (.ireturn, 1) := dk_172 (dk_at dksX1_claims_0 13 rfl rfl)
def dkwX1_windAt_0 : List UInt8 := [27, 4, 8, 184, 0, 49, 184, 0, 199, 42, 180, 0, 10, 180, 0, 151, 27, 46, 172]
abbrev dktX1_windAt_0 : List UInt8 := dkwX1_windAt_0 ++ []
theorem dksX1_windAt_0 : cX1_windAt.data.toList.drop 0 = dktX1_windAt_0 := by decide +kernel
theorem dX1_windAt_0 : decode cX1_windAt 0 = .ok (.iload_n 1, 1) := dk_27 (dk_at dksX1_windAt_0 0 rfl rfl)
theorem dX1_windAt_1 : decode cX1_windAt 1 = .ok (.iconst 1, 1) := dk_4 (dk_at dksX1_windAt_0 1 rfl rfl)
theorem dX1_windAt_2 : decode cX1_windAt 2 = .ok (.iconst 5, 1) := dk_8 (dk_at dksX1_windAt_0 2 rfl rfl)
theorem dX1_windAt_3 : decode cX1_windAt 3 = .ok (.invokestatic 49, 3) := dk_184 0 49 (dk_at dksX1_windAt_0 3 rfl rfl)
theorem dX1_windAt_6 : decode cX1_windAt 6 = .ok (.invokestatic 199, 3) := dk_184 0 199 (dk_at dksX1_windAt_0 6 rfl rfl)
theorem dX1_windAt_9 : decode cX1_windAt 9 = .ok (.aload_n 0, 1) := dk_42 (dk_at dksX1_windAt_0 9 rfl rfl)
theorem dX1_windAt_10 : decode cX1_windAt 10 = .ok (.getfield 10, 3) := dk_180 0 10 (dk_at dksX1_windAt_0 10 rfl rfl)
theorem dX1_windAt_13 : decode cX1_windAt 13 = .ok (.getfield 151, 3) := dk_180 0 151 (dk_at dksX1_windAt_0 13 rfl rfl)
theorem dX1_windAt_16 : decode cX1_windAt 16 = .ok (.iload_n 1, 1) := dk_27 (dk_at dksX1_windAt_0 16 rfl rfl)
theorem dX1_windAt_17 : decode cX1_windAt 17 = .ok (.iaload, 1) := dk_46 (dk_at dksX1_windAt_0 17 rfl rfl)
theorem dX1_windAt_18 : decode cX1_windAt 18 = .ok (.ireturn, 1) := dk_172 (dk_at dksX1_windAt_0 18 rfl rfl)
def dkwX1_at_2 : List UInt8 := [160, 0, 10, 4, 21, 5, 120, 167, 0, 4, 3, 128, 54, 4, 132, 5, 1, 167, 255, 203, 21, 4, 172]
abbrev dktX1_at_2 : List UInt8 := dkwX1_at_2 ++ []
def dkwX1_at_1 : List UInt8 := [162, 0, 44, 21, 4, 42, 180, 0, 10, 180, 0, 104, 21, 5, 182, 0, 128, 192, 0, 114, 180, 0, 209, 29]
abbrev dktX1_at_1 : List UInt8 := dkwX1_at_1 ++ dktX1_at_2
def dkwX1_at_0 : List UInt8 := [27, 28, 184, 0, 229, 62, 3, 54, 4, 3, 54, 5, 21, 5, 42, 180, 0, 10, 180, 0, 104, 182, 0, 108]
abbrev dktX1_at_0 : List UInt8 := dkwX1_at_0 ++ dktX1_at_1
theorem dksX1_at_0 : cX1_at.data.toList.drop 0 = dktX1_at_0 := by decide +kernel
theorem dksX1_at_1 : cX1_at.data.toList.drop 24 = dktX1_at_1 := dk_seg dksX1_at_0 24 rfl rfl
theorem dksX1_at_2 : cX1_at.data.toList.drop 48 = dktX1_at_2 := dk_seg dksX1_at_1 24 rfl rfl
theorem dX1_at_0 : decode cX1_at 0 = .ok (.iload_n 1, 1) := dk_27 (dk_at dksX1_at_0 0 rfl rfl)
theorem dX1_at_1 : decode cX1_at 1 = .ok (.iload_n 2, 1) := dk_28 (dk_at dksX1_at_0 1 rfl rfl)
theorem dX1_at_2 : decode cX1_at 2 = .ok (.invokestatic 229, 3) := dk_184 0 229 (dk_at dksX1_at_0 2 rfl rfl)
theorem dX1_at_5 : decode cX1_at 5 = .ok (.istore_n 3, 1) := dk_62 (dk_at dksX1_at_0 5 rfl rfl)
theorem dX1_at_6 : decode cX1_at 6 = .ok (.iconst 0, 1) := dk_3 (dk_at dksX1_at_0 6 rfl rfl)
theorem dX1_at_7 : decode cX1_at 7 = .ok (.istore 4, 2) := dk_54 4 (dk_at dksX1_at_0 7 rfl rfl)
theorem dX1_at_9 : decode cX1_at 9 = .ok (.iconst 0, 1) := dk_3 (dk_at dksX1_at_0 9 rfl rfl)
theorem dX1_at_10 : decode cX1_at 10 = .ok (.istore 5, 2) := dk_54 5 (dk_at dksX1_at_0 10 rfl rfl)
theorem dX1_at_12 : decode cX1_at 12 = .ok (.iload 5, 2) := dk_21 5 (dk_at dksX1_at_0 12 rfl rfl)
theorem dX1_at_14 : decode cX1_at 14 = .ok (.aload_n 0, 1) := dk_42 (dk_at dksX1_at_0 14 rfl rfl)
theorem dX1_at_15 : decode cX1_at 15 = .ok (.getfield 10, 3) := dk_180 0 10 (dk_at dksX1_at_0 15 rfl rfl)
theorem dX1_at_18 : decode cX1_at 18 = .ok (.getfield 104, 3) := dk_180 0 104 (dk_at dksX1_at_0 18 rfl rfl)
theorem dX1_at_21 : decode cX1_at 21 = .ok (.invokevirtual 108, 3) := dk_182 0 108 (dk_at dksX1_at_0 21 rfl rfl)
theorem dX1_at_24 : decode cX1_at 24 = .ok (.if_icmp .ge 44, 3) := dk_162 0 44 (dk_at dksX1_at_1 0 rfl rfl)
theorem dX1_at_27 : decode cX1_at 27 = .ok (.iload 4, 2) := dk_21 4 (dk_at dksX1_at_1 3 rfl rfl)
theorem dX1_at_29 : decode cX1_at 29 = .ok (.aload_n 0, 1) := dk_42 (dk_at dksX1_at_1 5 rfl rfl)
theorem dX1_at_30 : decode cX1_at 30 = .ok (.getfield 10, 3) := dk_180 0 10 (dk_at dksX1_at_1 6 rfl rfl)
theorem dX1_at_33 : decode cX1_at 33 = .ok (.getfield 104, 3) := dk_180 0 104 (dk_at dksX1_at_1 9 rfl rfl)
theorem dX1_at_36 : decode cX1_at 36 = .ok (.iload 5, 2) := dk_21 5 (dk_at dksX1_at_1 12 rfl rfl)
theorem dX1_at_38 : decode cX1_at 38 = .ok (.invokevirtual 128, 3) := dk_182 0 128 (dk_at dksX1_at_1 14 rfl rfl)
theorem dX1_at_41 : decode cX1_at 41 = .ok (.checkcast 114, 3) := dk_192 0 114 (dk_at dksX1_at_1 17 rfl rfl)
theorem dX1_at_44 : decode cX1_at 44 = .ok (.getfield 209, 3) := dk_180 0 209 (dk_at dksX1_at_1 20 rfl rfl)
theorem dX1_at_47 : decode cX1_at 47 = .ok (.iload_n 3, 1) := dk_29 (dk_at dksX1_at_1 23 rfl rfl)
theorem dX1_at_48 : decode cX1_at 48 = .ok (.if_icmp .ne 10, 3) := dk_160 0 10 (dk_at dksX1_at_2 0 rfl rfl)
theorem dX1_at_51 : decode cX1_at 51 = .ok (.iconst 1, 1) := dk_4 (dk_at dksX1_at_2 3 rfl rfl)
theorem dX1_at_52 : decode cX1_at 52 = .ok (.iload 5, 2) := dk_21 5 (dk_at dksX1_at_2 4 rfl rfl)
theorem dX1_at_54 : decode cX1_at 54 = .ok (.ishl, 1) := dk_120 (dk_at dksX1_at_2 6 rfl rfl)
theorem dX1_at_55 : decode cX1_at 55 = .ok (.goto 4, 3) := dk_167 0 4 (dk_at dksX1_at_2 7 rfl rfl)
theorem dX1_at_58 : decode cX1_at 58 = .ok (.iconst 0, 1) := dk_3 (dk_at dksX1_at_2 10 rfl rfl)
theorem dX1_at_59 : decode cX1_at 59 = .ok (.ior, 1) := dk_128 (dk_at dksX1_at_2 11 rfl rfl)
theorem dX1_at_60 : decode cX1_at 60 = .ok (.istore 4, 2) := dk_54 4 (dk_at dksX1_at_2 12 rfl rfl)
theorem dX1_at_62 : decode cX1_at 62 = .ok (.iinc 5 1, 3) := dk_132 5 1 (dk_at dksX1_at_2 14 rfl rfl)
theorem dX1_at_65 : decode cX1_at 65 = .ok (.goto (-53), 3) := dk_167 255 203 (dk_at dksX1_at_2 17 rfl rfl)
theorem dX1_at_68 : decode cX1_at 68 = .ok (.iload 4, 2) := dk_21 4 (dk_at dksX1_at_2 20 rfl rfl)
theorem dX1_at_70 : decode cX1_at 70 = .ok (.ireturn, 1) := dk_172 (dk_at dksX1_at_2 22 rfl rfl)
def dkwX1_isAtGate_1 : List UInt8 := [182, 0, 235, 172]
abbrev dktX1_isAtGate_1 : List UInt8 := dkwX1_isAtGate_1 ++ []
def dkwX1_isAtGate_0 : List UInt8 := [42, 27, 182, 0, 203, 42, 180, 0, 10, 42, 180, 0, 10, 180, 0, 104, 27, 182, 0, 128, 192, 0, 114]
abbrev dktX1_isAtGate_0 : List UInt8 := dkwX1_isAtGate_0 ++ dktX1_isAtGate_1
theorem dksX1_isAtGate_0 : cX1_isAtGate.data.toList.drop 0 = dktX1_isAtGate_0 := by decide +kernel
theorem dksX1_isAtGate_1 : cX1_isAtGate.data.toList.drop 23 = dktX1_isAtGate_1 := dk_seg dksX1_isAtGate_0 23 rfl rfl
theorem dX1_isAtGate_0 : decode cX1_isAtGate 0 = .ok (.aload_n 0, 1) := dk_42 (dk_at dksX1_isAtGate_0 0 rfl rfl)
theorem dX1_isAtGate_1 : decode cX1_isAtGate 1 = .ok (.iload_n 1, 1) := dk_27 (dk_at dksX1_isAtGate_0 1 rfl rfl)
theorem dX1_isAtGate_2 : decode cX1_isAtGate 2 = .ok (.invokevirtual 203, 3) := dk_182 0 203 (dk_at dksX1_isAtGate_0 2 rfl rfl)
theorem dX1_isAtGate_5 : decode cX1_isAtGate 5 = .ok (.aload_n 0, 1) := dk_42 (dk_at dksX1_isAtGate_0 5 rfl rfl)
theorem dX1_isAtGate_6 : decode cX1_isAtGate 6 = .ok (.getfield 10, 3) := dk_180 0 10 (dk_at dksX1_isAtGate_0 6 rfl rfl)
theorem dX1_isAtGate_9 : decode cX1_isAtGate 9 = .ok (.aload_n 0, 1) := dk_42 (dk_at dksX1_isAtGate_0 9 rfl rfl)
theorem dX1_isAtGate_10 : decode cX1_isAtGate 10 = .ok (.getfield 10, 3) := dk_180 0 10 (dk_at dksX1_isAtGate_0 10 rfl rfl)
theorem dX1_isAtGate_13 : decode cX1_isAtGate 13 = .ok (.getfield 104, 3) := dk_180 0 104 (dk_at dksX1_isAtGate_0 13 rfl rfl)
theorem dX1_isAtGate_16 : decode cX1_isAtGate 16 = .ok (.iload_n 1, 1) := dk_27 (dk_at dksX1_isAtGate_0 16 rfl rfl)
theorem dX1_isAtGate_17 : decode cX1_isAtGate 17 = .ok (.invokevirtual 128, 3) := dk_182 0 128 (dk_at dksX1_isAtGate_0 17 rfl rfl)
theorem dX1_isAtGate_20 : decode cX1_isAtGate 20 = .ok (.checkcast 114, 3) := dk_192 0 114 (dk_at dksX1_isAtGate_0 20 rfl rfl)
theorem dX1_isAtGate_23 : decode cX1_isAtGate 23 = .ok (.invokevirtual 235, 3) := dk_182 0 235 (dk_at dksX1_isAtGate_1 0 rfl rfl)
theorem dX1_isAtGate_26 : decode cX1_isAtGate 26 = .ok (.ireturn, 1) := dk_172 (dk_at dksX1_isAtGate_1 3 rfl rfl)
def dkwX1_partners_3 : List UInt8 := [21, 4, 153, 0, 9, 4, 29, 120, 167, 0, 4, 3, 128, 61, 132, 3, 1, 167, 255, 178, 28, 172]
abbrev dktX1_partners_3 : List UInt8 := dkwX1_partners_3 ++ []
def dkwX1_partners_2 : List UInt8 := [180, 0, 104, 29, 182, 0, 128, 192, 0, 114, 182, 0, 183, 153, 0, 7, 4, 167, 0, 4, 3, 54, 4, 28]
abbrev dktX1_partners_2 : List UInt8 := dkwX1_partners_2 ++ dktX1_partners_3
def dkwX1_partners_1 : List UInt8 := [27, 159, 0, 41, 42, 180, 0, 10, 180, 0, 104, 27, 182, 0, 128, 192, 0, 114, 42, 180, 0, 10]
abbrev dktX1_partners_1 : List UInt8 := dkwX1_partners_1 ++ dktX1_partners_2
def dkwX1_partners_0 : List UInt8 := [42, 27, 182, 0, 203, 3, 61, 3, 62, 29, 42, 180, 0, 10, 180, 0, 104, 182, 0, 108, 162, 0, 70, 29]
abbrev dktX1_partners_0 : List UInt8 := dkwX1_partners_0 ++ dktX1_partners_1
theorem dksX1_partners_0 : cX1_partners.data.toList.drop 0 = dktX1_partners_0 := by decide +kernel
theorem dksX1_partners_1 : cX1_partners.data.toList.drop 24 = dktX1_partners_1 := dk_seg dksX1_partners_0 24 rfl rfl
theorem dksX1_partners_2 : cX1_partners.data.toList.drop 46 = dktX1_partners_2 := dk_seg dksX1_partners_1 22 rfl rfl
theorem dksX1_partners_3 : cX1_partners.data.toList.drop 70 = dktX1_partners_3 := dk_seg dksX1_partners_2 24 rfl rfl
theorem dX1_partners_0 : decode cX1_partners 0 = .ok (.aload_n 0, 1) := dk_42 (dk_at dksX1_partners_0 0 rfl rfl)
theorem dX1_partners_1 : decode cX1_partners 1 = .ok (.iload_n 1, 1) := dk_27 (dk_at dksX1_partners_0 1 rfl rfl)
theorem dX1_partners_2 : decode cX1_partners 2 = .ok (.invokevirtual 203, 3) := dk_182 0 203 (dk_at dksX1_partners_0 2 rfl rfl)
theorem dX1_partners_5 : decode cX1_partners 5 = .ok (.iconst 0, 1) := dk_3 (dk_at dksX1_partners_0 5 rfl rfl)
theorem dX1_partners_6 : decode cX1_partners 6 = .ok (.istore_n 2, 1) := dk_61 (dk_at dksX1_partners_0 6 rfl rfl)
theorem dX1_partners_7 : decode cX1_partners 7 = .ok (.iconst 0, 1) := dk_3 (dk_at dksX1_partners_0 7 rfl rfl)
theorem dX1_partners_8 : decode cX1_partners 8 = .ok (.istore_n 3, 1) := dk_62 (dk_at dksX1_partners_0 8 rfl rfl)
theorem dX1_partners_9 : decode cX1_partners 9 = .ok (.iload_n 3, 1) := dk_29 (dk_at dksX1_partners_0 9 rfl rfl)
theorem dX1_partners_10 : decode cX1_partners 10 = .ok (.aload_n 0, 1) := dk_42 (dk_at dksX1_partners_0 10 rfl rfl)
theorem dX1_partners_11 : decode cX1_partners 11 = .ok (.getfield 10, 3) := dk_180 0 10 (dk_at dksX1_partners_0 11 rfl rfl)
theorem dX1_partners_14 : decode cX1_partners 14 = .ok (.getfield 104, 3) := dk_180 0 104 (dk_at dksX1_partners_0 14 rfl rfl)
theorem dX1_partners_17 : decode cX1_partners 17 = .ok (.invokevirtual 108, 3) := dk_182 0 108 (dk_at dksX1_partners_0 17 rfl rfl)
theorem dX1_partners_20 : decode cX1_partners 20 = .ok (.if_icmp .ge 70, 3) := dk_162 0 70 (dk_at dksX1_partners_0 20 rfl rfl)
theorem dX1_partners_23 : decode cX1_partners 23 = .ok (.iload_n 3, 1) := dk_29 (dk_at dksX1_partners_0 23 rfl rfl)
theorem dX1_partners_24 : decode cX1_partners 24 = .ok (.iload_n 1, 1) := dk_27 (dk_at dksX1_partners_1 0 rfl rfl)
theorem dX1_partners_25 : decode cX1_partners 25 = .ok (.if_icmp .eq 41, 3) := dk_159 0 41 (dk_at dksX1_partners_1 1 rfl rfl)
theorem dX1_partners_28 : decode cX1_partners 28 = .ok (.aload_n 0, 1) := dk_42 (dk_at dksX1_partners_1 4 rfl rfl)
theorem dX1_partners_29 : decode cX1_partners 29 = .ok (.getfield 10, 3) := dk_180 0 10 (dk_at dksX1_partners_1 5 rfl rfl)
theorem dX1_partners_32 : decode cX1_partners 32 = .ok (.getfield 104, 3) := dk_180 0 104 (dk_at dksX1_partners_1 8 rfl rfl)
theorem dX1_partners_35 : decode cX1_partners 35 = .ok (.iload_n 1, 1) := dk_27 (dk_at dksX1_partners_1 11 rfl rfl)
theorem dX1_partners_36 : decode cX1_partners 36 = .ok (.invokevirtual 128, 3) := dk_182 0 128 (dk_at dksX1_partners_1 12 rfl rfl)
theorem dX1_partners_39 : decode cX1_partners 39 = .ok (.checkcast 114, 3) := dk_192 0 114 (dk_at dksX1_partners_1 15 rfl rfl)
theorem dX1_partners_42 : decode cX1_partners 42 = .ok (.aload_n 0, 1) := dk_42 (dk_at dksX1_partners_1 18 rfl rfl)
theorem dX1_partners_43 : decode cX1_partners 43 = .ok (.getfield 10, 3) := dk_180 0 10 (dk_at dksX1_partners_1 19 rfl rfl)
theorem dX1_partners_46 : decode cX1_partners 46 = .ok (.getfield 104, 3) := dk_180 0 104 (dk_at dksX1_partners_2 0 rfl rfl)
theorem dX1_partners_49 : decode cX1_partners 49 = .ok (.iload_n 3, 1) := dk_29 (dk_at dksX1_partners_2 3 rfl rfl)
theorem dX1_partners_50 : decode cX1_partners 50 = .ok (.invokevirtual 128, 3) := dk_182 0 128 (dk_at dksX1_partners_2 4 rfl rfl)
theorem dX1_partners_53 : decode cX1_partners 53 = .ok (.checkcast 114, 3) := dk_192 0 114 (dk_at dksX1_partners_2 7 rfl rfl)
theorem dX1_partners_56 : decode cX1_partners 56 = .ok (.invokevirtual 183, 3) := dk_182 0 183 (dk_at dksX1_partners_2 10 rfl rfl)
theorem dX1_partners_59 : decode cX1_partners 59 = .ok (.ifCond .eq 7, 3) := dk_153 0 7 (dk_at dksX1_partners_2 13 rfl rfl)
theorem dX1_partners_62 : decode cX1_partners 62 = .ok (.iconst 1, 1) := dk_4 (dk_at dksX1_partners_2 16 rfl rfl)
theorem dX1_partners_63 : decode cX1_partners 63 = .ok (.goto 4, 3) := dk_167 0 4 (dk_at dksX1_partners_2 17 rfl rfl)
theorem dX1_partners_66 : decode cX1_partners 66 = .ok (.iconst 0, 1) := dk_3 (dk_at dksX1_partners_2 20 rfl rfl)
theorem dX1_partners_67 : decode cX1_partners 67 = .ok (.istore 4, 2) := dk_54 4 (dk_at dksX1_partners_2 21 rfl rfl)
theorem dX1_partners_69 : decode cX1_partners 69 = .ok (.iload_n 2, 1) := dk_28 (dk_at dksX1_partners_2 23 rfl rfl)
theorem dX1_partners_70 : decode cX1_partners 70 = .ok (.iload 4, 2) := dk_21 4 (dk_at dksX1_partners_3 0 rfl rfl)
theorem dX1_partners_72 : decode cX1_partners 72 = .ok (.ifCond .eq 9, 3) := dk_153 0 9 (dk_at dksX1_partners_3 2 rfl rfl)
theorem dX1_partners_75 : decode cX1_partners 75 = .ok (.iconst 1, 1) := dk_4 (dk_at dksX1_partners_3 5 rfl rfl)
theorem dX1_partners_76 : decode cX1_partners 76 = .ok (.iload_n 3, 1) := dk_29 (dk_at dksX1_partners_3 6 rfl rfl)
theorem dX1_partners_77 : decode cX1_partners 77 = .ok (.ishl, 1) := dk_120 (dk_at dksX1_partners_3 7 rfl rfl)
theorem dX1_partners_78 : decode cX1_partners 78 = .ok (.goto 4, 3) := dk_167 0 4 (dk_at dksX1_partners_3 8 rfl rfl)
theorem dX1_partners_81 : decode cX1_partners 81 = .ok (.iconst 0, 1) := dk_3 (dk_at dksX1_partners_3 11 rfl rfl)
theorem dX1_partners_82 : decode cX1_partners 82 = .ok (.ior, 1) := dk_128 (dk_at dksX1_partners_3 12 rfl rfl)
theorem dX1_partners_83 : decode cX1_partners 83 = .ok (.istore_n 2, 1) := dk_61 (dk_at dksX1_partners_3 13 rfl rfl)
theorem dX1_partners_84 : decode cX1_partners 84 = .ok (.iinc 3 1, 3) := dk_132 3 1 (dk_at dksX1_partners_3 14 rfl rfl)
theorem dX1_partners_87 : decode cX1_partners 87 = .ok (.goto (-78), 3) := dk_167 255 178 (dk_at dksX1_partners_3 17 rfl rfl)
theorem dX1_partners_90 : decode cX1_partners 90 = .ok (.iload_n 2, 1) := dk_28 (dk_at dksX1_partners_3 20 rfl rfl)
theorem dX1_partners_91 : decode cX1_partners 91 = .ok (.ireturn, 1) := dk_172 (dk_at dksX1_partners_3 21 rfl rfl)
def dkwX1_drift_1 : List UInt8 := [182, 0, 246, 180, 0, 250, 180, 0, 209, 172]
abbrev dktX1_drift_1 : List UInt8 := dkwX1_drift_1 ++ []
def dkwX1_drift_0 : List UInt8 := [42, 27, 182, 0, 203, 42, 28, 16, 60, 182, 0, 238, 187, 0, 241, 89, 42, 27, 183, 0, 243, 28]
abbrev dktX1_drift_0 : List UInt8 := dkwX1_drift_0 ++ dktX1_drift_1
theorem dksX1_drift_0 : cX1_drift.data.toList.drop 0 = dktX1_drift_0 := by decide +kernel
theorem dksX1_drift_1 : cX1_drift.data.toList.drop 22 = dktX1_drift_1 := dk_seg dksX1_drift_0 22 rfl rfl
theorem dX1_drift_0 : decode cX1_drift 0 = .ok (.aload_n 0, 1) := dk_42 (dk_at dksX1_drift_0 0 rfl rfl)
theorem dX1_drift_1 : decode cX1_drift 1 = .ok (.iload_n 1, 1) := dk_27 (dk_at dksX1_drift_0 1 rfl rfl)
theorem dX1_drift_2 : decode cX1_drift 2 = .ok (.invokevirtual 203, 3) := dk_182 0 203 (dk_at dksX1_drift_0 2 rfl rfl)
theorem dX1_drift_5 : decode cX1_drift 5 = .ok (.aload_n 0, 1) := dk_42 (dk_at dksX1_drift_0 5 rfl rfl)
theorem dX1_drift_6 : decode cX1_drift 6 = .ok (.iload_n 2, 1) := dk_28 (dk_at dksX1_drift_0 6 rfl rfl)
theorem dX1_drift_7 : decode cX1_drift 7 = .ok (.bipush 60, 2) := dk_16 60 (dk_at dksX1_drift_0 7 rfl rfl)
theorem dX1_drift_9 : decode cX1_drift 9 = .ok (.invokevirtual 238, 3) := dk_182 0 238 (dk_at dksX1_drift_0 9 rfl rfl)
theorem dX1_drift_12 : decode cX1_drift 12 = .ok (.new 241, 3) := dk_187 0 241 (dk_at dksX1_drift_0 12 rfl rfl)
theorem dX1_drift_15 : decode cX1_drift 15 = .ok (.dup, 1) := dk_89 (dk_at dksX1_drift_0 15 rfl rfl)
theorem dX1_drift_16 : decode cX1_drift 16 = .ok (.aload_n 0, 1) := dk_42 (dk_at dksX1_drift_0 16 rfl rfl)
theorem dX1_drift_17 : decode cX1_drift 17 = .ok (.iload_n 1, 1) := dk_27 (dk_at dksX1_drift_0 17 rfl rfl)
theorem dX1_drift_18 : decode cX1_drift 18 = .ok (.invokespecial 243, 3) := dk_183 0 243 (dk_at dksX1_drift_0 18 rfl rfl)
theorem dX1_drift_21 : decode cX1_drift 21 = .ok (.iload_n 2, 1) := dk_28 (dk_at dksX1_drift_0 21 rfl rfl)
theorem dX1_drift_22 : decode cX1_drift 22 = .ok (.invokevirtual 246, 3) := dk_182 0 246 (dk_at dksX1_drift_1 0 rfl rfl)
theorem dX1_drift_25 : decode cX1_drift 25 = .ok (.getfield 250, 3) := dk_180 0 250 (dk_at dksX1_drift_1 3 rfl rfl)
theorem dX1_drift_28 : decode cX1_drift 28 = .ok (.getfield 209, 3) := dk_180 0 209 (dk_at dksX1_drift_1 6 rfl rfl)
theorem dX1_drift_31 : decode cX1_drift 31 = .ok (.ireturn, 1) := dk_172 (dk_at dksX1_drift_1 9 rfl rfl)
def dkwX1_checkHours_0 : List UInt8 := [27, 3, 28, 184, 0, 49, 184, 0, 206, 177]
abbrev dktX1_checkHours_0 : List UInt8 := dkwX1_checkHours_0 ++ []
theorem dksX1_checkHours_0 : cX1_checkHours.data.toList.drop 0 = dktX1_checkHours_0 := by decide +kernel
theorem dX1_checkHours_0 : decode cX1_checkHours 0 = .ok (.iload_n 1, 1) := dk_27 (dk_at dksX1_checkHours_0 0 rfl rfl)
theorem dX1_checkHours_1 : decode cX1_checkHours 1 = .ok (.iconst 0, 1) := dk_3 (dk_at dksX1_checkHours_0 1 rfl rfl)
theorem dX1_checkHours_2 : decode cX1_checkHours 2 = .ok (.iload_n 2, 1) := dk_28 (dk_at dksX1_checkHours_0 2 rfl rfl)
theorem dX1_checkHours_3 : decode cX1_checkHours 3 = .ok (.invokestatic 49, 3) := dk_184 0 49 (dk_at dksX1_checkHours_0 3 rfl rfl)
theorem dX1_checkHours_6 : decode cX1_checkHours 6 = .ok (.invokestatic 206, 3) := dk_184 0 206 (dk_at dksX1_checkHours_0 6 rfl rfl)
theorem dX1_checkHours_9 : decode cX1_checkHours 9 = .ok (.return_, 1) := dk_177 (dk_at dksX1_checkHours_0 9 rfl rfl)
def dkwX1_heightIn_1 : List UInt8 := [182, 0, 246, 180, 0, 250, 180, 0, 161, 172]
abbrev dktX1_heightIn_1 : List UInt8 := dkwX1_heightIn_1 ++ []
def dkwX1_heightIn_0 : List UInt8 := [42, 27, 182, 0, 203, 42, 28, 16, 60, 182, 0, 238, 187, 0, 241, 89, 42, 27, 183, 0, 243, 28]
abbrev dktX1_heightIn_0 : List UInt8 := dkwX1_heightIn_0 ++ dktX1_heightIn_1
theorem dksX1_heightIn_0 : cX1_heightIn.data.toList.drop 0 = dktX1_heightIn_0 := by decide +kernel
theorem dksX1_heightIn_1 : cX1_heightIn.data.toList.drop 22 = dktX1_heightIn_1 := dk_seg dksX1_heightIn_0 22 rfl rfl
theorem dX1_heightIn_0 : decode cX1_heightIn 0 = .ok (.aload_n 0, 1) := dk_42 (dk_at dksX1_heightIn_0 0 rfl rfl)
theorem dX1_heightIn_1 : decode cX1_heightIn 1 = .ok (.iload_n 1, 1) := dk_27 (dk_at dksX1_heightIn_0 1 rfl rfl)
theorem dX1_heightIn_2 : decode cX1_heightIn 2 = .ok (.invokevirtual 203, 3) := dk_182 0 203 (dk_at dksX1_heightIn_0 2 rfl rfl)
theorem dX1_heightIn_5 : decode cX1_heightIn 5 = .ok (.aload_n 0, 1) := dk_42 (dk_at dksX1_heightIn_0 5 rfl rfl)
theorem dX1_heightIn_6 : decode cX1_heightIn 6 = .ok (.iload_n 2, 1) := dk_28 (dk_at dksX1_heightIn_0 6 rfl rfl)
theorem dX1_heightIn_7 : decode cX1_heightIn 7 = .ok (.bipush 60, 2) := dk_16 60 (dk_at dksX1_heightIn_0 7 rfl rfl)
theorem dX1_heightIn_9 : decode cX1_heightIn 9 = .ok (.invokevirtual 238, 3) := dk_182 0 238 (dk_at dksX1_heightIn_0 9 rfl rfl)
theorem dX1_heightIn_12 : decode cX1_heightIn 12 = .ok (.new 241, 3) := dk_187 0 241 (dk_at dksX1_heightIn_0 12 rfl rfl)
theorem dX1_heightIn_15 : decode cX1_heightIn 15 = .ok (.dup, 1) := dk_89 (dk_at dksX1_heightIn_0 15 rfl rfl)
theorem dX1_heightIn_16 : decode cX1_heightIn 16 = .ok (.aload_n 0, 1) := dk_42 (dk_at dksX1_heightIn_0 16 rfl rfl)
theorem dX1_heightIn_17 : decode cX1_heightIn 17 = .ok (.iload_n 1, 1) := dk_27 (dk_at dksX1_heightIn_0 17 rfl rfl)
theorem dX1_heightIn_18 : decode cX1_heightIn 18 = .ok (.invokespecial 243, 3) := dk_183 0 243 (dk_at dksX1_heightIn_0 18 rfl rfl)
theorem dX1_heightIn_21 : decode cX1_heightIn 21 = .ok (.iload_n 2, 1) := dk_28 (dk_at dksX1_heightIn_0 21 rfl rfl)
theorem dX1_heightIn_22 : decode cX1_heightIn 22 = .ok (.invokevirtual 246, 3) := dk_182 0 246 (dk_at dksX1_heightIn_1 0 rfl rfl)
theorem dX1_heightIn_25 : decode cX1_heightIn 25 = .ok (.getfield 250, 3) := dk_180 0 250 (dk_at dksX1_heightIn_1 3 rfl rfl)
theorem dX1_heightIn_28 : decode cX1_heightIn 28 = .ok (.getfield 161, 3) := dk_180 0 161 (dk_at dksX1_heightIn_1 6 rfl rfl)
theorem dX1_heightIn_31 : decode cX1_heightIn 31 = .ok (.ireturn, 1) := dk_172 (dk_at dksX1_heightIn_1 9 rfl rfl)
def dkwX1_roundsIn_2 : List UInt8 := [44, 180, 1, 1, 172, 187, 0, 63, 89, 183, 0, 65, 191]
abbrev dktX1_roundsIn_2 : List UInt8 := dkwX1_roundsIn_2 ++ []
def dkwX1_roundsIn_1 : List UInt8 := [180, 0, 250, 182, 0, 175, 153, 0, 23, 44, 182, 0, 254, 44, 180, 0, 250, 180, 0, 210, 29, 164, 255, 234]
abbrev dktX1_roundsIn_1 : List UInt8 := dkwX1_roundsIn_1 ++ dktX1_roundsIn_2
def dkwX1_roundsIn_0 : List UInt8 := [42, 27, 182, 0, 203, 187, 0, 241, 89, 42, 27, 183, 0, 243, 77, 44, 180, 0, 250, 180, 0, 210, 62, 44]
abbrev dktX1_roundsIn_0 : List UInt8 := dkwX1_roundsIn_0 ++ dktX1_roundsIn_1
theorem dksX1_roundsIn_0 : cX1_roundsIn.data.toList.drop 0 = dktX1_roundsIn_0 := by decide +kernel
theorem dksX1_roundsIn_1 : cX1_roundsIn.data.toList.drop 24 = dktX1_roundsIn_1 := dk_seg dksX1_roundsIn_0 24 rfl rfl
theorem dksX1_roundsIn_2 : cX1_roundsIn.data.toList.drop 48 = dktX1_roundsIn_2 := dk_seg dksX1_roundsIn_1 24 rfl rfl
theorem dX1_roundsIn_0 : decode cX1_roundsIn 0 = .ok (.aload_n 0, 1) := dk_42 (dk_at dksX1_roundsIn_0 0 rfl rfl)
theorem dX1_roundsIn_1 : decode cX1_roundsIn 1 = .ok (.iload_n 1, 1) := dk_27 (dk_at dksX1_roundsIn_0 1 rfl rfl)
theorem dX1_roundsIn_2 : decode cX1_roundsIn 2 = .ok (.invokevirtual 203, 3) := dk_182 0 203 (dk_at dksX1_roundsIn_0 2 rfl rfl)
theorem dX1_roundsIn_5 : decode cX1_roundsIn 5 = .ok (.new 241, 3) := dk_187 0 241 (dk_at dksX1_roundsIn_0 5 rfl rfl)
theorem dX1_roundsIn_8 : decode cX1_roundsIn 8 = .ok (.dup, 1) := dk_89 (dk_at dksX1_roundsIn_0 8 rfl rfl)
theorem dX1_roundsIn_9 : decode cX1_roundsIn 9 = .ok (.aload_n 0, 1) := dk_42 (dk_at dksX1_roundsIn_0 9 rfl rfl)
theorem dX1_roundsIn_10 : decode cX1_roundsIn 10 = .ok (.iload_n 1, 1) := dk_27 (dk_at dksX1_roundsIn_0 10 rfl rfl)
theorem dX1_roundsIn_11 : decode cX1_roundsIn 11 = .ok (.invokespecial 243, 3) := dk_183 0 243 (dk_at dksX1_roundsIn_0 11 rfl rfl)
theorem dX1_roundsIn_14 : decode cX1_roundsIn 14 = .ok (.astore_n 2, 1) := dk_77 (dk_at dksX1_roundsIn_0 14 rfl rfl)
theorem dX1_roundsIn_15 : decode cX1_roundsIn 15 = .ok (.aload_n 2, 1) := dk_44 (dk_at dksX1_roundsIn_0 15 rfl rfl)
theorem dX1_roundsIn_16 : decode cX1_roundsIn 16 = .ok (.getfield 250, 3) := dk_180 0 250 (dk_at dksX1_roundsIn_0 16 rfl rfl)
theorem dX1_roundsIn_19 : decode cX1_roundsIn 19 = .ok (.getfield 210, 3) := dk_180 0 210 (dk_at dksX1_roundsIn_0 19 rfl rfl)
theorem dX1_roundsIn_22 : decode cX1_roundsIn 22 = .ok (.istore_n 3, 1) := dk_62 (dk_at dksX1_roundsIn_0 22 rfl rfl)
theorem dX1_roundsIn_23 : decode cX1_roundsIn 23 = .ok (.aload_n 2, 1) := dk_44 (dk_at dksX1_roundsIn_0 23 rfl rfl)
theorem dX1_roundsIn_24 : decode cX1_roundsIn 24 = .ok (.getfield 250, 3) := dk_180 0 250 (dk_at dksX1_roundsIn_1 0 rfl rfl)
theorem dX1_roundsIn_27 : decode cX1_roundsIn 27 = .ok (.invokevirtual 175, 3) := dk_182 0 175 (dk_at dksX1_roundsIn_1 3 rfl rfl)
theorem dX1_roundsIn_30 : decode cX1_roundsIn 30 = .ok (.ifCond .eq 23, 3) := dk_153 0 23 (dk_at dksX1_roundsIn_1 6 rfl rfl)
theorem dX1_roundsIn_33 : decode cX1_roundsIn 33 = .ok (.aload_n 2, 1) := dk_44 (dk_at dksX1_roundsIn_1 9 rfl rfl)
theorem dX1_roundsIn_34 : decode cX1_roundsIn 34 = .ok (.invokevirtual 254, 3) := dk_182 0 254 (dk_at dksX1_roundsIn_1 10 rfl rfl)
theorem dX1_roundsIn_37 : decode cX1_roundsIn 37 = .ok (.aload_n 2, 1) := dk_44 (dk_at dksX1_roundsIn_1 13 rfl rfl)
theorem dX1_roundsIn_38 : decode cX1_roundsIn 38 = .ok (.getfield 250, 3) := dk_180 0 250 (dk_at dksX1_roundsIn_1 14 rfl rfl)
theorem dX1_roundsIn_41 : decode cX1_roundsIn 41 = .ok (.getfield 210, 3) := dk_180 0 210 (dk_at dksX1_roundsIn_1 17 rfl rfl)
theorem dX1_roundsIn_44 : decode cX1_roundsIn 44 = .ok (.iload_n 3, 1) := dk_29 (dk_at dksX1_roundsIn_1 20 rfl rfl)
theorem dX1_roundsIn_45 : decode cX1_roundsIn 45 = .ok (.if_icmp .le (-22), 3) := dk_164 255 234 (dk_at dksX1_roundsIn_1 21 rfl rfl)
theorem dX1_roundsIn_48 : decode cX1_roundsIn 48 = .ok (.aload_n 2, 1) := dk_44 (dk_at dksX1_roundsIn_2 0 rfl rfl)
theorem dX1_roundsIn_49 : decode cX1_roundsIn 49 = .ok (.getfield 257, 3) := dk_180 1 1 (dk_at dksX1_roundsIn_2 1 rfl rfl)
theorem dX1_roundsIn_52 : decode cX1_roundsIn 52 = .ok (.ireturn, 1) := dk_172 (dk_at dksX1_roundsIn_2 4 rfl rfl)
theorem dX1_roundsIn_53 : decode cX1_roundsIn 53 = .ok (.new 63, 3) := dk_187 0 63 (dk_at dksX1_roundsIn_2 5 rfl rfl)
theorem dX1_roundsIn_56 : decode cX1_roundsIn 56 = .ok (.dup, 1) := dk_89 (dk_at dksX1_roundsIn_2 8 rfl rfl)
theorem dX1_roundsIn_57 : decode cX1_roundsIn 57 = .ok (.invokespecial 65, 3) := dk_183 0 65 (dk_at dksX1_roundsIn_2 9 rfl rfl)
theorem dX1_roundsIn_60 : decode cX1_roundsIn 60 = .ok (.athrow, 1) := dk_191 (dk_at dksX1_roundsIn_2 12 rfl rfl)
def dkwX1_landsIn_0 : List UInt8 := [42, 27, 182, 1, 11, 180, 1, 1, 172]
abbrev dktX1_landsIn_0 : List UInt8 := dkwX1_landsIn_0 ++ []
theorem dksX1_landsIn_0 : cX1_landsIn.data.toList.drop 0 = dktX1_landsIn_0 := by decide +kernel
theorem dX1_landsIn_0 : decode cX1_landsIn 0 = .ok (.aload_n 0, 1) := dk_42 (dk_at dksX1_landsIn_0 0 rfl rfl)
theorem dX1_landsIn_1 : decode cX1_landsIn 1 = .ok (.iload_n 1, 1) := dk_27 (dk_at dksX1_landsIn_0 1 rfl rfl)
theorem dX1_landsIn_2 : decode cX1_landsIn 2 = .ok (.invokevirtual 267, 3) := dk_182 1 11 (dk_at dksX1_landsIn_0 2 rfl rfl)
theorem dX1_landsIn_5 : decode cX1_landsIn 5 = .ok (.getfield 257, 3) := dk_180 1 1 (dk_at dksX1_landsIn_0 5 rfl rfl)
theorem dX1_landsIn_8 : decode cX1_landsIn 8 = .ok (.ireturn, 1) := dk_172 (dk_at dksX1_landsIn_0 8 rfl rfl)
def dkwX1_landing_1 : List UInt8 := [184, 1, 4, 187, 0, 241, 89, 42, 27, 183, 0, 243, 182, 1, 7, 176]
abbrev dktX1_landing_1 : List UInt8 := dkwX1_landing_1 ++ []
def dkwX1_landing_0 : List UInt8 := [42, 27, 182, 0, 203, 42, 180, 0, 10, 180, 0, 104, 27, 182, 0, 128, 192, 0, 114, 182, 0, 175]
abbrev dktX1_landing_0 : List UInt8 := dkwX1_landing_0 ++ dktX1_landing_1
theorem dksX1_landing_0 : cX1_landing.data.toList.drop 0 = dktX1_landing_0 := by decide +kernel
theorem dksX1_landing_1 : cX1_landing.data.toList.drop 22 = dktX1_landing_1 := dk_seg dksX1_landing_0 22 rfl rfl
theorem dX1_landing_0 : decode cX1_landing 0 = .ok (.aload_n 0, 1) := dk_42 (dk_at dksX1_landing_0 0 rfl rfl)
theorem dX1_landing_1 : decode cX1_landing 1 = .ok (.iload_n 1, 1) := dk_27 (dk_at dksX1_landing_0 1 rfl rfl)
theorem dX1_landing_2 : decode cX1_landing 2 = .ok (.invokevirtual 203, 3) := dk_182 0 203 (dk_at dksX1_landing_0 2 rfl rfl)
theorem dX1_landing_5 : decode cX1_landing 5 = .ok (.aload_n 0, 1) := dk_42 (dk_at dksX1_landing_0 5 rfl rfl)
theorem dX1_landing_6 : decode cX1_landing 6 = .ok (.getfield 10, 3) := dk_180 0 10 (dk_at dksX1_landing_0 6 rfl rfl)
theorem dX1_landing_9 : decode cX1_landing 9 = .ok (.getfield 104, 3) := dk_180 0 104 (dk_at dksX1_landing_0 9 rfl rfl)
theorem dX1_landing_12 : decode cX1_landing 12 = .ok (.iload_n 1, 1) := dk_27 (dk_at dksX1_landing_0 12 rfl rfl)
theorem dX1_landing_13 : decode cX1_landing 13 = .ok (.invokevirtual 128, 3) := dk_182 0 128 (dk_at dksX1_landing_0 13 rfl rfl)
theorem dX1_landing_16 : decode cX1_landing 16 = .ok (.checkcast 114, 3) := dk_192 0 114 (dk_at dksX1_landing_0 16 rfl rfl)
theorem dX1_landing_19 : decode cX1_landing 19 = .ok (.invokevirtual 175, 3) := dk_182 0 175 (dk_at dksX1_landing_0 19 rfl rfl)
theorem dX1_landing_22 : decode cX1_landing 22 = .ok (.invokestatic 260, 3) := dk_184 1 4 (dk_at dksX1_landing_1 0 rfl rfl)
theorem dX1_landing_25 : decode cX1_landing 25 = .ok (.new 241, 3) := dk_187 0 241 (dk_at dksX1_landing_1 3 rfl rfl)
theorem dX1_landing_28 : decode cX1_landing 28 = .ok (.dup, 1) := dk_89 (dk_at dksX1_landing_1 6 rfl rfl)
theorem dX1_landing_29 : decode cX1_landing 29 = .ok (.aload_n 0, 1) := dk_42 (dk_at dksX1_landing_1 7 rfl rfl)
theorem dX1_landing_30 : decode cX1_landing 30 = .ok (.iload_n 1, 1) := dk_27 (dk_at dksX1_landing_1 8 rfl rfl)
theorem dX1_landing_31 : decode cX1_landing 31 = .ok (.invokespecial 243, 3) := dk_183 0 243 (dk_at dksX1_landing_1 9 rfl rfl)
theorem dX1_landing_34 : decode cX1_landing 34 = .ok (.invokevirtual 263, 3) := dk_182 1 7 (dk_at dksX1_landing_1 12 rfl rfl)
theorem dX1_landing_37 : decode cX1_landing 37 = .ok (.areturn, 1) := dk_176 (dk_at dksX1_landing_1 15 rfl rfl)
def dkwX1_checkElement_0 : List UInt8 := [26, 154, 0, 11, 187, 0, 63, 89, 183, 0, 65, 191, 177]
abbrev dktX1_checkElement_0 : List UInt8 := dkwX1_checkElement_0 ++ []
theorem dksX1_checkElement_0 : cX1_checkElement.data.toList.drop 0 = dktX1_checkElement_0 := by decide +kernel
theorem dX1_checkElement_0 : decode cX1_checkElement 0 = .ok (.iload_n 0, 1) := dk_26 (dk_at dksX1_checkElement_0 0 rfl rfl)
theorem dX1_checkElement_1 : decode cX1_checkElement 1 = .ok (.ifCond .ne 11, 3) := dk_154 0 11 (dk_at dksX1_checkElement_0 1 rfl rfl)
theorem dX1_checkElement_4 : decode cX1_checkElement 4 = .ok (.new 63, 3) := dk_187 0 63 (dk_at dksX1_checkElement_0 4 rfl rfl)
theorem dX1_checkElement_7 : decode cX1_checkElement 7 = .ok (.dup, 1) := dk_89 (dk_at dksX1_checkElement_0 7 rfl rfl)
theorem dX1_checkElement_8 : decode cX1_checkElement 8 = .ok (.invokespecial 65, 3) := dk_183 0 65 (dk_at dksX1_checkElement_0 8 rfl rfl)
theorem dX1_checkElement_11 : decode cX1_checkElement 11 = .ok (.athrow, 1) := dk_191 (dk_at dksX1_checkElement_0 11 rfl rfl)
theorem dX1_checkElement_12 : decode cX1_checkElement 12 = .ok (.return_, 1) := dk_177 (dk_at dksX1_checkElement_0 12 rfl rfl)
def dkwX1_landsAt_0 : List UInt8 := [42, 27, 182, 1, 11, 180, 0, 250, 180, 0, 209, 172]
abbrev dktX1_landsAt_0 : List UInt8 := dkwX1_landsAt_0 ++ []
theorem dksX1_landsAt_0 : cX1_landsAt.data.toList.drop 0 = dktX1_landsAt_0 := by decide +kernel
theorem dX1_landsAt_0 : decode cX1_landsAt 0 = .ok (.aload_n 0, 1) := dk_42 (dk_at dksX1_landsAt_0 0 rfl rfl)
theorem dX1_landsAt_1 : decode cX1_landsAt 1 = .ok (.iload_n 1, 1) := dk_27 (dk_at dksX1_landsAt_0 1 rfl rfl)
theorem dX1_landsAt_2 : decode cX1_landsAt 2 = .ok (.invokevirtual 267, 3) := dk_182 1 11 (dk_at dksX1_landsAt_0 2 rfl rfl)
theorem dX1_landsAt_5 : decode cX1_landsAt 5 = .ok (.getfield 250, 3) := dk_180 0 250 (dk_at dksX1_landsAt_0 5 rfl rfl)
theorem dX1_landsAt_8 : decode cX1_landsAt 8 = .ok (.getfield 209, 3) := dk_180 0 209 (dk_at dksX1_landsAt_0 8 rfl rfl)
theorem dX1_landsAt_11 : decode cX1_landsAt 11 = .ok (.ireturn, 1) := dk_172 (dk_at dksX1_landsAt_0 11 rfl rfl)
def dkwX1_wouldScore_2 : List UInt8 := [180, 0, 213, 100, 172]
abbrev dktX1_wouldScore_2 : List UInt8 := dkwX1_wouldScore_2 ++ []
def dkwX1_wouldScore_1 : List UInt8 := [182, 0, 246, 180, 0, 250, 180, 0, 213, 42, 180, 0, 10, 180, 0, 104, 27, 182, 0, 128, 192, 0, 114]
abbrev dktX1_wouldScore_1 : List UInt8 := dkwX1_wouldScore_1 ++ dktX1_wouldScore_2
def dkwX1_wouldScore_0 : List UInt8 := [42, 27, 182, 0, 203, 42, 28, 16, 60, 182, 0, 238, 187, 0, 241, 89, 42, 27, 183, 0, 243, 28]
abbrev dktX1_wouldScore_0 : List UInt8 := dkwX1_wouldScore_0 ++ dktX1_wouldScore_1
theorem dksX1_wouldScore_0 : cX1_wouldScore.data.toList.drop 0 = dktX1_wouldScore_0 := by decide +kernel
theorem dksX1_wouldScore_1 : cX1_wouldScore.data.toList.drop 22 = dktX1_wouldScore_1 := dk_seg dksX1_wouldScore_0 22 rfl rfl
theorem dksX1_wouldScore_2 : cX1_wouldScore.data.toList.drop 45 = dktX1_wouldScore_2 := dk_seg dksX1_wouldScore_1 23 rfl rfl
theorem dX1_wouldScore_0 : decode cX1_wouldScore 0 = .ok (.aload_n 0, 1) := dk_42 (dk_at dksX1_wouldScore_0 0 rfl rfl)
theorem dX1_wouldScore_1 : decode cX1_wouldScore 1 = .ok (.iload_n 1, 1) := dk_27 (dk_at dksX1_wouldScore_0 1 rfl rfl)
theorem dX1_wouldScore_2 : decode cX1_wouldScore 2 = .ok (.invokevirtual 203, 3) := dk_182 0 203 (dk_at dksX1_wouldScore_0 2 rfl rfl)
theorem dX1_wouldScore_5 : decode cX1_wouldScore 5 = .ok (.aload_n 0, 1) := dk_42 (dk_at dksX1_wouldScore_0 5 rfl rfl)
theorem dX1_wouldScore_6 : decode cX1_wouldScore 6 = .ok (.iload_n 2, 1) := dk_28 (dk_at dksX1_wouldScore_0 6 rfl rfl)
theorem dX1_wouldScore_7 : decode cX1_wouldScore 7 = .ok (.bipush 60, 2) := dk_16 60 (dk_at dksX1_wouldScore_0 7 rfl rfl)
theorem dX1_wouldScore_9 : decode cX1_wouldScore 9 = .ok (.invokevirtual 238, 3) := dk_182 0 238 (dk_at dksX1_wouldScore_0 9 rfl rfl)
theorem dX1_wouldScore_12 : decode cX1_wouldScore 12 = .ok (.new 241, 3) := dk_187 0 241 (dk_at dksX1_wouldScore_0 12 rfl rfl)
theorem dX1_wouldScore_15 : decode cX1_wouldScore 15 = .ok (.dup, 1) := dk_89 (dk_at dksX1_wouldScore_0 15 rfl rfl)
theorem dX1_wouldScore_16 : decode cX1_wouldScore 16 = .ok (.aload_n 0, 1) := dk_42 (dk_at dksX1_wouldScore_0 16 rfl rfl)
theorem dX1_wouldScore_17 : decode cX1_wouldScore 17 = .ok (.iload_n 1, 1) := dk_27 (dk_at dksX1_wouldScore_0 17 rfl rfl)
theorem dX1_wouldScore_18 : decode cX1_wouldScore 18 = .ok (.invokespecial 243, 3) := dk_183 0 243 (dk_at dksX1_wouldScore_0 18 rfl rfl)
theorem dX1_wouldScore_21 : decode cX1_wouldScore 21 = .ok (.iload_n 2, 1) := dk_28 (dk_at dksX1_wouldScore_0 21 rfl rfl)
theorem dX1_wouldScore_22 : decode cX1_wouldScore 22 = .ok (.invokevirtual 246, 3) := dk_182 0 246 (dk_at dksX1_wouldScore_1 0 rfl rfl)
theorem dX1_wouldScore_25 : decode cX1_wouldScore 25 = .ok (.getfield 250, 3) := dk_180 0 250 (dk_at dksX1_wouldScore_1 3 rfl rfl)
theorem dX1_wouldScore_28 : decode cX1_wouldScore 28 = .ok (.getfield 213, 3) := dk_180 0 213 (dk_at dksX1_wouldScore_1 6 rfl rfl)
theorem dX1_wouldScore_31 : decode cX1_wouldScore 31 = .ok (.aload_n 0, 1) := dk_42 (dk_at dksX1_wouldScore_1 9 rfl rfl)
theorem dX1_wouldScore_32 : decode cX1_wouldScore 32 = .ok (.getfield 10, 3) := dk_180 0 10 (dk_at dksX1_wouldScore_1 10 rfl rfl)
theorem dX1_wouldScore_35 : decode cX1_wouldScore 35 = .ok (.getfield 104, 3) := dk_180 0 104 (dk_at dksX1_wouldScore_1 13 rfl rfl)
theorem dX1_wouldScore_38 : decode cX1_wouldScore 38 = .ok (.iload_n 1, 1) := dk_27 (dk_at dksX1_wouldScore_1 16 rfl rfl)
theorem dX1_wouldScore_39 : decode cX1_wouldScore 39 = .ok (.invokevirtual 128, 3) := dk_182 0 128 (dk_at dksX1_wouldScore_1 17 rfl rfl)
theorem dX1_wouldScore_42 : decode cX1_wouldScore 42 = .ok (.checkcast 114, 3) := dk_192 0 114 (dk_at dksX1_wouldScore_1 20 rfl rfl)
theorem dX1_wouldScore_45 : decode cX1_wouldScore 45 = .ok (.getfield 213, 3) := dk_180 0 213 (dk_at dksX1_wouldScore_2 0 rfl rfl)
theorem dX1_wouldScore_48 : decode cX1_wouldScore 48 = .ok (.isub, 1) := dk_100 (dk_at dksX1_wouldScore_2 3 rfl rfl)
theorem dX1_wouldScore_49 : decode cX1_wouldScore 49 = .ok (.ireturn, 1) := dk_172 (dk_at dksX1_wouldScore_2 4 rfl rfl)
def dkwX1_fewest_1 : List UInt8 := [167, 0, 4, 3, 184, 1, 4, 29, 172]
abbrev dktX1_fewest_1 : List UInt8 := dkwX1_fewest_1 ++ []
def dkwX1_fewest_0 : List UInt8 := [42, 27, 182, 1, 42, 61, 42, 42, 27, 182, 1, 45, 28, 182, 1, 48, 62, 29, 2, 159, 0, 7, 4]
abbrev dktX1_fewest_0 : List UInt8 := dkwX1_fewest_0 ++ dktX1_fewest_1
theorem dksX1_fewest_0 : cX1_fewest.data.toList.drop 0 = dktX1_fewest_0 := by decide +kernel
theorem dksX1_fewest_1 : cX1_fewest.data.toList.drop 23 = dktX1_fewest_1 := dk_seg dksX1_fewest_0 23 rfl rfl
theorem dX1_fewest_0 : decode cX1_fewest 0 = .ok (.aload_n 0, 1) := dk_42 (dk_at dksX1_fewest_0 0 rfl rfl)
theorem dX1_fewest_1 : decode cX1_fewest 1 = .ok (.iload_n 1, 1) := dk_27 (dk_at dksX1_fewest_0 1 rfl rfl)
theorem dX1_fewest_2 : decode cX1_fewest 2 = .ok (.invokevirtual 298, 3) := dk_182 1 42 (dk_at dksX1_fewest_0 2 rfl rfl)
theorem dX1_fewest_5 : decode cX1_fewest 5 = .ok (.istore_n 2, 1) := dk_61 (dk_at dksX1_fewest_0 5 rfl rfl)
theorem dX1_fewest_6 : decode cX1_fewest 6 = .ok (.aload_n 0, 1) := dk_42 (dk_at dksX1_fewest_0 6 rfl rfl)
theorem dX1_fewest_7 : decode cX1_fewest 7 = .ok (.aload_n 0, 1) := dk_42 (dk_at dksX1_fewest_0 7 rfl rfl)
theorem dX1_fewest_8 : decode cX1_fewest 8 = .ok (.iload_n 1, 1) := dk_27 (dk_at dksX1_fewest_0 8 rfl rfl)
theorem dX1_fewest_9 : decode cX1_fewest 9 = .ok (.invokevirtual 301, 3) := dk_182 1 45 (dk_at dksX1_fewest_0 9 rfl rfl)
theorem dX1_fewest_12 : decode cX1_fewest 12 = .ok (.iload_n 2, 1) := dk_28 (dk_at dksX1_fewest_0 12 rfl rfl)
theorem dX1_fewest_13 : decode cX1_fewest 13 = .ok (.invokevirtual 304, 3) := dk_182 1 48 (dk_at dksX1_fewest_0 13 rfl rfl)
theorem dX1_fewest_16 : decode cX1_fewest 16 = .ok (.istore_n 3, 1) := dk_62 (dk_at dksX1_fewest_0 16 rfl rfl)
theorem dX1_fewest_17 : decode cX1_fewest 17 = .ok (.iload_n 3, 1) := dk_29 (dk_at dksX1_fewest_0 17 rfl rfl)
theorem dX1_fewest_18 : decode cX1_fewest 18 = .ok (.iconst (-1), 1) := dk_2 (dk_at dksX1_fewest_0 18 rfl rfl)
theorem dX1_fewest_19 : decode cX1_fewest 19 = .ok (.if_icmp .eq 7, 3) := dk_159 0 7 (dk_at dksX1_fewest_0 19 rfl rfl)
theorem dX1_fewest_22 : decode cX1_fewest 22 = .ok (.iconst 1, 1) := dk_4 (dk_at dksX1_fewest_0 22 rfl rfl)
theorem dX1_fewest_23 : decode cX1_fewest 23 = .ok (.goto 4, 3) := dk_167 0 4 (dk_at dksX1_fewest_1 0 rfl rfl)
theorem dX1_fewest_26 : decode cX1_fewest 26 = .ok (.iconst 0, 1) := dk_3 (dk_at dksX1_fewest_1 3 rfl rfl)
theorem dX1_fewest_27 : decode cX1_fewest 27 = .ok (.invokestatic 260, 3) := dk_184 1 4 (dk_at dksX1_fewest_1 4 rfl rfl)
theorem dX1_fewest_30 : decode cX1_fewest 30 = .ok (.iload_n 3, 1) := dk_29 (dk_at dksX1_fewest_1 7 rfl rfl)
theorem dX1_fewest_31 : decode cX1_fewest 31 = .ok (.ireturn, 1) := dk_172 (dk_at dksX1_fewest_1 8 rfl rfl)
def dkwX1_gateOf_2 : List UInt8 := [44, 182, 0, 225, 172]
abbrev dktX1_gateOf_2 : List UInt8 := dkwX1_gateOf_2 ++ []
def dkwX1_gateOf_1 : List UInt8 := [182, 1, 14, 77, 44, 198, 0, 7, 4, 167, 0, 4, 3, 184, 1, 4, 44, 199, 0, 7, 2, 167, 0, 7]
abbrev dktX1_gateOf_1 : List UInt8 := dkwX1_gateOf_1 ++ dktX1_gateOf_2
def dkwX1_gateOf_0 : List UInt8 := [42, 27, 182, 0, 203, 42, 180, 0, 10, 42, 180, 0, 10, 180, 0, 104, 27, 182, 0, 128, 192, 0, 114]
abbrev dktX1_gateOf_0 : List UInt8 := dkwX1_gateOf_0 ++ dktX1_gateOf_1
theorem dksX1_gateOf_0 : cX1_gateOf.data.toList.drop 0 = dktX1_gateOf_0 := by decide +kernel
theorem dksX1_gateOf_1 : cX1_gateOf.data.toList.drop 23 = dktX1_gateOf_1 := dk_seg dksX1_gateOf_0 23 rfl rfl
theorem dksX1_gateOf_2 : cX1_gateOf.data.toList.drop 47 = dktX1_gateOf_2 := dk_seg dksX1_gateOf_1 24 rfl rfl
theorem dX1_gateOf_0 : decode cX1_gateOf 0 = .ok (.aload_n 0, 1) := dk_42 (dk_at dksX1_gateOf_0 0 rfl rfl)
theorem dX1_gateOf_1 : decode cX1_gateOf 1 = .ok (.iload_n 1, 1) := dk_27 (dk_at dksX1_gateOf_0 1 rfl rfl)
theorem dX1_gateOf_2 : decode cX1_gateOf 2 = .ok (.invokevirtual 203, 3) := dk_182 0 203 (dk_at dksX1_gateOf_0 2 rfl rfl)
theorem dX1_gateOf_5 : decode cX1_gateOf 5 = .ok (.aload_n 0, 1) := dk_42 (dk_at dksX1_gateOf_0 5 rfl rfl)
theorem dX1_gateOf_6 : decode cX1_gateOf 6 = .ok (.getfield 10, 3) := dk_180 0 10 (dk_at dksX1_gateOf_0 6 rfl rfl)
theorem dX1_gateOf_9 : decode cX1_gateOf 9 = .ok (.aload_n 0, 1) := dk_42 (dk_at dksX1_gateOf_0 9 rfl rfl)
theorem dX1_gateOf_10 : decode cX1_gateOf 10 = .ok (.getfield 10, 3) := dk_180 0 10 (dk_at dksX1_gateOf_0 10 rfl rfl)
theorem dX1_gateOf_13 : decode cX1_gateOf 13 = .ok (.getfield 104, 3) := dk_180 0 104 (dk_at dksX1_gateOf_0 13 rfl rfl)
theorem dX1_gateOf_16 : decode cX1_gateOf 16 = .ok (.iload_n 1, 1) := dk_27 (dk_at dksX1_gateOf_0 16 rfl rfl)
theorem dX1_gateOf_17 : decode cX1_gateOf 17 = .ok (.invokevirtual 128, 3) := dk_182 0 128 (dk_at dksX1_gateOf_0 17 rfl rfl)
theorem dX1_gateOf_20 : decode cX1_gateOf 20 = .ok (.checkcast 114, 3) := dk_192 0 114 (dk_at dksX1_gateOf_0 20 rfl rfl)
theorem dX1_gateOf_23 : decode cX1_gateOf 23 = .ok (.invokevirtual 270, 3) := dk_182 1 14 (dk_at dksX1_gateOf_1 0 rfl rfl)
theorem dX1_gateOf_26 : decode cX1_gateOf 26 = .ok (.astore_n 2, 1) := dk_77 (dk_at dksX1_gateOf_1 3 rfl rfl)
theorem dX1_gateOf_27 : decode cX1_gateOf 27 = .ok (.aload_n 2, 1) := dk_44 (dk_at dksX1_gateOf_1 4 rfl rfl)
theorem dX1_gateOf_28 : decode cX1_gateOf 28 = .ok (.ifnull 7, 3) := dk_198 0 7 (dk_at dksX1_gateOf_1 5 rfl rfl)
theorem dX1_gateOf_31 : decode cX1_gateOf 31 = .ok (.iconst 1, 1) := dk_4 (dk_at dksX1_gateOf_1 8 rfl rfl)
theorem dX1_gateOf_32 : decode cX1_gateOf 32 = .ok (.goto 4, 3) := dk_167 0 4 (dk_at dksX1_gateOf_1 9 rfl rfl)
theorem dX1_gateOf_35 : decode cX1_gateOf 35 = .ok (.iconst 0, 1) := dk_3 (dk_at dksX1_gateOf_1 12 rfl rfl)
theorem dX1_gateOf_36 : decode cX1_gateOf 36 = .ok (.invokestatic 260, 3) := dk_184 1 4 (dk_at dksX1_gateOf_1 13 rfl rfl)
theorem dX1_gateOf_39 : decode cX1_gateOf 39 = .ok (.aload_n 2, 1) := dk_44 (dk_at dksX1_gateOf_1 16 rfl rfl)
theorem dX1_gateOf_40 : decode cX1_gateOf 40 = .ok (.ifnonnull 7, 3) := dk_199 0 7 (dk_at dksX1_gateOf_1 17 rfl rfl)
theorem dX1_gateOf_43 : decode cX1_gateOf 43 = .ok (.iconst (-1), 1) := dk_2 (dk_at dksX1_gateOf_1 20 rfl rfl)
theorem dX1_gateOf_44 : decode cX1_gateOf 44 = .ok (.goto 7, 3) := dk_167 0 7 (dk_at dksX1_gateOf_1 21 rfl rfl)
theorem dX1_gateOf_47 : decode cX1_gateOf 47 = .ok (.aload_n 2, 1) := dk_44 (dk_at dksX1_gateOf_2 0 rfl rfl)
theorem dX1_gateOf_48 : decode cX1_gateOf 48 = .ok (.invokevirtual 225, 3) := dk_182 0 225 (dk_at dksX1_gateOf_2 1 rfl rfl)
theorem dX1_gateOf_51 : decode cX1_gateOf 51 = .ok (.ireturn, 1) := dk_172 (dk_at dksX1_gateOf_2 4 rfl rfl)
def dkwX1_pointOf_0 : List UInt8 := [42, 180, 0, 10, 180, 0, 104, 27, 182, 0, 128, 192, 0, 114, 180, 0, 209, 172]
abbrev dktX1_pointOf_0 : List UInt8 := dkwX1_pointOf_0 ++ []
theorem dksX1_pointOf_0 : cX1_pointOf.data.toList.drop 0 = dktX1_pointOf_0 := by decide +kernel
theorem dX1_pointOf_0 : decode cX1_pointOf 0 = .ok (.aload_n 0, 1) := dk_42 (dk_at dksX1_pointOf_0 0 rfl rfl)
theorem dX1_pointOf_1 : decode cX1_pointOf 1 = .ok (.getfield 10, 3) := dk_180 0 10 (dk_at dksX1_pointOf_0 1 rfl rfl)
theorem dX1_pointOf_4 : decode cX1_pointOf 4 = .ok (.getfield 104, 3) := dk_180 0 104 (dk_at dksX1_pointOf_0 4 rfl rfl)
theorem dX1_pointOf_7 : decode cX1_pointOf 7 = .ok (.iload_n 1, 1) := dk_27 (dk_at dksX1_pointOf_0 7 rfl rfl)
theorem dX1_pointOf_8 : decode cX1_pointOf 8 = .ok (.invokevirtual 128, 3) := dk_182 0 128 (dk_at dksX1_pointOf_0 8 rfl rfl)
theorem dX1_pointOf_11 : decode cX1_pointOf 11 = .ok (.checkcast 114, 3) := dk_192 0 114 (dk_at dksX1_pointOf_0 11 rfl rfl)
theorem dX1_pointOf_14 : decode cX1_pointOf 14 = .ok (.getfield 209, 3) := dk_180 0 209 (dk_at dksX1_pointOf_0 14 rfl rfl)
theorem dX1_pointOf_17 : decode cX1_pointOf 17 = .ok (.ireturn, 1) := dk_172 (dk_at dksX1_pointOf_0 17 rfl rfl)
def dkwX1_fewestAgain_1 : List UInt8 := [167, 0, 4, 3, 184, 1, 4, 29, 172]
abbrev dktX1_fewestAgain_1 : List UInt8 := dkwX1_fewestAgain_1 ++ []
def dkwX1_fewestAgain_0 : List UInt8 := [42, 27, 182, 1, 42, 61, 42, 42, 27, 182, 1, 45, 28, 182, 1, 51, 62, 29, 2, 159, 0, 7, 4]
abbrev dktX1_fewestAgain_0 : List UInt8 := dkwX1_fewestAgain_0 ++ dktX1_fewestAgain_1
theorem dksX1_fewestAgain_0 : cX1_fewestAgain.data.toList.drop 0 = dktX1_fewestAgain_0 := by decide +kernel
theorem dksX1_fewestAgain_1 : cX1_fewestAgain.data.toList.drop 23 = dktX1_fewestAgain_1 := dk_seg dksX1_fewestAgain_0 23 rfl rfl
theorem dX1_fewestAgain_0 : decode cX1_fewestAgain 0 = .ok (.aload_n 0, 1) := dk_42 (dk_at dksX1_fewestAgain_0 0 rfl rfl)
theorem dX1_fewestAgain_1 : decode cX1_fewestAgain 1 = .ok (.iload_n 1, 1) := dk_27 (dk_at dksX1_fewestAgain_0 1 rfl rfl)
theorem dX1_fewestAgain_2 : decode cX1_fewestAgain 2 = .ok (.invokevirtual 298, 3) := dk_182 1 42 (dk_at dksX1_fewestAgain_0 2 rfl rfl)
theorem dX1_fewestAgain_5 : decode cX1_fewestAgain 5 = .ok (.istore_n 2, 1) := dk_61 (dk_at dksX1_fewestAgain_0 5 rfl rfl)
theorem dX1_fewestAgain_6 : decode cX1_fewestAgain 6 = .ok (.aload_n 0, 1) := dk_42 (dk_at dksX1_fewestAgain_0 6 rfl rfl)
theorem dX1_fewestAgain_7 : decode cX1_fewestAgain 7 = .ok (.aload_n 0, 1) := dk_42 (dk_at dksX1_fewestAgain_0 7 rfl rfl)
theorem dX1_fewestAgain_8 : decode cX1_fewestAgain 8 = .ok (.iload_n 1, 1) := dk_27 (dk_at dksX1_fewestAgain_0 8 rfl rfl)
theorem dX1_fewestAgain_9 : decode cX1_fewestAgain 9 = .ok (.invokevirtual 301, 3) := dk_182 1 45 (dk_at dksX1_fewestAgain_0 9 rfl rfl)
theorem dX1_fewestAgain_12 : decode cX1_fewestAgain 12 = .ok (.iload_n 2, 1) := dk_28 (dk_at dksX1_fewestAgain_0 12 rfl rfl)
theorem dX1_fewestAgain_13 : decode cX1_fewestAgain 13 = .ok (.invokevirtual 307, 3) := dk_182 1 51 (dk_at dksX1_fewestAgain_0 13 rfl rfl)
theorem dX1_fewestAgain_16 : decode cX1_fewestAgain 16 = .ok (.istore_n 3, 1) := dk_62 (dk_at dksX1_fewestAgain_0 16 rfl rfl)
theorem dX1_fewestAgain_17 : decode cX1_fewestAgain 17 = .ok (.iload_n 3, 1) := dk_29 (dk_at dksX1_fewestAgain_0 17 rfl rfl)
theorem dX1_fewestAgain_18 : decode cX1_fewestAgain 18 = .ok (.iconst (-1), 1) := dk_2 (dk_at dksX1_fewestAgain_0 18 rfl rfl)
theorem dX1_fewestAgain_19 : decode cX1_fewestAgain 19 = .ok (.if_icmp .eq 7, 3) := dk_159 0 7 (dk_at dksX1_fewestAgain_0 19 rfl rfl)
theorem dX1_fewestAgain_22 : decode cX1_fewestAgain 22 = .ok (.iconst 1, 1) := dk_4 (dk_at dksX1_fewestAgain_0 22 rfl rfl)
theorem dX1_fewestAgain_23 : decode cX1_fewestAgain 23 = .ok (.goto 4, 3) := dk_167 0 4 (dk_at dksX1_fewestAgain_1 0 rfl rfl)
theorem dX1_fewestAgain_26 : decode cX1_fewestAgain 26 = .ok (.iconst 0, 1) := dk_3 (dk_at dksX1_fewestAgain_1 3 rfl rfl)
theorem dX1_fewestAgain_27 : decode cX1_fewestAgain 27 = .ok (.invokestatic 260, 3) := dk_184 1 4 (dk_at dksX1_fewestAgain_1 4 rfl rfl)
theorem dX1_fewestAgain_30 : decode cX1_fewestAgain 30 = .ok (.iload_n 3, 1) := dk_29 (dk_at dksX1_fewestAgain_1 7 rfl rfl)
theorem dX1_fewestAgain_31 : decode cX1_fewestAgain 31 = .ok (.ireturn, 1) := dk_172 (dk_at dksX1_fewestAgain_1 8 rfl rfl)
def dkwX1_bestHeight_2 : List UInt8 := [180, 0, 151, 21, 4, 46, 184, 0, 137, 46, 29, 159, 0, 9, 132, 4, 1, 167, 255, 229, 21, 4, 172]
abbrev dktX1_bestHeight_2 : List UInt8 := dkwX1_bestHeight_2 ++ []
def dkwX1_bestHeight_1 : List UInt8 := [159, 0, 7, 4, 167, 0, 4, 3, 184, 1, 4, 4, 54, 4, 44, 42, 27, 182, 1, 45, 42, 180, 0, 10]
abbrev dktX1_bestHeight_1 : List UInt8 := dkwX1_bestHeight_1 ++ dktX1_bestHeight_2
def dkwX1_bestHeight_0 : List UInt8 := [42, 42, 27, 182, 1, 42, 182, 1, 38, 77, 42, 42, 27, 182, 1, 45, 44, 182, 1, 34, 62, 29, 2]
abbrev dktX1_bestHeight_0 : List UInt8 := dkwX1_bestHeight_0 ++ dktX1_bestHeight_1
theorem dksX1_bestHeight_0 : cX1_bestHeight.data.toList.drop 0 = dktX1_bestHeight_0 := by decide +kernel
theorem dksX1_bestHeight_1 : cX1_bestHeight.data.toList.drop 23 = dktX1_bestHeight_1 := dk_seg dksX1_bestHeight_0 23 rfl rfl
theorem dksX1_bestHeight_2 : cX1_bestHeight.data.toList.drop 47 = dktX1_bestHeight_2 := dk_seg dksX1_bestHeight_1 24 rfl rfl
theorem dX1_bestHeight_0 : decode cX1_bestHeight 0 = .ok (.aload_n 0, 1) := dk_42 (dk_at dksX1_bestHeight_0 0 rfl rfl)
theorem dX1_bestHeight_1 : decode cX1_bestHeight 1 = .ok (.aload_n 0, 1) := dk_42 (dk_at dksX1_bestHeight_0 1 rfl rfl)
theorem dX1_bestHeight_2 : decode cX1_bestHeight 2 = .ok (.iload_n 1, 1) := dk_27 (dk_at dksX1_bestHeight_0 2 rfl rfl)
theorem dX1_bestHeight_3 : decode cX1_bestHeight 3 = .ok (.invokevirtual 298, 3) := dk_182 1 42 (dk_at dksX1_bestHeight_0 3 rfl rfl)
theorem dX1_bestHeight_6 : decode cX1_bestHeight 6 = .ok (.invokevirtual 294, 3) := dk_182 1 38 (dk_at dksX1_bestHeight_0 6 rfl rfl)
theorem dX1_bestHeight_9 : decode cX1_bestHeight 9 = .ok (.astore_n 2, 1) := dk_77 (dk_at dksX1_bestHeight_0 9 rfl rfl)
theorem dX1_bestHeight_10 : decode cX1_bestHeight 10 = .ok (.aload_n 0, 1) := dk_42 (dk_at dksX1_bestHeight_0 10 rfl rfl)
theorem dX1_bestHeight_11 : decode cX1_bestHeight 11 = .ok (.aload_n 0, 1) := dk_42 (dk_at dksX1_bestHeight_0 11 rfl rfl)
theorem dX1_bestHeight_12 : decode cX1_bestHeight 12 = .ok (.iload_n 1, 1) := dk_27 (dk_at dksX1_bestHeight_0 12 rfl rfl)
theorem dX1_bestHeight_13 : decode cX1_bestHeight 13 = .ok (.invokevirtual 301, 3) := dk_182 1 45 (dk_at dksX1_bestHeight_0 13 rfl rfl)
theorem dX1_bestHeight_16 : decode cX1_bestHeight 16 = .ok (.aload_n 2, 1) := dk_44 (dk_at dksX1_bestHeight_0 16 rfl rfl)
theorem dX1_bestHeight_17 : decode cX1_bestHeight 17 = .ok (.invokevirtual 290, 3) := dk_182 1 34 (dk_at dksX1_bestHeight_0 17 rfl rfl)
theorem dX1_bestHeight_20 : decode cX1_bestHeight 20 = .ok (.istore_n 3, 1) := dk_62 (dk_at dksX1_bestHeight_0 20 rfl rfl)
theorem dX1_bestHeight_21 : decode cX1_bestHeight 21 = .ok (.iload_n 3, 1) := dk_29 (dk_at dksX1_bestHeight_0 21 rfl rfl)
theorem dX1_bestHeight_22 : decode cX1_bestHeight 22 = .ok (.iconst (-1), 1) := dk_2 (dk_at dksX1_bestHeight_0 22 rfl rfl)
theorem dX1_bestHeight_23 : decode cX1_bestHeight 23 = .ok (.if_icmp .eq 7, 3) := dk_159 0 7 (dk_at dksX1_bestHeight_1 0 rfl rfl)
theorem dX1_bestHeight_26 : decode cX1_bestHeight 26 = .ok (.iconst 1, 1) := dk_4 (dk_at dksX1_bestHeight_1 3 rfl rfl)
theorem dX1_bestHeight_27 : decode cX1_bestHeight 27 = .ok (.goto 4, 3) := dk_167 0 4 (dk_at dksX1_bestHeight_1 4 rfl rfl)
theorem dX1_bestHeight_30 : decode cX1_bestHeight 30 = .ok (.iconst 0, 1) := dk_3 (dk_at dksX1_bestHeight_1 7 rfl rfl)
theorem dX1_bestHeight_31 : decode cX1_bestHeight 31 = .ok (.invokestatic 260, 3) := dk_184 1 4 (dk_at dksX1_bestHeight_1 8 rfl rfl)
theorem dX1_bestHeight_34 : decode cX1_bestHeight 34 = .ok (.iconst 1, 1) := dk_4 (dk_at dksX1_bestHeight_1 11 rfl rfl)
theorem dX1_bestHeight_35 : decode cX1_bestHeight 35 = .ok (.istore 4, 2) := dk_54 4 (dk_at dksX1_bestHeight_1 12 rfl rfl)
theorem dX1_bestHeight_37 : decode cX1_bestHeight 37 = .ok (.aload_n 2, 1) := dk_44 (dk_at dksX1_bestHeight_1 14 rfl rfl)
theorem dX1_bestHeight_38 : decode cX1_bestHeight 38 = .ok (.aload_n 0, 1) := dk_42 (dk_at dksX1_bestHeight_1 15 rfl rfl)
theorem dX1_bestHeight_39 : decode cX1_bestHeight 39 = .ok (.iload_n 1, 1) := dk_27 (dk_at dksX1_bestHeight_1 16 rfl rfl)
theorem dX1_bestHeight_40 : decode cX1_bestHeight 40 = .ok (.invokevirtual 301, 3) := dk_182 1 45 (dk_at dksX1_bestHeight_1 17 rfl rfl)
theorem dX1_bestHeight_43 : decode cX1_bestHeight 43 = .ok (.aload_n 0, 1) := dk_42 (dk_at dksX1_bestHeight_1 20 rfl rfl)
theorem dX1_bestHeight_44 : decode cX1_bestHeight 44 = .ok (.getfield 10, 3) := dk_180 0 10 (dk_at dksX1_bestHeight_1 21 rfl rfl)
theorem dX1_bestHeight_47 : decode cX1_bestHeight 47 = .ok (.getfield 151, 3) := dk_180 0 151 (dk_at dksX1_bestHeight_2 0 rfl rfl)
theorem dX1_bestHeight_50 : decode cX1_bestHeight 50 = .ok (.iload 4, 2) := dk_21 4 (dk_at dksX1_bestHeight_2 3 rfl rfl)
theorem dX1_bestHeight_52 : decode cX1_bestHeight 52 = .ok (.iaload, 1) := dk_46 (dk_at dksX1_bestHeight_2 5 rfl rfl)
theorem dX1_bestHeight_53 : decode cX1_bestHeight 53 = .ok (.invokestatic 137, 3) := dk_184 0 137 (dk_at dksX1_bestHeight_2 6 rfl rfl)
theorem dX1_bestHeight_56 : decode cX1_bestHeight 56 = .ok (.iaload, 1) := dk_46 (dk_at dksX1_bestHeight_2 9 rfl rfl)
theorem dX1_bestHeight_57 : decode cX1_bestHeight 57 = .ok (.iload_n 3, 1) := dk_29 (dk_at dksX1_bestHeight_2 10 rfl rfl)
theorem dX1_bestHeight_58 : decode cX1_bestHeight 58 = .ok (.if_icmp .eq 9, 3) := dk_159 0 9 (dk_at dksX1_bestHeight_2 11 rfl rfl)
theorem dX1_bestHeight_61 : decode cX1_bestHeight 61 = .ok (.iinc 4 1, 3) := dk_132 4 1 (dk_at dksX1_bestHeight_2 14 rfl rfl)
theorem dX1_bestHeight_64 : decode cX1_bestHeight 64 = .ok (.goto (-27), 3) := dk_167 255 229 (dk_at dksX1_bestHeight_2 17 rfl rfl)
theorem dX1_bestHeight_67 : decode cX1_bestHeight 67 = .ok (.iload 4, 2) := dk_21 4 (dk_at dksX1_bestHeight_2 20 rfl rfl)
theorem dX1_bestHeight_69 : decode cX1_bestHeight 69 = .ok (.ireturn, 1) := dk_172 (dk_at dksX1_bestHeight_2 22 rfl rfl)
def dkwX1_reach_2 : List UInt8 := [132, 4, 1, 167, 255, 243, 45, 182, 1, 64, 172]
abbrev dktX1_reach_2 : List UInt8 := dkwX1_reach_2 ++ []
def dkwX1_reach_1 : List UInt8 := [180, 1, 59, 42, 27, 182, 1, 45, 4, 84, 3, 54, 4, 21, 4, 28, 162, 0, 13, 45, 182, 1, 63]
abbrev dktX1_reach_1 : List UInt8 := dkwX1_reach_1 ++ dktX1_reach_2
def dkwX1_reach_0 : List UInt8 := [42, 27, 182, 0, 203, 42, 28, 16, 20, 182, 0, 238, 187, 1, 54, 89, 42, 183, 1, 56, 78, 45]
abbrev dktX1_reach_0 : List UInt8 := dkwX1_reach_0 ++ dktX1_reach_1
theorem dksX1_reach_0 : cX1_reach.data.toList.drop 0 = dktX1_reach_0 := by decide +kernel
theorem dksX1_reach_1 : cX1_reach.data.toList.drop 22 = dktX1_reach_1 := dk_seg dksX1_reach_0 22 rfl rfl
theorem dksX1_reach_2 : cX1_reach.data.toList.drop 45 = dktX1_reach_2 := dk_seg dksX1_reach_1 23 rfl rfl
theorem dX1_reach_0 : decode cX1_reach 0 = .ok (.aload_n 0, 1) := dk_42 (dk_at dksX1_reach_0 0 rfl rfl)
theorem dX1_reach_1 : decode cX1_reach 1 = .ok (.iload_n 1, 1) := dk_27 (dk_at dksX1_reach_0 1 rfl rfl)
theorem dX1_reach_2 : decode cX1_reach 2 = .ok (.invokevirtual 203, 3) := dk_182 0 203 (dk_at dksX1_reach_0 2 rfl rfl)
theorem dX1_reach_5 : decode cX1_reach 5 = .ok (.aload_n 0, 1) := dk_42 (dk_at dksX1_reach_0 5 rfl rfl)
theorem dX1_reach_6 : decode cX1_reach 6 = .ok (.iload_n 2, 1) := dk_28 (dk_at dksX1_reach_0 6 rfl rfl)
theorem dX1_reach_7 : decode cX1_reach 7 = .ok (.bipush 20, 2) := dk_16 20 (dk_at dksX1_reach_0 7 rfl rfl)
theorem dX1_reach_9 : decode cX1_reach 9 = .ok (.invokevirtual 238, 3) := dk_182 0 238 (dk_at dksX1_reach_0 9 rfl rfl)
theorem dX1_reach_12 : decode cX1_reach 12 = .ok (.new 310, 3) := dk_187 1 54 (dk_at dksX1_reach_0 12 rfl rfl)
theorem dX1_reach_15 : decode cX1_reach 15 = .ok (.dup, 1) := dk_89 (dk_at dksX1_reach_0 15 rfl rfl)
theorem dX1_reach_16 : decode cX1_reach 16 = .ok (.aload_n 0, 1) := dk_42 (dk_at dksX1_reach_0 16 rfl rfl)
theorem dX1_reach_17 : decode cX1_reach 17 = .ok (.invokespecial 312, 3) := dk_183 1 56 (dk_at dksX1_reach_0 17 rfl rfl)
theorem dX1_reach_20 : decode cX1_reach 20 = .ok (.astore_n 3, 1) := dk_78 (dk_at dksX1_reach_0 20 rfl rfl)
theorem dX1_reach_21 : decode cX1_reach 21 = .ok (.aload_n 3, 1) := dk_45 (dk_at dksX1_reach_0 21 rfl rfl)
theorem dX1_reach_22 : decode cX1_reach 22 = .ok (.getfield 315, 3) := dk_180 1 59 (dk_at dksX1_reach_1 0 rfl rfl)
theorem dX1_reach_25 : decode cX1_reach 25 = .ok (.aload_n 0, 1) := dk_42 (dk_at dksX1_reach_1 3 rfl rfl)
theorem dX1_reach_26 : decode cX1_reach 26 = .ok (.iload_n 1, 1) := dk_27 (dk_at dksX1_reach_1 4 rfl rfl)
theorem dX1_reach_27 : decode cX1_reach 27 = .ok (.invokevirtual 301, 3) := dk_182 1 45 (dk_at dksX1_reach_1 5 rfl rfl)
theorem dX1_reach_30 : decode cX1_reach 30 = .ok (.iconst 1, 1) := dk_4 (dk_at dksX1_reach_1 8 rfl rfl)
theorem dX1_reach_31 : decode cX1_reach 31 = .ok (.bastore, 1) := dk_84 (dk_at dksX1_reach_1 9 rfl rfl)
theorem dX1_reach_32 : decode cX1_reach 32 = .ok (.iconst 0, 1) := dk_3 (dk_at dksX1_reach_1 10 rfl rfl)
theorem dX1_reach_33 : decode cX1_reach 33 = .ok (.istore 4, 2) := dk_54 4 (dk_at dksX1_reach_1 11 rfl rfl)
theorem dX1_reach_35 : decode cX1_reach 35 = .ok (.iload 4, 2) := dk_21 4 (dk_at dksX1_reach_1 13 rfl rfl)
theorem dX1_reach_37 : decode cX1_reach 37 = .ok (.iload_n 2, 1) := dk_28 (dk_at dksX1_reach_1 15 rfl rfl)
theorem dX1_reach_38 : decode cX1_reach 38 = .ok (.if_icmp .ge 13, 3) := dk_162 0 13 (dk_at dksX1_reach_1 16 rfl rfl)
theorem dX1_reach_41 : decode cX1_reach 41 = .ok (.aload_n 3, 1) := dk_45 (dk_at dksX1_reach_1 19 rfl rfl)
theorem dX1_reach_42 : decode cX1_reach 42 = .ok (.invokevirtual 319, 3) := dk_182 1 63 (dk_at dksX1_reach_1 20 rfl rfl)
theorem dX1_reach_45 : decode cX1_reach 45 = .ok (.iinc 4 1, 3) := dk_132 4 1 (dk_at dksX1_reach_2 0 rfl rfl)
theorem dX1_reach_48 : decode cX1_reach 48 = .ok (.goto (-13), 3) := dk_167 255 243 (dk_at dksX1_reach_2 3 rfl rfl)
theorem dX1_reach_51 : decode cX1_reach 51 = .ok (.aload_n 3, 1) := dk_45 (dk_at dksX1_reach_2 6 rfl rfl)
theorem dX1_reach_52 : decode cX1_reach 52 = .ok (.invokevirtual 320, 3) := dk_182 1 64 (dk_at dksX1_reach_2 7 rfl rfl)
theorem dX1_reach_55 : decode cX1_reach 55 = .ok (.ireturn, 1) := dk_172 (dk_at dksX1_reach_2 10 rfl rfl)
def dkwX1_ranked_5 : List UInt8 := [172, 132, 2, 1, 167, 255, 138, 187, 0, 63, 89, 183, 0, 65, 191]
abbrev dktX1_ranked_5 : List UInt8 := dkwX1_ranked_5 ++ []
def dkwX1_ranked_4 : List UInt8 := [154, 0, 7, 4, 167, 0, 4, 3, 96, 54, 4, 132, 5, 1, 167, 255, 187, 21, 4, 27, 160, 0, 5, 28]
abbrev dktX1_ranked_4 : List UInt8 := dkwX1_ranked_4 ++ dktX1_ranked_5
def dkwX1_ranked_3 : List UInt8 := [21, 4, 25, 6, 45, 182, 1, 67, 154, 0, 18, 21, 5, 28, 162, 0, 16, 45, 25, 6, 182, 1, 67]
abbrev dktX1_ranked_3 : List UInt8 := dkwX1_ranked_3 ++ dktX1_ranked_4
def dkwX1_ranked_2 : List UInt8 := [182, 0, 108, 162, 0, 60, 42, 180, 0, 10, 180, 0, 104, 21, 5, 182, 0, 128, 192, 0, 114, 58, 6]
abbrev dktX1_ranked_2 : List UInt8 := dkwX1_ranked_2 ++ dktX1_ranked_3
def dkwX1_ranked_1 : List UInt8 := [182, 0, 128, 192, 0, 114, 78, 3, 54, 4, 3, 54, 5, 21, 5, 42, 180, 0, 10, 180, 0, 104]
abbrev dktX1_ranked_1 : List UInt8 := dkwX1_ranked_1 ++ dktX1_ranked_2
def dkwX1_ranked_0 : List UInt8 := [3, 61, 28, 42, 180, 0, 10, 180, 0, 104, 182, 0, 108, 162, 0, 110, 42, 180, 0, 10, 180, 0, 104, 28]
abbrev dktX1_ranked_0 : List UInt8 := dkwX1_ranked_0 ++ dktX1_ranked_1
theorem dksX1_ranked_0 : cX1_ranked.data.toList.drop 0 = dktX1_ranked_0 := by decide +kernel
theorem dksX1_ranked_1 : cX1_ranked.data.toList.drop 24 = dktX1_ranked_1 := dk_seg dksX1_ranked_0 24 rfl rfl
theorem dksX1_ranked_2 : cX1_ranked.data.toList.drop 46 = dktX1_ranked_2 := dk_seg dksX1_ranked_1 22 rfl rfl
theorem dksX1_ranked_3 : cX1_ranked.data.toList.drop 69 = dktX1_ranked_3 := dk_seg dksX1_ranked_2 23 rfl rfl
theorem dksX1_ranked_4 : cX1_ranked.data.toList.drop 92 = dktX1_ranked_4 := dk_seg dksX1_ranked_3 23 rfl rfl
theorem dksX1_ranked_5 : cX1_ranked.data.toList.drop 116 = dktX1_ranked_5 := dk_seg dksX1_ranked_4 24 rfl rfl
theorem dX1_ranked_0 : decode cX1_ranked 0 = .ok (.iconst 0, 1) := dk_3 (dk_at dksX1_ranked_0 0 rfl rfl)
theorem dX1_ranked_1 : decode cX1_ranked 1 = .ok (.istore_n 2, 1) := dk_61 (dk_at dksX1_ranked_0 1 rfl rfl)
theorem dX1_ranked_2 : decode cX1_ranked 2 = .ok (.iload_n 2, 1) := dk_28 (dk_at dksX1_ranked_0 2 rfl rfl)
theorem dX1_ranked_3 : decode cX1_ranked 3 = .ok (.aload_n 0, 1) := dk_42 (dk_at dksX1_ranked_0 3 rfl rfl)
theorem dX1_ranked_4 : decode cX1_ranked 4 = .ok (.getfield 10, 3) := dk_180 0 10 (dk_at dksX1_ranked_0 4 rfl rfl)
theorem dX1_ranked_7 : decode cX1_ranked 7 = .ok (.getfield 104, 3) := dk_180 0 104 (dk_at dksX1_ranked_0 7 rfl rfl)
theorem dX1_ranked_10 : decode cX1_ranked 10 = .ok (.invokevirtual 108, 3) := dk_182 0 108 (dk_at dksX1_ranked_0 10 rfl rfl)
theorem dX1_ranked_13 : decode cX1_ranked 13 = .ok (.if_icmp .ge 110, 3) := dk_162 0 110 (dk_at dksX1_ranked_0 13 rfl rfl)
theorem dX1_ranked_16 : decode cX1_ranked 16 = .ok (.aload_n 0, 1) := dk_42 (dk_at dksX1_ranked_0 16 rfl rfl)
theorem dX1_ranked_17 : decode cX1_ranked 17 = .ok (.getfield 10, 3) := dk_180 0 10 (dk_at dksX1_ranked_0 17 rfl rfl)
theorem dX1_ranked_20 : decode cX1_ranked 20 = .ok (.getfield 104, 3) := dk_180 0 104 (dk_at dksX1_ranked_0 20 rfl rfl)
theorem dX1_ranked_23 : decode cX1_ranked 23 = .ok (.iload_n 2, 1) := dk_28 (dk_at dksX1_ranked_0 23 rfl rfl)
theorem dX1_ranked_24 : decode cX1_ranked 24 = .ok (.invokevirtual 128, 3) := dk_182 0 128 (dk_at dksX1_ranked_1 0 rfl rfl)
theorem dX1_ranked_27 : decode cX1_ranked 27 = .ok (.checkcast 114, 3) := dk_192 0 114 (dk_at dksX1_ranked_1 3 rfl rfl)
theorem dX1_ranked_30 : decode cX1_ranked 30 = .ok (.astore_n 3, 1) := dk_78 (dk_at dksX1_ranked_1 6 rfl rfl)
theorem dX1_ranked_31 : decode cX1_ranked 31 = .ok (.iconst 0, 1) := dk_3 (dk_at dksX1_ranked_1 7 rfl rfl)
theorem dX1_ranked_32 : decode cX1_ranked 32 = .ok (.istore 4, 2) := dk_54 4 (dk_at dksX1_ranked_1 8 rfl rfl)
theorem dX1_ranked_34 : decode cX1_ranked 34 = .ok (.iconst 0, 1) := dk_3 (dk_at dksX1_ranked_1 10 rfl rfl)
theorem dX1_ranked_35 : decode cX1_ranked 35 = .ok (.istore 5, 2) := dk_54 5 (dk_at dksX1_ranked_1 11 rfl rfl)
theorem dX1_ranked_37 : decode cX1_ranked 37 = .ok (.iload 5, 2) := dk_21 5 (dk_at dksX1_ranked_1 13 rfl rfl)
theorem dX1_ranked_39 : decode cX1_ranked 39 = .ok (.aload_n 0, 1) := dk_42 (dk_at dksX1_ranked_1 15 rfl rfl)
theorem dX1_ranked_40 : decode cX1_ranked 40 = .ok (.getfield 10, 3) := dk_180 0 10 (dk_at dksX1_ranked_1 16 rfl rfl)
theorem dX1_ranked_43 : decode cX1_ranked 43 = .ok (.getfield 104, 3) := dk_180 0 104 (dk_at dksX1_ranked_1 19 rfl rfl)
theorem dX1_ranked_46 : decode cX1_ranked 46 = .ok (.invokevirtual 108, 3) := dk_182 0 108 (dk_at dksX1_ranked_2 0 rfl rfl)
theorem dX1_ranked_49 : decode cX1_ranked 49 = .ok (.if_icmp .ge 60, 3) := dk_162 0 60 (dk_at dksX1_ranked_2 3 rfl rfl)
theorem dX1_ranked_52 : decode cX1_ranked 52 = .ok (.aload_n 0, 1) := dk_42 (dk_at dksX1_ranked_2 6 rfl rfl)
theorem dX1_ranked_53 : decode cX1_ranked 53 = .ok (.getfield 10, 3) := dk_180 0 10 (dk_at dksX1_ranked_2 7 rfl rfl)
theorem dX1_ranked_56 : decode cX1_ranked 56 = .ok (.getfield 104, 3) := dk_180 0 104 (dk_at dksX1_ranked_2 10 rfl rfl)
theorem dX1_ranked_59 : decode cX1_ranked 59 = .ok (.iload 5, 2) := dk_21 5 (dk_at dksX1_ranked_2 13 rfl rfl)
theorem dX1_ranked_61 : decode cX1_ranked 61 = .ok (.invokevirtual 128, 3) := dk_182 0 128 (dk_at dksX1_ranked_2 15 rfl rfl)
theorem dX1_ranked_64 : decode cX1_ranked 64 = .ok (.checkcast 114, 3) := dk_192 0 114 (dk_at dksX1_ranked_2 18 rfl rfl)
theorem dX1_ranked_67 : decode cX1_ranked 67 = .ok (.astore 6, 2) := dk_58 6 (dk_at dksX1_ranked_2 21 rfl rfl)
theorem dX1_ranked_69 : decode cX1_ranked 69 = .ok (.iload 4, 2) := dk_21 4 (dk_at dksX1_ranked_3 0 rfl rfl)
theorem dX1_ranked_71 : decode cX1_ranked 71 = .ok (.aload 6, 2) := dk_25 6 (dk_at dksX1_ranked_3 2 rfl rfl)
theorem dX1_ranked_73 : decode cX1_ranked 73 = .ok (.aload_n 3, 1) := dk_45 (dk_at dksX1_ranked_3 4 rfl rfl)
theorem dX1_ranked_74 : decode cX1_ranked 74 = .ok (.invokevirtual 323, 3) := dk_182 1 67 (dk_at dksX1_ranked_3 5 rfl rfl)
theorem dX1_ranked_77 : decode cX1_ranked 77 = .ok (.ifCond .ne 18, 3) := dk_154 0 18 (dk_at dksX1_ranked_3 8 rfl rfl)
theorem dX1_ranked_80 : decode cX1_ranked 80 = .ok (.iload 5, 2) := dk_21 5 (dk_at dksX1_ranked_3 11 rfl rfl)
theorem dX1_ranked_82 : decode cX1_ranked 82 = .ok (.iload_n 2, 1) := dk_28 (dk_at dksX1_ranked_3 13 rfl rfl)
theorem dX1_ranked_83 : decode cX1_ranked 83 = .ok (.if_icmp .ge 16, 3) := dk_162 0 16 (dk_at dksX1_ranked_3 14 rfl rfl)
theorem dX1_ranked_86 : decode cX1_ranked 86 = .ok (.aload_n 3, 1) := dk_45 (dk_at dksX1_ranked_3 17 rfl rfl)
theorem dX1_ranked_87 : decode cX1_ranked 87 = .ok (.aload 6, 2) := dk_25 6 (dk_at dksX1_ranked_3 18 rfl rfl)
theorem dX1_ranked_89 : decode cX1_ranked 89 = .ok (.invokevirtual 323, 3) := dk_182 1 67 (dk_at dksX1_ranked_3 20 rfl rfl)
theorem dX1_ranked_92 : decode cX1_ranked 92 = .ok (.ifCond .ne 7, 3) := dk_154 0 7 (dk_at dksX1_ranked_4 0 rfl rfl)
theorem dX1_ranked_95 : decode cX1_ranked 95 = .ok (.iconst 1, 1) := dk_4 (dk_at dksX1_ranked_4 3 rfl rfl)
theorem dX1_ranked_96 : decode cX1_ranked 96 = .ok (.goto 4, 3) := dk_167 0 4 (dk_at dksX1_ranked_4 4 rfl rfl)
theorem dX1_ranked_99 : decode cX1_ranked 99 = .ok (.iconst 0, 1) := dk_3 (dk_at dksX1_ranked_4 7 rfl rfl)
theorem dX1_ranked_100 : decode cX1_ranked 100 = .ok (.iadd, 1) := dk_96 (dk_at dksX1_ranked_4 8 rfl rfl)
theorem dX1_ranked_101 : decode cX1_ranked 101 = .ok (.istore 4, 2) := dk_54 4 (dk_at dksX1_ranked_4 9 rfl rfl)
theorem dX1_ranked_103 : decode cX1_ranked 103 = .ok (.iinc 5 1, 3) := dk_132 5 1 (dk_at dksX1_ranked_4 11 rfl rfl)
theorem dX1_ranked_106 : decode cX1_ranked 106 = .ok (.goto (-69), 3) := dk_167 255 187 (dk_at dksX1_ranked_4 14 rfl rfl)
theorem dX1_ranked_109 : decode cX1_ranked 109 = .ok (.iload 4, 2) := dk_21 4 (dk_at dksX1_ranked_4 17 rfl rfl)
theorem dX1_ranked_111 : decode cX1_ranked 111 = .ok (.iload_n 1, 1) := dk_27 (dk_at dksX1_ranked_4 19 rfl rfl)
theorem dX1_ranked_112 : decode cX1_ranked 112 = .ok (.if_icmp .ne 5, 3) := dk_160 0 5 (dk_at dksX1_ranked_4 20 rfl rfl)
theorem dX1_ranked_115 : decode cX1_ranked 115 = .ok (.iload_n 2, 1) := dk_28 (dk_at dksX1_ranked_4 23 rfl rfl)
theorem dX1_ranked_116 : decode cX1_ranked 116 = .ok (.ireturn, 1) := dk_172 (dk_at dksX1_ranked_5 0 rfl rfl)
theorem dX1_ranked_117 : decode cX1_ranked 117 = .ok (.iinc 2 1, 3) := dk_132 2 1 (dk_at dksX1_ranked_5 1 rfl rfl)
theorem dX1_ranked_120 : decode cX1_ranked 120 = .ok (.goto (-118), 3) := dk_167 255 138 (dk_at dksX1_ranked_5 4 rfl rfl)
theorem dX1_ranked_123 : decode cX1_ranked 123 = .ok (.new 63, 3) := dk_187 0 63 (dk_at dksX1_ranked_5 7 rfl rfl)
theorem dX1_ranked_126 : decode cX1_ranked 126 = .ok (.dup, 1) := dk_89 (dk_at dksX1_ranked_5 10 rfl rfl)
theorem dX1_ranked_127 : decode cX1_ranked 127 = .ok (.invokespecial 65, 3) := dk_183 0 65 (dk_at dksX1_ranked_5 11 rfl rfl)
theorem dX1_ranked_130 : decode cX1_ranked 130 = .ok (.athrow, 1) := dk_191 (dk_at dksX1_ranked_5 14 rfl rfl)
def dkwX1_dearest_2 : List UInt8 := [180, 0, 232, 27, 46, 158, 0, 7, 4, 167, 0, 4, 3, 184, 1, 4, 27, 172]
abbrev dktX1_dearest_2 : List UInt8 := dkwX1_dearest_2 ++ []
def dkwX1_dearest_1 : List UInt8 := [180, 0, 232, 27, 46, 164, 0, 7, 28, 167, 0, 4, 27, 60, 132, 2, 1, 167, 255, 220, 42, 180, 0, 10]
abbrev dktX1_dearest_1 : List UInt8 := dkwX1_dearest_1 ++ dktX1_dearest_2
def dkwX1_dearest_0 : List UInt8 := [3, 60, 4, 61, 28, 16, 100, 162, 0, 36, 42, 180, 0, 10, 180, 0, 232, 28, 46, 42, 180, 0, 10]
abbrev dktX1_dearest_0 : List UInt8 := dkwX1_dearest_0 ++ dktX1_dearest_1
theorem dksX1_dearest_0 : cX1_dearest.data.toList.drop 0 = dktX1_dearest_0 := by decide +kernel
theorem dksX1_dearest_1 : cX1_dearest.data.toList.drop 23 = dktX1_dearest_1 := dk_seg dksX1_dearest_0 23 rfl rfl
theorem dksX1_dearest_2 : cX1_dearest.data.toList.drop 47 = dktX1_dearest_2 := dk_seg dksX1_dearest_1 24 rfl rfl
theorem dX1_dearest_0 : decode cX1_dearest 0 = .ok (.iconst 0, 1) := dk_3 (dk_at dksX1_dearest_0 0 rfl rfl)
theorem dX1_dearest_1 : decode cX1_dearest 1 = .ok (.istore_n 1, 1) := dk_60 (dk_at dksX1_dearest_0 1 rfl rfl)
theorem dX1_dearest_2 : decode cX1_dearest 2 = .ok (.iconst 1, 1) := dk_4 (dk_at dksX1_dearest_0 2 rfl rfl)
theorem dX1_dearest_3 : decode cX1_dearest 3 = .ok (.istore_n 2, 1) := dk_61 (dk_at dksX1_dearest_0 3 rfl rfl)
theorem dX1_dearest_4 : decode cX1_dearest 4 = .ok (.iload_n 2, 1) := dk_28 (dk_at dksX1_dearest_0 4 rfl rfl)
theorem dX1_dearest_5 : decode cX1_dearest 5 = .ok (.bipush 100, 2) := dk_16 100 (dk_at dksX1_dearest_0 5 rfl rfl)
theorem dX1_dearest_7 : decode cX1_dearest 7 = .ok (.if_icmp .ge 36, 3) := dk_162 0 36 (dk_at dksX1_dearest_0 7 rfl rfl)
theorem dX1_dearest_10 : decode cX1_dearest 10 = .ok (.aload_n 0, 1) := dk_42 (dk_at dksX1_dearest_0 10 rfl rfl)
theorem dX1_dearest_11 : decode cX1_dearest 11 = .ok (.getfield 10, 3) := dk_180 0 10 (dk_at dksX1_dearest_0 11 rfl rfl)
theorem dX1_dearest_14 : decode cX1_dearest 14 = .ok (.getfield 232, 3) := dk_180 0 232 (dk_at dksX1_dearest_0 14 rfl rfl)
theorem dX1_dearest_17 : decode cX1_dearest 17 = .ok (.iload_n 2, 1) := dk_28 (dk_at dksX1_dearest_0 17 rfl rfl)
theorem dX1_dearest_18 : decode cX1_dearest 18 = .ok (.iaload, 1) := dk_46 (dk_at dksX1_dearest_0 18 rfl rfl)
theorem dX1_dearest_19 : decode cX1_dearest 19 = .ok (.aload_n 0, 1) := dk_42 (dk_at dksX1_dearest_0 19 rfl rfl)
theorem dX1_dearest_20 : decode cX1_dearest 20 = .ok (.getfield 10, 3) := dk_180 0 10 (dk_at dksX1_dearest_0 20 rfl rfl)
theorem dX1_dearest_23 : decode cX1_dearest 23 = .ok (.getfield 232, 3) := dk_180 0 232 (dk_at dksX1_dearest_1 0 rfl rfl)
theorem dX1_dearest_26 : decode cX1_dearest 26 = .ok (.iload_n 1, 1) := dk_27 (dk_at dksX1_dearest_1 3 rfl rfl)
theorem dX1_dearest_27 : decode cX1_dearest 27 = .ok (.iaload, 1) := dk_46 (dk_at dksX1_dearest_1 4 rfl rfl)
theorem dX1_dearest_28 : decode cX1_dearest 28 = .ok (.if_icmp .le 7, 3) := dk_164 0 7 (dk_at dksX1_dearest_1 5 rfl rfl)
theorem dX1_dearest_31 : decode cX1_dearest 31 = .ok (.iload_n 2, 1) := dk_28 (dk_at dksX1_dearest_1 8 rfl rfl)
theorem dX1_dearest_32 : decode cX1_dearest 32 = .ok (.goto 4, 3) := dk_167 0 4 (dk_at dksX1_dearest_1 9 rfl rfl)
theorem dX1_dearest_35 : decode cX1_dearest 35 = .ok (.iload_n 1, 1) := dk_27 (dk_at dksX1_dearest_1 12 rfl rfl)
theorem dX1_dearest_36 : decode cX1_dearest 36 = .ok (.istore_n 1, 1) := dk_60 (dk_at dksX1_dearest_1 13 rfl rfl)
theorem dX1_dearest_37 : decode cX1_dearest 37 = .ok (.iinc 2 1, 3) := dk_132 2 1 (dk_at dksX1_dearest_1 14 rfl rfl)
theorem dX1_dearest_40 : decode cX1_dearest 40 = .ok (.goto (-36), 3) := dk_167 255 220 (dk_at dksX1_dearest_1 17 rfl rfl)
theorem dX1_dearest_43 : decode cX1_dearest 43 = .ok (.aload_n 0, 1) := dk_42 (dk_at dksX1_dearest_1 20 rfl rfl)
theorem dX1_dearest_44 : decode cX1_dearest 44 = .ok (.getfield 10, 3) := dk_180 0 10 (dk_at dksX1_dearest_1 21 rfl rfl)
theorem dX1_dearest_47 : decode cX1_dearest 47 = .ok (.getfield 232, 3) := dk_180 0 232 (dk_at dksX1_dearest_2 0 rfl rfl)
theorem dX1_dearest_50 : decode cX1_dearest 50 = .ok (.iload_n 1, 1) := dk_27 (dk_at dksX1_dearest_2 3 rfl rfl)
theorem dX1_dearest_51 : decode cX1_dearest 51 = .ok (.iaload, 1) := dk_46 (dk_at dksX1_dearest_2 4 rfl rfl)
theorem dX1_dearest_52 : decode cX1_dearest 52 = .ok (.ifCond .le 7, 3) := dk_158 0 7 (dk_at dksX1_dearest_2 5 rfl rfl)
theorem dX1_dearest_55 : decode cX1_dearest 55 = .ok (.iconst 1, 1) := dk_4 (dk_at dksX1_dearest_2 8 rfl rfl)
theorem dX1_dearest_56 : decode cX1_dearest 56 = .ok (.goto 4, 3) := dk_167 0 4 (dk_at dksX1_dearest_2 9 rfl rfl)
theorem dX1_dearest_59 : decode cX1_dearest 59 = .ok (.iconst 0, 1) := dk_3 (dk_at dksX1_dearest_2 12 rfl rfl)
theorem dX1_dearest_60 : decode cX1_dearest 60 = .ok (.invokestatic 260, 3) := dk_184 1 4 (dk_at dksX1_dearest_2 13 rfl rfl)
theorem dX1_dearest_63 : decode cX1_dearest 63 = .ok (.iload_n 1, 1) := dk_27 (dk_at dksX1_dearest_2 16 rfl rfl)
theorem dX1_dearest_64 : decode cX1_dearest 64 = .ok (.ireturn, 1) := dk_172 (dk_at dksX1_dearest_2 17 rfl rfl)
def dkwX1_append_1 : List UInt8 := [167, 0, 4, 3, 184, 1, 148, 42, 180, 0, 26, 27, 182, 1, 151, 87, 42, 180, 0, 26, 182, 1, 145, 172]
abbrev dktX1_append_1 : List UInt8 := dkwX1_append_1 ++ []
def dkwX1_append_0 : List UInt8 := [27, 16, 32, 16, 126, 184, 0, 49, 184, 0, 206, 42, 180, 0, 26, 182, 1, 145, 16, 60, 162, 0, 7, 4]
abbrev dktX1_append_0 : List UInt8 := dkwX1_append_0 ++ dktX1_append_1
theorem dksX1_append_0 : cX1_append.data.toList.drop 0 = dktX1_append_0 := by decide +kernel
theorem dksX1_append_1 : cX1_append.data.toList.drop 24 = dktX1_append_1 := dk_seg dksX1_append_0 24 rfl rfl
theorem dX1_append_0 : decode cX1_append 0 = .ok (.iload_n 1, 1) := dk_27 (dk_at dksX1_append_0 0 rfl rfl)
theorem dX1_append_1 : decode cX1_append 1 = .ok (.bipush 32, 2) := dk_16 32 (dk_at dksX1_append_0 1 rfl rfl)
theorem dX1_append_3 : decode cX1_append 3 = .ok (.bipush 126, 2) := dk_16 126 (dk_at dksX1_append_0 3 rfl rfl)
theorem dX1_append_5 : decode cX1_append 5 = .ok (.invokestatic 49, 3) := dk_184 0 49 (dk_at dksX1_append_0 5 rfl rfl)
theorem dX1_append_8 : decode cX1_append 8 = .ok (.invokestatic 206, 3) := dk_184 0 206 (dk_at dksX1_append_0 8 rfl rfl)
theorem dX1_append_11 : decode cX1_append 11 = .ok (.aload_n 0, 1) := dk_42 (dk_at dksX1_append_0 11 rfl rfl)
theorem dX1_append_12 : decode cX1_append 12 = .ok (.getfield 26, 3) := dk_180 0 26 (dk_at dksX1_append_0 12 rfl rfl)
theorem dX1_append_15 : decode cX1_append 15 = .ok (.invokevirtual 401, 3) := dk_182 1 145 (dk_at dksX1_append_0 15 rfl rfl)
theorem dX1_append_18 : decode cX1_append 18 = .ok (.bipush 60, 2) := dk_16 60 (dk_at dksX1_append_0 18 rfl rfl)
theorem dX1_append_20 : decode cX1_append 20 = .ok (.if_icmp .ge 7, 3) := dk_162 0 7 (dk_at dksX1_append_0 20 rfl rfl)
theorem dX1_append_23 : decode cX1_append 23 = .ok (.iconst 1, 1) := dk_4 (dk_at dksX1_append_0 23 rfl rfl)
theorem dX1_append_24 : decode cX1_append 24 = .ok (.goto 4, 3) := dk_167 0 4 (dk_at dksX1_append_1 0 rfl rfl)
theorem dX1_append_27 : decode cX1_append 27 = .ok (.iconst 0, 1) := dk_3 (dk_at dksX1_append_1 3 rfl rfl)
theorem dX1_append_28 : decode cX1_append 28 = .ok (.invokestatic 404, 3) := dk_184 1 148 (dk_at dksX1_append_1 4 rfl rfl)
theorem dX1_append_31 : decode cX1_append 31 = .ok (.aload_n 0, 1) := dk_42 (dk_at dksX1_append_1 7 rfl rfl)
theorem dX1_append_32 : decode cX1_append 32 = .ok (.getfield 26, 3) := dk_180 0 26 (dk_at dksX1_append_1 8 rfl rfl)
theorem dX1_append_35 : decode cX1_append 35 = .ok (.iload_n 1, 1) := dk_27 (dk_at dksX1_append_1 11 rfl rfl)
theorem dX1_append_36 : decode cX1_append 36 = .ok (.invokevirtual 407, 3) := dk_182 1 151 (dk_at dksX1_append_1 12 rfl rfl)
theorem dX1_append_39 : decode cX1_append 39 = .ok (.pop, 1) := dk_87 (dk_at dksX1_append_1 15 rfl rfl)
theorem dX1_append_40 : decode cX1_append 40 = .ok (.aload_n 0, 1) := dk_42 (dk_at dksX1_append_1 16 rfl rfl)
theorem dX1_append_41 : decode cX1_append 41 = .ok (.getfield 26, 3) := dk_180 0 26 (dk_at dksX1_append_1 17 rfl rfl)
theorem dX1_append_44 : decode cX1_append 44 = .ok (.invokevirtual 401, 3) := dk_182 1 145 (dk_at dksX1_append_1 20 rfl rfl)
theorem dX1_append_47 : decode cX1_append 47 = .ok (.ireturn, 1) := dk_172 (dk_at dksX1_append_1 23 rfl rfl)
def dkwX1_checkState_0 : List UInt8 := [26, 154, 0, 11, 187, 0, 66, 89, 183, 0, 68, 191, 177]
abbrev dktX1_checkState_0 : List UInt8 := dkwX1_checkState_0 ++ []
theorem dksX1_checkState_0 : cX1_checkState.data.toList.drop 0 = dktX1_checkState_0 := by decide +kernel
theorem dX1_checkState_0 : decode cX1_checkState 0 = .ok (.iload_n 0, 1) := dk_26 (dk_at dksX1_checkState_0 0 rfl rfl)
theorem dX1_checkState_1 : decode cX1_checkState 1 = .ok (.ifCond .ne 11, 3) := dk_154 0 11 (dk_at dksX1_checkState_0 1 rfl rfl)
theorem dX1_checkState_4 : decode cX1_checkState 4 = .ok (.new 66, 3) := dk_187 0 66 (dk_at dksX1_checkState_0 4 rfl rfl)
theorem dX1_checkState_7 : decode cX1_checkState 7 = .ok (.dup, 1) := dk_89 (dk_at dksX1_checkState_0 7 rfl rfl)
theorem dX1_checkState_8 : decode cX1_checkState 8 = .ok (.invokespecial 68, 3) := dk_183 0 68 (dk_at dksX1_checkState_0 8 rfl rfl)
theorem dX1_checkState_11 : decode cX1_checkState 11 = .ok (.athrow, 1) := dk_191 (dk_at dksX1_checkState_0 11 rfl rfl)
theorem dX1_checkState_12 : decode cX1_checkState 12 = .ok (.return_, 1) := dk_177 (dk_at dksX1_checkState_0 12 rfl rfl)
def dkwX1_run_2 : List UInt8 := [43, 180, 1, 170, 182, 1, 173, 172]
abbrev dktX1_run_2 : List UInt8 := dkwX1_run_2 ++ []
def dkwX1_run_1 : List UInt8 := [43, 182, 1, 167, 181, 0, 33, 42, 180, 0, 33, 2, 160, 0, 7, 4, 167, 0, 4, 3, 184, 0, 206, 42]
abbrev dktX1_run_1 : List UInt8 := dkwX1_run_1 ++ dktX1_run_2
def dkwX1_run_0 : List UInt8 := [187, 1, 155, 89, 42, 180, 0, 26, 182, 1, 157, 183, 1, 161, 76, 42, 180, 0, 26, 3, 182, 1, 164, 42]
abbrev dktX1_run_0 : List UInt8 := dkwX1_run_0 ++ dktX1_run_1
theorem dksX1_run_0 : cX1_run.data.toList.drop 0 = dktX1_run_0 := by decide +kernel
theorem dksX1_run_1 : cX1_run.data.toList.drop 24 = dktX1_run_1 := dk_seg dksX1_run_0 24 rfl rfl
theorem dksX1_run_2 : cX1_run.data.toList.drop 48 = dktX1_run_2 := dk_seg dksX1_run_1 24 rfl rfl
theorem dX1_run_0 : decode cX1_run 0 = .ok (.new 411, 3) := dk_187 1 155 (dk_at dksX1_run_0 0 rfl rfl)
theorem dX1_run_3 : decode cX1_run 3 = .ok (.dup, 1) := dk_89 (dk_at dksX1_run_0 3 rfl rfl)
theorem dX1_run_4 : decode cX1_run 4 = .ok (.aload_n 0, 1) := dk_42 (dk_at dksX1_run_0 4 rfl rfl)
theorem dX1_run_5 : decode cX1_run 5 = .ok (.getfield 26, 3) := dk_180 0 26 (dk_at dksX1_run_0 5 rfl rfl)
theorem dX1_run_8 : decode cX1_run 8 = .ok (.invokevirtual 413, 3) := dk_182 1 157 (dk_at dksX1_run_0 8 rfl rfl)
theorem dX1_run_11 : decode cX1_run 11 = .ok (.invokespecial 417, 3) := dk_183 1 161 (dk_at dksX1_run_0 11 rfl rfl)
theorem dX1_run_14 : decode cX1_run 14 = .ok (.astore_n 1, 1) := dk_76 (dk_at dksX1_run_0 14 rfl rfl)
theorem dX1_run_15 : decode cX1_run 15 = .ok (.aload_n 0, 1) := dk_42 (dk_at dksX1_run_0 15 rfl rfl)
theorem dX1_run_16 : decode cX1_run 16 = .ok (.getfield 26, 3) := dk_180 0 26 (dk_at dksX1_run_0 16 rfl rfl)
theorem dX1_run_19 : decode cX1_run 19 = .ok (.iconst 0, 1) := dk_3 (dk_at dksX1_run_0 19 rfl rfl)
theorem dX1_run_20 : decode cX1_run 20 = .ok (.invokevirtual 420, 3) := dk_182 1 164 (dk_at dksX1_run_0 20 rfl rfl)
theorem dX1_run_23 : decode cX1_run 23 = .ok (.aload_n 0, 1) := dk_42 (dk_at dksX1_run_0 23 rfl rfl)
theorem dX1_run_24 : decode cX1_run 24 = .ok (.aload_n 1, 1) := dk_43 (dk_at dksX1_run_1 0 rfl rfl)
theorem dX1_run_25 : decode cX1_run 25 = .ok (.invokevirtual 423, 3) := dk_182 1 167 (dk_at dksX1_run_1 1 rfl rfl)
theorem dX1_run_28 : decode cX1_run 28 = .ok (.putfield 33, 3) := dk_181 0 33 (dk_at dksX1_run_1 4 rfl rfl)
theorem dX1_run_31 : decode cX1_run 31 = .ok (.aload_n 0, 1) := dk_42 (dk_at dksX1_run_1 7 rfl rfl)
theorem dX1_run_32 : decode cX1_run 32 = .ok (.getfield 33, 3) := dk_180 0 33 (dk_at dksX1_run_1 8 rfl rfl)
theorem dX1_run_35 : decode cX1_run 35 = .ok (.iconst (-1), 1) := dk_2 (dk_at dksX1_run_1 11 rfl rfl)
theorem dX1_run_36 : decode cX1_run 36 = .ok (.if_icmp .ne 7, 3) := dk_160 0 7 (dk_at dksX1_run_1 12 rfl rfl)
theorem dX1_run_39 : decode cX1_run 39 = .ok (.iconst 1, 1) := dk_4 (dk_at dksX1_run_1 15 rfl rfl)
theorem dX1_run_40 : decode cX1_run 40 = .ok (.goto 4, 3) := dk_167 0 4 (dk_at dksX1_run_1 16 rfl rfl)
theorem dX1_run_43 : decode cX1_run 43 = .ok (.iconst 0, 1) := dk_3 (dk_at dksX1_run_1 19 rfl rfl)
theorem dX1_run_44 : decode cX1_run 44 = .ok (.invokestatic 206, 3) := dk_184 0 206 (dk_at dksX1_run_1 20 rfl rfl)
theorem dX1_run_47 : decode cX1_run 47 = .ok (.aload_n 0, 1) := dk_42 (dk_at dksX1_run_1 23 rfl rfl)
theorem dX1_run_48 : decode cX1_run 48 = .ok (.aload_n 1, 1) := dk_43 (dk_at dksX1_run_2 0 rfl rfl)
theorem dX1_run_49 : decode cX1_run 49 = .ok (.getfield 426, 3) := dk_180 1 170 (dk_at dksX1_run_2 1 rfl rfl)
theorem dX1_run_52 : decode cX1_run 52 = .ok (.invokevirtual 429, 3) := dk_182 1 173 (dk_at dksX1_run_2 4 rfl rfl)
theorem dX1_run_55 : decode cX1_run 55 = .ok (.ireturn, 1) := dk_172 (dk_at dksX1_run_2 7 rfl rfl)
def dkwX1_doAll_5 : List UInt8 := [182, 0, 111, 42, 25, 4, 181, 0, 10, 29, 172]
abbrev dktX1_doAll_5 : List UInt8 := dkwX1_doAll_5 ++ []
def dkwX1_doAll_4 : List UInt8 := [191, 58, 6, 42, 3, 181, 0, 73, 25, 6, 191, 42, 180, 0, 10, 58, 4, 42, 44, 181, 0, 10, 42]
abbrev dktX1_doAll_4 : List UInt8 := dkwX1_doAll_4 ++ dktX1_doAll_5
def dkwX1_doAll_3 : List UInt8 := [44, 181, 0, 10, 42, 187, 0, 37, 89, 16, 12, 29, 42, 180, 0, 42, 183, 0, 39, 181, 0, 42, 25, 4]
abbrev dktX1_doAll_3 : List UInt8 := dkwX1_doAll_3 ++ dktX1_doAll_4
def dkwX1_doAll_2 : List UInt8 := [42, 25, 5, 182, 1, 141, 87, 132, 3, 1, 167, 255, 224, 42, 3, 181, 0, 73, 167, 0, 41, 58, 4, 42]
abbrev dktX1_doAll_2 : List UInt8 := dkwX1_doAll_2 ++ dktX1_doAll_3
def dkwX1_doAll_1 : List UInt8 := [58, 4, 25, 4, 185, 1, 74, 1, 0, 153, 0, 28, 25, 4, 185, 1, 79, 1, 0, 192, 1, 85, 58, 5]
abbrev dktX1_doAll_1 : List UInt8 := dkwX1_doAll_1 ++ dktX1_doAll_2
def dkwX1_doAll_0 : List UInt8 := [42, 180, 0, 10, 77, 42, 44, 182, 0, 77, 181, 0, 10, 42, 4, 181, 0, 73, 3, 62, 43, 182, 1, 70]
abbrev dktX1_doAll_0 : List UInt8 := dkwX1_doAll_0 ++ dktX1_doAll_1
theorem dksX1_doAll_0 : cX1_doAll.data.toList.drop 0 = dktX1_doAll_0 := by decide +kernel
theorem dksX1_doAll_1 : cX1_doAll.data.toList.drop 24 = dktX1_doAll_1 := dk_seg dksX1_doAll_0 24 rfl rfl
theorem dksX1_doAll_2 : cX1_doAll.data.toList.drop 48 = dktX1_doAll_2 := dk_seg dksX1_doAll_1 24 rfl rfl
theorem dksX1_doAll_3 : cX1_doAll.data.toList.drop 72 = dktX1_doAll_3 := dk_seg dksX1_doAll_2 24 rfl rfl
theorem dksX1_doAll_4 : cX1_doAll.data.toList.drop 96 = dktX1_doAll_4 := dk_seg dksX1_doAll_3 24 rfl rfl
theorem dksX1_doAll_5 : cX1_doAll.data.toList.drop 119 = dktX1_doAll_5 := dk_seg dksX1_doAll_4 23 rfl rfl
theorem dX1_doAll_0 : decode cX1_doAll 0 = .ok (.aload_n 0, 1) := dk_42 (dk_at dksX1_doAll_0 0 rfl rfl)
theorem dX1_doAll_1 : decode cX1_doAll 1 = .ok (.getfield 10, 3) := dk_180 0 10 (dk_at dksX1_doAll_0 1 rfl rfl)
theorem dX1_doAll_4 : decode cX1_doAll 4 = .ok (.astore_n 2, 1) := dk_77 (dk_at dksX1_doAll_0 4 rfl rfl)
theorem dX1_doAll_5 : decode cX1_doAll 5 = .ok (.aload_n 0, 1) := dk_42 (dk_at dksX1_doAll_0 5 rfl rfl)
theorem dX1_doAll_6 : decode cX1_doAll 6 = .ok (.aload_n 2, 1) := dk_44 (dk_at dksX1_doAll_0 6 rfl rfl)
theorem dX1_doAll_7 : decode cX1_doAll 7 = .ok (.invokevirtual 77, 3) := dk_182 0 77 (dk_at dksX1_doAll_0 7 rfl rfl)
theorem dX1_doAll_10 : decode cX1_doAll 10 = .ok (.putfield 10, 3) := dk_181 0 10 (dk_at dksX1_doAll_0 10 rfl rfl)
theorem dX1_doAll_13 : decode cX1_doAll 13 = .ok (.aload_n 0, 1) := dk_42 (dk_at dksX1_doAll_0 13 rfl rfl)
theorem dX1_doAll_14 : decode cX1_doAll 14 = .ok (.iconst 1, 1) := dk_4 (dk_at dksX1_doAll_0 14 rfl rfl)
theorem dX1_doAll_15 : decode cX1_doAll 15 = .ok (.putfield 73, 3) := dk_181 0 73 (dk_at dksX1_doAll_0 15 rfl rfl)
theorem dX1_doAll_18 : decode cX1_doAll 18 = .ok (.iconst 0, 1) := dk_3 (dk_at dksX1_doAll_0 18 rfl rfl)
theorem dX1_doAll_19 : decode cX1_doAll 19 = .ok (.istore_n 3, 1) := dk_62 (dk_at dksX1_doAll_0 19 rfl rfl)
theorem dX1_doAll_20 : decode cX1_doAll 20 = .ok (.aload_n 1, 1) := dk_43 (dk_at dksX1_doAll_0 20 rfl rfl)
theorem dX1_doAll_21 : decode cX1_doAll 21 = .ok (.invokevirtual 326, 3) := dk_182 1 70 (dk_at dksX1_doAll_0 21 rfl rfl)
theorem dX1_doAll_24 : decode cX1_doAll 24 = .ok (.astore 4, 2) := dk_58 4 (dk_at dksX1_doAll_1 0 rfl rfl)
theorem dX1_doAll_26 : decode cX1_doAll 26 = .ok (.aload 4, 2) := dk_25 4 (dk_at dksX1_doAll_1 2 rfl rfl)
theorem dX1_doAll_28 : decode cX1_doAll 28 = .ok (.invokeinterface 330 1, 5) := by decide +kernel
theorem dX1_doAll_33 : decode cX1_doAll 33 = .ok (.ifCond .eq 28, 3) := dk_153 0 28 (dk_at dksX1_doAll_1 9 rfl rfl)
theorem dX1_doAll_36 : decode cX1_doAll 36 = .ok (.aload 4, 2) := dk_25 4 (dk_at dksX1_doAll_1 12 rfl rfl)
theorem dX1_doAll_38 : decode cX1_doAll 38 = .ok (.invokeinterface 335 1, 5) := by decide +kernel
theorem dX1_doAll_43 : decode cX1_doAll 43 = .ok (.checkcast 341, 3) := dk_192 1 85 (dk_at dksX1_doAll_1 19 rfl rfl)
theorem dX1_doAll_46 : decode cX1_doAll 46 = .ok (.astore 5, 2) := dk_58 5 (dk_at dksX1_doAll_1 22 rfl rfl)
theorem dX1_doAll_48 : decode cX1_doAll 48 = .ok (.aload_n 0, 1) := dk_42 (dk_at dksX1_doAll_2 0 rfl rfl)
theorem dX1_doAll_49 : decode cX1_doAll 49 = .ok (.aload 5, 2) := dk_25 5 (dk_at dksX1_doAll_2 1 rfl rfl)
theorem dX1_doAll_51 : decode cX1_doAll 51 = .ok (.invokevirtual 397, 3) := dk_182 1 141 (dk_at dksX1_doAll_2 3 rfl rfl)
theorem dX1_doAll_54 : decode cX1_doAll 54 = .ok (.pop, 1) := dk_87 (dk_at dksX1_doAll_2 6 rfl rfl)
theorem dX1_doAll_55 : decode cX1_doAll 55 = .ok (.iinc 3 1, 3) := dk_132 3 1 (dk_at dksX1_doAll_2 7 rfl rfl)
theorem dX1_doAll_58 : decode cX1_doAll 58 = .ok (.goto (-32), 3) := dk_167 255 224 (dk_at dksX1_doAll_2 10 rfl rfl)
theorem dX1_doAll_61 : decode cX1_doAll 61 = .ok (.aload_n 0, 1) := dk_42 (dk_at dksX1_doAll_2 13 rfl rfl)
theorem dX1_doAll_62 : decode cX1_doAll 62 = .ok (.iconst 0, 1) := dk_3 (dk_at dksX1_doAll_2 14 rfl rfl)
theorem dX1_doAll_63 : decode cX1_doAll 63 = .ok (.putfield 73, 3) := dk_181 0 73 (dk_at dksX1_doAll_2 15 rfl rfl)
theorem dX1_doAll_66 : decode cX1_doAll 66 = .ok (.goto 41, 3) := dk_167 0 41 (dk_at dksX1_doAll_2 18 rfl rfl)
theorem dX1_doAll_69 : decode cX1_doAll 69 = .ok (.astore 4, 2) := dk_58 4 (dk_at dksX1_doAll_2 21 rfl rfl)
theorem dX1_doAll_71 : decode cX1_doAll 71 = .ok (.aload_n 0, 1) := dk_42 (dk_at dksX1_doAll_2 23 rfl rfl)
theorem dX1_doAll_72 : decode cX1_doAll 72 = .ok (.aload_n 2, 1) := dk_44 (dk_at dksX1_doAll_3 0 rfl rfl)
theorem dX1_doAll_73 : decode cX1_doAll 73 = .ok (.putfield 10, 3) := dk_181 0 10 (dk_at dksX1_doAll_3 1 rfl rfl)
theorem dX1_doAll_76 : decode cX1_doAll 76 = .ok (.aload_n 0, 1) := dk_42 (dk_at dksX1_doAll_3 4 rfl rfl)
theorem dX1_doAll_77 : decode cX1_doAll 77 = .ok (.new 37, 3) := dk_187 0 37 (dk_at dksX1_doAll_3 5 rfl rfl)
theorem dX1_doAll_80 : decode cX1_doAll 80 = .ok (.dup, 1) := dk_89 (dk_at dksX1_doAll_3 8 rfl rfl)
theorem dX1_doAll_81 : decode cX1_doAll 81 = .ok (.bipush 12, 2) := dk_16 12 (dk_at dksX1_doAll_3 9 rfl rfl)
theorem dX1_doAll_83 : decode cX1_doAll 83 = .ok (.iload_n 3, 1) := dk_29 (dk_at dksX1_doAll_3 11 rfl rfl)
theorem dX1_doAll_84 : decode cX1_doAll 84 = .ok (.aload_n 0, 1) := dk_42 (dk_at dksX1_doAll_3 12 rfl rfl)
theorem dX1_doAll_85 : decode cX1_doAll 85 = .ok (.getfield 42, 3) := dk_180 0 42 (dk_at dksX1_doAll_3 13 rfl rfl)
theorem dX1_doAll_88 : decode cX1_doAll 88 = .ok (.invokespecial 39, 3) := dk_183 0 39 (dk_at dksX1_doAll_3 16 rfl rfl)
theorem dX1_doAll_91 : decode cX1_doAll 91 = .ok (.putfield 42, 3) := dk_181 0 42 (dk_at dksX1_doAll_3 19 rfl rfl)
theorem dX1_doAll_94 : decode cX1_doAll 94 = .ok (.aload 4, 2) := dk_25 4 (dk_at dksX1_doAll_3 22 rfl rfl)
theorem dX1_doAll_96 : decode cX1_doAll 96 = .ok (.athrow, 1) := dk_191 (dk_at dksX1_doAll_4 0 rfl rfl)
theorem dX1_doAll_97 : decode cX1_doAll 97 = .ok (.astore 6, 2) := dk_58 6 (dk_at dksX1_doAll_4 1 rfl rfl)
theorem dX1_doAll_99 : decode cX1_doAll 99 = .ok (.aload_n 0, 1) := dk_42 (dk_at dksX1_doAll_4 3 rfl rfl)
theorem dX1_doAll_100 : decode cX1_doAll 100 = .ok (.iconst 0, 1) := dk_3 (dk_at dksX1_doAll_4 4 rfl rfl)
theorem dX1_doAll_101 : decode cX1_doAll 101 = .ok (.putfield 73, 3) := dk_181 0 73 (dk_at dksX1_doAll_4 5 rfl rfl)
theorem dX1_doAll_104 : decode cX1_doAll 104 = .ok (.aload 6, 2) := dk_25 6 (dk_at dksX1_doAll_4 8 rfl rfl)
theorem dX1_doAll_106 : decode cX1_doAll 106 = .ok (.athrow, 1) := dk_191 (dk_at dksX1_doAll_4 10 rfl rfl)
theorem dX1_doAll_107 : decode cX1_doAll 107 = .ok (.aload_n 0, 1) := dk_42 (dk_at dksX1_doAll_4 11 rfl rfl)
theorem dX1_doAll_108 : decode cX1_doAll 108 = .ok (.getfield 10, 3) := dk_180 0 10 (dk_at dksX1_doAll_4 12 rfl rfl)
theorem dX1_doAll_111 : decode cX1_doAll 111 = .ok (.astore 4, 2) := dk_58 4 (dk_at dksX1_doAll_4 15 rfl rfl)
theorem dX1_doAll_113 : decode cX1_doAll 113 = .ok (.aload_n 0, 1) := dk_42 (dk_at dksX1_doAll_4 17 rfl rfl)
theorem dX1_doAll_114 : decode cX1_doAll 114 = .ok (.aload_n 2, 1) := dk_44 (dk_at dksX1_doAll_4 18 rfl rfl)
theorem dX1_doAll_115 : decode cX1_doAll 115 = .ok (.putfield 10, 3) := dk_181 0 10 (dk_at dksX1_doAll_4 19 rfl rfl)
theorem dX1_doAll_118 : decode cX1_doAll 118 = .ok (.aload_n 0, 1) := dk_42 (dk_at dksX1_doAll_4 22 rfl rfl)
theorem dX1_doAll_119 : decode cX1_doAll 119 = .ok (.invokevirtual 111, 3) := dk_182 0 111 (dk_at dksX1_doAll_5 0 rfl rfl)
theorem dX1_doAll_122 : decode cX1_doAll 122 = .ok (.aload_n 0, 1) := dk_42 (dk_at dksX1_doAll_5 3 rfl rfl)
theorem dX1_doAll_123 : decode cX1_doAll 123 = .ok (.aload 4, 2) := dk_25 4 (dk_at dksX1_doAll_5 4 rfl rfl)
theorem dX1_doAll_125 : decode cX1_doAll 125 = .ok (.putfield 10, 3) := dk_181 0 10 (dk_at dksX1_doAll_5 6 rfl rfl)
theorem dX1_doAll_128 : decode cX1_doAll 128 = .ok (.iload_n 3, 1) := dk_29 (dk_at dksX1_doAll_5 9 rfl rfl)
theorem dX1_doAll_129 : decode cX1_doAll 129 = .ok (.ireturn, 1) := dk_172 (dk_at dksX1_doAll_5 10 rfl rfl)
def dkwX1_does_14 : List UInt8 := [182, 1, 136, 172, 42, 28, 182, 1, 138, 172]
abbrev dktX1_does_14 : List UInt8 := dkwX1_does_14 ++ []
def dkwX1_does_13 : List UInt8 := [28, 29, 182, 1, 130, 172, 42, 28, 29, 21, 4, 182, 1, 132, 172, 42, 28, 29, 182, 1, 134, 172, 42, 28]
abbrev dktX1_does_13 : List UInt8 := dkwX1_does_13 ++ dktX1_does_14
def dkwX1_does_12 : List UInt8 := [42, 28, 29, 21, 4, 182, 1, 124, 172, 42, 28, 29, 182, 1, 126, 172, 42, 28, 29, 182, 1, 128, 172, 42]
abbrev dktX1_does_12 : List UInt8 := dkwX1_does_12 ++ dktX1_does_13
def dkwX1_does_11 : List UInt8 := [42, 28, 29, 21, 4, 43, 180, 1, 84, 6, 46, 182, 1, 118, 172, 42, 28, 29, 21, 4, 182, 1, 121, 172]
abbrev dktX1_does_11 : List UInt8 := dkwX1_does_11 ++ dktX1_does_12
def dkwX1_does_10 : List UInt8 := [170, 0, 0, 0, 125, 0, 0, 0, 0, 0, 0, 0, 8, 0, 0, 0, 49, 0, 0, 0, 64, 0, 0, 0, 73, 0, 0, 0, 82, 0, 0, 0, 89, 0, 0, 0, 96, 0, 0, 0, 103, 0, 0, 0, 112, 0, 0, 0, 119]
abbrev dktX1_does_10 : List UInt8 := dkwX1_does_10 ++ dktX1_does_11
def dkwX1_does_9 : List UInt8 := [19, 1, 117, 182, 1, 100, 153, 0, 7, 16, 8, 54, 6, 21, 6]
abbrev dktX1_does_9 : List UInt8 := dkwX1_does_9 ++ dktX1_does_10
def dkwX1_does_8 : List UInt8 := [167, 0, 36, 25, 5, 19, 1, 115, 182, 1, 100, 153, 0, 25, 16, 7, 54, 6, 167, 0, 18, 25, 5]
abbrev dktX1_does_8 : List UInt8 := dkwX1_does_8 ++ dktX1_does_9
def dkwX1_does_7 : List UInt8 := [153, 0, 60, 8, 54, 6, 167, 0, 54, 25, 5, 19, 1, 113, 182, 1, 100, 153, 0, 43, 16, 6, 54, 6]
abbrev dktX1_does_7 : List UInt8 := dkwX1_does_7 ++ dktX1_does_8
def dkwX1_does_6 : List UInt8 := [19, 1, 109, 182, 1, 100, 153, 0, 77, 7, 54, 6, 167, 0, 71, 25, 5, 19, 1, 111, 182, 1, 100]
abbrev dktX1_does_6 : List UInt8 := dkwX1_does_6 ++ dktX1_does_7
def dkwX1_does_5 : List UInt8 := [54, 6, 167, 0, 105, 25, 5, 19, 1, 107, 182, 1, 100, 153, 0, 94, 6, 54, 6, 167, 0, 88, 25, 5]
abbrev dktX1_does_5 : List UInt8 := dkwX1_does_5 ++ dktX1_does_6
def dkwX1_does_4 : List UInt8 := [182, 1, 100, 153, 0, 128, 4, 54, 6, 167, 0, 122, 25, 5, 19, 1, 105, 182, 1, 100, 153, 0, 111, 5]
abbrev dktX1_does_4 : List UInt8 := dkwX1_does_4 ++ dktX1_does_5
def dkwX1_does_3 : List UInt8 := [25, 5, 19, 1, 98, 182, 1, 100, 153, 0, 145, 3, 54, 6, 167, 0, 139, 25, 5, 19, 1, 103]
abbrev dktX1_does_3 : List UInt8 := dkwX1_does_3 ++ dktX1_does_4
def dkwX1_does_2 : List UInt8 := [171, 0, 0, 0, 0, 0, 0, 237, 0, 0, 0, 9, 0, 47, 46, 239, 0, 0, 0, 152, 0, 47, 216, 54, 0, 0, 0, 118, 0, 48, 245, 228, 0, 0, 0, 222, 0, 53, 205, 253, 0, 0, 0, 204, 0, 55, 44, 181, 0, 0, 0, 169, 0, 55, 176, 8, 0, 0, 0, 135, 5, 195, 6, 216, 0, 0, 0, 84, 6, 137, 16, 223, 0, 0, 0, 101, 6, 151, 241, 100, 0, 0, 0, 186]
abbrev dktX1_does_2 : List UInt8 := dkwX1_does_2 ++ dktX1_does_3
def dkwX1_does_1 : List UInt8 := [180, 1, 89, 58, 5, 2, 54, 6, 25, 5, 182, 1, 93]
abbrev dktX1_does_1 : List UInt8 := dkwX1_does_1 ++ dktX1_does_2
def dkwX1_does_0 : List UInt8 := [43, 180, 1, 84, 3, 46, 61, 43, 180, 1, 84, 4, 46, 62, 43, 180, 1, 84, 5, 46, 54, 4, 43]
abbrev dktX1_does_0 : List UInt8 := dkwX1_does_0 ++ dktX1_does_1
theorem dksX1_does_0 : cX1_does.data.toList.drop 0 = dktX1_does_0 := by decide +kernel
theorem dksX1_does_1 : cX1_does.data.toList.drop 23 = dktX1_does_1 := dk_seg dksX1_does_0 23 rfl rfl
theorem dksX1_does_2 : cX1_does.data.toList.drop 36 = dktX1_does_2 := dk_seg dksX1_does_1 13 rfl rfl
theorem dksX1_does_3 : cX1_does.data.toList.drop 120 = dktX1_does_3 := dk_seg dksX1_does_2 84 rfl rfl
theorem dksX1_does_4 : cX1_does.data.toList.drop 142 = dktX1_does_4 := dk_seg dksX1_does_3 22 rfl rfl
theorem dksX1_does_5 : cX1_does.data.toList.drop 166 = dktX1_does_5 := dk_seg dksX1_does_4 24 rfl rfl
theorem dksX1_does_6 : cX1_does.data.toList.drop 190 = dktX1_does_6 := dk_seg dksX1_does_5 24 rfl rfl
theorem dksX1_does_7 : cX1_does.data.toList.drop 213 = dktX1_does_7 := dk_seg dksX1_does_6 23 rfl rfl
theorem dksX1_does_8 : cX1_does.data.toList.drop 237 = dktX1_does_8 := dk_seg dksX1_does_7 24 rfl rfl
theorem dksX1_does_9 : cX1_does.data.toList.drop 260 = dktX1_does_9 := dk_seg dksX1_does_8 23 rfl rfl
theorem dksX1_does_10 : cX1_does.data.toList.drop 275 = dktX1_does_10 := dk_seg dksX1_does_9 15 rfl rfl
theorem dksX1_does_11 : cX1_does.data.toList.drop 324 = dktX1_does_11 := dk_seg dksX1_does_10 49 rfl rfl
theorem dksX1_does_12 : cX1_does.data.toList.drop 348 = dktX1_does_12 := dk_seg dksX1_does_11 24 rfl rfl
theorem dksX1_does_13 : cX1_does.data.toList.drop 372 = dktX1_does_13 := dk_seg dksX1_does_12 24 rfl rfl
theorem dksX1_does_14 : cX1_does.data.toList.drop 396 = dktX1_does_14 := dk_seg dksX1_does_13 24 rfl rfl
theorem dX1_does_0 : decode cX1_does 0 = .ok (.aload_n 1, 1) := dk_43 (dk_at dksX1_does_0 0 rfl rfl)
theorem dX1_does_1 : decode cX1_does 1 = .ok (.getfield 340, 3) := dk_180 1 84 (dk_at dksX1_does_0 1 rfl rfl)
theorem dX1_does_4 : decode cX1_does 4 = .ok (.iconst 0, 1) := dk_3 (dk_at dksX1_does_0 4 rfl rfl)
theorem dX1_does_5 : decode cX1_does 5 = .ok (.iaload, 1) := dk_46 (dk_at dksX1_does_0 5 rfl rfl)
theorem dX1_does_6 : decode cX1_does 6 = .ok (.istore_n 2, 1) := dk_61 (dk_at dksX1_does_0 6 rfl rfl)
theorem dX1_does_7 : decode cX1_does 7 = .ok (.aload_n 1, 1) := dk_43 (dk_at dksX1_does_0 7 rfl rfl)
theorem dX1_does_8 : decode cX1_does 8 = .ok (.getfield 340, 3) := dk_180 1 84 (dk_at dksX1_does_0 8 rfl rfl)
theorem dX1_does_11 : decode cX1_does 11 = .ok (.iconst 1, 1) := dk_4 (dk_at dksX1_does_0 11 rfl rfl)
theorem dX1_does_12 : decode cX1_does 12 = .ok (.iaload, 1) := dk_46 (dk_at dksX1_does_0 12 rfl rfl)
theorem dX1_does_13 : decode cX1_does 13 = .ok (.istore_n 3, 1) := dk_62 (dk_at dksX1_does_0 13 rfl rfl)
theorem dX1_does_14 : decode cX1_does 14 = .ok (.aload_n 1, 1) := dk_43 (dk_at dksX1_does_0 14 rfl rfl)
theorem dX1_does_15 : decode cX1_does 15 = .ok (.getfield 340, 3) := dk_180 1 84 (dk_at dksX1_does_0 15 rfl rfl)
theorem dX1_does_18 : decode cX1_does 18 = .ok (.iconst 2, 1) := dk_5 (dk_at dksX1_does_0 18 rfl rfl)
theorem dX1_does_19 : decode cX1_does 19 = .ok (.iaload, 1) := dk_46 (dk_at dksX1_does_0 19 rfl rfl)
theorem dX1_does_20 : decode cX1_does 20 = .ok (.istore 4, 2) := dk_54 4 (dk_at dksX1_does_0 20 rfl rfl)
theorem dX1_does_22 : decode cX1_does 22 = .ok (.aload_n 1, 1) := dk_43 (dk_at dksX1_does_0 22 rfl rfl)
theorem dX1_does_23 : decode cX1_does 23 = .ok (.getfield 345, 3) := dk_180 1 89 (dk_at dksX1_does_1 0 rfl rfl)
theorem dX1_does_26 : decode cX1_does 26 = .ok (.astore 5, 2) := dk_58 5 (dk_at dksX1_does_1 3 rfl rfl)
theorem dX1_does_28 : decode cX1_does 28 = .ok (.iconst (-1), 1) := dk_2 (dk_at dksX1_does_1 5 rfl rfl)
theorem dX1_does_29 : decode cX1_does 29 = .ok (.istore 6, 2) := dk_54 6 (dk_at dksX1_does_1 6 rfl rfl)
theorem dX1_does_31 : decode cX1_does 31 = .ok (.aload 5, 2) := dk_25 5 (dk_at dksX1_does_1 8 rfl rfl)
theorem dX1_does_33 : decode cX1_does 33 = .ok (.invokevirtual 349, 3) := dk_182 1 93 (dk_at dksX1_does_1 10 rfl rfl)
theorem dX1_does_36 : decode cX1_does 36 = .ok (.lookupswitch 237 #[(3092207, 152), (3135542, 118), (3208676, 222), (3526141, 204), (3615925, 169), (3649544, 135), (96667352, 84), (109646047, 101), (110621028, 186)], 84) := by decide +kernel
theorem dX1_does_120 : decode cX1_does 120 = .ok (.aload 5, 2) := dk_25 5 (dk_at dksX1_does_3 0 rfl rfl)
theorem dX1_does_122 : decode cX1_does 122 = .ok (.ldc_w 354, 3) := dk_19 1 98 (dk_at dksX1_does_3 2 rfl rfl)
theorem dX1_does_125 : decode cX1_does 125 = .ok (.invokevirtual 356, 3) := dk_182 1 100 (dk_at dksX1_does_3 5 rfl rfl)
theorem dX1_does_128 : decode cX1_does 128 = .ok (.ifCond .eq 145, 3) := dk_153 0 145 (dk_at dksX1_does_3 8 rfl rfl)
theorem dX1_does_131 : decode cX1_does 131 = .ok (.iconst 0, 1) := dk_3 (dk_at dksX1_does_3 11 rfl rfl)
theorem dX1_does_132 : decode cX1_does 132 = .ok (.istore 6, 2) := dk_54 6 (dk_at dksX1_does_3 12 rfl rfl)
theorem dX1_does_134 : decode cX1_does 134 = .ok (.goto 139, 3) := dk_167 0 139 (dk_at dksX1_does_3 14 rfl rfl)
theorem dX1_does_137 : decode cX1_does 137 = .ok (.aload 5, 2) := dk_25 5 (dk_at dksX1_does_3 17 rfl rfl)
theorem dX1_does_139 : decode cX1_does 139 = .ok (.ldc_w 359, 3) := dk_19 1 103 (dk_at dksX1_does_3 19 rfl rfl)
theorem dX1_does_142 : decode cX1_does 142 = .ok (.invokevirtual 356, 3) := dk_182 1 100 (dk_at dksX1_does_4 0 rfl rfl)
theorem dX1_does_145 : decode cX1_does 145 = .ok (.ifCond .eq 128, 3) := dk_153 0 128 (dk_at dksX1_does_4 3 rfl rfl)
theorem dX1_does_148 : decode cX1_does 148 = .ok (.iconst 1, 1) := dk_4 (dk_at dksX1_does_4 6 rfl rfl)
theorem dX1_does_149 : decode cX1_does 149 = .ok (.istore 6, 2) := dk_54 6 (dk_at dksX1_does_4 7 rfl rfl)
theorem dX1_does_151 : decode cX1_does 151 = .ok (.goto 122, 3) := dk_167 0 122 (dk_at dksX1_does_4 9 rfl rfl)
theorem dX1_does_154 : decode cX1_does 154 = .ok (.aload 5, 2) := dk_25 5 (dk_at dksX1_does_4 12 rfl rfl)
theorem dX1_does_156 : decode cX1_does 156 = .ok (.ldc_w 361, 3) := dk_19 1 105 (dk_at dksX1_does_4 14 rfl rfl)
theorem dX1_does_159 : decode cX1_does 159 = .ok (.invokevirtual 356, 3) := dk_182 1 100 (dk_at dksX1_does_4 17 rfl rfl)
theorem dX1_does_162 : decode cX1_does 162 = .ok (.ifCond .eq 111, 3) := dk_153 0 111 (dk_at dksX1_does_4 20 rfl rfl)
theorem dX1_does_165 : decode cX1_does 165 = .ok (.iconst 2, 1) := dk_5 (dk_at dksX1_does_4 23 rfl rfl)
theorem dX1_does_166 : decode cX1_does 166 = .ok (.istore 6, 2) := dk_54 6 (dk_at dksX1_does_5 0 rfl rfl)
theorem dX1_does_168 : decode cX1_does 168 = .ok (.goto 105, 3) := dk_167 0 105 (dk_at dksX1_does_5 2 rfl rfl)
theorem dX1_does_171 : decode cX1_does 171 = .ok (.aload 5, 2) := dk_25 5 (dk_at dksX1_does_5 5 rfl rfl)
theorem dX1_does_173 : decode cX1_does 173 = .ok (.ldc_w 363, 3) := dk_19 1 107 (dk_at dksX1_does_5 7 rfl rfl)
theorem dX1_does_176 : decode cX1_does 176 = .ok (.invokevirtual 356, 3) := dk_182 1 100 (dk_at dksX1_does_5 10 rfl rfl)
theorem dX1_does_179 : decode cX1_does 179 = .ok (.ifCond .eq 94, 3) := dk_153 0 94 (dk_at dksX1_does_5 13 rfl rfl)
theorem dX1_does_182 : decode cX1_does 182 = .ok (.iconst 3, 1) := dk_6 (dk_at dksX1_does_5 16 rfl rfl)
theorem dX1_does_183 : decode cX1_does 183 = .ok (.istore 6, 2) := dk_54 6 (dk_at dksX1_does_5 17 rfl rfl)
theorem dX1_does_185 : decode cX1_does 185 = .ok (.goto 88, 3) := dk_167 0 88 (dk_at dksX1_does_5 19 rfl rfl)
theorem dX1_does_188 : decode cX1_does 188 = .ok (.aload 5, 2) := dk_25 5 (dk_at dksX1_does_5 22 rfl rfl)
theorem dX1_does_190 : decode cX1_does 190 = .ok (.ldc_w 365, 3) := dk_19 1 109 (dk_at dksX1_does_6 0 rfl rfl)
theorem dX1_does_193 : decode cX1_does 193 = .ok (.invokevirtual 356, 3) := dk_182 1 100 (dk_at dksX1_does_6 3 rfl rfl)
theorem dX1_does_196 : decode cX1_does 196 = .ok (.ifCond .eq 77, 3) := dk_153 0 77 (dk_at dksX1_does_6 6 rfl rfl)
theorem dX1_does_199 : decode cX1_does 199 = .ok (.iconst 4, 1) := dk_7 (dk_at dksX1_does_6 9 rfl rfl)
theorem dX1_does_200 : decode cX1_does 200 = .ok (.istore 6, 2) := dk_54 6 (dk_at dksX1_does_6 10 rfl rfl)
theorem dX1_does_202 : decode cX1_does 202 = .ok (.goto 71, 3) := dk_167 0 71 (dk_at dksX1_does_6 12 rfl rfl)
theorem dX1_does_205 : decode cX1_does 205 = .ok (.aload 5, 2) := dk_25 5 (dk_at dksX1_does_6 15 rfl rfl)
theorem dX1_does_207 : decode cX1_does 207 = .ok (.ldc_w 367, 3) := dk_19 1 111 (dk_at dksX1_does_6 17 rfl rfl)
theorem dX1_does_210 : decode cX1_does 210 = .ok (.invokevirtual 356, 3) := dk_182 1 100 (dk_at dksX1_does_6 20 rfl rfl)
theorem dX1_does_213 : decode cX1_does 213 = .ok (.ifCond .eq 60, 3) := dk_153 0 60 (dk_at dksX1_does_7 0 rfl rfl)
theorem dX1_does_216 : decode cX1_does 216 = .ok (.iconst 5, 1) := dk_8 (dk_at dksX1_does_7 3 rfl rfl)
theorem dX1_does_217 : decode cX1_does 217 = .ok (.istore 6, 2) := dk_54 6 (dk_at dksX1_does_7 4 rfl rfl)
theorem dX1_does_219 : decode cX1_does 219 = .ok (.goto 54, 3) := dk_167 0 54 (dk_at dksX1_does_7 6 rfl rfl)
theorem dX1_does_222 : decode cX1_does 222 = .ok (.aload 5, 2) := dk_25 5 (dk_at dksX1_does_7 9 rfl rfl)
theorem dX1_does_224 : decode cX1_does 224 = .ok (.ldc_w 369, 3) := dk_19 1 113 (dk_at dksX1_does_7 11 rfl rfl)
theorem dX1_does_227 : decode cX1_does 227 = .ok (.invokevirtual 356, 3) := dk_182 1 100 (dk_at dksX1_does_7 14 rfl rfl)
theorem dX1_does_230 : decode cX1_does 230 = .ok (.ifCond .eq 43, 3) := dk_153 0 43 (dk_at dksX1_does_7 17 rfl rfl)
theorem dX1_does_233 : decode cX1_does 233 = .ok (.bipush 6, 2) := dk_16 6 (dk_at dksX1_does_7 20 rfl rfl)
theorem dX1_does_235 : decode cX1_does 235 = .ok (.istore 6, 2) := dk_54 6 (dk_at dksX1_does_7 22 rfl rfl)
theorem dX1_does_237 : decode cX1_does 237 = .ok (.goto 36, 3) := dk_167 0 36 (dk_at dksX1_does_8 0 rfl rfl)
theorem dX1_does_240 : decode cX1_does 240 = .ok (.aload 5, 2) := dk_25 5 (dk_at dksX1_does_8 3 rfl rfl)
theorem dX1_does_242 : decode cX1_does 242 = .ok (.ldc_w 371, 3) := dk_19 1 115 (dk_at dksX1_does_8 5 rfl rfl)
theorem dX1_does_245 : decode cX1_does 245 = .ok (.invokevirtual 356, 3) := dk_182 1 100 (dk_at dksX1_does_8 8 rfl rfl)
theorem dX1_does_248 : decode cX1_does 248 = .ok (.ifCond .eq 25, 3) := dk_153 0 25 (dk_at dksX1_does_8 11 rfl rfl)
theorem dX1_does_251 : decode cX1_does 251 = .ok (.bipush 7, 2) := dk_16 7 (dk_at dksX1_does_8 14 rfl rfl)
theorem dX1_does_253 : decode cX1_does 253 = .ok (.istore 6, 2) := dk_54 6 (dk_at dksX1_does_8 16 rfl rfl)
theorem dX1_does_255 : decode cX1_does 255 = .ok (.goto 18, 3) := dk_167 0 18 (dk_at dksX1_does_8 18 rfl rfl)
theorem dX1_does_258 : decode cX1_does 258 = .ok (.aload 5, 2) := dk_25 5 (dk_at dksX1_does_8 21 rfl rfl)
theorem dX1_does_260 : decode cX1_does 260 = .ok (.ldc_w 373, 3) := dk_19 1 117 (dk_at dksX1_does_9 0 rfl rfl)
theorem dX1_does_263 : decode cX1_does 263 = .ok (.invokevirtual 356, 3) := dk_182 1 100 (dk_at dksX1_does_9 3 rfl rfl)
theorem dX1_does_266 : decode cX1_does 266 = .ok (.ifCond .eq 7, 3) := dk_153 0 7 (dk_at dksX1_does_9 6 rfl rfl)
theorem dX1_does_269 : decode cX1_does 269 = .ok (.bipush 8, 2) := dk_16 8 (dk_at dksX1_does_9 9 rfl rfl)
theorem dX1_does_271 : decode cX1_does 271 = .ok (.istore 6, 2) := dk_54 6 (dk_at dksX1_does_9 11 rfl rfl)
theorem dX1_does_273 : decode cX1_does 273 = .ok (.iload 6, 2) := dk_21 6 (dk_at dksX1_does_9 13 rfl rfl)
theorem dX1_does_275 : decode cX1_does 275 = .ok (.tableswitch 125 0 8 #[49, 64, 73, 82, 89, 96, 103, 112, 119], 49) := by decide +kernel
theorem dX1_does_324 : decode cX1_does 324 = .ok (.aload_n 0, 1) := dk_42 (dk_at dksX1_does_11 0 rfl rfl)
theorem dX1_does_325 : decode cX1_does 325 = .ok (.iload_n 2, 1) := dk_28 (dk_at dksX1_does_11 1 rfl rfl)
theorem dX1_does_326 : decode cX1_does 326 = .ok (.iload_n 3, 1) := dk_29 (dk_at dksX1_does_11 2 rfl rfl)
theorem dX1_does_327 : decode cX1_does 327 = .ok (.iload 4, 2) := dk_21 4 (dk_at dksX1_does_11 3 rfl rfl)
theorem dX1_does_329 : decode cX1_does 329 = .ok (.aload_n 1, 1) := dk_43 (dk_at dksX1_does_11 5 rfl rfl)
theorem dX1_does_330 : decode cX1_does 330 = .ok (.getfield 340, 3) := dk_180 1 84 (dk_at dksX1_does_11 6 rfl rfl)
theorem dX1_does_333 : decode cX1_does 333 = .ok (.iconst 3, 1) := dk_6 (dk_at dksX1_does_11 9 rfl rfl)
theorem dX1_does_334 : decode cX1_does 334 = .ok (.iaload, 1) := dk_46 (dk_at dksX1_does_11 10 rfl rfl)
theorem dX1_does_335 : decode cX1_does 335 = .ok (.invokevirtual 374, 3) := dk_182 1 118 (dk_at dksX1_does_11 11 rfl rfl)
theorem dX1_does_338 : decode cX1_does 338 = .ok (.ireturn, 1) := dk_172 (dk_at dksX1_does_11 14 rfl rfl)
theorem dX1_does_339 : decode cX1_does 339 = .ok (.aload_n 0, 1) := dk_42 (dk_at dksX1_does_11 15 rfl rfl)
theorem dX1_does_340 : decode cX1_does 340 = .ok (.iload_n 2, 1) := dk_28 (dk_at dksX1_does_11 16 rfl rfl)
theorem dX1_does_341 : decode cX1_does 341 = .ok (.iload_n 3, 1) := dk_29 (dk_at dksX1_does_11 17 rfl rfl)
theorem dX1_does_342 : decode cX1_does 342 = .ok (.iload 4, 2) := dk_21 4 (dk_at dksX1_does_11 18 rfl rfl)
theorem dX1_does_344 : decode cX1_does 344 = .ok (.invokevirtual 377, 3) := dk_182 1 121 (dk_at dksX1_does_11 20 rfl rfl)
theorem dX1_does_347 : decode cX1_does 347 = .ok (.ireturn, 1) := dk_172 (dk_at dksX1_does_11 23 rfl rfl)
theorem dX1_does_348 : decode cX1_does 348 = .ok (.aload_n 0, 1) := dk_42 (dk_at dksX1_does_12 0 rfl rfl)
theorem dX1_does_349 : decode cX1_does 349 = .ok (.iload_n 2, 1) := dk_28 (dk_at dksX1_does_12 1 rfl rfl)
theorem dX1_does_350 : decode cX1_does 350 = .ok (.iload_n 3, 1) := dk_29 (dk_at dksX1_does_12 2 rfl rfl)
theorem dX1_does_351 : decode cX1_does 351 = .ok (.iload 4, 2) := dk_21 4 (dk_at dksX1_does_12 3 rfl rfl)
theorem dX1_does_353 : decode cX1_does 353 = .ok (.invokevirtual 380, 3) := dk_182 1 124 (dk_at dksX1_does_12 5 rfl rfl)
theorem dX1_does_356 : decode cX1_does 356 = .ok (.ireturn, 1) := dk_172 (dk_at dksX1_does_12 8 rfl rfl)
theorem dX1_does_357 : decode cX1_does 357 = .ok (.aload_n 0, 1) := dk_42 (dk_at dksX1_does_12 9 rfl rfl)
theorem dX1_does_358 : decode cX1_does 358 = .ok (.iload_n 2, 1) := dk_28 (dk_at dksX1_does_12 10 rfl rfl)
theorem dX1_does_359 : decode cX1_does 359 = .ok (.iload_n 3, 1) := dk_29 (dk_at dksX1_does_12 11 rfl rfl)
theorem dX1_does_360 : decode cX1_does 360 = .ok (.invokevirtual 382, 3) := dk_182 1 126 (dk_at dksX1_does_12 12 rfl rfl)
theorem dX1_does_363 : decode cX1_does 363 = .ok (.ireturn, 1) := dk_172 (dk_at dksX1_does_12 15 rfl rfl)
theorem dX1_does_364 : decode cX1_does 364 = .ok (.aload_n 0, 1) := dk_42 (dk_at dksX1_does_12 16 rfl rfl)
theorem dX1_does_365 : decode cX1_does 365 = .ok (.iload_n 2, 1) := dk_28 (dk_at dksX1_does_12 17 rfl rfl)
theorem dX1_does_366 : decode cX1_does 366 = .ok (.iload_n 3, 1) := dk_29 (dk_at dksX1_does_12 18 rfl rfl)
theorem dX1_does_367 : decode cX1_does 367 = .ok (.invokevirtual 384, 3) := dk_182 1 128 (dk_at dksX1_does_12 19 rfl rfl)
theorem dX1_does_370 : decode cX1_does 370 = .ok (.ireturn, 1) := dk_172 (dk_at dksX1_does_12 22 rfl rfl)
theorem dX1_does_371 : decode cX1_does 371 = .ok (.aload_n 0, 1) := dk_42 (dk_at dksX1_does_12 23 rfl rfl)
theorem dX1_does_372 : decode cX1_does 372 = .ok (.iload_n 2, 1) := dk_28 (dk_at dksX1_does_13 0 rfl rfl)
theorem dX1_does_373 : decode cX1_does 373 = .ok (.iload_n 3, 1) := dk_29 (dk_at dksX1_does_13 1 rfl rfl)
theorem dX1_does_374 : decode cX1_does 374 = .ok (.invokevirtual 386, 3) := dk_182 1 130 (dk_at dksX1_does_13 2 rfl rfl)
theorem dX1_does_377 : decode cX1_does 377 = .ok (.ireturn, 1) := dk_172 (dk_at dksX1_does_13 5 rfl rfl)
theorem dX1_does_378 : decode cX1_does 378 = .ok (.aload_n 0, 1) := dk_42 (dk_at dksX1_does_13 6 rfl rfl)
theorem dX1_does_379 : decode cX1_does 379 = .ok (.iload_n 2, 1) := dk_28 (dk_at dksX1_does_13 7 rfl rfl)
theorem dX1_does_380 : decode cX1_does 380 = .ok (.iload_n 3, 1) := dk_29 (dk_at dksX1_does_13 8 rfl rfl)
theorem dX1_does_381 : decode cX1_does 381 = .ok (.iload 4, 2) := dk_21 4 (dk_at dksX1_does_13 9 rfl rfl)
theorem dX1_does_383 : decode cX1_does 383 = .ok (.invokevirtual 388, 3) := dk_182 1 132 (dk_at dksX1_does_13 11 rfl rfl)
theorem dX1_does_386 : decode cX1_does 386 = .ok (.ireturn, 1) := dk_172 (dk_at dksX1_does_13 14 rfl rfl)
theorem dX1_does_387 : decode cX1_does 387 = .ok (.aload_n 0, 1) := dk_42 (dk_at dksX1_does_13 15 rfl rfl)
theorem dX1_does_388 : decode cX1_does 388 = .ok (.iload_n 2, 1) := dk_28 (dk_at dksX1_does_13 16 rfl rfl)
theorem dX1_does_389 : decode cX1_does 389 = .ok (.iload_n 3, 1) := dk_29 (dk_at dksX1_does_13 17 rfl rfl)
theorem dX1_does_390 : decode cX1_does 390 = .ok (.invokevirtual 390, 3) := dk_182 1 134 (dk_at dksX1_does_13 18 rfl rfl)
theorem dX1_does_393 : decode cX1_does 393 = .ok (.ireturn, 1) := dk_172 (dk_at dksX1_does_13 21 rfl rfl)
theorem dX1_does_394 : decode cX1_does 394 = .ok (.aload_n 0, 1) := dk_42 (dk_at dksX1_does_13 22 rfl rfl)
theorem dX1_does_395 : decode cX1_does 395 = .ok (.iload_n 2, 1) := dk_28 (dk_at dksX1_does_13 23 rfl rfl)
theorem dX1_does_396 : decode cX1_does 396 = .ok (.invokevirtual 392, 3) := dk_182 1 136 (dk_at dksX1_does_14 0 rfl rfl)
theorem dX1_does_399 : decode cX1_does 399 = .ok (.ireturn, 1) := dk_172 (dk_at dksX1_does_14 3 rfl rfl)
theorem dX1_does_400 : decode cX1_does 400 = .ok (.aload_n 0, 1) := dk_42 (dk_at dksX1_does_14 4 rfl rfl)
theorem dX1_does_401 : decode cX1_does 401 = .ok (.iload_n 2, 1) := dk_28 (dk_at dksX1_does_14 5 rfl rfl)
theorem dX1_does_402 : decode cX1_does 402 = .ok (.invokevirtual 394, 3) := dk_182 1 138 (dk_at dksX1_does_14 6 rfl rfl)
theorem dX1_does_405 : decode cX1_does 405 = .ok (.ireturn, 1) := dk_172 (dk_at dksX1_does_14 9 rfl rfl)
def dkwX1_reason_2 : List UInt8 := [199, 0, 7, 3, 167, 0, 18, 28, 153, 0, 10, 45, 180, 1, 180, 167, 0, 7, 45, 180, 1, 183, 172]
abbrev dktX1_reason_2 : List UInt8 := dkwX1_reason_2 ++ []
def dkwX1_reason_1 : List UInt8 := [167, 0, 10, 42, 180, 0, 42, 180, 1, 177, 78, 45, 198, 0, 7, 4, 167, 0, 4, 3, 184, 1, 4, 45]
abbrev dktX1_reason_1 : List UInt8 := dkwX1_reason_1 ++ dktX1_reason_2
def dkwX1_reason_0 : List UInt8 := [27, 3, 4, 184, 0, 49, 184, 0, 206, 42, 180, 0, 42, 198, 0, 7, 27, 154, 0, 10, 42, 180, 0, 42]
abbrev dktX1_reason_0 : List UInt8 := dkwX1_reason_0 ++ dktX1_reason_1
theorem dksX1_reason_0 : cX1_reason.data.toList.drop 0 = dktX1_reason_0 := by decide +kernel
theorem dksX1_reason_1 : cX1_reason.data.toList.drop 24 = dktX1_reason_1 := dk_seg dksX1_reason_0 24 rfl rfl
theorem dksX1_reason_2 : cX1_reason.data.toList.drop 48 = dktX1_reason_2 := dk_seg dksX1_reason_1 24 rfl rfl
theorem dX1_reason_0 : decode cX1_reason 0 = .ok (.iload_n 1, 1) := dk_27 (dk_at dksX1_reason_0 0 rfl rfl)
theorem dX1_reason_1 : decode cX1_reason 1 = .ok (.iconst 0, 1) := dk_3 (dk_at dksX1_reason_0 1 rfl rfl)
theorem dX1_reason_2 : decode cX1_reason 2 = .ok (.iconst 1, 1) := dk_4 (dk_at dksX1_reason_0 2 rfl rfl)
theorem dX1_reason_3 : decode cX1_reason 3 = .ok (.invokestatic 49, 3) := dk_184 0 49 (dk_at dksX1_reason_0 3 rfl rfl)
theorem dX1_reason_6 : decode cX1_reason 6 = .ok (.invokestatic 206, 3) := dk_184 0 206 (dk_at dksX1_reason_0 6 rfl rfl)
theorem dX1_reason_9 : decode cX1_reason 9 = .ok (.aload_n 0, 1) := dk_42 (dk_at dksX1_reason_0 9 rfl rfl)
theorem dX1_reason_10 : decode cX1_reason 10 = .ok (.getfield 42, 3) := dk_180 0 42 (dk_at dksX1_reason_0 10 rfl rfl)
theorem dX1_reason_13 : decode cX1_reason 13 = .ok (.ifnull 7, 3) := dk_198 0 7 (dk_at dksX1_reason_0 13 rfl rfl)
theorem dX1_reason_16 : decode cX1_reason 16 = .ok (.iload_n 1, 1) := dk_27 (dk_at dksX1_reason_0 16 rfl rfl)
theorem dX1_reason_17 : decode cX1_reason 17 = .ok (.ifCond .ne 10, 3) := dk_154 0 10 (dk_at dksX1_reason_0 17 rfl rfl)
theorem dX1_reason_20 : decode cX1_reason 20 = .ok (.aload_n 0, 1) := dk_42 (dk_at dksX1_reason_0 20 rfl rfl)
theorem dX1_reason_21 : decode cX1_reason 21 = .ok (.getfield 42, 3) := dk_180 0 42 (dk_at dksX1_reason_0 21 rfl rfl)
theorem dX1_reason_24 : decode cX1_reason 24 = .ok (.goto 10, 3) := dk_167 0 10 (dk_at dksX1_reason_1 0 rfl rfl)
theorem dX1_reason_27 : decode cX1_reason 27 = .ok (.aload_n 0, 1) := dk_42 (dk_at dksX1_reason_1 3 rfl rfl)
theorem dX1_reason_28 : decode cX1_reason 28 = .ok (.getfield 42, 3) := dk_180 0 42 (dk_at dksX1_reason_1 4 rfl rfl)
theorem dX1_reason_31 : decode cX1_reason 31 = .ok (.getfield 433, 3) := dk_180 1 177 (dk_at dksX1_reason_1 7 rfl rfl)
theorem dX1_reason_34 : decode cX1_reason 34 = .ok (.astore_n 3, 1) := dk_78 (dk_at dksX1_reason_1 10 rfl rfl)
theorem dX1_reason_35 : decode cX1_reason 35 = .ok (.aload_n 3, 1) := dk_45 (dk_at dksX1_reason_1 11 rfl rfl)
theorem dX1_reason_36 : decode cX1_reason 36 = .ok (.ifnull 7, 3) := dk_198 0 7 (dk_at dksX1_reason_1 12 rfl rfl)
theorem dX1_reason_39 : decode cX1_reason 39 = .ok (.iconst 1, 1) := dk_4 (dk_at dksX1_reason_1 15 rfl rfl)
theorem dX1_reason_40 : decode cX1_reason 40 = .ok (.goto 4, 3) := dk_167 0 4 (dk_at dksX1_reason_1 16 rfl rfl)
theorem dX1_reason_43 : decode cX1_reason 43 = .ok (.iconst 0, 1) := dk_3 (dk_at dksX1_reason_1 19 rfl rfl)
theorem dX1_reason_44 : decode cX1_reason 44 = .ok (.invokestatic 260, 3) := dk_184 1 4 (dk_at dksX1_reason_1 20 rfl rfl)
theorem dX1_reason_47 : decode cX1_reason 47 = .ok (.aload_n 3, 1) := dk_45 (dk_at dksX1_reason_1 23 rfl rfl)
theorem dX1_reason_48 : decode cX1_reason 48 = .ok (.ifnonnull 7, 3) := dk_199 0 7 (dk_at dksX1_reason_2 0 rfl rfl)
theorem dX1_reason_51 : decode cX1_reason 51 = .ok (.iconst 0, 1) := dk_3 (dk_at dksX1_reason_2 3 rfl rfl)
theorem dX1_reason_52 : decode cX1_reason 52 = .ok (.goto 18, 3) := dk_167 0 18 (dk_at dksX1_reason_2 4 rfl rfl)
theorem dX1_reason_55 : decode cX1_reason 55 = .ok (.iload_n 2, 1) := dk_28 (dk_at dksX1_reason_2 7 rfl rfl)
theorem dX1_reason_56 : decode cX1_reason 56 = .ok (.ifCond .eq 10, 3) := dk_153 0 10 (dk_at dksX1_reason_2 8 rfl rfl)
theorem dX1_reason_59 : decode cX1_reason 59 = .ok (.aload_n 3, 1) := dk_45 (dk_at dksX1_reason_2 11 rfl rfl)
theorem dX1_reason_60 : decode cX1_reason 60 = .ok (.getfield 436, 3) := dk_180 1 180 (dk_at dksX1_reason_2 12 rfl rfl)
theorem dX1_reason_63 : decode cX1_reason 63 = .ok (.goto 7, 3) := dk_167 0 7 (dk_at dksX1_reason_2 15 rfl rfl)
theorem dX1_reason_66 : decode cX1_reason 66 = .ok (.aload_n 3, 1) := dk_45 (dk_at dksX1_reason_2 18 rfl rfl)
theorem dX1_reason_67 : decode cX1_reason 67 = .ok (.getfield 439, 3) := dk_180 1 183 (dk_at dksX1_reason_2 19 rfl rfl)
theorem dX1_reason_70 : decode cX1_reason 70 = .ok (.ireturn, 1) := dk_172 (dk_at dksX1_reason_2 22 rfl rfl)
def dkwX1_tell_3 : List UInt8 := [182, 1, 186, 16, 43, 182, 1, 151, 44, 180, 0, 158, 182, 1, 186, 87, 42, 180, 0, 30, 182, 1, 145, 172]
abbrev dktX1_tell_3 : List UInt8 := dkwX1_tell_3 ++ []
def dkwX1_tell_2 : List UInt8 := [180, 0, 30, 16, 94, 182, 1, 151, 44, 180, 0, 161, 182, 1, 186, 16, 42, 182, 1, 151, 44, 180, 0, 164]
abbrev dktX1_tell_2 : List UInt8 := dkwX1_tell_2 ++ dktX1_tell_3
def dkwX1_tell_1 : List UInt8 := [3, 182, 1, 164, 42, 180, 0, 30, 27, 182, 1, 186, 87, 42, 44, 180, 0, 209, 182, 1, 189, 42]
abbrev dktX1_tell_1 : List UInt8 := dkwX1_tell_1 ++ dktX1_tell_2
def dkwX1_tell_0 : List UInt8 := [42, 27, 182, 0, 203, 42, 180, 0, 10, 180, 0, 104, 27, 182, 0, 128, 192, 0, 114, 77, 42, 180, 0, 30]
abbrev dktX1_tell_0 : List UInt8 := dkwX1_tell_0 ++ dktX1_tell_1
theorem dksX1_tell_0 : cX1_tell.data.toList.drop 0 = dktX1_tell_0 := by decide +kernel
theorem dksX1_tell_1 : cX1_tell.data.toList.drop 24 = dktX1_tell_1 := dk_seg dksX1_tell_0 24 rfl rfl
theorem dksX1_tell_2 : cX1_tell.data.toList.drop 46 = dktX1_tell_2 := dk_seg dksX1_tell_1 22 rfl rfl
theorem dksX1_tell_3 : cX1_tell.data.toList.drop 70 = dktX1_tell_3 := dk_seg dksX1_tell_2 24 rfl rfl
theorem dX1_tell_0 : decode cX1_tell 0 = .ok (.aload_n 0, 1) := dk_42 (dk_at dksX1_tell_0 0 rfl rfl)
theorem dX1_tell_1 : decode cX1_tell 1 = .ok (.iload_n 1, 1) := dk_27 (dk_at dksX1_tell_0 1 rfl rfl)
theorem dX1_tell_2 : decode cX1_tell 2 = .ok (.invokevirtual 203, 3) := dk_182 0 203 (dk_at dksX1_tell_0 2 rfl rfl)
theorem dX1_tell_5 : decode cX1_tell 5 = .ok (.aload_n 0, 1) := dk_42 (dk_at dksX1_tell_0 5 rfl rfl)
theorem dX1_tell_6 : decode cX1_tell 6 = .ok (.getfield 10, 3) := dk_180 0 10 (dk_at dksX1_tell_0 6 rfl rfl)
theorem dX1_tell_9 : decode cX1_tell 9 = .ok (.getfield 104, 3) := dk_180 0 104 (dk_at dksX1_tell_0 9 rfl rfl)
theorem dX1_tell_12 : decode cX1_tell 12 = .ok (.iload_n 1, 1) := dk_27 (dk_at dksX1_tell_0 12 rfl rfl)
theorem dX1_tell_13 : decode cX1_tell 13 = .ok (.invokevirtual 128, 3) := dk_182 0 128 (dk_at dksX1_tell_0 13 rfl rfl)
theorem dX1_tell_16 : decode cX1_tell 16 = .ok (.checkcast 114, 3) := dk_192 0 114 (dk_at dksX1_tell_0 16 rfl rfl)
theorem dX1_tell_19 : decode cX1_tell 19 = .ok (.astore_n 2, 1) := dk_77 (dk_at dksX1_tell_0 19 rfl rfl)
theorem dX1_tell_20 : decode cX1_tell 20 = .ok (.aload_n 0, 1) := dk_42 (dk_at dksX1_tell_0 20 rfl rfl)
theorem dX1_tell_21 : decode cX1_tell 21 = .ok (.getfield 30, 3) := dk_180 0 30 (dk_at dksX1_tell_0 21 rfl rfl)
theorem dX1_tell_24 : decode cX1_tell 24 = .ok (.iconst 0, 1) := dk_3 (dk_at dksX1_tell_1 0 rfl rfl)
theorem dX1_tell_25 : decode cX1_tell 25 = .ok (.invokevirtual 420, 3) := dk_182 1 164 (dk_at dksX1_tell_1 1 rfl rfl)
theorem dX1_tell_28 : decode cX1_tell 28 = .ok (.aload_n 0, 1) := dk_42 (dk_at dksX1_tell_1 4 rfl rfl)
theorem dX1_tell_29 : decode cX1_tell 29 = .ok (.getfield 30, 3) := dk_180 0 30 (dk_at dksX1_tell_1 5 rfl rfl)
theorem dX1_tell_32 : decode cX1_tell 32 = .ok (.iload_n 1, 1) := dk_27 (dk_at dksX1_tell_1 8 rfl rfl)
theorem dX1_tell_33 : decode cX1_tell 33 = .ok (.invokevirtual 442, 3) := dk_182 1 186 (dk_at dksX1_tell_1 9 rfl rfl)
theorem dX1_tell_36 : decode cX1_tell 36 = .ok (.pop, 1) := dk_87 (dk_at dksX1_tell_1 12 rfl rfl)
theorem dX1_tell_37 : decode cX1_tell 37 = .ok (.aload_n 0, 1) := dk_42 (dk_at dksX1_tell_1 13 rfl rfl)
theorem dX1_tell_38 : decode cX1_tell 38 = .ok (.aload_n 2, 1) := dk_44 (dk_at dksX1_tell_1 14 rfl rfl)
theorem dX1_tell_39 : decode cX1_tell 39 = .ok (.getfield 209, 3) := dk_180 0 209 (dk_at dksX1_tell_1 15 rfl rfl)
theorem dX1_tell_42 : decode cX1_tell 42 = .ok (.invokevirtual 445, 3) := dk_182 1 189 (dk_at dksX1_tell_1 18 rfl rfl)
theorem dX1_tell_45 : decode cX1_tell 45 = .ok (.aload_n 0, 1) := dk_42 (dk_at dksX1_tell_1 21 rfl rfl)
theorem dX1_tell_46 : decode cX1_tell 46 = .ok (.getfield 30, 3) := dk_180 0 30 (dk_at dksX1_tell_2 0 rfl rfl)
theorem dX1_tell_49 : decode cX1_tell 49 = .ok (.bipush 94, 2) := dk_16 94 (dk_at dksX1_tell_2 3 rfl rfl)
theorem dX1_tell_51 : decode cX1_tell 51 = .ok (.invokevirtual 407, 3) := dk_182 1 151 (dk_at dksX1_tell_2 5 rfl rfl)
theorem dX1_tell_54 : decode cX1_tell 54 = .ok (.aload_n 2, 1) := dk_44 (dk_at dksX1_tell_2 8 rfl rfl)
theorem dX1_tell_55 : decode cX1_tell 55 = .ok (.getfield 161, 3) := dk_180 0 161 (dk_at dksX1_tell_2 9 rfl rfl)
theorem dX1_tell_58 : decode cX1_tell 58 = .ok (.invokevirtual 442, 3) := dk_182 1 186 (dk_at dksX1_tell_2 12 rfl rfl)
theorem dX1_tell_61 : decode cX1_tell 61 = .ok (.bipush 42, 2) := dk_16 42 (dk_at dksX1_tell_2 15 rfl rfl)
theorem dX1_tell_63 : decode cX1_tell 63 = .ok (.invokevirtual 407, 3) := dk_182 1 151 (dk_at dksX1_tell_2 17 rfl rfl)
theorem dX1_tell_66 : decode cX1_tell 66 = .ok (.aload_n 2, 1) := dk_44 (dk_at dksX1_tell_2 20 rfl rfl)
theorem dX1_tell_67 : decode cX1_tell 67 = .ok (.getfield 164, 3) := dk_180 0 164 (dk_at dksX1_tell_2 21 rfl rfl)
theorem dX1_tell_70 : decode cX1_tell 70 = .ok (.invokevirtual 442, 3) := dk_182 1 186 (dk_at dksX1_tell_3 0 rfl rfl)
theorem dX1_tell_73 : decode cX1_tell 73 = .ok (.bipush 43, 2) := dk_16 43 (dk_at dksX1_tell_3 3 rfl rfl)
theorem dX1_tell_75 : decode cX1_tell 75 = .ok (.invokevirtual 407, 3) := dk_182 1 151 (dk_at dksX1_tell_3 5 rfl rfl)
theorem dX1_tell_78 : decode cX1_tell 78 = .ok (.aload_n 2, 1) := dk_44 (dk_at dksX1_tell_3 8 rfl rfl)
theorem dX1_tell_79 : decode cX1_tell 79 = .ok (.getfield 158, 3) := dk_180 0 158 (dk_at dksX1_tell_3 9 rfl rfl)
theorem dX1_tell_82 : decode cX1_tell 82 = .ok (.invokevirtual 442, 3) := dk_182 1 186 (dk_at dksX1_tell_3 12 rfl rfl)
theorem dX1_tell_85 : decode cX1_tell 85 = .ok (.pop, 1) := dk_87 (dk_at dksX1_tell_3 15 rfl rfl)
theorem dX1_tell_86 : decode cX1_tell 86 = .ok (.aload_n 0, 1) := dk_42 (dk_at dksX1_tell_3 16 rfl rfl)
theorem dX1_tell_87 : decode cX1_tell 87 = .ok (.getfield 30, 3) := dk_180 0 30 (dk_at dksX1_tell_3 17 rfl rfl)
theorem dX1_tell_90 : decode cX1_tell 90 = .ok (.invokevirtual 401, 3) := dk_182 1 145 (dk_at dksX1_tell_3 20 rfl rfl)
theorem dX1_tell_93 : decode cX1_tell 93 = .ok (.ireturn, 1) := dk_172 (dk_at dksX1_tell_3 23 rfl rfl)
def dkwX1_writePoint_1 : List UInt8 := [177]
abbrev dktX1_writePoint_1 : List UInt8 := dkwX1_writePoint_1 ++ []
def dkwX1_writePoint_0 : List UInt8 := [42, 180, 0, 30, 16, 64, 182, 1, 151, 27, 16, 10, 112, 182, 1, 186, 27, 16, 10, 108, 182, 1, 186, 87]
abbrev dktX1_writePoint_0 : List UInt8 := dkwX1_writePoint_0 ++ dktX1_writePoint_1
theorem dksX1_writePoint_0 : cX1_writePoint.data.toList.drop 0 = dktX1_writePoint_0 := by decide +kernel
theorem dksX1_writePoint_1 : cX1_writePoint.data.toList.drop 24 = dktX1_writePoint_1 := dk_seg dksX1_writePoint_0 24 rfl rfl
theorem dX1_writePoint_0 : decode cX1_writePoint 0 = .ok (.aload_n 0, 1) := dk_42 (dk_at dksX1_writePoint_0 0 rfl rfl)
theorem dX1_writePoint_1 : decode cX1_writePoint 1 = .ok (.getfield 30, 3) := dk_180 0 30 (dk_at dksX1_writePoint_0 1 rfl rfl)
theorem dX1_writePoint_4 : decode cX1_writePoint 4 = .ok (.bipush 64, 2) := dk_16 64 (dk_at dksX1_writePoint_0 4 rfl rfl)
theorem dX1_writePoint_6 : decode cX1_writePoint 6 = .ok (.invokevirtual 407, 3) := dk_182 1 151 (dk_at dksX1_writePoint_0 6 rfl rfl)
theorem dX1_writePoint_9 : decode cX1_writePoint 9 = .ok (.iload_n 1, 1) := dk_27 (dk_at dksX1_writePoint_0 9 rfl rfl)
theorem dX1_writePoint_10 : decode cX1_writePoint 10 = .ok (.bipush 10, 2) := dk_16 10 (dk_at dksX1_writePoint_0 10 rfl rfl)
theorem dX1_writePoint_12 : decode cX1_writePoint 12 = .ok (.irem, 1) := dk_112 (dk_at dksX1_writePoint_0 12 rfl rfl)
theorem dX1_writePoint_13 : decode cX1_writePoint 13 = .ok (.invokevirtual 442, 3) := dk_182 1 186 (dk_at dksX1_writePoint_0 13 rfl rfl)
theorem dX1_writePoint_16 : decode cX1_writePoint 16 = .ok (.iload_n 1, 1) := dk_27 (dk_at dksX1_writePoint_0 16 rfl rfl)
theorem dX1_writePoint_17 : decode cX1_writePoint 17 = .ok (.bipush 10, 2) := dk_16 10 (dk_at dksX1_writePoint_0 17 rfl rfl)
theorem dX1_writePoint_19 : decode cX1_writePoint 19 = .ok (.idiv, 1) := dk_108 (dk_at dksX1_writePoint_0 19 rfl rfl)
theorem dX1_writePoint_20 : decode cX1_writePoint 20 = .ok (.invokevirtual 442, 3) := dk_182 1 186 (dk_at dksX1_writePoint_0 20 rfl rfl)
theorem dX1_writePoint_23 : decode cX1_writePoint 23 = .ok (.pop, 1) := dk_87 (dk_at dksX1_writePoint_0 23 rfl rfl)
theorem dX1_writePoint_24 : decode cX1_writePoint 24 = .ok (.return_, 1) := dk_177 (dk_at dksX1_writePoint_1 0 rfl rfl)
def dkwX1_tellRow_4 : List UInt8 := [180, 0, 30, 182, 1, 145, 172]
abbrev dktX1_tellRow_4 : List UInt8 := dkwX1_tellRow_4 ++ []
def dkwX1_tellRow_3 : List UInt8 := [167, 0, 11, 16, 48, 29, 184, 1, 195, 96, 146, 182, 1, 151, 87, 132, 2, 1, 167, 255, 184, 42]
abbrev dktX1_tellRow_3 : List UInt8 := dkwX1_tellRow_3 ++ dktX1_tellRow_4
def dkwX1_tellRow_2 : List UInt8 := [3, 54, 4, 42, 180, 0, 30, 21, 4, 153, 0, 8, 16, 35, 167, 0, 20, 29, 154, 0, 8, 16, 46]
abbrev dktX1_tellRow_2 : List UInt8 := dkwX1_tellRow_2 ++ dktX1_tellRow_3
def dkwX1_tellRow_1 : List UInt8 := [28, 27, 182, 1, 192, 62, 42, 16, 10, 27, 104, 28, 96, 182, 0, 141, 2, 159, 0, 7, 4, 167, 0, 4]
abbrev dktX1_tellRow_1 : List UInt8 := dkwX1_tellRow_1 ++ dktX1_tellRow_2
def dkwX1_tellRow_0 : List UInt8 := [27, 184, 0, 69, 184, 0, 199, 42, 180, 0, 30, 3, 182, 1, 164, 3, 61, 28, 16, 10, 162, 0, 72, 42]
abbrev dktX1_tellRow_0 : List UInt8 := dkwX1_tellRow_0 ++ dktX1_tellRow_1
theorem dksX1_tellRow_0 : cX1_tellRow.data.toList.drop 0 = dktX1_tellRow_0 := by decide +kernel
theorem dksX1_tellRow_1 : cX1_tellRow.data.toList.drop 24 = dktX1_tellRow_1 := dk_seg dksX1_tellRow_0 24 rfl rfl
theorem dksX1_tellRow_2 : cX1_tellRow.data.toList.drop 48 = dktX1_tellRow_2 := dk_seg dksX1_tellRow_1 24 rfl rfl
theorem dksX1_tellRow_3 : cX1_tellRow.data.toList.drop 71 = dktX1_tellRow_3 := dk_seg dksX1_tellRow_2 23 rfl rfl
theorem dksX1_tellRow_4 : cX1_tellRow.data.toList.drop 93 = dktX1_tellRow_4 := dk_seg dksX1_tellRow_3 22 rfl rfl
theorem dX1_tellRow_0 : decode cX1_tellRow 0 = .ok (.iload_n 1, 1) := dk_27 (dk_at dksX1_tellRow_0 0 rfl rfl)
theorem dX1_tellRow_1 : decode cX1_tellRow 1 = .ok (.invokestatic 69, 3) := dk_184 0 69 (dk_at dksX1_tellRow_0 1 rfl rfl)
theorem dX1_tellRow_4 : decode cX1_tellRow 4 = .ok (.invokestatic 199, 3) := dk_184 0 199 (dk_at dksX1_tellRow_0 4 rfl rfl)
theorem dX1_tellRow_7 : decode cX1_tellRow 7 = .ok (.aload_n 0, 1) := dk_42 (dk_at dksX1_tellRow_0 7 rfl rfl)
theorem dX1_tellRow_8 : decode cX1_tellRow 8 = .ok (.getfield 30, 3) := dk_180 0 30 (dk_at dksX1_tellRow_0 8 rfl rfl)
theorem dX1_tellRow_11 : decode cX1_tellRow 11 = .ok (.iconst 0, 1) := dk_3 (dk_at dksX1_tellRow_0 11 rfl rfl)
theorem dX1_tellRow_12 : decode cX1_tellRow 12 = .ok (.invokevirtual 420, 3) := dk_182 1 164 (dk_at dksX1_tellRow_0 12 rfl rfl)
theorem dX1_tellRow_15 : decode cX1_tellRow 15 = .ok (.iconst 0, 1) := dk_3 (dk_at dksX1_tellRow_0 15 rfl rfl)
theorem dX1_tellRow_16 : decode cX1_tellRow 16 = .ok (.istore_n 2, 1) := dk_61 (dk_at dksX1_tellRow_0 16 rfl rfl)
theorem dX1_tellRow_17 : decode cX1_tellRow 17 = .ok (.iload_n 2, 1) := dk_28 (dk_at dksX1_tellRow_0 17 rfl rfl)
theorem dX1_tellRow_18 : decode cX1_tellRow 18 = .ok (.bipush 10, 2) := dk_16 10 (dk_at dksX1_tellRow_0 18 rfl rfl)
theorem dX1_tellRow_20 : decode cX1_tellRow 20 = .ok (.if_icmp .ge 72, 3) := dk_162 0 72 (dk_at dksX1_tellRow_0 20 rfl rfl)
theorem dX1_tellRow_23 : decode cX1_tellRow 23 = .ok (.aload_n 0, 1) := dk_42 (dk_at dksX1_tellRow_0 23 rfl rfl)
theorem dX1_tellRow_24 : decode cX1_tellRow 24 = .ok (.iload_n 2, 1) := dk_28 (dk_at dksX1_tellRow_1 0 rfl rfl)
theorem dX1_tellRow_25 : decode cX1_tellRow 25 = .ok (.iload_n 1, 1) := dk_27 (dk_at dksX1_tellRow_1 1 rfl rfl)
theorem dX1_tellRow_26 : decode cX1_tellRow 26 = .ok (.invokevirtual 448, 3) := dk_182 1 192 (dk_at dksX1_tellRow_1 2 rfl rfl)
theorem dX1_tellRow_29 : decode cX1_tellRow 29 = .ok (.istore_n 3, 1) := dk_62 (dk_at dksX1_tellRow_1 5 rfl rfl)
theorem dX1_tellRow_30 : decode cX1_tellRow 30 = .ok (.aload_n 0, 1) := dk_42 (dk_at dksX1_tellRow_1 6 rfl rfl)
theorem dX1_tellRow_31 : decode cX1_tellRow 31 = .ok (.bipush 10, 2) := dk_16 10 (dk_at dksX1_tellRow_1 7 rfl rfl)
theorem dX1_tellRow_33 : decode cX1_tellRow 33 = .ok (.iload_n 1, 1) := dk_27 (dk_at dksX1_tellRow_1 9 rfl rfl)
theorem dX1_tellRow_34 : decode cX1_tellRow 34 = .ok (.imul, 1) := dk_104 (dk_at dksX1_tellRow_1 10 rfl rfl)
theorem dX1_tellRow_35 : decode cX1_tellRow 35 = .ok (.iload_n 2, 1) := dk_28 (dk_at dksX1_tellRow_1 11 rfl rfl)
theorem dX1_tellRow_36 : decode cX1_tellRow 36 = .ok (.iadd, 1) := dk_96 (dk_at dksX1_tellRow_1 12 rfl rfl)
theorem dX1_tellRow_37 : decode cX1_tellRow 37 = .ok (.invokevirtual 141, 3) := dk_182 0 141 (dk_at dksX1_tellRow_1 13 rfl rfl)
theorem dX1_tellRow_40 : decode cX1_tellRow 40 = .ok (.iconst (-1), 1) := dk_2 (dk_at dksX1_tellRow_1 16 rfl rfl)
theorem dX1_tellRow_41 : decode cX1_tellRow 41 = .ok (.if_icmp .eq 7, 3) := dk_159 0 7 (dk_at dksX1_tellRow_1 17 rfl rfl)
theorem dX1_tellRow_44 : decode cX1_tellRow 44 = .ok (.iconst 1, 1) := dk_4 (dk_at dksX1_tellRow_1 20 rfl rfl)
theorem dX1_tellRow_45 : decode cX1_tellRow 45 = .ok (.goto 4, 3) := dk_167 0 4 (dk_at dksX1_tellRow_1 21 rfl rfl)
theorem dX1_tellRow_48 : decode cX1_tellRow 48 = .ok (.iconst 0, 1) := dk_3 (dk_at dksX1_tellRow_2 0 rfl rfl)
theorem dX1_tellRow_49 : decode cX1_tellRow 49 = .ok (.istore 4, 2) := dk_54 4 (dk_at dksX1_tellRow_2 1 rfl rfl)
theorem dX1_tellRow_51 : decode cX1_tellRow 51 = .ok (.aload_n 0, 1) := dk_42 (dk_at dksX1_tellRow_2 3 rfl rfl)
theorem dX1_tellRow_52 : decode cX1_tellRow 52 = .ok (.getfield 30, 3) := dk_180 0 30 (dk_at dksX1_tellRow_2 4 rfl rfl)
theorem dX1_tellRow_55 : decode cX1_tellRow 55 = .ok (.iload 4, 2) := dk_21 4 (dk_at dksX1_tellRow_2 7 rfl rfl)
theorem dX1_tellRow_57 : decode cX1_tellRow 57 = .ok (.ifCond .eq 8, 3) := dk_153 0 8 (dk_at dksX1_tellRow_2 9 rfl rfl)
theorem dX1_tellRow_60 : decode cX1_tellRow 60 = .ok (.bipush 35, 2) := dk_16 35 (dk_at dksX1_tellRow_2 12 rfl rfl)
theorem dX1_tellRow_62 : decode cX1_tellRow 62 = .ok (.goto 20, 3) := dk_167 0 20 (dk_at dksX1_tellRow_2 14 rfl rfl)
theorem dX1_tellRow_65 : decode cX1_tellRow 65 = .ok (.iload_n 3, 1) := dk_29 (dk_at dksX1_tellRow_2 17 rfl rfl)
theorem dX1_tellRow_66 : decode cX1_tellRow 66 = .ok (.ifCond .ne 8, 3) := dk_154 0 8 (dk_at dksX1_tellRow_2 18 rfl rfl)
theorem dX1_tellRow_69 : decode cX1_tellRow 69 = .ok (.bipush 46, 2) := dk_16 46 (dk_at dksX1_tellRow_2 21 rfl rfl)
theorem dX1_tellRow_71 : decode cX1_tellRow 71 = .ok (.goto 11, 3) := dk_167 0 11 (dk_at dksX1_tellRow_3 0 rfl rfl)
theorem dX1_tellRow_74 : decode cX1_tellRow 74 = .ok (.bipush 48, 2) := dk_16 48 (dk_at dksX1_tellRow_3 3 rfl rfl)
theorem dX1_tellRow_76 : decode cX1_tellRow 76 = .ok (.iload_n 3, 1) := dk_29 (dk_at dksX1_tellRow_3 5 rfl rfl)
theorem dX1_tellRow_77 : decode cX1_tellRow 77 = .ok (.invokestatic 451, 3) := dk_184 1 195 (dk_at dksX1_tellRow_3 6 rfl rfl)
theorem dX1_tellRow_80 : decode cX1_tellRow 80 = .ok (.iadd, 1) := dk_96 (dk_at dksX1_tellRow_3 9 rfl rfl)
theorem dX1_tellRow_81 : decode cX1_tellRow 81 = .ok (.i2c, 1) := dk_146 (dk_at dksX1_tellRow_3 10 rfl rfl)
theorem dX1_tellRow_82 : decode cX1_tellRow 82 = .ok (.invokevirtual 407, 3) := dk_182 1 151 (dk_at dksX1_tellRow_3 11 rfl rfl)
theorem dX1_tellRow_85 : decode cX1_tellRow 85 = .ok (.pop, 1) := dk_87 (dk_at dksX1_tellRow_3 14 rfl rfl)
theorem dX1_tellRow_86 : decode cX1_tellRow 86 = .ok (.iinc 2 1, 3) := dk_132 2 1 (dk_at dksX1_tellRow_3 15 rfl rfl)
theorem dX1_tellRow_89 : decode cX1_tellRow 89 = .ok (.goto (-72), 3) := dk_167 255 184 (dk_at dksX1_tellRow_3 18 rfl rfl)
theorem dX1_tellRow_92 : decode cX1_tellRow 92 = .ok (.aload_n 0, 1) := dk_42 (dk_at dksX1_tellRow_3 21 rfl rfl)
theorem dX1_tellRow_93 : decode cX1_tellRow 93 = .ok (.getfield 30, 3) := dk_180 0 30 (dk_at dksX1_tellRow_4 0 rfl rfl)
theorem dX1_tellRow_96 : decode cX1_tellRow 96 = .ok (.invokevirtual 401, 3) := dk_182 1 145 (dk_at dksX1_tellRow_4 3 rfl rfl)
theorem dX1_tellRow_99 : decode cX1_tellRow 99 = .ok (.ireturn, 1) := dk_172 (dk_at dksX1_tellRow_4 6 rfl rfl)
def dkwX1_tellSpire_3 : List UInt8 := [180, 0, 30, 182, 1, 145, 172]
abbrev dktX1_tellSpire_3 : List UInt8 := dkwX1_tellSpire_3 ++ []
def dkwX1_tellSpire_2 : List UInt8 := [180, 0, 10, 180, 0, 125, 27, 182, 0, 128, 192, 0, 132, 180, 0, 222, 184, 1, 198, 182, 1, 151, 87, 42]
abbrev dktX1_tellSpire_2 : List UInt8 := dkwX1_tellSpire_2 ++ dktX1_tellSpire_3
def dkwX1_tellSpire_1 : List UInt8 := [180, 0, 10, 180, 0, 125, 27, 182, 0, 128, 192, 0, 132, 180, 0, 134, 182, 1, 189, 42, 180, 0, 30, 42]
abbrev dktX1_tellSpire_1 : List UInt8 := dkwX1_tellSpire_1 ++ dktX1_tellSpire_2
def dkwX1_tellSpire_0 : List UInt8 := [42, 27, 182, 0, 219, 42, 180, 0, 30, 3, 182, 1, 164, 42, 180, 0, 30, 27, 182, 1, 186, 87, 42, 42]
abbrev dktX1_tellSpire_0 : List UInt8 := dkwX1_tellSpire_0 ++ dktX1_tellSpire_1
theorem dksX1_tellSpire_0 : cX1_tellSpire.data.toList.drop 0 = dktX1_tellSpire_0 := by decide +kernel
theorem dksX1_tellSpire_1 : cX1_tellSpire.data.toList.drop 24 = dktX1_tellSpire_1 := dk_seg dksX1_tellSpire_0 24 rfl rfl
theorem dksX1_tellSpire_2 : cX1_tellSpire.data.toList.drop 48 = dktX1_tellSpire_2 := dk_seg dksX1_tellSpire_1 24 rfl rfl
theorem dksX1_tellSpire_3 : cX1_tellSpire.data.toList.drop 72 = dktX1_tellSpire_3 := dk_seg dksX1_tellSpire_2 24 rfl rfl
theorem dX1_tellSpire_0 : decode cX1_tellSpire 0 = .ok (.aload_n 0, 1) := dk_42 (dk_at dksX1_tellSpire_0 0 rfl rfl)
theorem dX1_tellSpire_1 : decode cX1_tellSpire 1 = .ok (.iload_n 1, 1) := dk_27 (dk_at dksX1_tellSpire_0 1 rfl rfl)
theorem dX1_tellSpire_2 : decode cX1_tellSpire 2 = .ok (.invokevirtual 219, 3) := dk_182 0 219 (dk_at dksX1_tellSpire_0 2 rfl rfl)
theorem dX1_tellSpire_5 : decode cX1_tellSpire 5 = .ok (.aload_n 0, 1) := dk_42 (dk_at dksX1_tellSpire_0 5 rfl rfl)
theorem dX1_tellSpire_6 : decode cX1_tellSpire 6 = .ok (.getfield 30, 3) := dk_180 0 30 (dk_at dksX1_tellSpire_0 6 rfl rfl)
theorem dX1_tellSpire_9 : decode cX1_tellSpire 9 = .ok (.iconst 0, 1) := dk_3 (dk_at dksX1_tellSpire_0 9 rfl rfl)
theorem dX1_tellSpire_10 : decode cX1_tellSpire 10 = .ok (.invokevirtual 420, 3) := dk_182 1 164 (dk_at dksX1_tellSpire_0 10 rfl rfl)
theorem dX1_tellSpire_13 : decode cX1_tellSpire 13 = .ok (.aload_n 0, 1) := dk_42 (dk_at dksX1_tellSpire_0 13 rfl rfl)
theorem dX1_tellSpire_14 : decode cX1_tellSpire 14 = .ok (.getfield 30, 3) := dk_180 0 30 (dk_at dksX1_tellSpire_0 14 rfl rfl)
theorem dX1_tellSpire_17 : decode cX1_tellSpire 17 = .ok (.iload_n 1, 1) := dk_27 (dk_at dksX1_tellSpire_0 17 rfl rfl)
theorem dX1_tellSpire_18 : decode cX1_tellSpire 18 = .ok (.invokevirtual 442, 3) := dk_182 1 186 (dk_at dksX1_tellSpire_0 18 rfl rfl)
theorem dX1_tellSpire_21 : decode cX1_tellSpire 21 = .ok (.pop, 1) := dk_87 (dk_at dksX1_tellSpire_0 21 rfl rfl)
theorem dX1_tellSpire_22 : decode cX1_tellSpire 22 = .ok (.aload_n 0, 1) := dk_42 (dk_at dksX1_tellSpire_0 22 rfl rfl)
theorem dX1_tellSpire_23 : decode cX1_tellSpire 23 = .ok (.aload_n 0, 1) := dk_42 (dk_at dksX1_tellSpire_0 23 rfl rfl)
theorem dX1_tellSpire_24 : decode cX1_tellSpire 24 = .ok (.getfield 10, 3) := dk_180 0 10 (dk_at dksX1_tellSpire_1 0 rfl rfl)
theorem dX1_tellSpire_27 : decode cX1_tellSpire 27 = .ok (.getfield 125, 3) := dk_180 0 125 (dk_at dksX1_tellSpire_1 3 rfl rfl)
theorem dX1_tellSpire_30 : decode cX1_tellSpire 30 = .ok (.iload_n 1, 1) := dk_27 (dk_at dksX1_tellSpire_1 6 rfl rfl)
theorem dX1_tellSpire_31 : decode cX1_tellSpire 31 = .ok (.invokevirtual 128, 3) := dk_182 0 128 (dk_at dksX1_tellSpire_1 7 rfl rfl)
theorem dX1_tellSpire_34 : decode cX1_tellSpire 34 = .ok (.checkcast 132, 3) := dk_192 0 132 (dk_at dksX1_tellSpire_1 10 rfl rfl)
theorem dX1_tellSpire_37 : decode cX1_tellSpire 37 = .ok (.getfield 134, 3) := dk_180 0 134 (dk_at dksX1_tellSpire_1 13 rfl rfl)
theorem dX1_tellSpire_40 : decode cX1_tellSpire 40 = .ok (.invokevirtual 445, 3) := dk_182 1 189 (dk_at dksX1_tellSpire_1 16 rfl rfl)
theorem dX1_tellSpire_43 : decode cX1_tellSpire 43 = .ok (.aload_n 0, 1) := dk_42 (dk_at dksX1_tellSpire_1 19 rfl rfl)
theorem dX1_tellSpire_44 : decode cX1_tellSpire 44 = .ok (.getfield 30, 3) := dk_180 0 30 (dk_at dksX1_tellSpire_1 20 rfl rfl)
theorem dX1_tellSpire_47 : decode cX1_tellSpire 47 = .ok (.aload_n 0, 1) := dk_42 (dk_at dksX1_tellSpire_1 23 rfl rfl)
theorem dX1_tellSpire_48 : decode cX1_tellSpire 48 = .ok (.getfield 10, 3) := dk_180 0 10 (dk_at dksX1_tellSpire_2 0 rfl rfl)
theorem dX1_tellSpire_51 : decode cX1_tellSpire 51 = .ok (.getfield 125, 3) := dk_180 0 125 (dk_at dksX1_tellSpire_2 3 rfl rfl)
theorem dX1_tellSpire_54 : decode cX1_tellSpire 54 = .ok (.iload_n 1, 1) := dk_27 (dk_at dksX1_tellSpire_2 6 rfl rfl)
theorem dX1_tellSpire_55 : decode cX1_tellSpire 55 = .ok (.invokevirtual 128, 3) := dk_182 0 128 (dk_at dksX1_tellSpire_2 7 rfl rfl)
theorem dX1_tellSpire_58 : decode cX1_tellSpire 58 = .ok (.checkcast 132, 3) := dk_192 0 132 (dk_at dksX1_tellSpire_2 10 rfl rfl)
theorem dX1_tellSpire_61 : decode cX1_tellSpire 61 = .ok (.getfield 222, 3) := dk_180 0 222 (dk_at dksX1_tellSpire_2 13 rfl rfl)
theorem dX1_tellSpire_64 : decode cX1_tellSpire 64 = .ok (.invokestatic 454, 3) := dk_184 1 198 (dk_at dksX1_tellSpire_2 16 rfl rfl)
theorem dX1_tellSpire_67 : decode cX1_tellSpire 67 = .ok (.invokevirtual 407, 3) := dk_182 1 151 (dk_at dksX1_tellSpire_2 19 rfl rfl)
theorem dX1_tellSpire_70 : decode cX1_tellSpire 70 = .ok (.pop, 1) := dk_87 (dk_at dksX1_tellSpire_2 22 rfl rfl)
theorem dX1_tellSpire_71 : decode cX1_tellSpire 71 = .ok (.aload_n 0, 1) := dk_42 (dk_at dksX1_tellSpire_2 23 rfl rfl)
theorem dX1_tellSpire_72 : decode cX1_tellSpire 72 = .ok (.getfield 30, 3) := dk_180 0 30 (dk_at dksX1_tellSpire_3 0 rfl rfl)
theorem dX1_tellSpire_75 : decode cX1_tellSpire 75 = .ok (.invokevirtual 401, 3) := dk_182 1 145 (dk_at dksX1_tellSpire_3 3 rfl rfl)
theorem dX1_tellSpire_78 : decode cX1_tellSpire 78 = .ok (.ireturn, 1) := dk_172 (dk_at dksX1_tellSpire_3 6 rfl rfl)
def dkwX1_character_1 : List UInt8 := [182, 1, 202, 172]
abbrev dktX1_character_1 : List UInt8 := dkwX1_character_1 ++ []
def dkwX1_character_0 : List UInt8 := [27, 3, 42, 180, 0, 30, 182, 1, 145, 4, 100, 184, 0, 49, 184, 0, 199, 42, 180, 0, 30, 27]
abbrev dktX1_character_0 : List UInt8 := dkwX1_character_0 ++ dktX1_character_1
theorem dksX1_character_0 : cX1_character.data.toList.drop 0 = dktX1_character_0 := by decide +kernel
theorem dksX1_character_1 : cX1_character.data.toList.drop 22 = dktX1_character_1 := dk_seg dksX1_character_0 22 rfl rfl
theorem dX1_character_0 : decode cX1_character 0 = .ok (.iload_n 1, 1) := dk_27 (dk_at dksX1_character_0 0 rfl rfl)
theorem dX1_character_1 : decode cX1_character 1 = .ok (.iconst 0, 1) := dk_3 (dk_at dksX1_character_0 1 rfl rfl)
theorem dX1_character_2 : decode cX1_character 2 = .ok (.aload_n 0, 1) := dk_42 (dk_at dksX1_character_0 2 rfl rfl)
theorem dX1_character_3 : decode cX1_character 3 = .ok (.getfield 30, 3) := dk_180 0 30 (dk_at dksX1_character_0 3 rfl rfl)
theorem dX1_character_6 : decode cX1_character 6 = .ok (.invokevirtual 401, 3) := dk_182 1 145 (dk_at dksX1_character_0 6 rfl rfl)
theorem dX1_character_9 : decode cX1_character 9 = .ok (.iconst 1, 1) := dk_4 (dk_at dksX1_character_0 9 rfl rfl)
theorem dX1_character_10 : decode cX1_character 10 = .ok (.isub, 1) := dk_100 (dk_at dksX1_character_0 10 rfl rfl)
theorem dX1_character_11 : decode cX1_character 11 = .ok (.invokestatic 49, 3) := dk_184 0 49 (dk_at dksX1_character_0 11 rfl rfl)
theorem dX1_character_14 : decode cX1_character 14 = .ok (.invokestatic 199, 3) := dk_184 0 199 (dk_at dksX1_character_0 14 rfl rfl)
theorem dX1_character_17 : decode cX1_character 17 = .ok (.aload_n 0, 1) := dk_42 (dk_at dksX1_character_0 17 rfl rfl)
theorem dX1_character_18 : decode cX1_character 18 = .ok (.getfield 30, 3) := dk_180 0 30 (dk_at dksX1_character_0 18 rfl rfl)
theorem dX1_character_21 : decode cX1_character 21 = .ok (.iload_n 1, 1) := dk_27 (dk_at dksX1_character_0 21 rfl rfl)
theorem dX1_character_22 : decode cX1_character 22 = .ok (.invokevirtual 458, 3) := dk_182 1 202 (dk_at dksX1_character_1 0 rfl rfl)
theorem dX1_character_25 : decode cX1_character 25 = .ok (.ireturn, 1) := dk_172 (dk_at dksX1_character_1 3 rfl rfl)
def dkwX1_account_6 : List UInt8 := [180, 0, 26, 182, 1, 145, 172, 42, 180, 0, 19, 182, 0, 85, 172]
abbrev dktX1_account_6 : List UInt8 := dkwX1_account_6 ++ []
def dkwX1_account_5 : List UInt8 := [180, 0, 167, 172, 42, 180, 0, 10, 180, 0, 122, 172, 42, 182, 1, 231, 172, 42, 182, 1, 234, 172, 42]
abbrev dktX1_account_5 : List UInt8 := dkwX1_account_5 ++ dktX1_account_6
def dkwX1_account_4 : List UInt8 := [180, 0, 10, 180, 1, 225, 172, 42, 180, 0, 10, 180, 1, 228, 172, 42, 182, 1, 229, 172, 42, 180, 0, 10]
abbrev dktX1_account_4 : List UInt8 := dkwX1_account_4 ++ dktX1_account_5
def dkwX1_account_3 : List UInt8 := [180, 0, 125, 182, 0, 108, 172, 42, 180, 0, 10, 180, 1, 223, 172, 42, 180, 0, 10, 180, 1, 224, 172, 42]
abbrev dktX1_account_3 : List UInt8 := dkwX1_account_3 ++ dktX1_account_4
def dkwX1_account_2 : List UInt8 := [42, 180, 0, 10, 180, 0, 104, 182, 0, 108, 172, 42, 180, 0, 10, 182, 1, 220, 172, 42, 180, 0, 10]
abbrev dktX1_account_2 : List UInt8 := dkwX1_account_2 ++ dktX1_account_3
def dkwX1_account_1 : List UInt8 := [170, 0, 0, 0, 166, 0, 0, 0, 0, 0, 0, 0, 12, 0, 0, 0, 65, 0, 0, 0, 76, 0, 0, 0, 84, 0, 0, 0, 95, 0, 0, 0, 103, 0, 0, 0, 111, 0, 0, 0, 119, 0, 0, 0, 127, 0, 0, 0, 132, 0, 0, 0, 140, 0, 0, 0, 148, 0, 0, 0, 153, 0, 0, 0, 158]
abbrev dktX1_account_1 : List UInt8 := dkwX1_account_1 ++ dktX1_account_2
def dkwX1_account_0 : List UInt8 := [27, 3, 16, 13, 184, 0, 49, 184, 0, 206, 27]
abbrev dktX1_account_0 : List UInt8 := dkwX1_account_0 ++ dktX1_account_1
theorem dksX1_account_0 : cX1_account.data.toList.drop 0 = dktX1_account_0 := by decide +kernel
theorem dksX1_account_1 : cX1_account.data.toList.drop 11 = dktX1_account_1 := dk_seg dksX1_account_0 11 rfl rfl
theorem dksX1_account_2 : cX1_account.data.toList.drop 76 = dktX1_account_2 := dk_seg dksX1_account_1 65 rfl rfl
theorem dksX1_account_3 : cX1_account.data.toList.drop 99 = dktX1_account_3 := dk_seg dksX1_account_2 23 rfl rfl
theorem dksX1_account_4 : cX1_account.data.toList.drop 123 = dktX1_account_4 := dk_seg dksX1_account_3 24 rfl rfl
theorem dksX1_account_5 : cX1_account.data.toList.drop 147 = dktX1_account_5 := dk_seg dksX1_account_4 24 rfl rfl
theorem dksX1_account_6 : cX1_account.data.toList.drop 170 = dktX1_account_6 := dk_seg dksX1_account_5 23 rfl rfl
theorem dX1_account_0 : decode cX1_account 0 = .ok (.iload_n 1, 1) := dk_27 (dk_at dksX1_account_0 0 rfl rfl)
theorem dX1_account_1 : decode cX1_account 1 = .ok (.iconst 0, 1) := dk_3 (dk_at dksX1_account_0 1 rfl rfl)
theorem dX1_account_2 : decode cX1_account 2 = .ok (.bipush 13, 2) := dk_16 13 (dk_at dksX1_account_0 2 rfl rfl)
theorem dX1_account_4 : decode cX1_account 4 = .ok (.invokestatic 49, 3) := dk_184 0 49 (dk_at dksX1_account_0 4 rfl rfl)
theorem dX1_account_7 : decode cX1_account 7 = .ok (.invokestatic 206, 3) := dk_184 0 206 (dk_at dksX1_account_0 7 rfl rfl)
theorem dX1_account_10 : decode cX1_account 10 = .ok (.iload_n 1, 1) := dk_27 (dk_at dksX1_account_0 10 rfl rfl)
theorem dX1_account_11 : decode cX1_account 11 = .ok (.tableswitch 166 0 12 #[65, 76, 84, 95, 103, 111, 119, 127, 132, 140, 148, 153, 158], 65) := by decide +kernel
theorem dX1_account_76 : decode cX1_account 76 = .ok (.aload_n 0, 1) := dk_42 (dk_at dksX1_account_2 0 rfl rfl)
theorem dX1_account_77 : decode cX1_account 77 = .ok (.getfield 10, 3) := dk_180 0 10 (dk_at dksX1_account_2 1 rfl rfl)
theorem dX1_account_80 : decode cX1_account 80 = .ok (.getfield 104, 3) := dk_180 0 104 (dk_at dksX1_account_2 4 rfl rfl)
theorem dX1_account_83 : decode cX1_account 83 = .ok (.invokevirtual 108, 3) := dk_182 0 108 (dk_at dksX1_account_2 7 rfl rfl)
theorem dX1_account_86 : decode cX1_account 86 = .ok (.ireturn, 1) := dk_172 (dk_at dksX1_account_2 10 rfl rfl)
theorem dX1_account_87 : decode cX1_account 87 = .ok (.aload_n 0, 1) := dk_42 (dk_at dksX1_account_2 11 rfl rfl)
theorem dX1_account_88 : decode cX1_account 88 = .ok (.getfield 10, 3) := dk_180 0 10 (dk_at dksX1_account_2 12 rfl rfl)
theorem dX1_account_91 : decode cX1_account 91 = .ok (.invokevirtual 476, 3) := dk_182 1 220 (dk_at dksX1_account_2 15 rfl rfl)
theorem dX1_account_94 : decode cX1_account 94 = .ok (.ireturn, 1) := dk_172 (dk_at dksX1_account_2 18 rfl rfl)
theorem dX1_account_95 : decode cX1_account 95 = .ok (.aload_n 0, 1) := dk_42 (dk_at dksX1_account_2 19 rfl rfl)
theorem dX1_account_96 : decode cX1_account 96 = .ok (.getfield 10, 3) := dk_180 0 10 (dk_at dksX1_account_2 20 rfl rfl)
theorem dX1_account_99 : decode cX1_account 99 = .ok (.getfield 125, 3) := dk_180 0 125 (dk_at dksX1_account_3 0 rfl rfl)
theorem dX1_account_102 : decode cX1_account 102 = .ok (.invokevirtual 108, 3) := dk_182 0 108 (dk_at dksX1_account_3 3 rfl rfl)
theorem dX1_account_105 : decode cX1_account 105 = .ok (.ireturn, 1) := dk_172 (dk_at dksX1_account_3 6 rfl rfl)
theorem dX1_account_106 : decode cX1_account 106 = .ok (.aload_n 0, 1) := dk_42 (dk_at dksX1_account_3 7 rfl rfl)
theorem dX1_account_107 : decode cX1_account 107 = .ok (.getfield 10, 3) := dk_180 0 10 (dk_at dksX1_account_3 8 rfl rfl)
theorem dX1_account_110 : decode cX1_account 110 = .ok (.getfield 479, 3) := dk_180 1 223 (dk_at dksX1_account_3 11 rfl rfl)
theorem dX1_account_113 : decode cX1_account 113 = .ok (.ireturn, 1) := dk_172 (dk_at dksX1_account_3 14 rfl rfl)
theorem dX1_account_114 : decode cX1_account 114 = .ok (.aload_n 0, 1) := dk_42 (dk_at dksX1_account_3 15 rfl rfl)
theorem dX1_account_115 : decode cX1_account 115 = .ok (.getfield 10, 3) := dk_180 0 10 (dk_at dksX1_account_3 16 rfl rfl)
theorem dX1_account_118 : decode cX1_account 118 = .ok (.getfield 480, 3) := dk_180 1 224 (dk_at dksX1_account_3 19 rfl rfl)
theorem dX1_account_121 : decode cX1_account 121 = .ok (.ireturn, 1) := dk_172 (dk_at dksX1_account_3 22 rfl rfl)
theorem dX1_account_122 : decode cX1_account 122 = .ok (.aload_n 0, 1) := dk_42 (dk_at dksX1_account_3 23 rfl rfl)
theorem dX1_account_123 : decode cX1_account 123 = .ok (.getfield 10, 3) := dk_180 0 10 (dk_at dksX1_account_4 0 rfl rfl)
theorem dX1_account_126 : decode cX1_account 126 = .ok (.getfield 481, 3) := dk_180 1 225 (dk_at dksX1_account_4 3 rfl rfl)
theorem dX1_account_129 : decode cX1_account 129 = .ok (.ireturn, 1) := dk_172 (dk_at dksX1_account_4 6 rfl rfl)
theorem dX1_account_130 : decode cX1_account 130 = .ok (.aload_n 0, 1) := dk_42 (dk_at dksX1_account_4 7 rfl rfl)
theorem dX1_account_131 : decode cX1_account 131 = .ok (.getfield 10, 3) := dk_180 0 10 (dk_at dksX1_account_4 8 rfl rfl)
theorem dX1_account_134 : decode cX1_account 134 = .ok (.getfield 484, 3) := dk_180 1 228 (dk_at dksX1_account_4 11 rfl rfl)
theorem dX1_account_137 : decode cX1_account 137 = .ok (.ireturn, 1) := dk_172 (dk_at dksX1_account_4 14 rfl rfl)
theorem dX1_account_138 : decode cX1_account 138 = .ok (.aload_n 0, 1) := dk_42 (dk_at dksX1_account_4 15 rfl rfl)
theorem dX1_account_139 : decode cX1_account 139 = .ok (.invokevirtual 485, 3) := dk_182 1 229 (dk_at dksX1_account_4 16 rfl rfl)
theorem dX1_account_142 : decode cX1_account 142 = .ok (.ireturn, 1) := dk_172 (dk_at dksX1_account_4 19 rfl rfl)
theorem dX1_account_143 : decode cX1_account 143 = .ok (.aload_n 0, 1) := dk_42 (dk_at dksX1_account_4 20 rfl rfl)
theorem dX1_account_144 : decode cX1_account 144 = .ok (.getfield 10, 3) := dk_180 0 10 (dk_at dksX1_account_4 21 rfl rfl)
theorem dX1_account_147 : decode cX1_account 147 = .ok (.getfield 167, 3) := dk_180 0 167 (dk_at dksX1_account_5 0 rfl rfl)
theorem dX1_account_150 : decode cX1_account 150 = .ok (.ireturn, 1) := dk_172 (dk_at dksX1_account_5 3 rfl rfl)
theorem dX1_account_151 : decode cX1_account 151 = .ok (.aload_n 0, 1) := dk_42 (dk_at dksX1_account_5 4 rfl rfl)
theorem dX1_account_152 : decode cX1_account 152 = .ok (.getfield 10, 3) := dk_180 0 10 (dk_at dksX1_account_5 5 rfl rfl)
theorem dX1_account_155 : decode cX1_account 155 = .ok (.getfield 122, 3) := dk_180 0 122 (dk_at dksX1_account_5 8 rfl rfl)
theorem dX1_account_158 : decode cX1_account 158 = .ok (.ireturn, 1) := dk_172 (dk_at dksX1_account_5 11 rfl rfl)
theorem dX1_account_159 : decode cX1_account 159 = .ok (.aload_n 0, 1) := dk_42 (dk_at dksX1_account_5 12 rfl rfl)
theorem dX1_account_160 : decode cX1_account 160 = .ok (.invokevirtual 487, 3) := dk_182 1 231 (dk_at dksX1_account_5 13 rfl rfl)
theorem dX1_account_163 : decode cX1_account 163 = .ok (.ireturn, 1) := dk_172 (dk_at dksX1_account_5 16 rfl rfl)
theorem dX1_account_164 : decode cX1_account 164 = .ok (.aload_n 0, 1) := dk_42 (dk_at dksX1_account_5 17 rfl rfl)
theorem dX1_account_165 : decode cX1_account 165 = .ok (.invokevirtual 490, 3) := dk_182 1 234 (dk_at dksX1_account_5 18 rfl rfl)
theorem dX1_account_168 : decode cX1_account 168 = .ok (.ireturn, 1) := dk_172 (dk_at dksX1_account_5 21 rfl rfl)
theorem dX1_account_169 : decode cX1_account 169 = .ok (.aload_n 0, 1) := dk_42 (dk_at dksX1_account_5 22 rfl rfl)
theorem dX1_account_170 : decode cX1_account 170 = .ok (.getfield 26, 3) := dk_180 0 26 (dk_at dksX1_account_6 0 rfl rfl)
theorem dX1_account_173 : decode cX1_account 173 = .ok (.invokevirtual 401, 3) := dk_182 1 145 (dk_at dksX1_account_6 3 rfl rfl)
theorem dX1_account_176 : decode cX1_account 176 = .ok (.ireturn, 1) := dk_172 (dk_at dksX1_account_6 6 rfl rfl)
theorem dX1_account_177 : decode cX1_account 177 = .ok (.aload_n 0, 1) := dk_42 (dk_at dksX1_account_6 7 rfl rfl)
theorem dX1_account_178 : decode cX1_account 178 = .ok (.getfield 19, 3) := dk_180 0 19 (dk_at dksX1_account_6 8 rfl rfl)
theorem dX1_account_181 : decode cX1_account 181 = .ok (.invokevirtual 85, 3) := dk_182 0 85 (dk_at dksX1_account_6 11 rfl rfl)
theorem dX1_account_184 : decode cX1_account 184 = .ok (.ireturn, 1) := dk_172 (dk_at dksX1_account_6 14 rfl rfl)
def dkwX1_sacks_0 : List UInt8 := [187, 1, 205, 89, 42, 183, 1, 207, 42, 180, 0, 10, 180, 0, 104, 182, 1, 208, 172]
abbrev dktX1_sacks_0 : List UInt8 := dkwX1_sacks_0 ++ []
theorem dksX1_sacks_0 : cX1_sacks.data.toList.drop 0 = dktX1_sacks_0 := by decide +kernel
theorem dX1_sacks_0 : decode cX1_sacks 0 = .ok (.new 461, 3) := dk_187 1 205 (dk_at dksX1_sacks_0 0 rfl rfl)
theorem dX1_sacks_3 : decode cX1_sacks 3 = .ok (.dup, 1) := dk_89 (dk_at dksX1_sacks_0 3 rfl rfl)
theorem dX1_sacks_4 : decode cX1_sacks 4 = .ok (.aload_n 0, 1) := dk_42 (dk_at dksX1_sacks_0 4 rfl rfl)
theorem dX1_sacks_5 : decode cX1_sacks 5 = .ok (.invokespecial 463, 3) := dk_183 1 207 (dk_at dksX1_sacks_0 5 rfl rfl)
theorem dX1_sacks_8 : decode cX1_sacks 8 = .ok (.aload_n 0, 1) := dk_42 (dk_at dksX1_sacks_0 8 rfl rfl)
theorem dX1_sacks_9 : decode cX1_sacks 9 = .ok (.getfield 10, 3) := dk_180 0 10 (dk_at dksX1_sacks_0 9 rfl rfl)
theorem dX1_sacks_12 : decode cX1_sacks 12 = .ok (.getfield 104, 3) := dk_180 0 104 (dk_at dksX1_sacks_0 12 rfl rfl)
theorem dX1_sacks_15 : decode cX1_sacks 15 = .ok (.invokevirtual 464, 3) := dk_182 1 208 (dk_at dksX1_sacks_0 15 rfl rfl)
theorem dX1_sacks_18 : decode cX1_sacks 18 = .ok (.ireturn, 1) := dk_172 (dk_at dksX1_sacks_0 18 rfl rfl)
def dkwX1_seals_0 : List UInt8 := [187, 1, 212, 89, 42, 183, 1, 214, 42, 180, 0, 10, 180, 0, 104, 182, 1, 215, 172]
abbrev dktX1_seals_0 : List UInt8 := dkwX1_seals_0 ++ []
theorem dksX1_seals_0 : cX1_seals.data.toList.drop 0 = dktX1_seals_0 := by decide +kernel
theorem dX1_seals_0 : decode cX1_seals 0 = .ok (.new 468, 3) := dk_187 1 212 (dk_at dksX1_seals_0 0 rfl rfl)
theorem dX1_seals_3 : decode cX1_seals 3 = .ok (.dup, 1) := dk_89 (dk_at dksX1_seals_0 3 rfl rfl)
theorem dX1_seals_4 : decode cX1_seals 4 = .ok (.aload_n 0, 1) := dk_42 (dk_at dksX1_seals_0 4 rfl rfl)
theorem dX1_seals_5 : decode cX1_seals 5 = .ok (.invokespecial 470, 3) := dk_183 1 214 (dk_at dksX1_seals_0 5 rfl rfl)
theorem dX1_seals_8 : decode cX1_seals 8 = .ok (.aload_n 0, 1) := dk_42 (dk_at dksX1_seals_0 8 rfl rfl)
theorem dX1_seals_9 : decode cX1_seals 9 = .ok (.getfield 10, 3) := dk_180 0 10 (dk_at dksX1_seals_0 9 rfl rfl)
theorem dX1_seals_12 : decode cX1_seals 12 = .ok (.getfield 104, 3) := dk_180 0 104 (dk_at dksX1_seals_0 12 rfl rfl)
theorem dX1_seals_15 : decode cX1_seals 15 = .ok (.invokevirtual 471, 3) := dk_182 1 215 (dk_at dksX1_seals_0 15 rfl rfl)
theorem dX1_seals_18 : decode cX1_seals 18 = .ok (.ireturn, 1) := dk_172 (dk_at dksX1_seals_0 18 rfl rfl)
def dkwX1_farms_2 : List UInt8 := [27, 172]
abbrev dktX1_farms_2 : List UInt8 := dkwX1_farms_2 ++ []
def dkwX1_farms_1 : List UInt8 := [21, 4, 46, 54, 5, 27, 21, 5, 158, 0, 7, 4, 167, 0, 4, 3, 96, 60, 132, 4, 1, 167, 255, 228]
abbrev dktX1_farms_1 : List UInt8 := dkwX1_farms_1 ++ dktX1_farms_2
def dkwX1_farms_0 : List UInt8 := [3, 60, 42, 180, 0, 10, 180, 0, 147, 77, 44, 190, 62, 3, 54, 4, 21, 4, 29, 162, 0, 28, 44]
abbrev dktX1_farms_0 : List UInt8 := dkwX1_farms_0 ++ dktX1_farms_1
theorem dksX1_farms_0 : cX1_farms.data.toList.drop 0 = dktX1_farms_0 := by decide +kernel
theorem dksX1_farms_1 : cX1_farms.data.toList.drop 23 = dktX1_farms_1 := dk_seg dksX1_farms_0 23 rfl rfl
theorem dksX1_farms_2 : cX1_farms.data.toList.drop 47 = dktX1_farms_2 := dk_seg dksX1_farms_1 24 rfl rfl
theorem dX1_farms_0 : decode cX1_farms 0 = .ok (.iconst 0, 1) := dk_3 (dk_at dksX1_farms_0 0 rfl rfl)
theorem dX1_farms_1 : decode cX1_farms 1 = .ok (.istore_n 1, 1) := dk_60 (dk_at dksX1_farms_0 1 rfl rfl)
theorem dX1_farms_2 : decode cX1_farms 2 = .ok (.aload_n 0, 1) := dk_42 (dk_at dksX1_farms_0 2 rfl rfl)
theorem dX1_farms_3 : decode cX1_farms 3 = .ok (.getfield 10, 3) := dk_180 0 10 (dk_at dksX1_farms_0 3 rfl rfl)
theorem dX1_farms_6 : decode cX1_farms 6 = .ok (.getfield 147, 3) := dk_180 0 147 (dk_at dksX1_farms_0 6 rfl rfl)
theorem dX1_farms_9 : decode cX1_farms 9 = .ok (.astore_n 2, 1) := dk_77 (dk_at dksX1_farms_0 9 rfl rfl)
theorem dX1_farms_10 : decode cX1_farms 10 = .ok (.aload_n 2, 1) := dk_44 (dk_at dksX1_farms_0 10 rfl rfl)
theorem dX1_farms_11 : decode cX1_farms 11 = .ok (.arraylength, 1) := dk_190 (dk_at dksX1_farms_0 11 rfl rfl)
theorem dX1_farms_12 : decode cX1_farms 12 = .ok (.istore_n 3, 1) := dk_62 (dk_at dksX1_farms_0 12 rfl rfl)
theorem dX1_farms_13 : decode cX1_farms 13 = .ok (.iconst 0, 1) := dk_3 (dk_at dksX1_farms_0 13 rfl rfl)
theorem dX1_farms_14 : decode cX1_farms 14 = .ok (.istore 4, 2) := dk_54 4 (dk_at dksX1_farms_0 14 rfl rfl)
theorem dX1_farms_16 : decode cX1_farms 16 = .ok (.iload 4, 2) := dk_21 4 (dk_at dksX1_farms_0 16 rfl rfl)
theorem dX1_farms_18 : decode cX1_farms 18 = .ok (.iload_n 3, 1) := dk_29 (dk_at dksX1_farms_0 18 rfl rfl)
theorem dX1_farms_19 : decode cX1_farms 19 = .ok (.if_icmp .ge 28, 3) := dk_162 0 28 (dk_at dksX1_farms_0 19 rfl rfl)
theorem dX1_farms_22 : decode cX1_farms 22 = .ok (.aload_n 2, 1) := dk_44 (dk_at dksX1_farms_0 22 rfl rfl)
theorem dX1_farms_23 : decode cX1_farms 23 = .ok (.iload 4, 2) := dk_21 4 (dk_at dksX1_farms_1 0 rfl rfl)
theorem dX1_farms_25 : decode cX1_farms 25 = .ok (.iaload, 1) := dk_46 (dk_at dksX1_farms_1 2 rfl rfl)
theorem dX1_farms_26 : decode cX1_farms 26 = .ok (.istore 5, 2) := dk_54 5 (dk_at dksX1_farms_1 3 rfl rfl)
theorem dX1_farms_28 : decode cX1_farms 28 = .ok (.iload_n 1, 1) := dk_27 (dk_at dksX1_farms_1 5 rfl rfl)
theorem dX1_farms_29 : decode cX1_farms 29 = .ok (.iload 5, 2) := dk_21 5 (dk_at dksX1_farms_1 6 rfl rfl)
theorem dX1_farms_31 : decode cX1_farms 31 = .ok (.ifCond .le 7, 3) := dk_158 0 7 (dk_at dksX1_farms_1 8 rfl rfl)
theorem dX1_farms_34 : decode cX1_farms 34 = .ok (.iconst 1, 1) := dk_4 (dk_at dksX1_farms_1 11 rfl rfl)
theorem dX1_farms_35 : decode cX1_farms 35 = .ok (.goto 4, 3) := dk_167 0 4 (dk_at dksX1_farms_1 12 rfl rfl)
theorem dX1_farms_38 : decode cX1_farms 38 = .ok (.iconst 0, 1) := dk_3 (dk_at dksX1_farms_1 15 rfl rfl)
theorem dX1_farms_39 : decode cX1_farms 39 = .ok (.iadd, 1) := dk_96 (dk_at dksX1_farms_1 16 rfl rfl)
theorem dX1_farms_40 : decode cX1_farms 40 = .ok (.istore_n 1, 1) := dk_60 (dk_at dksX1_farms_1 17 rfl rfl)
theorem dX1_farms_41 : decode cX1_farms 41 = .ok (.iinc 4 1, 3) := dk_132 4 1 (dk_at dksX1_farms_1 18 rfl rfl)
theorem dX1_farms_44 : decode cX1_farms 44 = .ok (.goto (-28), 3) := dk_167 255 228 (dk_at dksX1_farms_1 21 rfl rfl)
theorem dX1_farms_47 : decode cX1_farms 47 = .ok (.iload_n 1, 1) := dk_27 (dk_at dksX1_farms_2 0 rfl rfl)
theorem dX1_farms_48 : decode cX1_farms 48 = .ok (.ireturn, 1) := dk_172 (dk_at dksX1_farms_2 1 rfl rfl)
def dkwX1_meanGas_0 : List UInt8 := [42, 182, 1, 241, 42, 182, 1, 244, 135, 42, 180, 0, 10, 180, 0, 104, 182, 0, 108, 135, 111, 175]
abbrev dktX1_meanGas_0 : List UInt8 := dkwX1_meanGas_0 ++ []
theorem dksX1_meanGas_0 : cX1_meanGas.data.toList.drop 0 = dktX1_meanGas_0 := by decide +kernel
theorem dX1_meanGas_0 : decode cX1_meanGas 0 = .ok (.aload_n 0, 1) := dk_42 (dk_at dksX1_meanGas_0 0 rfl rfl)
theorem dX1_meanGas_1 : decode cX1_meanGas 1 = .ok (.invokevirtual 497, 3) := dk_182 1 241 (dk_at dksX1_meanGas_0 1 rfl rfl)
theorem dX1_meanGas_4 : decode cX1_meanGas 4 = .ok (.aload_n 0, 1) := dk_42 (dk_at dksX1_meanGas_0 4 rfl rfl)
theorem dX1_meanGas_5 : decode cX1_meanGas 5 = .ok (.invokevirtual 500, 3) := dk_182 1 244 (dk_at dksX1_meanGas_0 5 rfl rfl)
theorem dX1_meanGas_8 : decode cX1_meanGas 8 = .ok (.i2d, 1) := dk_135 (dk_at dksX1_meanGas_0 8 rfl rfl)
theorem dX1_meanGas_9 : decode cX1_meanGas 9 = .ok (.aload_n 0, 1) := dk_42 (dk_at dksX1_meanGas_0 9 rfl rfl)
theorem dX1_meanGas_10 : decode cX1_meanGas 10 = .ok (.getfield 10, 3) := dk_180 0 10 (dk_at dksX1_meanGas_0 10 rfl rfl)
theorem dX1_meanGas_13 : decode cX1_meanGas 13 = .ok (.getfield 104, 3) := dk_180 0 104 (dk_at dksX1_meanGas_0 13 rfl rfl)
theorem dX1_meanGas_16 : decode cX1_meanGas 16 = .ok (.invokevirtual 108, 3) := dk_182 0 108 (dk_at dksX1_meanGas_0 16 rfl rfl)
theorem dX1_meanGas_19 : decode cX1_meanGas 19 = .ok (.i2d, 1) := dk_135 (dk_at dksX1_meanGas_0 19 rfl rfl)
theorem dX1_meanGas_20 : decode cX1_meanGas 20 = .ok (.ddiv, 1) := dk_111 (dk_at dksX1_meanGas_0 20 rfl rfl)
theorem dX1_meanGas_21 : decode cX1_meanGas 21 = .ok (.dreturn, 1) := dk_175 (dk_at dksX1_meanGas_0 21 rfl rfl)
def dkwX1_mustBeSome_0 : List UInt8 := [42, 180, 0, 10, 180, 0, 104, 182, 1, 237, 153, 0, 11, 187, 1, 238, 89, 183, 1, 240, 191, 177]
abbrev dktX1_mustBeSome_0 : List UInt8 := dkwX1_mustBeSome_0 ++ []
theorem dksX1_mustBeSome_0 : cX1_mustBeSome.data.toList.drop 0 = dktX1_mustBeSome_0 := by decide +kernel
theorem dX1_mustBeSome_0 : decode cX1_mustBeSome 0 = .ok (.aload_n 0, 1) := dk_42 (dk_at dksX1_mustBeSome_0 0 rfl rfl)
theorem dX1_mustBeSome_1 : decode cX1_mustBeSome 1 = .ok (.getfield 10, 3) := dk_180 0 10 (dk_at dksX1_mustBeSome_0 1 rfl rfl)
theorem dX1_mustBeSome_4 : decode cX1_mustBeSome 4 = .ok (.getfield 104, 3) := dk_180 0 104 (dk_at dksX1_mustBeSome_0 4 rfl rfl)
theorem dX1_mustBeSome_7 : decode cX1_mustBeSome 7 = .ok (.invokevirtual 493, 3) := dk_182 1 237 (dk_at dksX1_mustBeSome_0 7 rfl rfl)
theorem dX1_mustBeSome_10 : decode cX1_mustBeSome 10 = .ok (.ifCond .eq 11, 3) := dk_153 0 11 (dk_at dksX1_mustBeSome_0 10 rfl rfl)
theorem dX1_mustBeSome_13 : decode cX1_mustBeSome 13 = .ok (.new 494, 3) := dk_187 1 238 (dk_at dksX1_mustBeSome_0 13 rfl rfl)
theorem dX1_mustBeSome_16 : decode cX1_mustBeSome 16 = .ok (.dup, 1) := dk_89 (dk_at dksX1_mustBeSome_0 16 rfl rfl)
theorem dX1_mustBeSome_17 : decode cX1_mustBeSome 17 = .ok (.invokespecial 496, 3) := dk_183 1 240 (dk_at dksX1_mustBeSome_0 17 rfl rfl)
theorem dX1_mustBeSome_20 : decode cX1_mustBeSome 20 = .ok (.athrow, 1) := dk_191 (dk_at dksX1_mustBeSome_0 20 rfl rfl)
theorem dX1_mustBeSome_21 : decode cX1_mustBeSome 21 = .ok (.return_, 1) := dk_177 (dk_at dksX1_mustBeSome_0 21 rfl rfl)
def dkwX1_gas_0 : List UInt8 := [187, 1, 216, 89, 42, 183, 1, 218, 42, 180, 0, 10, 180, 0, 104, 182, 1, 219, 172]
abbrev dktX1_gas_0 : List UInt8 := dkwX1_gas_0 ++ []
theorem dksX1_gas_0 : cX1_gas.data.toList.drop 0 = dktX1_gas_0 := by decide +kernel
theorem dX1_gas_0 : decode cX1_gas 0 = .ok (.new 472, 3) := dk_187 1 216 (dk_at dksX1_gas_0 0 rfl rfl)
theorem dX1_gas_3 : decode cX1_gas 3 = .ok (.dup, 1) := dk_89 (dk_at dksX1_gas_0 3 rfl rfl)
theorem dX1_gas_4 : decode cX1_gas 4 = .ok (.aload_n 0, 1) := dk_42 (dk_at dksX1_gas_0 4 rfl rfl)
theorem dX1_gas_5 : decode cX1_gas 5 = .ok (.invokespecial 474, 3) := dk_183 1 218 (dk_at dksX1_gas_0 5 rfl rfl)
theorem dX1_gas_8 : decode cX1_gas 8 = .ok (.aload_n 0, 1) := dk_42 (dk_at dksX1_gas_0 8 rfl rfl)
theorem dX1_gas_9 : decode cX1_gas 9 = .ok (.getfield 10, 3) := dk_180 0 10 (dk_at dksX1_gas_0 9 rfl rfl)
theorem dX1_gas_12 : decode cX1_gas 12 = .ok (.getfield 104, 3) := dk_180 0 104 (dk_at dksX1_gas_0 12 rfl rfl)
theorem dX1_gas_15 : decode cX1_gas 15 = .ok (.invokevirtual 475, 3) := dk_182 1 219 (dk_at dksX1_gas_0 15 rfl rfl)
theorem dX1_gas_18 : decode cX1_gas 18 = .ok (.ireturn, 1) := dk_172 (dk_at dksX1_gas_0 18 rfl rfl)
def dkwX1_flyingShare_1 : List UInt8 := [174]
abbrev dktX1_flyingShare_1 : List UInt8 := dkwX1_flyingShare_1 ++ []
def dkwX1_flyingShare_0 : List UInt8 := [42, 182, 1, 241, 42, 180, 0, 10, 182, 1, 220, 134, 42, 180, 0, 10, 180, 0, 104, 182, 0, 108, 134, 110]
abbrev dktX1_flyingShare_0 : List UInt8 := dkwX1_flyingShare_0 ++ dktX1_flyingShare_1
theorem dksX1_flyingShare_0 : cX1_flyingShare.data.toList.drop 0 = dktX1_flyingShare_0 := by decide +kernel
theorem dksX1_flyingShare_1 : cX1_flyingShare.data.toList.drop 24 = dktX1_flyingShare_1 := dk_seg dksX1_flyingShare_0 24 rfl rfl
theorem dX1_flyingShare_0 : decode cX1_flyingShare 0 = .ok (.aload_n 0, 1) := dk_42 (dk_at dksX1_flyingShare_0 0 rfl rfl)
theorem dX1_flyingShare_1 : decode cX1_flyingShare 1 = .ok (.invokevirtual 497, 3) := dk_182 1 241 (dk_at dksX1_flyingShare_0 1 rfl rfl)
theorem dX1_flyingShare_4 : decode cX1_flyingShare 4 = .ok (.aload_n 0, 1) := dk_42 (dk_at dksX1_flyingShare_0 4 rfl rfl)
theorem dX1_flyingShare_5 : decode cX1_flyingShare 5 = .ok (.getfield 10, 3) := dk_180 0 10 (dk_at dksX1_flyingShare_0 5 rfl rfl)
theorem dX1_flyingShare_8 : decode cX1_flyingShare 8 = .ok (.invokevirtual 476, 3) := dk_182 1 220 (dk_at dksX1_flyingShare_0 8 rfl rfl)
theorem dX1_flyingShare_11 : decode cX1_flyingShare 11 = .ok (.i2f, 1) := dk_134 (dk_at dksX1_flyingShare_0 11 rfl rfl)
theorem dX1_flyingShare_12 : decode cX1_flyingShare 12 = .ok (.aload_n 0, 1) := dk_42 (dk_at dksX1_flyingShare_0 12 rfl rfl)
theorem dX1_flyingShare_13 : decode cX1_flyingShare 13 = .ok (.getfield 10, 3) := dk_180 0 10 (dk_at dksX1_flyingShare_0 13 rfl rfl)
theorem dX1_flyingShare_16 : decode cX1_flyingShare 16 = .ok (.getfield 104, 3) := dk_180 0 104 (dk_at dksX1_flyingShare_0 16 rfl rfl)
theorem dX1_flyingShare_19 : decode cX1_flyingShare 19 = .ok (.invokevirtual 108, 3) := dk_182 0 108 (dk_at dksX1_flyingShare_0 19 rfl rfl)
theorem dX1_flyingShare_22 : decode cX1_flyingShare 22 = .ok (.i2f, 1) := dk_134 (dk_at dksX1_flyingShare_0 22 rfl rfl)
theorem dX1_flyingShare_23 : decode cX1_flyingShare 23 = .ok (.fdiv, 1) := dk_110 (dk_at dksX1_flyingShare_0 23 rfl rfl)
theorem dX1_flyingShare_24 : decode cX1_flyingShare 24 = .ok (.freturn, 1) := dk_174 (dk_at dksX1_flyingShare_1 0 rfl rfl)
def dkwX1_undo_1 : List UInt8 := [182, 1, 246, 192, 0, 7, 181, 0, 10, 42, 180, 0, 19, 182, 0, 85, 172]
abbrev dktX1_undo_1 : List UInt8 := dkwX1_undo_1 ++ []
def dkwX1_undo_0 : List UInt8 := [42, 180, 0, 19, 182, 1, 22, 154, 0, 7, 4, 167, 0, 4, 3, 184, 1, 148, 42, 42, 180, 0, 19]
abbrev dktX1_undo_0 : List UInt8 := dkwX1_undo_0 ++ dktX1_undo_1
theorem dksX1_undo_0 : cX1_undo.data.toList.drop 0 = dktX1_undo_0 := by decide +kernel
theorem dksX1_undo_1 : cX1_undo.data.toList.drop 23 = dktX1_undo_1 := dk_seg dksX1_undo_0 23 rfl rfl
theorem dX1_undo_0 : decode cX1_undo 0 = .ok (.aload_n 0, 1) := dk_42 (dk_at dksX1_undo_0 0 rfl rfl)
theorem dX1_undo_1 : decode cX1_undo 1 = .ok (.getfield 19, 3) := dk_180 0 19 (dk_at dksX1_undo_0 1 rfl rfl)
theorem dX1_undo_4 : decode cX1_undo 4 = .ok (.invokevirtual 278, 3) := dk_182 1 22 (dk_at dksX1_undo_0 4 rfl rfl)
theorem dX1_undo_7 : decode cX1_undo 7 = .ok (.ifCond .ne 7, 3) := dk_154 0 7 (dk_at dksX1_undo_0 7 rfl rfl)
theorem dX1_undo_10 : decode cX1_undo 10 = .ok (.iconst 1, 1) := dk_4 (dk_at dksX1_undo_0 10 rfl rfl)
theorem dX1_undo_11 : decode cX1_undo 11 = .ok (.goto 4, 3) := dk_167 0 4 (dk_at dksX1_undo_0 11 rfl rfl)
theorem dX1_undo_14 : decode cX1_undo 14 = .ok (.iconst 0, 1) := dk_3 (dk_at dksX1_undo_0 14 rfl rfl)
theorem dX1_undo_15 : decode cX1_undo 15 = .ok (.invokestatic 404, 3) := dk_184 1 148 (dk_at dksX1_undo_0 15 rfl rfl)
theorem dX1_undo_18 : decode cX1_undo 18 = .ok (.aload_n 0, 1) := dk_42 (dk_at dksX1_undo_0 18 rfl rfl)
theorem dX1_undo_19 : decode cX1_undo 19 = .ok (.aload_n 0, 1) := dk_42 (dk_at dksX1_undo_0 19 rfl rfl)
theorem dX1_undo_20 : decode cX1_undo 20 = .ok (.getfield 19, 3) := dk_180 0 19 (dk_at dksX1_undo_0 20 rfl rfl)
theorem dX1_undo_23 : decode cX1_undo 23 = .ok (.invokevirtual 502, 3) := dk_182 1 246 (dk_at dksX1_undo_1 0 rfl rfl)
theorem dX1_undo_26 : decode cX1_undo 26 = .ok (.checkcast 7, 3) := dk_192 0 7 (dk_at dksX1_undo_1 3 rfl rfl)
theorem dX1_undo_29 : decode cX1_undo 29 = .ok (.putfield 10, 3) := dk_181 0 10 (dk_at dksX1_undo_1 6 rfl rfl)
theorem dX1_undo_32 : decode cX1_undo 32 = .ok (.aload_n 0, 1) := dk_42 (dk_at dksX1_undo_1 9 rfl rfl)
theorem dX1_undo_33 : decode cX1_undo 33 = .ok (.getfield 19, 3) := dk_180 0 19 (dk_at dksX1_undo_1 10 rfl rfl)
theorem dX1_undo_36 : decode cX1_undo 36 = .ok (.invokevirtual 85, 3) := dk_182 0 85 (dk_at dksX1_undo_1 13 rfl rfl)
theorem dX1_undo_39 : decode cX1_undo 39 = .ok (.ireturn, 1) := dk_172 (dk_at dksX1_undo_1 16 rfl rfl)
def dkwX1_restore_1 : List UInt8 := [181, 0, 10, 42, 180, 0, 19, 182, 1, 252, 42, 180, 0, 10, 180, 0, 104, 182, 0, 108, 172]
abbrev dktX1_restore_1 : List UInt8 := dkwX1_restore_1 ++ []
def dkwX1_restore_0 : List UInt8 := [42, 180, 1, 249, 198, 0, 7, 4, 167, 0, 4, 3, 184, 1, 148, 42, 42, 180, 1, 249, 182, 0, 77]
abbrev dktX1_restore_0 : List UInt8 := dkwX1_restore_0 ++ dktX1_restore_1
theorem dksX1_restore_0 : cX1_restore.data.toList.drop 0 = dktX1_restore_0 := by decide +kernel
theorem dksX1_restore_1 : cX1_restore.data.toList.drop 23 = dktX1_restore_1 := dk_seg dksX1_restore_0 23 rfl rfl
theorem dX1_restore_0 : decode cX1_restore 0 = .ok (.aload_n 0, 1) := dk_42 (dk_at dksX1_restore_0 0 rfl rfl)
theorem dX1_restore_1 : decode cX1_restore 1 = .ok (.getfield 505, 3) := dk_180 1 249 (dk_at dksX1_restore_0 1 rfl rfl)
theorem dX1_restore_4 : decode cX1_restore 4 = .ok (.ifnull 7, 3) := dk_198 0 7 (dk_at dksX1_restore_0 4 rfl rfl)
theorem dX1_restore_7 : decode cX1_restore 7 = .ok (.iconst 1, 1) := dk_4 (dk_at dksX1_restore_0 7 rfl rfl)
theorem dX1_restore_8 : decode cX1_restore 8 = .ok (.goto 4, 3) := dk_167 0 4 (dk_at dksX1_restore_0 8 rfl rfl)
theorem dX1_restore_11 : decode cX1_restore 11 = .ok (.iconst 0, 1) := dk_3 (dk_at dksX1_restore_0 11 rfl rfl)
theorem dX1_restore_12 : decode cX1_restore 12 = .ok (.invokestatic 404, 3) := dk_184 1 148 (dk_at dksX1_restore_0 12 rfl rfl)
theorem dX1_restore_15 : decode cX1_restore 15 = .ok (.aload_n 0, 1) := dk_42 (dk_at dksX1_restore_0 15 rfl rfl)
theorem dX1_restore_16 : decode cX1_restore 16 = .ok (.aload_n 0, 1) := dk_42 (dk_at dksX1_restore_0 16 rfl rfl)
theorem dX1_restore_17 : decode cX1_restore 17 = .ok (.getfield 505, 3) := dk_180 1 249 (dk_at dksX1_restore_0 17 rfl rfl)
theorem dX1_restore_20 : decode cX1_restore 20 = .ok (.invokevirtual 77, 3) := dk_182 0 77 (dk_at dksX1_restore_0 20 rfl rfl)
theorem dX1_restore_23 : decode cX1_restore 23 = .ok (.putfield 10, 3) := dk_181 0 10 (dk_at dksX1_restore_1 0 rfl rfl)
theorem dX1_restore_26 : decode cX1_restore 26 = .ok (.aload_n 0, 1) := dk_42 (dk_at dksX1_restore_1 3 rfl rfl)
theorem dX1_restore_27 : decode cX1_restore 27 = .ok (.getfield 19, 3) := dk_180 0 19 (dk_at dksX1_restore_1 4 rfl rfl)
theorem dX1_restore_30 : decode cX1_restore 30 = .ok (.invokevirtual 508, 3) := dk_182 1 252 (dk_at dksX1_restore_1 7 rfl rfl)
theorem dX1_restore_33 : decode cX1_restore 33 = .ok (.aload_n 0, 1) := dk_42 (dk_at dksX1_restore_1 10 rfl rfl)
theorem dX1_restore_34 : decode cX1_restore 34 = .ok (.getfield 10, 3) := dk_180 0 10 (dk_at dksX1_restore_1 11 rfl rfl)
theorem dX1_restore_37 : decode cX1_restore 37 = .ok (.getfield 104, 3) := dk_180 0 104 (dk_at dksX1_restore_1 14 rfl rfl)
theorem dX1_restore_40 : decode cX1_restore 40 = .ok (.invokevirtual 108, 3) := dk_182 0 108 (dk_at dksX1_restore_1 17 rfl rfl)
theorem dX1_restore_43 : decode cX1_restore 43 = .ok (.ireturn, 1) := dk_172 (dk_at dksX1_restore_1 20 rfl rfl)
def dkwX0_enter_0 : List UInt8 := [25, 5, 3, 42, 27, 28, 29, 21, 4, 182, 0, 7, 133, 80, 167, 0, 7, 58, 6, 4, 172, 3, 172]
abbrev dktX0_enter_0 : List UInt8 := dkwX0_enter_0 ++ []
theorem dksX0_enter_0 : cX0_enter.data.toList.drop 0 = dktX0_enter_0 := by decide +kernel
theorem dX0_enter_0 : decode cX0_enter 0 = .ok (.aload 5, 2) := dk_25 5 (dk_at dksX0_enter_0 0 rfl rfl)
theorem dX0_enter_2 : decode cX0_enter 2 = .ok (.iconst 0, 1) := dk_3 (dk_at dksX0_enter_0 2 rfl rfl)
theorem dX0_enter_3 : decode cX0_enter 3 = .ok (.aload_n 0, 1) := dk_42 (dk_at dksX0_enter_0 3 rfl rfl)
theorem dX0_enter_4 : decode cX0_enter 4 = .ok (.iload_n 1, 1) := dk_27 (dk_at dksX0_enter_0 4 rfl rfl)
theorem dX0_enter_5 : decode cX0_enter 5 = .ok (.iload_n 2, 1) := dk_28 (dk_at dksX0_enter_0 5 rfl rfl)
theorem dX0_enter_6 : decode cX0_enter 6 = .ok (.iload_n 3, 1) := dk_29 (dk_at dksX0_enter_0 6 rfl rfl)
theorem dX0_enter_7 : decode cX0_enter 7 = .ok (.iload 4, 2) := dk_21 4 (dk_at dksX0_enter_0 7 rfl rfl)
theorem dX0_enter_9 : decode cX0_enter 9 = .ok (.invokevirtual 7, 3) := dk_182 0 7 (dk_at dksX0_enter_0 9 rfl rfl)
theorem dX0_enter_12 : decode cX0_enter 12 = .ok (.i2l, 1) := dk_133 (dk_at dksX0_enter_0 12 rfl rfl)
theorem dX0_enter_13 : decode cX0_enter 13 = .ok (.lastore, 1) := dk_80 (dk_at dksX0_enter_0 13 rfl rfl)
theorem dX0_enter_14 : decode cX0_enter 14 = .ok (.goto 7, 3) := dk_167 0 7 (dk_at dksX0_enter_0 14 rfl rfl)
theorem dX0_enter_17 : decode cX0_enter 17 = .ok (.astore 6, 2) := dk_58 6 (dk_at dksX0_enter_0 17 rfl rfl)
theorem dX0_enter_19 : decode cX0_enter 19 = .ok (.iconst 1, 1) := dk_4 (dk_at dksX0_enter_0 19 rfl rfl)
theorem dX0_enter_20 : decode cX0_enter 20 = .ok (.ireturn, 1) := dk_172 (dk_at dksX0_enter_0 20 rfl rfl)
theorem dX0_enter_21 : decode cX0_enter 21 = .ok (.iconst 0, 1) := dk_3 (dk_at dksX0_enter_0 21 rfl rfl)
theorem dX0_enter_22 : decode cX0_enter 22 = .ok (.ireturn, 1) := dk_172 (dk_at dksX0_enter_0 22 rfl rfl)
def dkwX0_spire_0 : List UInt8 := [25, 4, 3, 42, 27, 28, 29, 182, 0, 15, 133, 80, 167, 0, 7, 58, 5, 4, 172, 3, 172]
abbrev dktX0_spire_0 : List UInt8 := dkwX0_spire_0 ++ []
theorem dksX0_spire_0 : cX0_spire.data.toList.drop 0 = dktX0_spire_0 := by decide +kernel
theorem dX0_spire_0 : decode cX0_spire 0 = .ok (.aload 4, 2) := dk_25 4 (dk_at dksX0_spire_0 0 rfl rfl)
theorem dX0_spire_2 : decode cX0_spire 2 = .ok (.iconst 0, 1) := dk_3 (dk_at dksX0_spire_0 2 rfl rfl)
theorem dX0_spire_3 : decode cX0_spire 3 = .ok (.aload_n 0, 1) := dk_42 (dk_at dksX0_spire_0 3 rfl rfl)
theorem dX0_spire_4 : decode cX0_spire 4 = .ok (.iload_n 1, 1) := dk_27 (dk_at dksX0_spire_0 4 rfl rfl)
theorem dX0_spire_5 : decode cX0_spire 5 = .ok (.iload_n 2, 1) := dk_28 (dk_at dksX0_spire_0 5 rfl rfl)
theorem dX0_spire_6 : decode cX0_spire 6 = .ok (.iload_n 3, 1) := dk_29 (dk_at dksX0_spire_0 6 rfl rfl)
theorem dX0_spire_7 : decode cX0_spire 7 = .ok (.invokevirtual 15, 3) := dk_182 0 15 (dk_at dksX0_spire_0 7 rfl rfl)
theorem dX0_spire_10 : decode cX0_spire 10 = .ok (.i2l, 1) := dk_133 (dk_at dksX0_spire_0 10 rfl rfl)
theorem dX0_spire_11 : decode cX0_spire 11 = .ok (.lastore, 1) := dk_80 (dk_at dksX0_spire_0 11 rfl rfl)
theorem dX0_spire_12 : decode cX0_spire 12 = .ok (.goto 7, 3) := dk_167 0 7 (dk_at dksX0_spire_0 12 rfl rfl)
theorem dX0_spire_15 : decode cX0_spire 15 = .ok (.astore 5, 2) := dk_58 5 (dk_at dksX0_spire_0 15 rfl rfl)
theorem dX0_spire_17 : decode cX0_spire 17 = .ok (.iconst 1, 1) := dk_4 (dk_at dksX0_spire_0 17 rfl rfl)
theorem dX0_spire_18 : decode cX0_spire 18 = .ok (.ireturn, 1) := dk_172 (dk_at dksX0_spire_0 18 rfl rfl)
theorem dX0_spire_19 : decode cX0_spire 19 = .ok (.iconst 0, 1) := dk_3 (dk_at dksX0_spire_0 19 rfl rfl)
theorem dX0_spire_20 : decode cX0_spire 20 = .ok (.ireturn, 1) := dk_172 (dk_at dksX0_spire_0 20 rfl rfl)
def dkwX0_farm_0 : List UInt8 := [25, 4, 3, 42, 27, 28, 29, 182, 0, 19, 133, 80, 167, 0, 7, 58, 5, 4, 172, 3, 172]
abbrev dktX0_farm_0 : List UInt8 := dkwX0_farm_0 ++ []
theorem dksX0_farm_0 : cX0_farm.data.toList.drop 0 = dktX0_farm_0 := by decide +kernel
theorem dX0_farm_0 : decode cX0_farm 0 = .ok (.aload 4, 2) := dk_25 4 (dk_at dksX0_farm_0 0 rfl rfl)
theorem dX0_farm_2 : decode cX0_farm 2 = .ok (.iconst 0, 1) := dk_3 (dk_at dksX0_farm_0 2 rfl rfl)
theorem dX0_farm_3 : decode cX0_farm 3 = .ok (.aload_n 0, 1) := dk_42 (dk_at dksX0_farm_0 3 rfl rfl)
theorem dX0_farm_4 : decode cX0_farm 4 = .ok (.iload_n 1, 1) := dk_27 (dk_at dksX0_farm_0 4 rfl rfl)
theorem dX0_farm_5 : decode cX0_farm 5 = .ok (.iload_n 2, 1) := dk_28 (dk_at dksX0_farm_0 5 rfl rfl)
theorem dX0_farm_6 : decode cX0_farm 6 = .ok (.iload_n 3, 1) := dk_29 (dk_at dksX0_farm_0 6 rfl rfl)
theorem dX0_farm_7 : decode cX0_farm 7 = .ok (.invokevirtual 19, 3) := dk_182 0 19 (dk_at dksX0_farm_0 7 rfl rfl)
theorem dX0_farm_10 : decode cX0_farm 10 = .ok (.i2l, 1) := dk_133 (dk_at dksX0_farm_0 10 rfl rfl)
theorem dX0_farm_11 : decode cX0_farm 11 = .ok (.lastore, 1) := dk_80 (dk_at dksX0_farm_0 11 rfl rfl)
theorem dX0_farm_12 : decode cX0_farm 12 = .ok (.goto 7, 3) := dk_167 0 7 (dk_at dksX0_farm_0 12 rfl rfl)
theorem dX0_farm_15 : decode cX0_farm 15 = .ok (.astore 5, 2) := dk_58 5 (dk_at dksX0_farm_0 15 rfl rfl)
theorem dX0_farm_17 : decode cX0_farm 17 = .ok (.iconst 1, 1) := dk_4 (dk_at dksX0_farm_0 17 rfl rfl)
theorem dX0_farm_18 : decode cX0_farm 18 = .ok (.ireturn, 1) := dk_172 (dk_at dksX0_farm_0 18 rfl rfl)
theorem dX0_farm_19 : decode cX0_farm 19 = .ok (.iconst 0, 1) := dk_3 (dk_at dksX0_farm_0 19 rfl rfl)
theorem dX0_farm_20 : decode cX0_farm 20 = .ok (.ireturn, 1) := dk_172 (dk_at dksX0_farm_0 20 rfl rfl)
def dkwX0_wind_0 : List UInt8 := [45, 3, 42, 27, 28, 182, 0, 22, 133, 80, 167, 0, 7, 58, 4, 4, 172, 3, 172]
abbrev dktX0_wind_0 : List UInt8 := dkwX0_wind_0 ++ []
theorem dksX0_wind_0 : cX0_wind.data.toList.drop 0 = dktX0_wind_0 := by decide +kernel
theorem dX0_wind_0 : decode cX0_wind 0 = .ok (.aload_n 3, 1) := dk_45 (dk_at dksX0_wind_0 0 rfl rfl)
theorem dX0_wind_1 : decode cX0_wind 1 = .ok (.iconst 0, 1) := dk_3 (dk_at dksX0_wind_0 1 rfl rfl)
theorem dX0_wind_2 : decode cX0_wind 2 = .ok (.aload_n 0, 1) := dk_42 (dk_at dksX0_wind_0 2 rfl rfl)
theorem dX0_wind_3 : decode cX0_wind 3 = .ok (.iload_n 1, 1) := dk_27 (dk_at dksX0_wind_0 3 rfl rfl)
theorem dX0_wind_4 : decode cX0_wind 4 = .ok (.iload_n 2, 1) := dk_28 (dk_at dksX0_wind_0 4 rfl rfl)
theorem dX0_wind_5 : decode cX0_wind 5 = .ok (.invokevirtual 22, 3) := dk_182 0 22 (dk_at dksX0_wind_0 5 rfl rfl)
theorem dX0_wind_8 : decode cX0_wind 8 = .ok (.i2l, 1) := dk_133 (dk_at dksX0_wind_0 8 rfl rfl)
theorem dX0_wind_9 : decode cX0_wind 9 = .ok (.lastore, 1) := dk_80 (dk_at dksX0_wind_0 9 rfl rfl)
theorem dX0_wind_10 : decode cX0_wind 10 = .ok (.goto 7, 3) := dk_167 0 7 (dk_at dksX0_wind_0 10 rfl rfl)
theorem dX0_wind_13 : decode cX0_wind 13 = .ok (.astore 4, 2) := dk_58 4 (dk_at dksX0_wind_0 13 rfl rfl)
theorem dX0_wind_15 : decode cX0_wind 15 = .ok (.iconst 1, 1) := dk_4 (dk_at dksX0_wind_0 15 rfl rfl)
theorem dX0_wind_16 : decode cX0_wind 16 = .ok (.ireturn, 1) := dk_172 (dk_at dksX0_wind_0 16 rfl rfl)
theorem dX0_wind_17 : decode cX0_wind 17 = .ok (.iconst 0, 1) := dk_3 (dk_at dksX0_wind_0 17 rfl rfl)
theorem dX0_wind_18 : decode cX0_wind 18 = .ok (.ireturn, 1) := dk_172 (dk_at dksX0_wind_0 18 rfl rfl)
def dkwX0_drop_0 : List UInt8 := [45, 3, 42, 27, 28, 182, 0, 26, 133, 80, 167, 0, 7, 58, 4, 4, 172, 3, 172]
abbrev dktX0_drop_0 : List UInt8 := dkwX0_drop_0 ++ []
theorem dksX0_drop_0 : cX0_drop.data.toList.drop 0 = dktX0_drop_0 := by decide +kernel
theorem dX0_drop_0 : decode cX0_drop 0 = .ok (.aload_n 3, 1) := dk_45 (dk_at dksX0_drop_0 0 rfl rfl)
theorem dX0_drop_1 : decode cX0_drop 1 = .ok (.iconst 0, 1) := dk_3 (dk_at dksX0_drop_0 1 rfl rfl)
theorem dX0_drop_2 : decode cX0_drop 2 = .ok (.aload_n 0, 1) := dk_42 (dk_at dksX0_drop_0 2 rfl rfl)
theorem dX0_drop_3 : decode cX0_drop 3 = .ok (.iload_n 1, 1) := dk_27 (dk_at dksX0_drop_0 3 rfl rfl)
theorem dX0_drop_4 : decode cX0_drop 4 = .ok (.iload_n 2, 1) := dk_28 (dk_at dksX0_drop_0 4 rfl rfl)
theorem dX0_drop_5 : decode cX0_drop 5 = .ok (.invokevirtual 26, 3) := dk_182 0 26 (dk_at dksX0_drop_0 5 rfl rfl)
theorem dX0_drop_8 : decode cX0_drop 8 = .ok (.i2l, 1) := dk_133 (dk_at dksX0_drop_0 8 rfl rfl)
theorem dX0_drop_9 : decode cX0_drop 9 = .ok (.lastore, 1) := dk_80 (dk_at dksX0_drop_0 9 rfl rfl)
theorem dX0_drop_10 : decode cX0_drop 10 = .ok (.goto 7, 3) := dk_167 0 7 (dk_at dksX0_drop_0 10 rfl rfl)
theorem dX0_drop_13 : decode cX0_drop 13 = .ok (.astore 4, 2) := dk_58 4 (dk_at dksX0_drop_0 13 rfl rfl)
theorem dX0_drop_15 : decode cX0_drop 15 = .ok (.iconst 1, 1) := dk_4 (dk_at dksX0_drop_0 15 rfl rfl)
theorem dX0_drop_16 : decode cX0_drop 16 = .ok (.ireturn, 1) := dk_172 (dk_at dksX0_drop_0 16 rfl rfl)
theorem dX0_drop_17 : decode cX0_drop 17 = .ok (.iconst 0, 1) := dk_3 (dk_at dksX0_drop_0 17 rfl rfl)
theorem dX0_drop_18 : decode cX0_drop 18 = .ok (.ireturn, 1) := dk_172 (dk_at dksX0_drop_0 18 rfl rfl)
def dkwX0_vent_0 : List UInt8 := [45, 3, 42, 27, 28, 182, 0, 29, 133, 80, 167, 0, 7, 58, 4, 4, 172, 3, 172]
abbrev dktX0_vent_0 : List UInt8 := dkwX0_vent_0 ++ []
theorem dksX0_vent_0 : cX0_vent.data.toList.drop 0 = dktX0_vent_0 := by decide +kernel
theorem dX0_vent_0 : decode cX0_vent 0 = .ok (.aload_n 3, 1) := dk_45 (dk_at dksX0_vent_0 0 rfl rfl)
theorem dX0_vent_1 : decode cX0_vent 1 = .ok (.iconst 0, 1) := dk_3 (dk_at dksX0_vent_0 1 rfl rfl)
theorem dX0_vent_2 : decode cX0_vent 2 = .ok (.aload_n 0, 1) := dk_42 (dk_at dksX0_vent_0 2 rfl rfl)
theorem dX0_vent_3 : decode cX0_vent 3 = .ok (.iload_n 1, 1) := dk_27 (dk_at dksX0_vent_0 3 rfl rfl)
theorem dX0_vent_4 : decode cX0_vent 4 = .ok (.iload_n 2, 1) := dk_28 (dk_at dksX0_vent_0 4 rfl rfl)
theorem dX0_vent_5 : decode cX0_vent 5 = .ok (.invokevirtual 29, 3) := dk_182 0 29 (dk_at dksX0_vent_0 5 rfl rfl)
theorem dX0_vent_8 : decode cX0_vent 8 = .ok (.i2l, 1) := dk_133 (dk_at dksX0_vent_0 8 rfl rfl)
theorem dX0_vent_9 : decode cX0_vent 9 = .ok (.lastore, 1) := dk_80 (dk_at dksX0_vent_0 9 rfl rfl)
theorem dX0_vent_10 : decode cX0_vent 10 = .ok (.goto 7, 3) := dk_167 0 7 (dk_at dksX0_vent_0 10 rfl rfl)
theorem dX0_vent_13 : decode cX0_vent 13 = .ok (.astore 4, 2) := dk_58 4 (dk_at dksX0_vent_0 13 rfl rfl)
theorem dX0_vent_15 : decode cX0_vent 15 = .ok (.iconst 1, 1) := dk_4 (dk_at dksX0_vent_0 15 rfl rfl)
theorem dX0_vent_16 : decode cX0_vent 16 = .ok (.ireturn, 1) := dk_172 (dk_at dksX0_vent_0 16 rfl rfl)
theorem dX0_vent_17 : decode cX0_vent 17 = .ok (.iconst 0, 1) := dk_3 (dk_at dksX0_vent_0 17 rfl rfl)
theorem dX0_vent_18 : decode cX0_vent 18 = .ok (.ireturn, 1) := dk_172 (dk_at dksX0_vent_0 18 rfl rfl)
def dkwX0_trade_0 : List UInt8 := [25, 4, 3, 42, 27, 28, 29, 182, 0, 32, 133, 80, 167, 0, 7, 58, 5, 4, 172, 3, 172]
abbrev dktX0_trade_0 : List UInt8 := dkwX0_trade_0 ++ []
theorem dksX0_trade_0 : cX0_trade.data.toList.drop 0 = dktX0_trade_0 := by decide +kernel
theorem dX0_trade_0 : decode cX0_trade 0 = .ok (.aload 4, 2) := dk_25 4 (dk_at dksX0_trade_0 0 rfl rfl)
theorem dX0_trade_2 : decode cX0_trade 2 = .ok (.iconst 0, 1) := dk_3 (dk_at dksX0_trade_0 2 rfl rfl)
theorem dX0_trade_3 : decode cX0_trade 3 = .ok (.aload_n 0, 1) := dk_42 (dk_at dksX0_trade_0 3 rfl rfl)
theorem dX0_trade_4 : decode cX0_trade 4 = .ok (.iload_n 1, 1) := dk_27 (dk_at dksX0_trade_0 4 rfl rfl)
theorem dX0_trade_5 : decode cX0_trade 5 = .ok (.iload_n 2, 1) := dk_28 (dk_at dksX0_trade_0 5 rfl rfl)
theorem dX0_trade_6 : decode cX0_trade 6 = .ok (.iload_n 3, 1) := dk_29 (dk_at dksX0_trade_0 6 rfl rfl)
theorem dX0_trade_7 : decode cX0_trade 7 = .ok (.invokevirtual 32, 3) := dk_182 0 32 (dk_at dksX0_trade_0 7 rfl rfl)
theorem dX0_trade_10 : decode cX0_trade 10 = .ok (.i2l, 1) := dk_133 (dk_at dksX0_trade_0 10 rfl rfl)
theorem dX0_trade_11 : decode cX0_trade 11 = .ok (.lastore, 1) := dk_80 (dk_at dksX0_trade_0 11 rfl rfl)
theorem dX0_trade_12 : decode cX0_trade 12 = .ok (.goto 7, 3) := dk_167 0 7 (dk_at dksX0_trade_0 12 rfl rfl)
theorem dX0_trade_15 : decode cX0_trade 15 = .ok (.astore 5, 2) := dk_58 5 (dk_at dksX0_trade_0 15 rfl rfl)
theorem dX0_trade_17 : decode cX0_trade 17 = .ok (.iconst 1, 1) := dk_4 (dk_at dksX0_trade_0 17 rfl rfl)
theorem dX0_trade_18 : decode cX0_trade 18 = .ok (.ireturn, 1) := dk_172 (dk_at dksX0_trade_0 18 rfl rfl)
theorem dX0_trade_19 : decode cX0_trade 19 = .ok (.iconst 0, 1) := dk_3 (dk_at dksX0_trade_0 19 rfl rfl)
theorem dX0_trade_20 : decode cX0_trade 20 = .ok (.ireturn, 1) := dk_172 (dk_at dksX0_trade_0 20 rfl rfl)
def dkwX0_seal_0 : List UInt8 := [45, 3, 42, 27, 28, 182, 0, 35, 133, 80, 167, 0, 7, 58, 4, 4, 172, 3, 172]
abbrev dktX0_seal_0 : List UInt8 := dkwX0_seal_0 ++ []
theorem dksX0_seal_0 : cX0_seal.data.toList.drop 0 = dktX0_seal_0 := by decide +kernel
theorem dX0_seal_0 : decode cX0_seal 0 = .ok (.aload_n 3, 1) := dk_45 (dk_at dksX0_seal_0 0 rfl rfl)
theorem dX0_seal_1 : decode cX0_seal 1 = .ok (.iconst 0, 1) := dk_3 (dk_at dksX0_seal_0 1 rfl rfl)
theorem dX0_seal_2 : decode cX0_seal 2 = .ok (.aload_n 0, 1) := dk_42 (dk_at dksX0_seal_0 2 rfl rfl)
theorem dX0_seal_3 : decode cX0_seal 3 = .ok (.iload_n 1, 1) := dk_27 (dk_at dksX0_seal_0 3 rfl rfl)
theorem dX0_seal_4 : decode cX0_seal 4 = .ok (.iload_n 2, 1) := dk_28 (dk_at dksX0_seal_0 4 rfl rfl)
theorem dX0_seal_5 : decode cX0_seal 5 = .ok (.invokevirtual 35, 3) := dk_182 0 35 (dk_at dksX0_seal_0 5 rfl rfl)
theorem dX0_seal_8 : decode cX0_seal 8 = .ok (.i2l, 1) := dk_133 (dk_at dksX0_seal_0 8 rfl rfl)
theorem dX0_seal_9 : decode cX0_seal 9 = .ok (.lastore, 1) := dk_80 (dk_at dksX0_seal_0 9 rfl rfl)
theorem dX0_seal_10 : decode cX0_seal 10 = .ok (.goto 7, 3) := dk_167 0 7 (dk_at dksX0_seal_0 10 rfl rfl)
theorem dX0_seal_13 : decode cX0_seal 13 = .ok (.astore 4, 2) := dk_58 4 (dk_at dksX0_seal_0 13 rfl rfl)
theorem dX0_seal_15 : decode cX0_seal 15 = .ok (.iconst 1, 1) := dk_4 (dk_at dksX0_seal_0 15 rfl rfl)
theorem dX0_seal_16 : decode cX0_seal 16 = .ok (.ireturn, 1) := dk_172 (dk_at dksX0_seal_0 16 rfl rfl)
theorem dX0_seal_17 : decode cX0_seal 17 = .ok (.iconst 0, 1) := dk_3 (dk_at dksX0_seal_0 17 rfl rfl)
theorem dX0_seal_18 : decode cX0_seal 18 = .ok (.ireturn, 1) := dk_172 (dk_at dksX0_seal_0 18 rfl rfl)
def dkwX0_hour_0 : List UInt8 := [44, 3, 42, 27, 182, 0, 38, 133, 80, 167, 0, 6, 78, 4, 172, 3, 172]
abbrev dktX0_hour_0 : List UInt8 := dkwX0_hour_0 ++ []
theorem dksX0_hour_0 : cX0_hour.data.toList.drop 0 = dktX0_hour_0 := by decide +kernel
theorem dX0_hour_0 : decode cX0_hour 0 = .ok (.aload_n 2, 1) := dk_44 (dk_at dksX0_hour_0 0 rfl rfl)
theorem dX0_hour_1 : decode cX0_hour 1 = .ok (.iconst 0, 1) := dk_3 (dk_at dksX0_hour_0 1 rfl rfl)
theorem dX0_hour_2 : decode cX0_hour 2 = .ok (.aload_n 0, 1) := dk_42 (dk_at dksX0_hour_0 2 rfl rfl)
theorem dX0_hour_3 : decode cX0_hour 3 = .ok (.iload_n 1, 1) := dk_27 (dk_at dksX0_hour_0 3 rfl rfl)
theorem dX0_hour_4 : decode cX0_hour 4 = .ok (.invokevirtual 38, 3) := dk_182 0 38 (dk_at dksX0_hour_0 4 rfl rfl)
theorem dX0_hour_7 : decode cX0_hour 7 = .ok (.i2l, 1) := dk_133 (dk_at dksX0_hour_0 7 rfl rfl)
theorem dX0_hour_8 : decode cX0_hour 8 = .ok (.lastore, 1) := dk_80 (dk_at dksX0_hour_0 8 rfl rfl)
theorem dX0_hour_9 : decode cX0_hour 9 = .ok (.goto 6, 3) := dk_167 0 6 (dk_at dksX0_hour_0 9 rfl rfl)
theorem dX0_hour_12 : decode cX0_hour 12 = .ok (.astore_n 3, 1) := dk_78 (dk_at dksX0_hour_0 12 rfl rfl)
theorem dX0_hour_13 : decode cX0_hour 13 = .ok (.iconst 1, 1) := dk_4 (dk_at dksX0_hour_0 13 rfl rfl)
theorem dX0_hour_14 : decode cX0_hour 14 = .ok (.ireturn, 1) := dk_172 (dk_at dksX0_hour_0 14 rfl rfl)
theorem dX0_hour_15 : decode cX0_hour 15 = .ok (.iconst 0, 1) := dk_3 (dk_at dksX0_hour_0 15 rfl rfl)
theorem dX0_hour_16 : decode cX0_hour 16 = .ok (.ireturn, 1) := dk_172 (dk_at dksX0_hour_0 16 rfl rfl)
def dkwX0_retire_0 : List UInt8 := [44, 3, 42, 27, 182, 0, 42, 133, 80, 167, 0, 6, 78, 4, 172, 3, 172]
abbrev dktX0_retire_0 : List UInt8 := dkwX0_retire_0 ++ []
theorem dksX0_retire_0 : cX0_retire.data.toList.drop 0 = dktX0_retire_0 := by decide +kernel
theorem dX0_retire_0 : decode cX0_retire 0 = .ok (.aload_n 2, 1) := dk_44 (dk_at dksX0_retire_0 0 rfl rfl)
theorem dX0_retire_1 : decode cX0_retire 1 = .ok (.iconst 0, 1) := dk_3 (dk_at dksX0_retire_0 1 rfl rfl)
theorem dX0_retire_2 : decode cX0_retire 2 = .ok (.aload_n 0, 1) := dk_42 (dk_at dksX0_retire_0 2 rfl rfl)
theorem dX0_retire_3 : decode cX0_retire 3 = .ok (.iload_n 1, 1) := dk_27 (dk_at dksX0_retire_0 3 rfl rfl)
theorem dX0_retire_4 : decode cX0_retire 4 = .ok (.invokevirtual 42, 3) := dk_182 0 42 (dk_at dksX0_retire_0 4 rfl rfl)
theorem dX0_retire_7 : decode cX0_retire 7 = .ok (.i2l, 1) := dk_133 (dk_at dksX0_retire_0 7 rfl rfl)
theorem dX0_retire_8 : decode cX0_retire 8 = .ok (.lastore, 1) := dk_80 (dk_at dksX0_retire_0 8 rfl rfl)
theorem dX0_retire_9 : decode cX0_retire 9 = .ok (.goto 6, 3) := dk_167 0 6 (dk_at dksX0_retire_0 9 rfl rfl)
theorem dX0_retire_12 : decode cX0_retire 12 = .ok (.astore_n 3, 1) := dk_78 (dk_at dksX0_retire_0 12 rfl rfl)
theorem dX0_retire_13 : decode cX0_retire 13 = .ok (.iconst 1, 1) := dk_4 (dk_at dksX0_retire_0 13 rfl rfl)
theorem dX0_retire_14 : decode cX0_retire 14 = .ok (.ireturn, 1) := dk_172 (dk_at dksX0_retire_0 14 rfl rfl)
theorem dX0_retire_15 : decode cX0_retire 15 = .ok (.iconst 0, 1) := dk_3 (dk_at dksX0_retire_0 15 rfl rfl)
theorem dX0_retire_16 : decode cX0_retire 16 = .ok (.ireturn, 1) := dk_172 (dk_at dksX0_retire_0 16 rfl rfl)
def dkwX0_balloonOf_0 : List UInt8 := [45, 3, 42, 27, 28, 182, 0, 45, 133, 80, 167, 0, 11, 58, 4, 4, 172, 58, 4, 5, 172, 3, 172]
abbrev dktX0_balloonOf_0 : List UInt8 := dkwX0_balloonOf_0 ++ []
theorem dksX0_balloonOf_0 : cX0_balloonOf.data.toList.drop 0 = dktX0_balloonOf_0 := by decide +kernel
theorem dX0_balloonOf_0 : decode cX0_balloonOf 0 = .ok (.aload_n 3, 1) := dk_45 (dk_at dksX0_balloonOf_0 0 rfl rfl)
theorem dX0_balloonOf_1 : decode cX0_balloonOf 1 = .ok (.iconst 0, 1) := dk_3 (dk_at dksX0_balloonOf_0 1 rfl rfl)
theorem dX0_balloonOf_2 : decode cX0_balloonOf 2 = .ok (.aload_n 0, 1) := dk_42 (dk_at dksX0_balloonOf_0 2 rfl rfl)
theorem dX0_balloonOf_3 : decode cX0_balloonOf 3 = .ok (.iload_n 1, 1) := dk_27 (dk_at dksX0_balloonOf_0 3 rfl rfl)
theorem dX0_balloonOf_4 : decode cX0_balloonOf 4 = .ok (.iload_n 2, 1) := dk_28 (dk_at dksX0_balloonOf_0 4 rfl rfl)
theorem dX0_balloonOf_5 : decode cX0_balloonOf 5 = .ok (.invokevirtual 45, 3) := dk_182 0 45 (dk_at dksX0_balloonOf_0 5 rfl rfl)
theorem dX0_balloonOf_8 : decode cX0_balloonOf 8 = .ok (.i2l, 1) := dk_133 (dk_at dksX0_balloonOf_0 8 rfl rfl)
theorem dX0_balloonOf_9 : decode cX0_balloonOf 9 = .ok (.lastore, 1) := dk_80 (dk_at dksX0_balloonOf_0 9 rfl rfl)
theorem dX0_balloonOf_10 : decode cX0_balloonOf 10 = .ok (.goto 11, 3) := dk_167 0 11 (dk_at dksX0_balloonOf_0 10 rfl rfl)
theorem dX0_balloonOf_13 : decode cX0_balloonOf 13 = .ok (.astore 4, 2) := dk_58 4 (dk_at dksX0_balloonOf_0 13 rfl rfl)
theorem dX0_balloonOf_15 : decode cX0_balloonOf 15 = .ok (.iconst 1, 1) := dk_4 (dk_at dksX0_balloonOf_0 15 rfl rfl)
theorem dX0_balloonOf_16 : decode cX0_balloonOf 16 = .ok (.ireturn, 1) := dk_172 (dk_at dksX0_balloonOf_0 16 rfl rfl)
theorem dX0_balloonOf_17 : decode cX0_balloonOf 17 = .ok (.astore 4, 2) := dk_58 4 (dk_at dksX0_balloonOf_0 17 rfl rfl)
theorem dX0_balloonOf_19 : decode cX0_balloonOf 19 = .ok (.iconst 2, 1) := dk_5 (dk_at dksX0_balloonOf_0 19 rfl rfl)
theorem dX0_balloonOf_20 : decode cX0_balloonOf 20 = .ok (.ireturn, 1) := dk_172 (dk_at dksX0_balloonOf_0 20 rfl rfl)
theorem dX0_balloonOf_21 : decode cX0_balloonOf 21 = .ok (.iconst 0, 1) := dk_3 (dk_at dksX0_balloonOf_0 21 rfl rfl)
theorem dX0_balloonOf_22 : decode cX0_balloonOf 22 = .ok (.ireturn, 1) := dk_172 (dk_at dksX0_balloonOf_0 22 rfl rfl)
def dkwX0_spireOf_0 : List UInt8 := [45, 3, 42, 27, 28, 182, 0, 52, 133, 80, 167, 0, 11, 58, 4, 4, 172, 58, 4, 5, 172, 3, 172]
abbrev dktX0_spireOf_0 : List UInt8 := dkwX0_spireOf_0 ++ []
theorem dksX0_spireOf_0 : cX0_spireOf.data.toList.drop 0 = dktX0_spireOf_0 := by decide +kernel
theorem dX0_spireOf_0 : decode cX0_spireOf 0 = .ok (.aload_n 3, 1) := dk_45 (dk_at dksX0_spireOf_0 0 rfl rfl)
theorem dX0_spireOf_1 : decode cX0_spireOf 1 = .ok (.iconst 0, 1) := dk_3 (dk_at dksX0_spireOf_0 1 rfl rfl)
theorem dX0_spireOf_2 : decode cX0_spireOf 2 = .ok (.aload_n 0, 1) := dk_42 (dk_at dksX0_spireOf_0 2 rfl rfl)
theorem dX0_spireOf_3 : decode cX0_spireOf 3 = .ok (.iload_n 1, 1) := dk_27 (dk_at dksX0_spireOf_0 3 rfl rfl)
theorem dX0_spireOf_4 : decode cX0_spireOf 4 = .ok (.iload_n 2, 1) := dk_28 (dk_at dksX0_spireOf_0 4 rfl rfl)
theorem dX0_spireOf_5 : decode cX0_spireOf 5 = .ok (.invokevirtual 52, 3) := dk_182 0 52 (dk_at dksX0_spireOf_0 5 rfl rfl)
theorem dX0_spireOf_8 : decode cX0_spireOf 8 = .ok (.i2l, 1) := dk_133 (dk_at dksX0_spireOf_0 8 rfl rfl)
theorem dX0_spireOf_9 : decode cX0_spireOf 9 = .ok (.lastore, 1) := dk_80 (dk_at dksX0_spireOf_0 9 rfl rfl)
theorem dX0_spireOf_10 : decode cX0_spireOf 10 = .ok (.goto 11, 3) := dk_167 0 11 (dk_at dksX0_spireOf_0 10 rfl rfl)
theorem dX0_spireOf_13 : decode cX0_spireOf 13 = .ok (.astore 4, 2) := dk_58 4 (dk_at dksX0_spireOf_0 13 rfl rfl)
theorem dX0_spireOf_15 : decode cX0_spireOf 15 = .ok (.iconst 1, 1) := dk_4 (dk_at dksX0_spireOf_0 15 rfl rfl)
theorem dX0_spireOf_16 : decode cX0_spireOf 16 = .ok (.ireturn, 1) := dk_172 (dk_at dksX0_spireOf_0 16 rfl rfl)
theorem dX0_spireOf_17 : decode cX0_spireOf 17 = .ok (.astore 4, 2) := dk_58 4 (dk_at dksX0_spireOf_0 17 rfl rfl)
theorem dX0_spireOf_19 : decode cX0_spireOf 19 = .ok (.iconst 2, 1) := dk_5 (dk_at dksX0_spireOf_0 19 rfl rfl)
theorem dX0_spireOf_20 : decode cX0_spireOf 20 = .ok (.ireturn, 1) := dk_172 (dk_at dksX0_spireOf_0 20 rfl rfl)
theorem dX0_spireOf_21 : decode cX0_spireOf 21 = .ok (.iconst 0, 1) := dk_3 (dk_at dksX0_spireOf_0 21 rfl rfl)
theorem dX0_spireOf_22 : decode cX0_spireOf 22 = .ok (.ireturn, 1) := dk_172 (dk_at dksX0_spireOf_0 22 rfl rfl)
def dkwX0_fee_0 : List UInt8 := [45, 3, 42, 27, 28, 182, 0, 55, 133, 80, 167, 0, 7, 58, 4, 4, 172, 3, 172]
abbrev dktX0_fee_0 : List UInt8 := dkwX0_fee_0 ++ []
theorem dksX0_fee_0 : cX0_fee.data.toList.drop 0 = dktX0_fee_0 := by decide +kernel
theorem dX0_fee_0 : decode cX0_fee 0 = .ok (.aload_n 3, 1) := dk_45 (dk_at dksX0_fee_0 0 rfl rfl)
theorem dX0_fee_1 : decode cX0_fee 1 = .ok (.iconst 0, 1) := dk_3 (dk_at dksX0_fee_0 1 rfl rfl)
theorem dX0_fee_2 : decode cX0_fee 2 = .ok (.aload_n 0, 1) := dk_42 (dk_at dksX0_fee_0 2 rfl rfl)
theorem dX0_fee_3 : decode cX0_fee 3 = .ok (.iload_n 1, 1) := dk_27 (dk_at dksX0_fee_0 3 rfl rfl)
theorem dX0_fee_4 : decode cX0_fee 4 = .ok (.iload_n 2, 1) := dk_28 (dk_at dksX0_fee_0 4 rfl rfl)
theorem dX0_fee_5 : decode cX0_fee 5 = .ok (.invokevirtual 55, 3) := dk_182 0 55 (dk_at dksX0_fee_0 5 rfl rfl)
theorem dX0_fee_8 : decode cX0_fee 8 = .ok (.i2l, 1) := dk_133 (dk_at dksX0_fee_0 8 rfl rfl)
theorem dX0_fee_9 : decode cX0_fee 9 = .ok (.lastore, 1) := dk_80 (dk_at dksX0_fee_0 9 rfl rfl)
theorem dX0_fee_10 : decode cX0_fee 10 = .ok (.goto 7, 3) := dk_167 0 7 (dk_at dksX0_fee_0 10 rfl rfl)
theorem dX0_fee_13 : decode cX0_fee 13 = .ok (.astore 4, 2) := dk_58 4 (dk_at dksX0_fee_0 13 rfl rfl)
theorem dX0_fee_15 : decode cX0_fee 15 = .ok (.iconst 1, 1) := dk_4 (dk_at dksX0_fee_0 15 rfl rfl)
theorem dX0_fee_16 : decode cX0_fee 16 = .ok (.ireturn, 1) := dk_172 (dk_at dksX0_fee_0 16 rfl rfl)
theorem dX0_fee_17 : decode cX0_fee 17 = .ok (.iconst 0, 1) := dk_3 (dk_at dksX0_fee_0 17 rfl rfl)
theorem dX0_fee_18 : decode cX0_fee 18 = .ok (.ireturn, 1) := dk_172 (dk_at dksX0_fee_0 18 rfl rfl)
def dkwX0_claims_0 : List UInt8 := [45, 3, 42, 27, 28, 182, 0, 58, 133, 80, 167, 0, 7, 58, 4, 4, 172, 3, 172]
abbrev dktX0_claims_0 : List UInt8 := dkwX0_claims_0 ++ []
theorem dksX0_claims_0 : cX0_claims.data.toList.drop 0 = dktX0_claims_0 := by decide +kernel
theorem dX0_claims_0 : decode cX0_claims 0 = .ok (.aload_n 3, 1) := dk_45 (dk_at dksX0_claims_0 0 rfl rfl)
theorem dX0_claims_1 : decode cX0_claims 1 = .ok (.iconst 0, 1) := dk_3 (dk_at dksX0_claims_0 1 rfl rfl)
theorem dX0_claims_2 : decode cX0_claims 2 = .ok (.aload_n 0, 1) := dk_42 (dk_at dksX0_claims_0 2 rfl rfl)
theorem dX0_claims_3 : decode cX0_claims 3 = .ok (.iload_n 1, 1) := dk_27 (dk_at dksX0_claims_0 3 rfl rfl)
theorem dX0_claims_4 : decode cX0_claims 4 = .ok (.iload_n 2, 1) := dk_28 (dk_at dksX0_claims_0 4 rfl rfl)
theorem dX0_claims_5 : decode cX0_claims 5 = .ok (.invokevirtual 58, 3) := dk_182 0 58 (dk_at dksX0_claims_0 5 rfl rfl)
theorem dX0_claims_8 : decode cX0_claims 8 = .ok (.i2l, 1) := dk_133 (dk_at dksX0_claims_0 8 rfl rfl)
theorem dX0_claims_9 : decode cX0_claims 9 = .ok (.lastore, 1) := dk_80 (dk_at dksX0_claims_0 9 rfl rfl)
theorem dX0_claims_10 : decode cX0_claims 10 = .ok (.goto 7, 3) := dk_167 0 7 (dk_at dksX0_claims_0 10 rfl rfl)
theorem dX0_claims_13 : decode cX0_claims 13 = .ok (.astore 4, 2) := dk_58 4 (dk_at dksX0_claims_0 13 rfl rfl)
theorem dX0_claims_15 : decode cX0_claims 15 = .ok (.iconst 1, 1) := dk_4 (dk_at dksX0_claims_0 15 rfl rfl)
theorem dX0_claims_16 : decode cX0_claims 16 = .ok (.ireturn, 1) := dk_172 (dk_at dksX0_claims_0 16 rfl rfl)
theorem dX0_claims_17 : decode cX0_claims 17 = .ok (.iconst 0, 1) := dk_3 (dk_at dksX0_claims_0 17 rfl rfl)
theorem dX0_claims_18 : decode cX0_claims 18 = .ok (.ireturn, 1) := dk_172 (dk_at dksX0_claims_0 18 rfl rfl)
def dkwX0_windAt_0 : List UInt8 := [44, 3, 42, 27, 182, 0, 61, 133, 80, 167, 0, 6, 78, 4, 172, 3, 172]
abbrev dktX0_windAt_0 : List UInt8 := dkwX0_windAt_0 ++ []
theorem dksX0_windAt_0 : cX0_windAt.data.toList.drop 0 = dktX0_windAt_0 := by decide +kernel
theorem dX0_windAt_0 : decode cX0_windAt 0 = .ok (.aload_n 2, 1) := dk_44 (dk_at dksX0_windAt_0 0 rfl rfl)
theorem dX0_windAt_1 : decode cX0_windAt 1 = .ok (.iconst 0, 1) := dk_3 (dk_at dksX0_windAt_0 1 rfl rfl)
theorem dX0_windAt_2 : decode cX0_windAt 2 = .ok (.aload_n 0, 1) := dk_42 (dk_at dksX0_windAt_0 2 rfl rfl)
theorem dX0_windAt_3 : decode cX0_windAt 3 = .ok (.iload_n 1, 1) := dk_27 (dk_at dksX0_windAt_0 3 rfl rfl)
theorem dX0_windAt_4 : decode cX0_windAt 4 = .ok (.invokevirtual 61, 3) := dk_182 0 61 (dk_at dksX0_windAt_0 4 rfl rfl)
theorem dX0_windAt_7 : decode cX0_windAt 7 = .ok (.i2l, 1) := dk_133 (dk_at dksX0_windAt_0 7 rfl rfl)
theorem dX0_windAt_8 : decode cX0_windAt 8 = .ok (.lastore, 1) := dk_80 (dk_at dksX0_windAt_0 8 rfl rfl)
theorem dX0_windAt_9 : decode cX0_windAt 9 = .ok (.goto 6, 3) := dk_167 0 6 (dk_at dksX0_windAt_0 9 rfl rfl)
theorem dX0_windAt_12 : decode cX0_windAt 12 = .ok (.astore_n 3, 1) := dk_78 (dk_at dksX0_windAt_0 12 rfl rfl)
theorem dX0_windAt_13 : decode cX0_windAt 13 = .ok (.iconst 1, 1) := dk_4 (dk_at dksX0_windAt_0 13 rfl rfl)
theorem dX0_windAt_14 : decode cX0_windAt 14 = .ok (.ireturn, 1) := dk_172 (dk_at dksX0_windAt_0 14 rfl rfl)
theorem dX0_windAt_15 : decode cX0_windAt 15 = .ok (.iconst 0, 1) := dk_3 (dk_at dksX0_windAt_0 15 rfl rfl)
theorem dX0_windAt_16 : decode cX0_windAt 16 = .ok (.ireturn, 1) := dk_172 (dk_at dksX0_windAt_0 16 rfl rfl)
def dkwX0_at_0 : List UInt8 := [45, 3, 42, 27, 28, 182, 0, 64, 133, 80, 167, 0, 7, 58, 4, 4, 172, 3, 172]
abbrev dktX0_at_0 : List UInt8 := dkwX0_at_0 ++ []
theorem dksX0_at_0 : cX0_at.data.toList.drop 0 = dktX0_at_0 := by decide +kernel
theorem dX0_at_0 : decode cX0_at 0 = .ok (.aload_n 3, 1) := dk_45 (dk_at dksX0_at_0 0 rfl rfl)
theorem dX0_at_1 : decode cX0_at 1 = .ok (.iconst 0, 1) := dk_3 (dk_at dksX0_at_0 1 rfl rfl)
theorem dX0_at_2 : decode cX0_at 2 = .ok (.aload_n 0, 1) := dk_42 (dk_at dksX0_at_0 2 rfl rfl)
theorem dX0_at_3 : decode cX0_at 3 = .ok (.iload_n 1, 1) := dk_27 (dk_at dksX0_at_0 3 rfl rfl)
theorem dX0_at_4 : decode cX0_at 4 = .ok (.iload_n 2, 1) := dk_28 (dk_at dksX0_at_0 4 rfl rfl)
theorem dX0_at_5 : decode cX0_at 5 = .ok (.invokevirtual 64, 3) := dk_182 0 64 (dk_at dksX0_at_0 5 rfl rfl)
theorem dX0_at_8 : decode cX0_at 8 = .ok (.i2l, 1) := dk_133 (dk_at dksX0_at_0 8 rfl rfl)
theorem dX0_at_9 : decode cX0_at 9 = .ok (.lastore, 1) := dk_80 (dk_at dksX0_at_0 9 rfl rfl)
theorem dX0_at_10 : decode cX0_at 10 = .ok (.goto 7, 3) := dk_167 0 7 (dk_at dksX0_at_0 10 rfl rfl)
theorem dX0_at_13 : decode cX0_at 13 = .ok (.astore 4, 2) := dk_58 4 (dk_at dksX0_at_0 13 rfl rfl)
theorem dX0_at_15 : decode cX0_at 15 = .ok (.iconst 1, 1) := dk_4 (dk_at dksX0_at_0 15 rfl rfl)
theorem dX0_at_16 : decode cX0_at 16 = .ok (.ireturn, 1) := dk_172 (dk_at dksX0_at_0 16 rfl rfl)
theorem dX0_at_17 : decode cX0_at 17 = .ok (.iconst 0, 1) := dk_3 (dk_at dksX0_at_0 17 rfl rfl)
theorem dX0_at_18 : decode cX0_at 18 = .ok (.ireturn, 1) := dk_172 (dk_at dksX0_at_0 18 rfl rfl)
def dkwX0_isAtGate_0 : List UInt8 := [44, 3, 42, 27, 182, 0, 67, 153, 0, 7, 10, 167, 0, 4, 9, 80, 167, 0, 6, 78, 4, 172, 3, 172]
abbrev dktX0_isAtGate_0 : List UInt8 := dkwX0_isAtGate_0 ++ []
theorem dksX0_isAtGate_0 : cX0_isAtGate.data.toList.drop 0 = dktX0_isAtGate_0 := by decide +kernel
theorem dX0_isAtGate_0 : decode cX0_isAtGate 0 = .ok (.aload_n 2, 1) := dk_44 (dk_at dksX0_isAtGate_0 0 rfl rfl)
theorem dX0_isAtGate_1 : decode cX0_isAtGate 1 = .ok (.iconst 0, 1) := dk_3 (dk_at dksX0_isAtGate_0 1 rfl rfl)
theorem dX0_isAtGate_2 : decode cX0_isAtGate 2 = .ok (.aload_n 0, 1) := dk_42 (dk_at dksX0_isAtGate_0 2 rfl rfl)
theorem dX0_isAtGate_3 : decode cX0_isAtGate 3 = .ok (.iload_n 1, 1) := dk_27 (dk_at dksX0_isAtGate_0 3 rfl rfl)
theorem dX0_isAtGate_4 : decode cX0_isAtGate 4 = .ok (.invokevirtual 67, 3) := dk_182 0 67 (dk_at dksX0_isAtGate_0 4 rfl rfl)
theorem dX0_isAtGate_7 : decode cX0_isAtGate 7 = .ok (.ifCond .eq 7, 3) := dk_153 0 7 (dk_at dksX0_isAtGate_0 7 rfl rfl)
theorem dX0_isAtGate_10 : decode cX0_isAtGate 10 = .ok (.lconst 1, 1) := dk_10 (dk_at dksX0_isAtGate_0 10 rfl rfl)
theorem dX0_isAtGate_11 : decode cX0_isAtGate 11 = .ok (.goto 4, 3) := dk_167 0 4 (dk_at dksX0_isAtGate_0 11 rfl rfl)
theorem dX0_isAtGate_14 : decode cX0_isAtGate 14 = .ok (.lconst 0, 1) := dk_9 (dk_at dksX0_isAtGate_0 14 rfl rfl)
theorem dX0_isAtGate_15 : decode cX0_isAtGate 15 = .ok (.lastore, 1) := dk_80 (dk_at dksX0_isAtGate_0 15 rfl rfl)
theorem dX0_isAtGate_16 : decode cX0_isAtGate 16 = .ok (.goto 6, 3) := dk_167 0 6 (dk_at dksX0_isAtGate_0 16 rfl rfl)
theorem dX0_isAtGate_19 : decode cX0_isAtGate 19 = .ok (.astore_n 3, 1) := dk_78 (dk_at dksX0_isAtGate_0 19 rfl rfl)
theorem dX0_isAtGate_20 : decode cX0_isAtGate 20 = .ok (.iconst 1, 1) := dk_4 (dk_at dksX0_isAtGate_0 20 rfl rfl)
theorem dX0_isAtGate_21 : decode cX0_isAtGate 21 = .ok (.ireturn, 1) := dk_172 (dk_at dksX0_isAtGate_0 21 rfl rfl)
theorem dX0_isAtGate_22 : decode cX0_isAtGate 22 = .ok (.iconst 0, 1) := dk_3 (dk_at dksX0_isAtGate_0 22 rfl rfl)
theorem dX0_isAtGate_23 : decode cX0_isAtGate 23 = .ok (.ireturn, 1) := dk_172 (dk_at dksX0_isAtGate_0 23 rfl rfl)
def dkwX0_partners_0 : List UInt8 := [44, 3, 42, 27, 182, 0, 71, 133, 80, 167, 0, 6, 78, 4, 172, 3, 172]
abbrev dktX0_partners_0 : List UInt8 := dkwX0_partners_0 ++ []
theorem dksX0_partners_0 : cX0_partners.data.toList.drop 0 = dktX0_partners_0 := by decide +kernel
theorem dX0_partners_0 : decode cX0_partners 0 = .ok (.aload_n 2, 1) := dk_44 (dk_at dksX0_partners_0 0 rfl rfl)
theorem dX0_partners_1 : decode cX0_partners 1 = .ok (.iconst 0, 1) := dk_3 (dk_at dksX0_partners_0 1 rfl rfl)
theorem dX0_partners_2 : decode cX0_partners 2 = .ok (.aload_n 0, 1) := dk_42 (dk_at dksX0_partners_0 2 rfl rfl)
theorem dX0_partners_3 : decode cX0_partners 3 = .ok (.iload_n 1, 1) := dk_27 (dk_at dksX0_partners_0 3 rfl rfl)
theorem dX0_partners_4 : decode cX0_partners 4 = .ok (.invokevirtual 71, 3) := dk_182 0 71 (dk_at dksX0_partners_0 4 rfl rfl)
theorem dX0_partners_7 : decode cX0_partners 7 = .ok (.i2l, 1) := dk_133 (dk_at dksX0_partners_0 7 rfl rfl)
theorem dX0_partners_8 : decode cX0_partners 8 = .ok (.lastore, 1) := dk_80 (dk_at dksX0_partners_0 8 rfl rfl)
theorem dX0_partners_9 : decode cX0_partners 9 = .ok (.goto 6, 3) := dk_167 0 6 (dk_at dksX0_partners_0 9 rfl rfl)
theorem dX0_partners_12 : decode cX0_partners 12 = .ok (.astore_n 3, 1) := dk_78 (dk_at dksX0_partners_0 12 rfl rfl)
theorem dX0_partners_13 : decode cX0_partners 13 = .ok (.iconst 1, 1) := dk_4 (dk_at dksX0_partners_0 13 rfl rfl)
theorem dX0_partners_14 : decode cX0_partners 14 = .ok (.ireturn, 1) := dk_172 (dk_at dksX0_partners_0 14 rfl rfl)
theorem dX0_partners_15 : decode cX0_partners 15 = .ok (.iconst 0, 1) := dk_3 (dk_at dksX0_partners_0 15 rfl rfl)
theorem dX0_partners_16 : decode cX0_partners 16 = .ok (.ireturn, 1) := dk_172 (dk_at dksX0_partners_0 16 rfl rfl)
def dkwX0_drift_0 : List UInt8 := [45, 3, 42, 27, 28, 182, 0, 74, 133, 80, 167, 0, 11, 58, 4, 4, 172, 58, 4, 5, 172, 3, 172]
abbrev dktX0_drift_0 : List UInt8 := dkwX0_drift_0 ++ []
theorem dksX0_drift_0 : cX0_drift.data.toList.drop 0 = dktX0_drift_0 := by decide +kernel
theorem dX0_drift_0 : decode cX0_drift 0 = .ok (.aload_n 3, 1) := dk_45 (dk_at dksX0_drift_0 0 rfl rfl)
theorem dX0_drift_1 : decode cX0_drift 1 = .ok (.iconst 0, 1) := dk_3 (dk_at dksX0_drift_0 1 rfl rfl)
theorem dX0_drift_2 : decode cX0_drift 2 = .ok (.aload_n 0, 1) := dk_42 (dk_at dksX0_drift_0 2 rfl rfl)
theorem dX0_drift_3 : decode cX0_drift 3 = .ok (.iload_n 1, 1) := dk_27 (dk_at dksX0_drift_0 3 rfl rfl)
theorem dX0_drift_4 : decode cX0_drift 4 = .ok (.iload_n 2, 1) := dk_28 (dk_at dksX0_drift_0 4 rfl rfl)
theorem dX0_drift_5 : decode cX0_drift 5 = .ok (.invokevirtual 74, 3) := dk_182 0 74 (dk_at dksX0_drift_0 5 rfl rfl)
theorem dX0_drift_8 : decode cX0_drift 8 = .ok (.i2l, 1) := dk_133 (dk_at dksX0_drift_0 8 rfl rfl)
theorem dX0_drift_9 : decode cX0_drift 9 = .ok (.lastore, 1) := dk_80 (dk_at dksX0_drift_0 9 rfl rfl)
theorem dX0_drift_10 : decode cX0_drift 10 = .ok (.goto 11, 3) := dk_167 0 11 (dk_at dksX0_drift_0 10 rfl rfl)
theorem dX0_drift_13 : decode cX0_drift 13 = .ok (.astore 4, 2) := dk_58 4 (dk_at dksX0_drift_0 13 rfl rfl)
theorem dX0_drift_15 : decode cX0_drift 15 = .ok (.iconst 1, 1) := dk_4 (dk_at dksX0_drift_0 15 rfl rfl)
theorem dX0_drift_16 : decode cX0_drift 16 = .ok (.ireturn, 1) := dk_172 (dk_at dksX0_drift_0 16 rfl rfl)
theorem dX0_drift_17 : decode cX0_drift 17 = .ok (.astore 4, 2) := dk_58 4 (dk_at dksX0_drift_0 17 rfl rfl)
theorem dX0_drift_19 : decode cX0_drift 19 = .ok (.iconst 2, 1) := dk_5 (dk_at dksX0_drift_0 19 rfl rfl)
theorem dX0_drift_20 : decode cX0_drift 20 = .ok (.ireturn, 1) := dk_172 (dk_at dksX0_drift_0 20 rfl rfl)
theorem dX0_drift_21 : decode cX0_drift 21 = .ok (.iconst 0, 1) := dk_3 (dk_at dksX0_drift_0 21 rfl rfl)
theorem dX0_drift_22 : decode cX0_drift 22 = .ok (.ireturn, 1) := dk_172 (dk_at dksX0_drift_0 22 rfl rfl)
def dkwX0_heightIn_0 : List UInt8 := [45, 3, 42, 27, 28, 182, 0, 77, 133, 80, 167, 0, 11, 58, 4, 4, 172, 58, 4, 5, 172, 3, 172]
abbrev dktX0_heightIn_0 : List UInt8 := dkwX0_heightIn_0 ++ []
theorem dksX0_heightIn_0 : cX0_heightIn.data.toList.drop 0 = dktX0_heightIn_0 := by decide +kernel
theorem dX0_heightIn_0 : decode cX0_heightIn 0 = .ok (.aload_n 3, 1) := dk_45 (dk_at dksX0_heightIn_0 0 rfl rfl)
theorem dX0_heightIn_1 : decode cX0_heightIn 1 = .ok (.iconst 0, 1) := dk_3 (dk_at dksX0_heightIn_0 1 rfl rfl)
theorem dX0_heightIn_2 : decode cX0_heightIn 2 = .ok (.aload_n 0, 1) := dk_42 (dk_at dksX0_heightIn_0 2 rfl rfl)
theorem dX0_heightIn_3 : decode cX0_heightIn 3 = .ok (.iload_n 1, 1) := dk_27 (dk_at dksX0_heightIn_0 3 rfl rfl)
theorem dX0_heightIn_4 : decode cX0_heightIn 4 = .ok (.iload_n 2, 1) := dk_28 (dk_at dksX0_heightIn_0 4 rfl rfl)
theorem dX0_heightIn_5 : decode cX0_heightIn 5 = .ok (.invokevirtual 77, 3) := dk_182 0 77 (dk_at dksX0_heightIn_0 5 rfl rfl)
theorem dX0_heightIn_8 : decode cX0_heightIn 8 = .ok (.i2l, 1) := dk_133 (dk_at dksX0_heightIn_0 8 rfl rfl)
theorem dX0_heightIn_9 : decode cX0_heightIn 9 = .ok (.lastore, 1) := dk_80 (dk_at dksX0_heightIn_0 9 rfl rfl)
theorem dX0_heightIn_10 : decode cX0_heightIn 10 = .ok (.goto 11, 3) := dk_167 0 11 (dk_at dksX0_heightIn_0 10 rfl rfl)
theorem dX0_heightIn_13 : decode cX0_heightIn 13 = .ok (.astore 4, 2) := dk_58 4 (dk_at dksX0_heightIn_0 13 rfl rfl)
theorem dX0_heightIn_15 : decode cX0_heightIn 15 = .ok (.iconst 1, 1) := dk_4 (dk_at dksX0_heightIn_0 15 rfl rfl)
theorem dX0_heightIn_16 : decode cX0_heightIn 16 = .ok (.ireturn, 1) := dk_172 (dk_at dksX0_heightIn_0 16 rfl rfl)
theorem dX0_heightIn_17 : decode cX0_heightIn 17 = .ok (.astore 4, 2) := dk_58 4 (dk_at dksX0_heightIn_0 17 rfl rfl)
theorem dX0_heightIn_19 : decode cX0_heightIn 19 = .ok (.iconst 2, 1) := dk_5 (dk_at dksX0_heightIn_0 19 rfl rfl)
theorem dX0_heightIn_20 : decode cX0_heightIn 20 = .ok (.ireturn, 1) := dk_172 (dk_at dksX0_heightIn_0 20 rfl rfl)
theorem dX0_heightIn_21 : decode cX0_heightIn 21 = .ok (.iconst 0, 1) := dk_3 (dk_at dksX0_heightIn_0 21 rfl rfl)
theorem dX0_heightIn_22 : decode cX0_heightIn 22 = .ok (.ireturn, 1) := dk_172 (dk_at dksX0_heightIn_0 22 rfl rfl)
def dkwX0_roundsIn_0 : List UInt8 := [44, 3, 42, 27, 182, 0, 80, 133, 80, 167, 0, 9, 78, 4, 172, 78, 5, 172, 3, 172]
abbrev dktX0_roundsIn_0 : List UInt8 := dkwX0_roundsIn_0 ++ []
theorem dksX0_roundsIn_0 : cX0_roundsIn.data.toList.drop 0 = dktX0_roundsIn_0 := by decide +kernel
theorem dX0_roundsIn_0 : decode cX0_roundsIn 0 = .ok (.aload_n 2, 1) := dk_44 (dk_at dksX0_roundsIn_0 0 rfl rfl)
theorem dX0_roundsIn_1 : decode cX0_roundsIn 1 = .ok (.iconst 0, 1) := dk_3 (dk_at dksX0_roundsIn_0 1 rfl rfl)
theorem dX0_roundsIn_2 : decode cX0_roundsIn 2 = .ok (.aload_n 0, 1) := dk_42 (dk_at dksX0_roundsIn_0 2 rfl rfl)
theorem dX0_roundsIn_3 : decode cX0_roundsIn 3 = .ok (.iload_n 1, 1) := dk_27 (dk_at dksX0_roundsIn_0 3 rfl rfl)
theorem dX0_roundsIn_4 : decode cX0_roundsIn 4 = .ok (.invokevirtual 80, 3) := dk_182 0 80 (dk_at dksX0_roundsIn_0 4 rfl rfl)
theorem dX0_roundsIn_7 : decode cX0_roundsIn 7 = .ok (.i2l, 1) := dk_133 (dk_at dksX0_roundsIn_0 7 rfl rfl)
theorem dX0_roundsIn_8 : decode cX0_roundsIn 8 = .ok (.lastore, 1) := dk_80 (dk_at dksX0_roundsIn_0 8 rfl rfl)
theorem dX0_roundsIn_9 : decode cX0_roundsIn 9 = .ok (.goto 9, 3) := dk_167 0 9 (dk_at dksX0_roundsIn_0 9 rfl rfl)
theorem dX0_roundsIn_12 : decode cX0_roundsIn 12 = .ok (.astore_n 3, 1) := dk_78 (dk_at dksX0_roundsIn_0 12 rfl rfl)
theorem dX0_roundsIn_13 : decode cX0_roundsIn 13 = .ok (.iconst 1, 1) := dk_4 (dk_at dksX0_roundsIn_0 13 rfl rfl)
theorem dX0_roundsIn_14 : decode cX0_roundsIn 14 = .ok (.ireturn, 1) := dk_172 (dk_at dksX0_roundsIn_0 14 rfl rfl)
theorem dX0_roundsIn_15 : decode cX0_roundsIn 15 = .ok (.astore_n 3, 1) := dk_78 (dk_at dksX0_roundsIn_0 15 rfl rfl)
theorem dX0_roundsIn_16 : decode cX0_roundsIn 16 = .ok (.iconst 2, 1) := dk_5 (dk_at dksX0_roundsIn_0 16 rfl rfl)
theorem dX0_roundsIn_17 : decode cX0_roundsIn 17 = .ok (.ireturn, 1) := dk_172 (dk_at dksX0_roundsIn_0 17 rfl rfl)
theorem dX0_roundsIn_18 : decode cX0_roundsIn 18 = .ok (.iconst 0, 1) := dk_3 (dk_at dksX0_roundsIn_0 18 rfl rfl)
theorem dX0_roundsIn_19 : decode cX0_roundsIn 19 = .ok (.ireturn, 1) := dk_172 (dk_at dksX0_roundsIn_0 19 rfl rfl)
def dkwX0_landsIn_0 : List UInt8 := [44, 3, 42, 27, 182, 0, 85, 133, 80, 167, 0, 9, 78, 4, 172, 78, 5, 172, 3, 172]
abbrev dktX0_landsIn_0 : List UInt8 := dkwX0_landsIn_0 ++ []
theorem dksX0_landsIn_0 : cX0_landsIn.data.toList.drop 0 = dktX0_landsIn_0 := by decide +kernel
theorem dX0_landsIn_0 : decode cX0_landsIn 0 = .ok (.aload_n 2, 1) := dk_44 (dk_at dksX0_landsIn_0 0 rfl rfl)
theorem dX0_landsIn_1 : decode cX0_landsIn 1 = .ok (.iconst 0, 1) := dk_3 (dk_at dksX0_landsIn_0 1 rfl rfl)
theorem dX0_landsIn_2 : decode cX0_landsIn 2 = .ok (.aload_n 0, 1) := dk_42 (dk_at dksX0_landsIn_0 2 rfl rfl)
theorem dX0_landsIn_3 : decode cX0_landsIn 3 = .ok (.iload_n 1, 1) := dk_27 (dk_at dksX0_landsIn_0 3 rfl rfl)
theorem dX0_landsIn_4 : decode cX0_landsIn 4 = .ok (.invokevirtual 85, 3) := dk_182 0 85 (dk_at dksX0_landsIn_0 4 rfl rfl)
theorem dX0_landsIn_7 : decode cX0_landsIn 7 = .ok (.i2l, 1) := dk_133 (dk_at dksX0_landsIn_0 7 rfl rfl)
theorem dX0_landsIn_8 : decode cX0_landsIn 8 = .ok (.lastore, 1) := dk_80 (dk_at dksX0_landsIn_0 8 rfl rfl)
theorem dX0_landsIn_9 : decode cX0_landsIn 9 = .ok (.goto 9, 3) := dk_167 0 9 (dk_at dksX0_landsIn_0 9 rfl rfl)
theorem dX0_landsIn_12 : decode cX0_landsIn 12 = .ok (.astore_n 3, 1) := dk_78 (dk_at dksX0_landsIn_0 12 rfl rfl)
theorem dX0_landsIn_13 : decode cX0_landsIn 13 = .ok (.iconst 1, 1) := dk_4 (dk_at dksX0_landsIn_0 13 rfl rfl)
theorem dX0_landsIn_14 : decode cX0_landsIn 14 = .ok (.ireturn, 1) := dk_172 (dk_at dksX0_landsIn_0 14 rfl rfl)
theorem dX0_landsIn_15 : decode cX0_landsIn 15 = .ok (.astore_n 3, 1) := dk_78 (dk_at dksX0_landsIn_0 15 rfl rfl)
theorem dX0_landsIn_16 : decode cX0_landsIn 16 = .ok (.iconst 2, 1) := dk_5 (dk_at dksX0_landsIn_0 16 rfl rfl)
theorem dX0_landsIn_17 : decode cX0_landsIn 17 = .ok (.ireturn, 1) := dk_172 (dk_at dksX0_landsIn_0 17 rfl rfl)
theorem dX0_landsIn_18 : decode cX0_landsIn 18 = .ok (.iconst 0, 1) := dk_3 (dk_at dksX0_landsIn_0 18 rfl rfl)
theorem dX0_landsIn_19 : decode cX0_landsIn 19 = .ok (.ireturn, 1) := dk_172 (dk_at dksX0_landsIn_0 19 rfl rfl)
def dkwX0_landsAt_0 : List UInt8 := [44, 3, 42, 27, 182, 0, 88, 133, 80, 167, 0, 9, 78, 4, 172, 78, 5, 172, 3, 172]
abbrev dktX0_landsAt_0 : List UInt8 := dkwX0_landsAt_0 ++ []
theorem dksX0_landsAt_0 : cX0_landsAt.data.toList.drop 0 = dktX0_landsAt_0 := by decide +kernel
theorem dX0_landsAt_0 : decode cX0_landsAt 0 = .ok (.aload_n 2, 1) := dk_44 (dk_at dksX0_landsAt_0 0 rfl rfl)
theorem dX0_landsAt_1 : decode cX0_landsAt 1 = .ok (.iconst 0, 1) := dk_3 (dk_at dksX0_landsAt_0 1 rfl rfl)
theorem dX0_landsAt_2 : decode cX0_landsAt 2 = .ok (.aload_n 0, 1) := dk_42 (dk_at dksX0_landsAt_0 2 rfl rfl)
theorem dX0_landsAt_3 : decode cX0_landsAt 3 = .ok (.iload_n 1, 1) := dk_27 (dk_at dksX0_landsAt_0 3 rfl rfl)
theorem dX0_landsAt_4 : decode cX0_landsAt 4 = .ok (.invokevirtual 88, 3) := dk_182 0 88 (dk_at dksX0_landsAt_0 4 rfl rfl)
theorem dX0_landsAt_7 : decode cX0_landsAt 7 = .ok (.i2l, 1) := dk_133 (dk_at dksX0_landsAt_0 7 rfl rfl)
theorem dX0_landsAt_8 : decode cX0_landsAt 8 = .ok (.lastore, 1) := dk_80 (dk_at dksX0_landsAt_0 8 rfl rfl)
theorem dX0_landsAt_9 : decode cX0_landsAt 9 = .ok (.goto 9, 3) := dk_167 0 9 (dk_at dksX0_landsAt_0 9 rfl rfl)
theorem dX0_landsAt_12 : decode cX0_landsAt 12 = .ok (.astore_n 3, 1) := dk_78 (dk_at dksX0_landsAt_0 12 rfl rfl)
theorem dX0_landsAt_13 : decode cX0_landsAt 13 = .ok (.iconst 1, 1) := dk_4 (dk_at dksX0_landsAt_0 13 rfl rfl)
theorem dX0_landsAt_14 : decode cX0_landsAt 14 = .ok (.ireturn, 1) := dk_172 (dk_at dksX0_landsAt_0 14 rfl rfl)
theorem dX0_landsAt_15 : decode cX0_landsAt 15 = .ok (.astore_n 3, 1) := dk_78 (dk_at dksX0_landsAt_0 15 rfl rfl)
theorem dX0_landsAt_16 : decode cX0_landsAt 16 = .ok (.iconst 2, 1) := dk_5 (dk_at dksX0_landsAt_0 16 rfl rfl)
theorem dX0_landsAt_17 : decode cX0_landsAt 17 = .ok (.ireturn, 1) := dk_172 (dk_at dksX0_landsAt_0 17 rfl rfl)
theorem dX0_landsAt_18 : decode cX0_landsAt 18 = .ok (.iconst 0, 1) := dk_3 (dk_at dksX0_landsAt_0 18 rfl rfl)
theorem dX0_landsAt_19 : decode cX0_landsAt 19 = .ok (.ireturn, 1) := dk_172 (dk_at dksX0_landsAt_0 19 rfl rfl)
def dkwX0_wouldScore_0 : List UInt8 := [45, 3, 42, 27, 28, 182, 0, 91, 133, 80, 167, 0, 11, 58, 4, 4, 172, 58, 4, 5, 172, 3, 172]
abbrev dktX0_wouldScore_0 : List UInt8 := dkwX0_wouldScore_0 ++ []
theorem dksX0_wouldScore_0 : cX0_wouldScore.data.toList.drop 0 = dktX0_wouldScore_0 := by decide +kernel
theorem dX0_wouldScore_0 : decode cX0_wouldScore 0 = .ok (.aload_n 3, 1) := dk_45 (dk_at dksX0_wouldScore_0 0 rfl rfl)
theorem dX0_wouldScore_1 : decode cX0_wouldScore 1 = .ok (.iconst 0, 1) := dk_3 (dk_at dksX0_wouldScore_0 1 rfl rfl)
theorem dX0_wouldScore_2 : decode cX0_wouldScore 2 = .ok (.aload_n 0, 1) := dk_42 (dk_at dksX0_wouldScore_0 2 rfl rfl)
theorem dX0_wouldScore_3 : decode cX0_wouldScore 3 = .ok (.iload_n 1, 1) := dk_27 (dk_at dksX0_wouldScore_0 3 rfl rfl)
theorem dX0_wouldScore_4 : decode cX0_wouldScore 4 = .ok (.iload_n 2, 1) := dk_28 (dk_at dksX0_wouldScore_0 4 rfl rfl)
theorem dX0_wouldScore_5 : decode cX0_wouldScore 5 = .ok (.invokevirtual 91, 3) := dk_182 0 91 (dk_at dksX0_wouldScore_0 5 rfl rfl)
theorem dX0_wouldScore_8 : decode cX0_wouldScore 8 = .ok (.i2l, 1) := dk_133 (dk_at dksX0_wouldScore_0 8 rfl rfl)
theorem dX0_wouldScore_9 : decode cX0_wouldScore 9 = .ok (.lastore, 1) := dk_80 (dk_at dksX0_wouldScore_0 9 rfl rfl)
theorem dX0_wouldScore_10 : decode cX0_wouldScore 10 = .ok (.goto 11, 3) := dk_167 0 11 (dk_at dksX0_wouldScore_0 10 rfl rfl)
theorem dX0_wouldScore_13 : decode cX0_wouldScore 13 = .ok (.astore 4, 2) := dk_58 4 (dk_at dksX0_wouldScore_0 13 rfl rfl)
theorem dX0_wouldScore_15 : decode cX0_wouldScore 15 = .ok (.iconst 1, 1) := dk_4 (dk_at dksX0_wouldScore_0 15 rfl rfl)
theorem dX0_wouldScore_16 : decode cX0_wouldScore 16 = .ok (.ireturn, 1) := dk_172 (dk_at dksX0_wouldScore_0 16 rfl rfl)
theorem dX0_wouldScore_17 : decode cX0_wouldScore 17 = .ok (.astore 4, 2) := dk_58 4 (dk_at dksX0_wouldScore_0 17 rfl rfl)
theorem dX0_wouldScore_19 : decode cX0_wouldScore 19 = .ok (.iconst 2, 1) := dk_5 (dk_at dksX0_wouldScore_0 19 rfl rfl)
theorem dX0_wouldScore_20 : decode cX0_wouldScore 20 = .ok (.ireturn, 1) := dk_172 (dk_at dksX0_wouldScore_0 20 rfl rfl)
theorem dX0_wouldScore_21 : decode cX0_wouldScore 21 = .ok (.iconst 0, 1) := dk_3 (dk_at dksX0_wouldScore_0 21 rfl rfl)
theorem dX0_wouldScore_22 : decode cX0_wouldScore 22 = .ok (.ireturn, 1) := dk_172 (dk_at dksX0_wouldScore_0 22 rfl rfl)
def dkwX0_fewest_0 : List UInt8 := [44, 3, 42, 27, 182, 0, 94, 133, 80, 167, 0, 9, 78, 4, 172, 78, 5, 172, 3, 172]
abbrev dktX0_fewest_0 : List UInt8 := dkwX0_fewest_0 ++ []
theorem dksX0_fewest_0 : cX0_fewest.data.toList.drop 0 = dktX0_fewest_0 := by decide +kernel
theorem dX0_fewest_0 : decode cX0_fewest 0 = .ok (.aload_n 2, 1) := dk_44 (dk_at dksX0_fewest_0 0 rfl rfl)
theorem dX0_fewest_1 : decode cX0_fewest 1 = .ok (.iconst 0, 1) := dk_3 (dk_at dksX0_fewest_0 1 rfl rfl)
theorem dX0_fewest_2 : decode cX0_fewest 2 = .ok (.aload_n 0, 1) := dk_42 (dk_at dksX0_fewest_0 2 rfl rfl)
theorem dX0_fewest_3 : decode cX0_fewest 3 = .ok (.iload_n 1, 1) := dk_27 (dk_at dksX0_fewest_0 3 rfl rfl)
theorem dX0_fewest_4 : decode cX0_fewest 4 = .ok (.invokevirtual 94, 3) := dk_182 0 94 (dk_at dksX0_fewest_0 4 rfl rfl)
theorem dX0_fewest_7 : decode cX0_fewest 7 = .ok (.i2l, 1) := dk_133 (dk_at dksX0_fewest_0 7 rfl rfl)
theorem dX0_fewest_8 : decode cX0_fewest 8 = .ok (.lastore, 1) := dk_80 (dk_at dksX0_fewest_0 8 rfl rfl)
theorem dX0_fewest_9 : decode cX0_fewest 9 = .ok (.goto 9, 3) := dk_167 0 9 (dk_at dksX0_fewest_0 9 rfl rfl)
theorem dX0_fewest_12 : decode cX0_fewest 12 = .ok (.astore_n 3, 1) := dk_78 (dk_at dksX0_fewest_0 12 rfl rfl)
theorem dX0_fewest_13 : decode cX0_fewest 13 = .ok (.iconst 1, 1) := dk_4 (dk_at dksX0_fewest_0 13 rfl rfl)
theorem dX0_fewest_14 : decode cX0_fewest 14 = .ok (.ireturn, 1) := dk_172 (dk_at dksX0_fewest_0 14 rfl rfl)
theorem dX0_fewest_15 : decode cX0_fewest 15 = .ok (.astore_n 3, 1) := dk_78 (dk_at dksX0_fewest_0 15 rfl rfl)
theorem dX0_fewest_16 : decode cX0_fewest 16 = .ok (.iconst 2, 1) := dk_5 (dk_at dksX0_fewest_0 16 rfl rfl)
theorem dX0_fewest_17 : decode cX0_fewest 17 = .ok (.ireturn, 1) := dk_172 (dk_at dksX0_fewest_0 17 rfl rfl)
theorem dX0_fewest_18 : decode cX0_fewest 18 = .ok (.iconst 0, 1) := dk_3 (dk_at dksX0_fewest_0 18 rfl rfl)
theorem dX0_fewest_19 : decode cX0_fewest 19 = .ok (.ireturn, 1) := dk_172 (dk_at dksX0_fewest_0 19 rfl rfl)
def dkwX0_fewestAgain_0 : List UInt8 := [44, 3, 42, 27, 182, 0, 97, 133, 80, 167, 0, 9, 78, 4, 172, 78, 5, 172, 3, 172]
abbrev dktX0_fewestAgain_0 : List UInt8 := dkwX0_fewestAgain_0 ++ []
theorem dksX0_fewestAgain_0 : cX0_fewestAgain.data.toList.drop 0 = dktX0_fewestAgain_0 := by decide +kernel
theorem dX0_fewestAgain_0 : decode cX0_fewestAgain 0 = .ok (.aload_n 2, 1) := dk_44 (dk_at dksX0_fewestAgain_0 0 rfl rfl)
theorem dX0_fewestAgain_1 : decode cX0_fewestAgain 1 = .ok (.iconst 0, 1) := dk_3 (dk_at dksX0_fewestAgain_0 1 rfl rfl)
theorem dX0_fewestAgain_2 : decode cX0_fewestAgain 2 = .ok (.aload_n 0, 1) := dk_42 (dk_at dksX0_fewestAgain_0 2 rfl rfl)
theorem dX0_fewestAgain_3 : decode cX0_fewestAgain 3 = .ok (.iload_n 1, 1) := dk_27 (dk_at dksX0_fewestAgain_0 3 rfl rfl)
theorem dX0_fewestAgain_4 : decode cX0_fewestAgain 4 = .ok (.invokevirtual 97, 3) := dk_182 0 97 (dk_at dksX0_fewestAgain_0 4 rfl rfl)
theorem dX0_fewestAgain_7 : decode cX0_fewestAgain 7 = .ok (.i2l, 1) := dk_133 (dk_at dksX0_fewestAgain_0 7 rfl rfl)
theorem dX0_fewestAgain_8 : decode cX0_fewestAgain 8 = .ok (.lastore, 1) := dk_80 (dk_at dksX0_fewestAgain_0 8 rfl rfl)
theorem dX0_fewestAgain_9 : decode cX0_fewestAgain 9 = .ok (.goto 9, 3) := dk_167 0 9 (dk_at dksX0_fewestAgain_0 9 rfl rfl)
theorem dX0_fewestAgain_12 : decode cX0_fewestAgain 12 = .ok (.astore_n 3, 1) := dk_78 (dk_at dksX0_fewestAgain_0 12 rfl rfl)
theorem dX0_fewestAgain_13 : decode cX0_fewestAgain 13 = .ok (.iconst 1, 1) := dk_4 (dk_at dksX0_fewestAgain_0 13 rfl rfl)
theorem dX0_fewestAgain_14 : decode cX0_fewestAgain 14 = .ok (.ireturn, 1) := dk_172 (dk_at dksX0_fewestAgain_0 14 rfl rfl)
theorem dX0_fewestAgain_15 : decode cX0_fewestAgain 15 = .ok (.astore_n 3, 1) := dk_78 (dk_at dksX0_fewestAgain_0 15 rfl rfl)
theorem dX0_fewestAgain_16 : decode cX0_fewestAgain 16 = .ok (.iconst 2, 1) := dk_5 (dk_at dksX0_fewestAgain_0 16 rfl rfl)
theorem dX0_fewestAgain_17 : decode cX0_fewestAgain 17 = .ok (.ireturn, 1) := dk_172 (dk_at dksX0_fewestAgain_0 17 rfl rfl)
theorem dX0_fewestAgain_18 : decode cX0_fewestAgain 18 = .ok (.iconst 0, 1) := dk_3 (dk_at dksX0_fewestAgain_0 18 rfl rfl)
theorem dX0_fewestAgain_19 : decode cX0_fewestAgain 19 = .ok (.ireturn, 1) := dk_172 (dk_at dksX0_fewestAgain_0 19 rfl rfl)
def dkwX0_bestHeight_0 : List UInt8 := [44, 3, 42, 27, 182, 0, 100, 133, 80, 167, 0, 9, 78, 4, 172, 78, 5, 172, 3, 172]
abbrev dktX0_bestHeight_0 : List UInt8 := dkwX0_bestHeight_0 ++ []
theorem dksX0_bestHeight_0 : cX0_bestHeight.data.toList.drop 0 = dktX0_bestHeight_0 := by decide +kernel
theorem dX0_bestHeight_0 : decode cX0_bestHeight 0 = .ok (.aload_n 2, 1) := dk_44 (dk_at dksX0_bestHeight_0 0 rfl rfl)
theorem dX0_bestHeight_1 : decode cX0_bestHeight 1 = .ok (.iconst 0, 1) := dk_3 (dk_at dksX0_bestHeight_0 1 rfl rfl)
theorem dX0_bestHeight_2 : decode cX0_bestHeight 2 = .ok (.aload_n 0, 1) := dk_42 (dk_at dksX0_bestHeight_0 2 rfl rfl)
theorem dX0_bestHeight_3 : decode cX0_bestHeight 3 = .ok (.iload_n 1, 1) := dk_27 (dk_at dksX0_bestHeight_0 3 rfl rfl)
theorem dX0_bestHeight_4 : decode cX0_bestHeight 4 = .ok (.invokevirtual 100, 3) := dk_182 0 100 (dk_at dksX0_bestHeight_0 4 rfl rfl)
theorem dX0_bestHeight_7 : decode cX0_bestHeight 7 = .ok (.i2l, 1) := dk_133 (dk_at dksX0_bestHeight_0 7 rfl rfl)
theorem dX0_bestHeight_8 : decode cX0_bestHeight 8 = .ok (.lastore, 1) := dk_80 (dk_at dksX0_bestHeight_0 8 rfl rfl)
theorem dX0_bestHeight_9 : decode cX0_bestHeight 9 = .ok (.goto 9, 3) := dk_167 0 9 (dk_at dksX0_bestHeight_0 9 rfl rfl)
theorem dX0_bestHeight_12 : decode cX0_bestHeight 12 = .ok (.astore_n 3, 1) := dk_78 (dk_at dksX0_bestHeight_0 12 rfl rfl)
theorem dX0_bestHeight_13 : decode cX0_bestHeight 13 = .ok (.iconst 1, 1) := dk_4 (dk_at dksX0_bestHeight_0 13 rfl rfl)
theorem dX0_bestHeight_14 : decode cX0_bestHeight 14 = .ok (.ireturn, 1) := dk_172 (dk_at dksX0_bestHeight_0 14 rfl rfl)
theorem dX0_bestHeight_15 : decode cX0_bestHeight 15 = .ok (.astore_n 3, 1) := dk_78 (dk_at dksX0_bestHeight_0 15 rfl rfl)
theorem dX0_bestHeight_16 : decode cX0_bestHeight 16 = .ok (.iconst 2, 1) := dk_5 (dk_at dksX0_bestHeight_0 16 rfl rfl)
theorem dX0_bestHeight_17 : decode cX0_bestHeight 17 = .ok (.ireturn, 1) := dk_172 (dk_at dksX0_bestHeight_0 17 rfl rfl)
theorem dX0_bestHeight_18 : decode cX0_bestHeight 18 = .ok (.iconst 0, 1) := dk_3 (dk_at dksX0_bestHeight_0 18 rfl rfl)
theorem dX0_bestHeight_19 : decode cX0_bestHeight 19 = .ok (.ireturn, 1) := dk_172 (dk_at dksX0_bestHeight_0 19 rfl rfl)
def dkwX0_reach_0 : List UInt8 := [45, 3, 42, 27, 28, 182, 0, 103, 133, 80, 167, 0, 11, 58, 4, 4, 172, 58, 4, 5, 172, 3, 172]
abbrev dktX0_reach_0 : List UInt8 := dkwX0_reach_0 ++ []
theorem dksX0_reach_0 : cX0_reach.data.toList.drop 0 = dktX0_reach_0 := by decide +kernel
theorem dX0_reach_0 : decode cX0_reach 0 = .ok (.aload_n 3, 1) := dk_45 (dk_at dksX0_reach_0 0 rfl rfl)
theorem dX0_reach_1 : decode cX0_reach 1 = .ok (.iconst 0, 1) := dk_3 (dk_at dksX0_reach_0 1 rfl rfl)
theorem dX0_reach_2 : decode cX0_reach 2 = .ok (.aload_n 0, 1) := dk_42 (dk_at dksX0_reach_0 2 rfl rfl)
theorem dX0_reach_3 : decode cX0_reach 3 = .ok (.iload_n 1, 1) := dk_27 (dk_at dksX0_reach_0 3 rfl rfl)
theorem dX0_reach_4 : decode cX0_reach 4 = .ok (.iload_n 2, 1) := dk_28 (dk_at dksX0_reach_0 4 rfl rfl)
theorem dX0_reach_5 : decode cX0_reach 5 = .ok (.invokevirtual 103, 3) := dk_182 0 103 (dk_at dksX0_reach_0 5 rfl rfl)
theorem dX0_reach_8 : decode cX0_reach 8 = .ok (.i2l, 1) := dk_133 (dk_at dksX0_reach_0 8 rfl rfl)
theorem dX0_reach_9 : decode cX0_reach 9 = .ok (.lastore, 1) := dk_80 (dk_at dksX0_reach_0 9 rfl rfl)
theorem dX0_reach_10 : decode cX0_reach 10 = .ok (.goto 11, 3) := dk_167 0 11 (dk_at dksX0_reach_0 10 rfl rfl)
theorem dX0_reach_13 : decode cX0_reach 13 = .ok (.astore 4, 2) := dk_58 4 (dk_at dksX0_reach_0 13 rfl rfl)
theorem dX0_reach_15 : decode cX0_reach 15 = .ok (.iconst 1, 1) := dk_4 (dk_at dksX0_reach_0 15 rfl rfl)
theorem dX0_reach_16 : decode cX0_reach 16 = .ok (.ireturn, 1) := dk_172 (dk_at dksX0_reach_0 16 rfl rfl)
theorem dX0_reach_17 : decode cX0_reach 17 = .ok (.astore 4, 2) := dk_58 4 (dk_at dksX0_reach_0 17 rfl rfl)
theorem dX0_reach_19 : decode cX0_reach 19 = .ok (.iconst 2, 1) := dk_5 (dk_at dksX0_reach_0 19 rfl rfl)
theorem dX0_reach_20 : decode cX0_reach 20 = .ok (.ireturn, 1) := dk_172 (dk_at dksX0_reach_0 20 rfl rfl)
theorem dX0_reach_21 : decode cX0_reach 21 = .ok (.iconst 0, 1) := dk_3 (dk_at dksX0_reach_0 21 rfl rfl)
theorem dX0_reach_22 : decode cX0_reach 22 = .ok (.ireturn, 1) := dk_172 (dk_at dksX0_reach_0 22 rfl rfl)
def dkwX0_ranked_0 : List UInt8 := [44, 3, 42, 27, 182, 0, 106, 133, 80, 167, 0, 6, 78, 4, 172, 3, 172]
abbrev dktX0_ranked_0 : List UInt8 := dkwX0_ranked_0 ++ []
theorem dksX0_ranked_0 : cX0_ranked.data.toList.drop 0 = dktX0_ranked_0 := by decide +kernel
theorem dX0_ranked_0 : decode cX0_ranked 0 = .ok (.aload_n 2, 1) := dk_44 (dk_at dksX0_ranked_0 0 rfl rfl)
theorem dX0_ranked_1 : decode cX0_ranked 1 = .ok (.iconst 0, 1) := dk_3 (dk_at dksX0_ranked_0 1 rfl rfl)
theorem dX0_ranked_2 : decode cX0_ranked 2 = .ok (.aload_n 0, 1) := dk_42 (dk_at dksX0_ranked_0 2 rfl rfl)
theorem dX0_ranked_3 : decode cX0_ranked 3 = .ok (.iload_n 1, 1) := dk_27 (dk_at dksX0_ranked_0 3 rfl rfl)
theorem dX0_ranked_4 : decode cX0_ranked 4 = .ok (.invokevirtual 106, 3) := dk_182 0 106 (dk_at dksX0_ranked_0 4 rfl rfl)
theorem dX0_ranked_7 : decode cX0_ranked 7 = .ok (.i2l, 1) := dk_133 (dk_at dksX0_ranked_0 7 rfl rfl)
theorem dX0_ranked_8 : decode cX0_ranked 8 = .ok (.lastore, 1) := dk_80 (dk_at dksX0_ranked_0 8 rfl rfl)
theorem dX0_ranked_9 : decode cX0_ranked 9 = .ok (.goto 6, 3) := dk_167 0 6 (dk_at dksX0_ranked_0 9 rfl rfl)
theorem dX0_ranked_12 : decode cX0_ranked 12 = .ok (.astore_n 3, 1) := dk_78 (dk_at dksX0_ranked_0 12 rfl rfl)
theorem dX0_ranked_13 : decode cX0_ranked 13 = .ok (.iconst 1, 1) := dk_4 (dk_at dksX0_ranked_0 13 rfl rfl)
theorem dX0_ranked_14 : decode cX0_ranked 14 = .ok (.ireturn, 1) := dk_172 (dk_at dksX0_ranked_0 14 rfl rfl)
theorem dX0_ranked_15 : decode cX0_ranked 15 = .ok (.iconst 0, 1) := dk_3 (dk_at dksX0_ranked_0 15 rfl rfl)
theorem dX0_ranked_16 : decode cX0_ranked 16 = .ok (.ireturn, 1) := dk_172 (dk_at dksX0_ranked_0 16 rfl rfl)
def dkwX0_dearest_0 : List UInt8 := [43, 3, 42, 182, 0, 109, 133, 80, 167, 0, 6, 77, 4, 172, 3, 172]
abbrev dktX0_dearest_0 : List UInt8 := dkwX0_dearest_0 ++ []
theorem dksX0_dearest_0 : cX0_dearest.data.toList.drop 0 = dktX0_dearest_0 := by decide +kernel
theorem dX0_dearest_0 : decode cX0_dearest 0 = .ok (.aload_n 1, 1) := dk_43 (dk_at dksX0_dearest_0 0 rfl rfl)
theorem dX0_dearest_1 : decode cX0_dearest 1 = .ok (.iconst 0, 1) := dk_3 (dk_at dksX0_dearest_0 1 rfl rfl)
theorem dX0_dearest_2 : decode cX0_dearest 2 = .ok (.aload_n 0, 1) := dk_42 (dk_at dksX0_dearest_0 2 rfl rfl)
theorem dX0_dearest_3 : decode cX0_dearest 3 = .ok (.invokevirtual 109, 3) := dk_182 0 109 (dk_at dksX0_dearest_0 3 rfl rfl)
theorem dX0_dearest_6 : decode cX0_dearest 6 = .ok (.i2l, 1) := dk_133 (dk_at dksX0_dearest_0 6 rfl rfl)
theorem dX0_dearest_7 : decode cX0_dearest 7 = .ok (.lastore, 1) := dk_80 (dk_at dksX0_dearest_0 7 rfl rfl)
theorem dX0_dearest_8 : decode cX0_dearest 8 = .ok (.goto 6, 3) := dk_167 0 6 (dk_at dksX0_dearest_0 8 rfl rfl)
theorem dX0_dearest_11 : decode cX0_dearest 11 = .ok (.astore_n 2, 1) := dk_77 (dk_at dksX0_dearest_0 11 rfl rfl)
theorem dX0_dearest_12 : decode cX0_dearest 12 = .ok (.iconst 1, 1) := dk_4 (dk_at dksX0_dearest_0 12 rfl rfl)
theorem dX0_dearest_13 : decode cX0_dearest 13 = .ok (.ireturn, 1) := dk_172 (dk_at dksX0_dearest_0 13 rfl rfl)
theorem dX0_dearest_14 : decode cX0_dearest 14 = .ok (.iconst 0, 1) := dk_3 (dk_at dksX0_dearest_0 14 rfl rfl)
theorem dX0_dearest_15 : decode cX0_dearest 15 = .ok (.ireturn, 1) := dk_172 (dk_at dksX0_dearest_0 15 rfl rfl)
def dkwX0_append_0 : List UInt8 := [44, 3, 42, 27, 182, 0, 113, 133, 80, 167, 0, 9, 78, 4, 172, 78, 5, 172, 3, 172]
abbrev dktX0_append_0 : List UInt8 := dkwX0_append_0 ++ []
theorem dksX0_append_0 : cX0_append.data.toList.drop 0 = dktX0_append_0 := by decide +kernel
theorem dX0_append_0 : decode cX0_append 0 = .ok (.aload_n 2, 1) := dk_44 (dk_at dksX0_append_0 0 rfl rfl)
theorem dX0_append_1 : decode cX0_append 1 = .ok (.iconst 0, 1) := dk_3 (dk_at dksX0_append_0 1 rfl rfl)
theorem dX0_append_2 : decode cX0_append 2 = .ok (.aload_n 0, 1) := dk_42 (dk_at dksX0_append_0 2 rfl rfl)
theorem dX0_append_3 : decode cX0_append 3 = .ok (.iload_n 1, 1) := dk_27 (dk_at dksX0_append_0 3 rfl rfl)
theorem dX0_append_4 : decode cX0_append 4 = .ok (.invokevirtual 113, 3) := dk_182 0 113 (dk_at dksX0_append_0 4 rfl rfl)
theorem dX0_append_7 : decode cX0_append 7 = .ok (.i2l, 1) := dk_133 (dk_at dksX0_append_0 7 rfl rfl)
theorem dX0_append_8 : decode cX0_append 8 = .ok (.lastore, 1) := dk_80 (dk_at dksX0_append_0 8 rfl rfl)
theorem dX0_append_9 : decode cX0_append 9 = .ok (.goto 9, 3) := dk_167 0 9 (dk_at dksX0_append_0 9 rfl rfl)
theorem dX0_append_12 : decode cX0_append 12 = .ok (.astore_n 3, 1) := dk_78 (dk_at dksX0_append_0 12 rfl rfl)
theorem dX0_append_13 : decode cX0_append 13 = .ok (.iconst 1, 1) := dk_4 (dk_at dksX0_append_0 13 rfl rfl)
theorem dX0_append_14 : decode cX0_append 14 = .ok (.ireturn, 1) := dk_172 (dk_at dksX0_append_0 14 rfl rfl)
theorem dX0_append_15 : decode cX0_append 15 = .ok (.astore_n 3, 1) := dk_78 (dk_at dksX0_append_0 15 rfl rfl)
theorem dX0_append_16 : decode cX0_append 16 = .ok (.iconst 2, 1) := dk_5 (dk_at dksX0_append_0 16 rfl rfl)
theorem dX0_append_17 : decode cX0_append 17 = .ok (.ireturn, 1) := dk_172 (dk_at dksX0_append_0 17 rfl rfl)
theorem dX0_append_18 : decode cX0_append 18 = .ok (.iconst 0, 1) := dk_3 (dk_at dksX0_append_0 18 rfl rfl)
theorem dX0_append_19 : decode cX0_append 19 = .ok (.ireturn, 1) := dk_172 (dk_at dksX0_append_0 19 rfl rfl)
def dkwX0_run_0 : List UInt8 := [43, 3, 42, 182, 0, 119, 133, 80, 167, 0, 9, 77, 4, 172, 77, 5, 172, 3, 172]
abbrev dktX0_run_0 : List UInt8 := dkwX0_run_0 ++ []
theorem dksX0_run_0 : cX0_run.data.toList.drop 0 = dktX0_run_0 := by decide +kernel
theorem dX0_run_0 : decode cX0_run 0 = .ok (.aload_n 1, 1) := dk_43 (dk_at dksX0_run_0 0 rfl rfl)
theorem dX0_run_1 : decode cX0_run 1 = .ok (.iconst 0, 1) := dk_3 (dk_at dksX0_run_0 1 rfl rfl)
theorem dX0_run_2 : decode cX0_run 2 = .ok (.aload_n 0, 1) := dk_42 (dk_at dksX0_run_0 2 rfl rfl)
theorem dX0_run_3 : decode cX0_run 3 = .ok (.invokevirtual 119, 3) := dk_182 0 119 (dk_at dksX0_run_0 3 rfl rfl)
theorem dX0_run_6 : decode cX0_run 6 = .ok (.i2l, 1) := dk_133 (dk_at dksX0_run_0 6 rfl rfl)
theorem dX0_run_7 : decode cX0_run 7 = .ok (.lastore, 1) := dk_80 (dk_at dksX0_run_0 7 rfl rfl)
theorem dX0_run_8 : decode cX0_run 8 = .ok (.goto 9, 3) := dk_167 0 9 (dk_at dksX0_run_0 8 rfl rfl)
theorem dX0_run_11 : decode cX0_run 11 = .ok (.astore_n 2, 1) := dk_77 (dk_at dksX0_run_0 11 rfl rfl)
theorem dX0_run_12 : decode cX0_run 12 = .ok (.iconst 1, 1) := dk_4 (dk_at dksX0_run_0 12 rfl rfl)
theorem dX0_run_13 : decode cX0_run 13 = .ok (.ireturn, 1) := dk_172 (dk_at dksX0_run_0 13 rfl rfl)
theorem dX0_run_14 : decode cX0_run 14 = .ok (.astore_n 2, 1) := dk_77 (dk_at dksX0_run_0 14 rfl rfl)
theorem dX0_run_15 : decode cX0_run 15 = .ok (.iconst 2, 1) := dk_5 (dk_at dksX0_run_0 15 rfl rfl)
theorem dX0_run_16 : decode cX0_run 16 = .ok (.ireturn, 1) := dk_172 (dk_at dksX0_run_0 16 rfl rfl)
theorem dX0_run_17 : decode cX0_run 17 = .ok (.iconst 0, 1) := dk_3 (dk_at dksX0_run_0 17 rfl rfl)
theorem dX0_run_18 : decode cX0_run 18 = .ok (.ireturn, 1) := dk_172 (dk_at dksX0_run_0 18 rfl rfl)
def dkwX0_reason_0 : List UInt8 := [45, 3, 42, 27, 28, 182, 0, 122, 133, 80, 167, 0, 11, 58, 4, 4, 172, 58, 4, 5, 172, 3, 172]
abbrev dktX0_reason_0 : List UInt8 := dkwX0_reason_0 ++ []
theorem dksX0_reason_0 : cX0_reason.data.toList.drop 0 = dktX0_reason_0 := by decide +kernel
theorem dX0_reason_0 : decode cX0_reason 0 = .ok (.aload_n 3, 1) := dk_45 (dk_at dksX0_reason_0 0 rfl rfl)
theorem dX0_reason_1 : decode cX0_reason 1 = .ok (.iconst 0, 1) := dk_3 (dk_at dksX0_reason_0 1 rfl rfl)
theorem dX0_reason_2 : decode cX0_reason 2 = .ok (.aload_n 0, 1) := dk_42 (dk_at dksX0_reason_0 2 rfl rfl)
theorem dX0_reason_3 : decode cX0_reason 3 = .ok (.iload_n 1, 1) := dk_27 (dk_at dksX0_reason_0 3 rfl rfl)
theorem dX0_reason_4 : decode cX0_reason 4 = .ok (.iload_n 2, 1) := dk_28 (dk_at dksX0_reason_0 4 rfl rfl)
theorem dX0_reason_5 : decode cX0_reason 5 = .ok (.invokevirtual 122, 3) := dk_182 0 122 (dk_at dksX0_reason_0 5 rfl rfl)
theorem dX0_reason_8 : decode cX0_reason 8 = .ok (.i2l, 1) := dk_133 (dk_at dksX0_reason_0 8 rfl rfl)
theorem dX0_reason_9 : decode cX0_reason 9 = .ok (.lastore, 1) := dk_80 (dk_at dksX0_reason_0 9 rfl rfl)
theorem dX0_reason_10 : decode cX0_reason 10 = .ok (.goto 11, 3) := dk_167 0 11 (dk_at dksX0_reason_0 10 rfl rfl)
theorem dX0_reason_13 : decode cX0_reason 13 = .ok (.astore 4, 2) := dk_58 4 (dk_at dksX0_reason_0 13 rfl rfl)
theorem dX0_reason_15 : decode cX0_reason 15 = .ok (.iconst 1, 1) := dk_4 (dk_at dksX0_reason_0 15 rfl rfl)
theorem dX0_reason_16 : decode cX0_reason 16 = .ok (.ireturn, 1) := dk_172 (dk_at dksX0_reason_0 16 rfl rfl)
theorem dX0_reason_17 : decode cX0_reason 17 = .ok (.astore 4, 2) := dk_58 4 (dk_at dksX0_reason_0 17 rfl rfl)
theorem dX0_reason_19 : decode cX0_reason 19 = .ok (.iconst 2, 1) := dk_5 (dk_at dksX0_reason_0 19 rfl rfl)
theorem dX0_reason_20 : decode cX0_reason 20 = .ok (.ireturn, 1) := dk_172 (dk_at dksX0_reason_0 20 rfl rfl)
theorem dX0_reason_21 : decode cX0_reason 21 = .ok (.iconst 0, 1) := dk_3 (dk_at dksX0_reason_0 21 rfl rfl)
theorem dX0_reason_22 : decode cX0_reason 22 = .ok (.ireturn, 1) := dk_172 (dk_at dksX0_reason_0 22 rfl rfl)
def dkwX0_tell_0 : List UInt8 := [44, 3, 42, 27, 182, 0, 126, 133, 80, 167, 0, 6, 78, 4, 172, 3, 172]
abbrev dktX0_tell_0 : List UInt8 := dkwX0_tell_0 ++ []
theorem dksX0_tell_0 : cX0_tell.data.toList.drop 0 = dktX0_tell_0 := by decide +kernel
theorem dX0_tell_0 : decode cX0_tell 0 = .ok (.aload_n 2, 1) := dk_44 (dk_at dksX0_tell_0 0 rfl rfl)
theorem dX0_tell_1 : decode cX0_tell 1 = .ok (.iconst 0, 1) := dk_3 (dk_at dksX0_tell_0 1 rfl rfl)
theorem dX0_tell_2 : decode cX0_tell 2 = .ok (.aload_n 0, 1) := dk_42 (dk_at dksX0_tell_0 2 rfl rfl)
theorem dX0_tell_3 : decode cX0_tell 3 = .ok (.iload_n 1, 1) := dk_27 (dk_at dksX0_tell_0 3 rfl rfl)
theorem dX0_tell_4 : decode cX0_tell 4 = .ok (.invokevirtual 126, 3) := dk_182 0 126 (dk_at dksX0_tell_0 4 rfl rfl)
theorem dX0_tell_7 : decode cX0_tell 7 = .ok (.i2l, 1) := dk_133 (dk_at dksX0_tell_0 7 rfl rfl)
theorem dX0_tell_8 : decode cX0_tell 8 = .ok (.lastore, 1) := dk_80 (dk_at dksX0_tell_0 8 rfl rfl)
theorem dX0_tell_9 : decode cX0_tell 9 = .ok (.goto 6, 3) := dk_167 0 6 (dk_at dksX0_tell_0 9 rfl rfl)
theorem dX0_tell_12 : decode cX0_tell 12 = .ok (.astore_n 3, 1) := dk_78 (dk_at dksX0_tell_0 12 rfl rfl)
theorem dX0_tell_13 : decode cX0_tell 13 = .ok (.iconst 1, 1) := dk_4 (dk_at dksX0_tell_0 13 rfl rfl)
theorem dX0_tell_14 : decode cX0_tell 14 = .ok (.ireturn, 1) := dk_172 (dk_at dksX0_tell_0 14 rfl rfl)
theorem dX0_tell_15 : decode cX0_tell 15 = .ok (.iconst 0, 1) := dk_3 (dk_at dksX0_tell_0 15 rfl rfl)
theorem dX0_tell_16 : decode cX0_tell 16 = .ok (.ireturn, 1) := dk_172 (dk_at dksX0_tell_0 16 rfl rfl)
def dkwX0_tellRow_0 : List UInt8 := [44, 3, 42, 27, 182, 0, 129, 133, 80, 167, 0, 6, 78, 4, 172, 3, 172]
abbrev dktX0_tellRow_0 : List UInt8 := dkwX0_tellRow_0 ++ []
theorem dksX0_tellRow_0 : cX0_tellRow.data.toList.drop 0 = dktX0_tellRow_0 := by decide +kernel
theorem dX0_tellRow_0 : decode cX0_tellRow 0 = .ok (.aload_n 2, 1) := dk_44 (dk_at dksX0_tellRow_0 0 rfl rfl)
theorem dX0_tellRow_1 : decode cX0_tellRow 1 = .ok (.iconst 0, 1) := dk_3 (dk_at dksX0_tellRow_0 1 rfl rfl)
theorem dX0_tellRow_2 : decode cX0_tellRow 2 = .ok (.aload_n 0, 1) := dk_42 (dk_at dksX0_tellRow_0 2 rfl rfl)
theorem dX0_tellRow_3 : decode cX0_tellRow 3 = .ok (.iload_n 1, 1) := dk_27 (dk_at dksX0_tellRow_0 3 rfl rfl)
theorem dX0_tellRow_4 : decode cX0_tellRow 4 = .ok (.invokevirtual 129, 3) := dk_182 0 129 (dk_at dksX0_tellRow_0 4 rfl rfl)
theorem dX0_tellRow_7 : decode cX0_tellRow 7 = .ok (.i2l, 1) := dk_133 (dk_at dksX0_tellRow_0 7 rfl rfl)
theorem dX0_tellRow_8 : decode cX0_tellRow 8 = .ok (.lastore, 1) := dk_80 (dk_at dksX0_tellRow_0 8 rfl rfl)
theorem dX0_tellRow_9 : decode cX0_tellRow 9 = .ok (.goto 6, 3) := dk_167 0 6 (dk_at dksX0_tellRow_0 9 rfl rfl)
theorem dX0_tellRow_12 : decode cX0_tellRow 12 = .ok (.astore_n 3, 1) := dk_78 (dk_at dksX0_tellRow_0 12 rfl rfl)
theorem dX0_tellRow_13 : decode cX0_tellRow 13 = .ok (.iconst 1, 1) := dk_4 (dk_at dksX0_tellRow_0 13 rfl rfl)
theorem dX0_tellRow_14 : decode cX0_tellRow 14 = .ok (.ireturn, 1) := dk_172 (dk_at dksX0_tellRow_0 14 rfl rfl)
theorem dX0_tellRow_15 : decode cX0_tellRow 15 = .ok (.iconst 0, 1) := dk_3 (dk_at dksX0_tellRow_0 15 rfl rfl)
theorem dX0_tellRow_16 : decode cX0_tellRow 16 = .ok (.ireturn, 1) := dk_172 (dk_at dksX0_tellRow_0 16 rfl rfl)
def dkwX0_tellSpire_0 : List UInt8 := [44, 3, 42, 27, 182, 0, 132, 133, 80, 167, 0, 6, 78, 4, 172, 3, 172]
abbrev dktX0_tellSpire_0 : List UInt8 := dkwX0_tellSpire_0 ++ []
theorem dksX0_tellSpire_0 : cX0_tellSpire.data.toList.drop 0 = dktX0_tellSpire_0 := by decide +kernel
theorem dX0_tellSpire_0 : decode cX0_tellSpire 0 = .ok (.aload_n 2, 1) := dk_44 (dk_at dksX0_tellSpire_0 0 rfl rfl)
theorem dX0_tellSpire_1 : decode cX0_tellSpire 1 = .ok (.iconst 0, 1) := dk_3 (dk_at dksX0_tellSpire_0 1 rfl rfl)
theorem dX0_tellSpire_2 : decode cX0_tellSpire 2 = .ok (.aload_n 0, 1) := dk_42 (dk_at dksX0_tellSpire_0 2 rfl rfl)
theorem dX0_tellSpire_3 : decode cX0_tellSpire 3 = .ok (.iload_n 1, 1) := dk_27 (dk_at dksX0_tellSpire_0 3 rfl rfl)
theorem dX0_tellSpire_4 : decode cX0_tellSpire 4 = .ok (.invokevirtual 132, 3) := dk_182 0 132 (dk_at dksX0_tellSpire_0 4 rfl rfl)
theorem dX0_tellSpire_7 : decode cX0_tellSpire 7 = .ok (.i2l, 1) := dk_133 (dk_at dksX0_tellSpire_0 7 rfl rfl)
theorem dX0_tellSpire_8 : decode cX0_tellSpire 8 = .ok (.lastore, 1) := dk_80 (dk_at dksX0_tellSpire_0 8 rfl rfl)
theorem dX0_tellSpire_9 : decode cX0_tellSpire 9 = .ok (.goto 6, 3) := dk_167 0 6 (dk_at dksX0_tellSpire_0 9 rfl rfl)
theorem dX0_tellSpire_12 : decode cX0_tellSpire 12 = .ok (.astore_n 3, 1) := dk_78 (dk_at dksX0_tellSpire_0 12 rfl rfl)
theorem dX0_tellSpire_13 : decode cX0_tellSpire 13 = .ok (.iconst 1, 1) := dk_4 (dk_at dksX0_tellSpire_0 13 rfl rfl)
theorem dX0_tellSpire_14 : decode cX0_tellSpire 14 = .ok (.ireturn, 1) := dk_172 (dk_at dksX0_tellSpire_0 14 rfl rfl)
theorem dX0_tellSpire_15 : decode cX0_tellSpire 15 = .ok (.iconst 0, 1) := dk_3 (dk_at dksX0_tellSpire_0 15 rfl rfl)
theorem dX0_tellSpire_16 : decode cX0_tellSpire 16 = .ok (.ireturn, 1) := dk_172 (dk_at dksX0_tellSpire_0 16 rfl rfl)
def dkwX0_character_0 : List UInt8 := [44, 3, 42, 27, 182, 0, 135, 133, 80, 167, 0, 6, 78, 4, 172, 3, 172]
abbrev dktX0_character_0 : List UInt8 := dkwX0_character_0 ++ []
theorem dksX0_character_0 : cX0_character.data.toList.drop 0 = dktX0_character_0 := by decide +kernel
theorem dX0_character_0 : decode cX0_character 0 = .ok (.aload_n 2, 1) := dk_44 (dk_at dksX0_character_0 0 rfl rfl)
theorem dX0_character_1 : decode cX0_character 1 = .ok (.iconst 0, 1) := dk_3 (dk_at dksX0_character_0 1 rfl rfl)
theorem dX0_character_2 : decode cX0_character 2 = .ok (.aload_n 0, 1) := dk_42 (dk_at dksX0_character_0 2 rfl rfl)
theorem dX0_character_3 : decode cX0_character 3 = .ok (.iload_n 1, 1) := dk_27 (dk_at dksX0_character_0 3 rfl rfl)
theorem dX0_character_4 : decode cX0_character 4 = .ok (.invokevirtual 135, 3) := dk_182 0 135 (dk_at dksX0_character_0 4 rfl rfl)
theorem dX0_character_7 : decode cX0_character 7 = .ok (.i2l, 1) := dk_133 (dk_at dksX0_character_0 7 rfl rfl)
theorem dX0_character_8 : decode cX0_character 8 = .ok (.lastore, 1) := dk_80 (dk_at dksX0_character_0 8 rfl rfl)
theorem dX0_character_9 : decode cX0_character 9 = .ok (.goto 6, 3) := dk_167 0 6 (dk_at dksX0_character_0 9 rfl rfl)
theorem dX0_character_12 : decode cX0_character 12 = .ok (.astore_n 3, 1) := dk_78 (dk_at dksX0_character_0 12 rfl rfl)
theorem dX0_character_13 : decode cX0_character 13 = .ok (.iconst 1, 1) := dk_4 (dk_at dksX0_character_0 13 rfl rfl)
theorem dX0_character_14 : decode cX0_character 14 = .ok (.ireturn, 1) := dk_172 (dk_at dksX0_character_0 14 rfl rfl)
theorem dX0_character_15 : decode cX0_character 15 = .ok (.iconst 0, 1) := dk_3 (dk_at dksX0_character_0 15 rfl rfl)
theorem dX0_character_16 : decode cX0_character 16 = .ok (.ireturn, 1) := dk_172 (dk_at dksX0_character_0 16 rfl rfl)
def dkwX0_account_0 : List UInt8 := [44, 3, 42, 27, 182, 0, 139, 133, 80, 167, 0, 6, 78, 4, 172, 3, 172]
abbrev dktX0_account_0 : List UInt8 := dkwX0_account_0 ++ []
theorem dksX0_account_0 : cX0_account.data.toList.drop 0 = dktX0_account_0 := by decide +kernel
theorem dX0_account_0 : decode cX0_account 0 = .ok (.aload_n 2, 1) := dk_44 (dk_at dksX0_account_0 0 rfl rfl)
theorem dX0_account_1 : decode cX0_account 1 = .ok (.iconst 0, 1) := dk_3 (dk_at dksX0_account_0 1 rfl rfl)
theorem dX0_account_2 : decode cX0_account 2 = .ok (.aload_n 0, 1) := dk_42 (dk_at dksX0_account_0 2 rfl rfl)
theorem dX0_account_3 : decode cX0_account 3 = .ok (.iload_n 1, 1) := dk_27 (dk_at dksX0_account_0 3 rfl rfl)
theorem dX0_account_4 : decode cX0_account 4 = .ok (.invokevirtual 139, 3) := dk_182 0 139 (dk_at dksX0_account_0 4 rfl rfl)
theorem dX0_account_7 : decode cX0_account 7 = .ok (.i2l, 1) := dk_133 (dk_at dksX0_account_0 7 rfl rfl)
theorem dX0_account_8 : decode cX0_account 8 = .ok (.lastore, 1) := dk_80 (dk_at dksX0_account_0 8 rfl rfl)
theorem dX0_account_9 : decode cX0_account 9 = .ok (.goto 6, 3) := dk_167 0 6 (dk_at dksX0_account_0 9 rfl rfl)
theorem dX0_account_12 : decode cX0_account 12 = .ok (.astore_n 3, 1) := dk_78 (dk_at dksX0_account_0 12 rfl rfl)
theorem dX0_account_13 : decode cX0_account 13 = .ok (.iconst 1, 1) := dk_4 (dk_at dksX0_account_0 13 rfl rfl)
theorem dX0_account_14 : decode cX0_account 14 = .ok (.ireturn, 1) := dk_172 (dk_at dksX0_account_0 14 rfl rfl)
theorem dX0_account_15 : decode cX0_account 15 = .ok (.iconst 0, 1) := dk_3 (dk_at dksX0_account_0 15 rfl rfl)
theorem dX0_account_16 : decode cX0_account 16 = .ok (.ireturn, 1) := dk_172 (dk_at dksX0_account_0 16 rfl rfl)
def dkwX0_meanGas_0 : List UInt8 := [43, 3, 42, 182, 0, 142, 82, 167, 0, 6, 77, 4, 172, 3, 172]
abbrev dktX0_meanGas_0 : List UInt8 := dkwX0_meanGas_0 ++ []
theorem dksX0_meanGas_0 : cX0_meanGas.data.toList.drop 0 = dktX0_meanGas_0 := by decide +kernel
theorem dX0_meanGas_0 : decode cX0_meanGas 0 = .ok (.aload_n 1, 1) := dk_43 (dk_at dksX0_meanGas_0 0 rfl rfl)
theorem dX0_meanGas_1 : decode cX0_meanGas 1 = .ok (.iconst 0, 1) := dk_3 (dk_at dksX0_meanGas_0 1 rfl rfl)
theorem dX0_meanGas_2 : decode cX0_meanGas 2 = .ok (.aload_n 0, 1) := dk_42 (dk_at dksX0_meanGas_0 2 rfl rfl)
theorem dX0_meanGas_3 : decode cX0_meanGas 3 = .ok (.invokevirtual 142, 3) := dk_182 0 142 (dk_at dksX0_meanGas_0 3 rfl rfl)
theorem dX0_meanGas_6 : decode cX0_meanGas 6 = .ok (.dastore, 1) := dk_82 (dk_at dksX0_meanGas_0 6 rfl rfl)
theorem dX0_meanGas_7 : decode cX0_meanGas 7 = .ok (.goto 6, 3) := dk_167 0 6 (dk_at dksX0_meanGas_0 7 rfl rfl)
theorem dX0_meanGas_10 : decode cX0_meanGas 10 = .ok (.astore_n 2, 1) := dk_77 (dk_at dksX0_meanGas_0 10 rfl rfl)
theorem dX0_meanGas_11 : decode cX0_meanGas 11 = .ok (.iconst 1, 1) := dk_4 (dk_at dksX0_meanGas_0 11 rfl rfl)
theorem dX0_meanGas_12 : decode cX0_meanGas 12 = .ok (.ireturn, 1) := dk_172 (dk_at dksX0_meanGas_0 12 rfl rfl)
theorem dX0_meanGas_13 : decode cX0_meanGas 13 = .ok (.iconst 0, 1) := dk_3 (dk_at dksX0_meanGas_0 13 rfl rfl)
theorem dX0_meanGas_14 : decode cX0_meanGas 14 = .ok (.ireturn, 1) := dk_172 (dk_at dksX0_meanGas_0 14 rfl rfl)
def dkwX0_flyingShare_0 : List UInt8 := [43, 3, 42, 182, 0, 148, 141, 82, 167, 0, 6, 77, 4, 172, 3, 172]
abbrev dktX0_flyingShare_0 : List UInt8 := dkwX0_flyingShare_0 ++ []
theorem dksX0_flyingShare_0 : cX0_flyingShare.data.toList.drop 0 = dktX0_flyingShare_0 := by decide +kernel
theorem dX0_flyingShare_0 : decode cX0_flyingShare 0 = .ok (.aload_n 1, 1) := dk_43 (dk_at dksX0_flyingShare_0 0 rfl rfl)
theorem dX0_flyingShare_1 : decode cX0_flyingShare 1 = .ok (.iconst 0, 1) := dk_3 (dk_at dksX0_flyingShare_0 1 rfl rfl)
theorem dX0_flyingShare_2 : decode cX0_flyingShare 2 = .ok (.aload_n 0, 1) := dk_42 (dk_at dksX0_flyingShare_0 2 rfl rfl)
theorem dX0_flyingShare_3 : decode cX0_flyingShare 3 = .ok (.invokevirtual 148, 3) := dk_182 0 148 (dk_at dksX0_flyingShare_0 3 rfl rfl)
theorem dX0_flyingShare_6 : decode cX0_flyingShare 6 = .ok (.f2d, 1) := dk_141 (dk_at dksX0_flyingShare_0 6 rfl rfl)
theorem dX0_flyingShare_7 : decode cX0_flyingShare 7 = .ok (.dastore, 1) := dk_82 (dk_at dksX0_flyingShare_0 7 rfl rfl)
theorem dX0_flyingShare_8 : decode cX0_flyingShare 8 = .ok (.goto 6, 3) := dk_167 0 6 (dk_at dksX0_flyingShare_0 8 rfl rfl)
theorem dX0_flyingShare_11 : decode cX0_flyingShare 11 = .ok (.astore_n 2, 1) := dk_77 (dk_at dksX0_flyingShare_0 11 rfl rfl)
theorem dX0_flyingShare_12 : decode cX0_flyingShare 12 = .ok (.iconst 1, 1) := dk_4 (dk_at dksX0_flyingShare_0 12 rfl rfl)
theorem dX0_flyingShare_13 : decode cX0_flyingShare 13 = .ok (.ireturn, 1) := dk_172 (dk_at dksX0_flyingShare_0 13 rfl rfl)
theorem dX0_flyingShare_14 : decode cX0_flyingShare 14 = .ok (.iconst 0, 1) := dk_3 (dk_at dksX0_flyingShare_0 14 rfl rfl)
theorem dX0_flyingShare_15 : decode cX0_flyingShare 15 = .ok (.ireturn, 1) := dk_172 (dk_at dksX0_flyingShare_0 15 rfl rfl)
def dkwX0_undo_0 : List UInt8 := [43, 3, 42, 182, 0, 152, 133, 80, 167, 0, 6, 77, 4, 172, 3, 172]
abbrev dktX0_undo_0 : List UInt8 := dkwX0_undo_0 ++ []
theorem dksX0_undo_0 : cX0_undo.data.toList.drop 0 = dktX0_undo_0 := by decide +kernel
theorem dX0_undo_0 : decode cX0_undo 0 = .ok (.aload_n 1, 1) := dk_43 (dk_at dksX0_undo_0 0 rfl rfl)
theorem dX0_undo_1 : decode cX0_undo 1 = .ok (.iconst 0, 1) := dk_3 (dk_at dksX0_undo_0 1 rfl rfl)
theorem dX0_undo_2 : decode cX0_undo 2 = .ok (.aload_n 0, 1) := dk_42 (dk_at dksX0_undo_0 2 rfl rfl)
theorem dX0_undo_3 : decode cX0_undo 3 = .ok (.invokevirtual 152, 3) := dk_182 0 152 (dk_at dksX0_undo_0 3 rfl rfl)
theorem dX0_undo_6 : decode cX0_undo 6 = .ok (.i2l, 1) := dk_133 (dk_at dksX0_undo_0 6 rfl rfl)
theorem dX0_undo_7 : decode cX0_undo 7 = .ok (.lastore, 1) := dk_80 (dk_at dksX0_undo_0 7 rfl rfl)
theorem dX0_undo_8 : decode cX0_undo 8 = .ok (.goto 6, 3) := dk_167 0 6 (dk_at dksX0_undo_0 8 rfl rfl)
theorem dX0_undo_11 : decode cX0_undo 11 = .ok (.astore_n 2, 1) := dk_77 (dk_at dksX0_undo_0 11 rfl rfl)
theorem dX0_undo_12 : decode cX0_undo 12 = .ok (.iconst 1, 1) := dk_4 (dk_at dksX0_undo_0 12 rfl rfl)
theorem dX0_undo_13 : decode cX0_undo 13 = .ok (.ireturn, 1) := dk_172 (dk_at dksX0_undo_0 13 rfl rfl)
theorem dX0_undo_14 : decode cX0_undo 14 = .ok (.iconst 0, 1) := dk_3 (dk_at dksX0_undo_0 14 rfl rfl)
theorem dX0_undo_15 : decode cX0_undo 15 = .ok (.ireturn, 1) := dk_172 (dk_at dksX0_undo_0 15 rfl rfl)
def dkwX0_restore_0 : List UInt8 := [43, 3, 42, 182, 0, 155, 133, 80, 167, 0, 6, 77, 4, 172, 3, 172]
abbrev dktX0_restore_0 : List UInt8 := dkwX0_restore_0 ++ []
theorem dksX0_restore_0 : cX0_restore.data.toList.drop 0 = dktX0_restore_0 := by decide +kernel
theorem dX0_restore_0 : decode cX0_restore 0 = .ok (.aload_n 1, 1) := dk_43 (dk_at dksX0_restore_0 0 rfl rfl)
theorem dX0_restore_1 : decode cX0_restore 1 = .ok (.iconst 0, 1) := dk_3 (dk_at dksX0_restore_0 1 rfl rfl)
theorem dX0_restore_2 : decode cX0_restore 2 = .ok (.aload_n 0, 1) := dk_42 (dk_at dksX0_restore_0 2 rfl rfl)
theorem dX0_restore_3 : decode cX0_restore 3 = .ok (.invokevirtual 155, 3) := dk_182 0 155 (dk_at dksX0_restore_0 3 rfl rfl)
theorem dX0_restore_6 : decode cX0_restore 6 = .ok (.i2l, 1) := dk_133 (dk_at dksX0_restore_0 6 rfl rfl)
theorem dX0_restore_7 : decode cX0_restore 7 = .ok (.lastore, 1) := dk_80 (dk_at dksX0_restore_0 7 rfl rfl)
theorem dX0_restore_8 : decode cX0_restore 8 = .ok (.goto 6, 3) := dk_167 0 6 (dk_at dksX0_restore_0 8 rfl rfl)
theorem dX0_restore_11 : decode cX0_restore 11 = .ok (.astore_n 2, 1) := dk_77 (dk_at dksX0_restore_0 11 rfl rfl)
theorem dX0_restore_12 : decode cX0_restore 12 = .ok (.iconst 1, 1) := dk_4 (dk_at dksX0_restore_0 12 rfl rfl)
theorem dX0_restore_13 : decode cX0_restore 13 = .ok (.ireturn, 1) := dk_172 (dk_at dksX0_restore_0 13 rfl rfl)
theorem dX0_restore_14 : decode cX0_restore 14 = .ok (.iconst 0, 1) := dk_3 (dk_at dksX0_restore_0 14 rfl rfl)
theorem dX0_restore_15 : decode cX0_restore 15 = .ok (.ireturn, 1) := dk_172 (dk_at dksX0_restore_0 15 rfl rfl)
