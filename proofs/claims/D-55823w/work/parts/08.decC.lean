set_option maxRecDepth 100000
def dkwX3_init_4 : List UInt8 := [181, 0, 43, 42, 16, 40, 188, 5, 181, 0, 46, 177]
abbrev dktX3_init_4 : List UInt8 := dkwX3_init_4 ++ []
def dkwX3_init_3 : List UInt8 := [181, 0, 32, 42, 16, 60, 188, 5, 181, 0, 35, 42, 2, 181, 0, 39, 42, 17, 1, 44, 188, 10]
abbrev dktX3_init_3 : List UInt8 := dkwX3_init_3 ++ dktX3_init_4
def dkwX3_init_2 : List UInt8 := [181, 0, 22, 42, 7, 188, 10, 181, 0, 25, 42, 16, 100, 188, 4, 181, 0, 28, 42, 16, 100, 188, 4]
abbrev dktX3_init_2 : List UInt8 := dkwX3_init_2 ++ dktX3_init_3
def dkwX3_init_1 : List UInt8 := [17, 1, 31, 188, 10, 181, 0, 16, 42, 17, 1, 31, 188, 10, 181, 0, 19, 42, 17, 8, 248, 188, 10]
abbrev dktX3_init_1 : List UInt8 := dkwX3_init_1 ++ dktX3_init_2
def dkwX3_init_0 : List UInt8 := [42, 183, 0, 3, 42, 17, 1, 31, 188, 10, 181, 0, 9, 42, 17, 1, 31, 188, 10, 181, 0, 13, 42]
abbrev dktX3_init_0 : List UInt8 := dkwX3_init_0 ++ dktX3_init_1
theorem dksX3_init_0 : cX3_init.data.toList.drop 0 = dktX3_init_0 := by decide +kernel
theorem dksX3_init_1 : cX3_init.data.toList.drop 23 = dktX3_init_1 := dk_seg dksX3_init_0 23 rfl rfl
theorem dksX3_init_2 : cX3_init.data.toList.drop 46 = dktX3_init_2 := dk_seg dksX3_init_1 23 rfl rfl
theorem dksX3_init_3 : cX3_init.data.toList.drop 69 = dktX3_init_3 := dk_seg dksX3_init_2 23 rfl rfl
theorem dksX3_init_4 : cX3_init.data.toList.drop 91 = dktX3_init_4 := dk_seg dksX3_init_3 22 rfl rfl
theorem dX3_init_0 : decode cX3_init 0 = .ok (.aload_n 0, 1) := dk_42 (dk_at dksX3_init_0 0 rfl rfl)
theorem dX3_init_1 : decode cX3_init 1 = .ok (.invokespecial 3, 3) := dk_183 0 3 (dk_at dksX3_init_0 1 rfl rfl)
theorem dX3_init_4 : decode cX3_init 4 = .ok (.aload_n 0, 1) := dk_42 (dk_at dksX3_init_0 4 rfl rfl)
theorem dX3_init_5 : decode cX3_init 5 = .ok (.sipush 287, 3) := dk_17 1 31 (dk_at dksX3_init_0 5 rfl rfl)
theorem dX3_init_8 : decode cX3_init 8 = .ok (.newarray .int, 2) := dk_188_10 (dk_at dksX3_init_0 8 rfl rfl)
theorem dX3_init_10 : decode cX3_init 10 = .ok (.putfield 9, 3) := dk_181 0 9 (dk_at dksX3_init_0 10 rfl rfl)
theorem dX3_init_13 : decode cX3_init 13 = .ok (.aload_n 0, 1) := dk_42 (dk_at dksX3_init_0 13 rfl rfl)
theorem dX3_init_14 : decode cX3_init 14 = .ok (.sipush 287, 3) := dk_17 1 31 (dk_at dksX3_init_0 14 rfl rfl)
theorem dX3_init_17 : decode cX3_init 17 = .ok (.newarray .int, 2) := dk_188_10 (dk_at dksX3_init_0 17 rfl rfl)
theorem dX3_init_19 : decode cX3_init 19 = .ok (.putfield 13, 3) := dk_181 0 13 (dk_at dksX3_init_0 19 rfl rfl)
theorem dX3_init_22 : decode cX3_init 22 = .ok (.aload_n 0, 1) := dk_42 (dk_at dksX3_init_0 22 rfl rfl)
theorem dX3_init_23 : decode cX3_init 23 = .ok (.sipush 287, 3) := dk_17 1 31 (dk_at dksX3_init_1 0 rfl rfl)
theorem dX3_init_26 : decode cX3_init 26 = .ok (.newarray .int, 2) := dk_188_10 (dk_at dksX3_init_1 3 rfl rfl)
theorem dX3_init_28 : decode cX3_init 28 = .ok (.putfield 16, 3) := dk_181 0 16 (dk_at dksX3_init_1 5 rfl rfl)
theorem dX3_init_31 : decode cX3_init 31 = .ok (.aload_n 0, 1) := dk_42 (dk_at dksX3_init_1 8 rfl rfl)
theorem dX3_init_32 : decode cX3_init 32 = .ok (.sipush 287, 3) := dk_17 1 31 (dk_at dksX3_init_1 9 rfl rfl)
theorem dX3_init_35 : decode cX3_init 35 = .ok (.newarray .int, 2) := dk_188_10 (dk_at dksX3_init_1 12 rfl rfl)
theorem dX3_init_37 : decode cX3_init 37 = .ok (.putfield 19, 3) := dk_181 0 19 (dk_at dksX3_init_1 14 rfl rfl)
theorem dX3_init_40 : decode cX3_init 40 = .ok (.aload_n 0, 1) := dk_42 (dk_at dksX3_init_1 17 rfl rfl)
theorem dX3_init_41 : decode cX3_init 41 = .ok (.sipush 2296, 3) := dk_17 8 248 (dk_at dksX3_init_1 18 rfl rfl)
theorem dX3_init_44 : decode cX3_init 44 = .ok (.newarray .int, 2) := dk_188_10 (dk_at dksX3_init_1 21 rfl rfl)
theorem dX3_init_46 : decode cX3_init 46 = .ok (.putfield 22, 3) := dk_181 0 22 (dk_at dksX3_init_2 0 rfl rfl)
theorem dX3_init_49 : decode cX3_init 49 = .ok (.aload_n 0, 1) := dk_42 (dk_at dksX3_init_2 3 rfl rfl)
theorem dX3_init_50 : decode cX3_init 50 = .ok (.iconst 4, 1) := dk_7 (dk_at dksX3_init_2 4 rfl rfl)
theorem dX3_init_51 : decode cX3_init 51 = .ok (.newarray .int, 2) := dk_188_10 (dk_at dksX3_init_2 5 rfl rfl)
theorem dX3_init_53 : decode cX3_init 53 = .ok (.putfield 25, 3) := dk_181 0 25 (dk_at dksX3_init_2 7 rfl rfl)
theorem dX3_init_56 : decode cX3_init 56 = .ok (.aload_n 0, 1) := dk_42 (dk_at dksX3_init_2 10 rfl rfl)
theorem dX3_init_57 : decode cX3_init 57 = .ok (.bipush 100, 2) := dk_16 100 (dk_at dksX3_init_2 11 rfl rfl)
theorem dX3_init_59 : decode cX3_init 59 = .ok (.newarray .boolean, 2) := dk_188_4 (dk_at dksX3_init_2 13 rfl rfl)
theorem dX3_init_61 : decode cX3_init 61 = .ok (.putfield 28, 3) := dk_181 0 28 (dk_at dksX3_init_2 15 rfl rfl)
theorem dX3_init_64 : decode cX3_init 64 = .ok (.aload_n 0, 1) := dk_42 (dk_at dksX3_init_2 18 rfl rfl)
theorem dX3_init_65 : decode cX3_init 65 = .ok (.bipush 100, 2) := dk_16 100 (dk_at dksX3_init_2 19 rfl rfl)
theorem dX3_init_67 : decode cX3_init 67 = .ok (.newarray .boolean, 2) := dk_188_4 (dk_at dksX3_init_2 21 rfl rfl)
theorem dX3_init_69 : decode cX3_init 69 = .ok (.putfield 32, 3) := dk_181 0 32 (dk_at dksX3_init_3 0 rfl rfl)
theorem dX3_init_72 : decode cX3_init 72 = .ok (.aload_n 0, 1) := dk_42 (dk_at dksX3_init_3 3 rfl rfl)
theorem dX3_init_73 : decode cX3_init 73 = .ok (.bipush 60, 2) := dk_16 60 (dk_at dksX3_init_3 4 rfl rfl)
theorem dX3_init_75 : decode cX3_init 75 = .ok (.newarray .char, 2) := dk_188_5 (dk_at dksX3_init_3 6 rfl rfl)
theorem dX3_init_77 : decode cX3_init 77 = .ok (.putfield 35, 3) := dk_181 0 35 (dk_at dksX3_init_3 8 rfl rfl)
theorem dX3_init_80 : decode cX3_init 80 = .ok (.aload_n 0, 1) := dk_42 (dk_at dksX3_init_3 11 rfl rfl)
theorem dX3_init_81 : decode cX3_init 81 = .ok (.iconst (-1), 1) := dk_2 (dk_at dksX3_init_3 12 rfl rfl)
theorem dX3_init_82 : decode cX3_init 82 = .ok (.putfield 39, 3) := dk_181 0 39 (dk_at dksX3_init_3 13 rfl rfl)
theorem dX3_init_85 : decode cX3_init 85 = .ok (.aload_n 0, 1) := dk_42 (dk_at dksX3_init_3 16 rfl rfl)
theorem dX3_init_86 : decode cX3_init 86 = .ok (.sipush 300, 3) := dk_17 1 44 (dk_at dksX3_init_3 17 rfl rfl)
theorem dX3_init_89 : decode cX3_init 89 = .ok (.newarray .int, 2) := dk_188_10 (dk_at dksX3_init_3 20 rfl rfl)
theorem dX3_init_91 : decode cX3_init 91 = .ok (.putfield 43, 3) := dk_181 0 43 (dk_at dksX3_init_4 0 rfl rfl)
theorem dX3_init_94 : decode cX3_init 94 = .ok (.aload_n 0, 1) := dk_42 (dk_at dksX3_init_4 3 rfl rfl)
theorem dX3_init_95 : decode cX3_init 95 = .ok (.bipush 40, 2) := dk_16 40 (dk_at dksX3_init_4 4 rfl rfl)
theorem dX3_init_97 : decode cX3_init 97 = .ok (.newarray .char, 2) := dk_188_5 (dk_at dksX3_init_4 6 rfl rfl)
theorem dX3_init_99 : decode cX3_init 99 = .ok (.putfield 46, 3) := dk_181 0 46 (dk_at dksX3_init_4 8 rfl rfl)
theorem dX3_init_102 : decode cX3_init 102 = .ok (.return_, 1) := dk_177 (dk_at dksX3_init_4 11 rfl rfl)
theorem dX3_thrown_0 : decode cX3_thrown 0 = .ok (.aload_n 0, 1) := by decide +kernel
theorem dX3_thrown_1 : decode cX3_thrown 1 = .ok (.getfield 49, 3) := by decide +kernel
theorem dX3_thrown_4 : decode cX3_thrown 4 = .ok (.ireturn, 1) := by decide +kernel
def dkwX3_reason_3 : List UInt8 := [153, 0, 7, 4, 167, 0, 4, 3, 96, 46, 172]
abbrev dktX3_reason_3 : List UInt8 := dkwX3_reason_3 ++ []
def dkwX3_reason_2 : List UInt8 := [181, 0, 49, 42, 180, 0, 49, 158, 0, 7, 3, 167, 0, 21, 42, 180, 0, 25, 5, 27, 104, 28]
abbrev dktX3_reason_2 : List UInt8 := dkwX3_reason_2 ++ dktX3_reason_3
def dkwX3_reason_1 : List UInt8 := [154, 0, 18, 42, 180, 0, 25, 5, 27, 104, 46, 154, 0, 7, 5, 167, 0, 7, 42, 180, 0, 49]
abbrev dktX3_reason_1 : List UInt8 := dkwX3_reason_1 ++ dktX3_reason_2
def dkwX3_reason_0 : List UInt8 := [42, 27, 3, 4, 184, 0, 61, 154, 0, 7, 4, 167, 0, 4, 3, 181, 0, 49, 42, 42, 180, 0, 49]
abbrev dktX3_reason_0 : List UInt8 := dkwX3_reason_0 ++ dktX3_reason_1
theorem dksX3_reason_0 : cX3_reason.data.toList.drop 0 = dktX3_reason_0 := by decide +kernel
theorem dksX3_reason_1 : cX3_reason.data.toList.drop 23 = dktX3_reason_1 := dk_seg dksX3_reason_0 23 rfl rfl
theorem dksX3_reason_2 : cX3_reason.data.toList.drop 45 = dktX3_reason_2 := dk_seg dksX3_reason_1 22 rfl rfl
theorem dksX3_reason_3 : cX3_reason.data.toList.drop 67 = dktX3_reason_3 := dk_seg dksX3_reason_2 22 rfl rfl
theorem dX3_reason_0 : decode cX3_reason 0 = .ok (.aload_n 0, 1) := dk_42 (dk_at dksX3_reason_0 0 rfl rfl)
theorem dX3_reason_1 : decode cX3_reason 1 = .ok (.iload_n 1, 1) := dk_27 (dk_at dksX3_reason_0 1 rfl rfl)
theorem dX3_reason_2 : decode cX3_reason 2 = .ok (.iconst 0, 1) := dk_3 (dk_at dksX3_reason_0 2 rfl rfl)
theorem dX3_reason_3 : decode cX3_reason 3 = .ok (.iconst 1, 1) := dk_4 (dk_at dksX3_reason_0 3 rfl rfl)
theorem dX3_reason_4 : decode cX3_reason 4 = .ok (.invokestatic 61, 3) := dk_184 0 61 (dk_at dksX3_reason_0 4 rfl rfl)
theorem dX3_reason_7 : decode cX3_reason 7 = .ok (.ifCond .ne 7, 3) := dk_154 0 7 (dk_at dksX3_reason_0 7 rfl rfl)
theorem dX3_reason_10 : decode cX3_reason 10 = .ok (.iconst 1, 1) := dk_4 (dk_at dksX3_reason_0 10 rfl rfl)
theorem dX3_reason_11 : decode cX3_reason 11 = .ok (.goto 4, 3) := dk_167 0 4 (dk_at dksX3_reason_0 11 rfl rfl)
theorem dX3_reason_14 : decode cX3_reason 14 = .ok (.iconst 0, 1) := dk_3 (dk_at dksX3_reason_0 14 rfl rfl)
theorem dX3_reason_15 : decode cX3_reason 15 = .ok (.putfield 49, 3) := dk_181 0 49 (dk_at dksX3_reason_0 15 rfl rfl)
theorem dX3_reason_18 : decode cX3_reason 18 = .ok (.aload_n 0, 1) := dk_42 (dk_at dksX3_reason_0 18 rfl rfl)
theorem dX3_reason_19 : decode cX3_reason 19 = .ok (.aload_n 0, 1) := dk_42 (dk_at dksX3_reason_0 19 rfl rfl)
theorem dX3_reason_20 : decode cX3_reason 20 = .ok (.getfield 49, 3) := dk_180 0 49 (dk_at dksX3_reason_0 20 rfl rfl)
theorem dX3_reason_23 : decode cX3_reason 23 = .ok (.ifCond .ne 18, 3) := dk_154 0 18 (dk_at dksX3_reason_1 0 rfl rfl)
theorem dX3_reason_26 : decode cX3_reason 26 = .ok (.aload_n 0, 1) := dk_42 (dk_at dksX3_reason_1 3 rfl rfl)
theorem dX3_reason_27 : decode cX3_reason 27 = .ok (.getfield 25, 3) := dk_180 0 25 (dk_at dksX3_reason_1 4 rfl rfl)
theorem dX3_reason_30 : decode cX3_reason 30 = .ok (.iconst 2, 1) := dk_5 (dk_at dksX3_reason_1 7 rfl rfl)
theorem dX3_reason_31 : decode cX3_reason 31 = .ok (.iload_n 1, 1) := dk_27 (dk_at dksX3_reason_1 8 rfl rfl)
theorem dX3_reason_32 : decode cX3_reason 32 = .ok (.imul, 1) := dk_104 (dk_at dksX3_reason_1 9 rfl rfl)
theorem dX3_reason_33 : decode cX3_reason 33 = .ok (.iaload, 1) := dk_46 (dk_at dksX3_reason_1 10 rfl rfl)
theorem dX3_reason_34 : decode cX3_reason 34 = .ok (.ifCond .ne 7, 3) := dk_154 0 7 (dk_at dksX3_reason_1 11 rfl rfl)
theorem dX3_reason_37 : decode cX3_reason 37 = .ok (.iconst 2, 1) := dk_5 (dk_at dksX3_reason_1 14 rfl rfl)
theorem dX3_reason_38 : decode cX3_reason 38 = .ok (.goto 7, 3) := dk_167 0 7 (dk_at dksX3_reason_1 15 rfl rfl)
theorem dX3_reason_41 : decode cX3_reason 41 = .ok (.aload_n 0, 1) := dk_42 (dk_at dksX3_reason_1 18 rfl rfl)
theorem dX3_reason_42 : decode cX3_reason 42 = .ok (.getfield 49, 3) := dk_180 0 49 (dk_at dksX3_reason_1 19 rfl rfl)
theorem dX3_reason_45 : decode cX3_reason 45 = .ok (.putfield 49, 3) := dk_181 0 49 (dk_at dksX3_reason_2 0 rfl rfl)
theorem dX3_reason_48 : decode cX3_reason 48 = .ok (.aload_n 0, 1) := dk_42 (dk_at dksX3_reason_2 3 rfl rfl)
theorem dX3_reason_49 : decode cX3_reason 49 = .ok (.getfield 49, 3) := dk_180 0 49 (dk_at dksX3_reason_2 4 rfl rfl)
theorem dX3_reason_52 : decode cX3_reason 52 = .ok (.ifCond .le 7, 3) := dk_158 0 7 (dk_at dksX3_reason_2 7 rfl rfl)
theorem dX3_reason_55 : decode cX3_reason 55 = .ok (.iconst 0, 1) := dk_3 (dk_at dksX3_reason_2 10 rfl rfl)
theorem dX3_reason_56 : decode cX3_reason 56 = .ok (.goto 21, 3) := dk_167 0 21 (dk_at dksX3_reason_2 11 rfl rfl)
theorem dX3_reason_59 : decode cX3_reason 59 = .ok (.aload_n 0, 1) := dk_42 (dk_at dksX3_reason_2 14 rfl rfl)
theorem dX3_reason_60 : decode cX3_reason 60 = .ok (.getfield 25, 3) := dk_180 0 25 (dk_at dksX3_reason_2 15 rfl rfl)
theorem dX3_reason_63 : decode cX3_reason 63 = .ok (.iconst 2, 1) := dk_5 (dk_at dksX3_reason_2 18 rfl rfl)
theorem dX3_reason_64 : decode cX3_reason 64 = .ok (.iload_n 1, 1) := dk_27 (dk_at dksX3_reason_2 19 rfl rfl)
theorem dX3_reason_65 : decode cX3_reason 65 = .ok (.imul, 1) := dk_104 (dk_at dksX3_reason_2 20 rfl rfl)
theorem dX3_reason_66 : decode cX3_reason 66 = .ok (.iload_n 2, 1) := dk_28 (dk_at dksX3_reason_2 21 rfl rfl)
theorem dX3_reason_67 : decode cX3_reason 67 = .ok (.ifCond .eq 7, 3) := dk_153 0 7 (dk_at dksX3_reason_3 0 rfl rfl)
theorem dX3_reason_70 : decode cX3_reason 70 = .ok (.iconst 1, 1) := dk_4 (dk_at dksX3_reason_3 3 rfl rfl)
theorem dX3_reason_71 : decode cX3_reason 71 = .ok (.goto 4, 3) := dk_167 0 4 (dk_at dksX3_reason_3 4 rfl rfl)
theorem dX3_reason_74 : decode cX3_reason 74 = .ok (.iconst 0, 1) := dk_3 (dk_at dksX3_reason_3 7 rfl rfl)
theorem dX3_reason_75 : decode cX3_reason 75 = .ok (.iadd, 1) := dk_96 (dk_at dksX3_reason_3 8 rfl rfl)
theorem dX3_reason_76 : decode cX3_reason 76 = .ok (.iaload, 1) := dk_46 (dk_at dksX3_reason_3 9 rfl rfl)
theorem dX3_reason_77 : decode cX3_reason 77 = .ok (.ireturn, 1) := dk_172 (dk_at dksX3_reason_3 10 rfl rfl)
def dkwX3_in_0 : List UInt8 := [26, 27, 161, 0, 12, 26, 28, 163, 0, 7, 4, 167, 0, 4, 3, 172]
abbrev dktX3_in_0 : List UInt8 := dkwX3_in_0 ++ []
theorem dksX3_in_0 : cX3_in.data.toList.drop 0 = dktX3_in_0 := by decide +kernel
theorem dX3_in_0 : decode cX3_in 0 = .ok (.iload_n 0, 1) := dk_26 (dk_at dksX3_in_0 0 rfl rfl)
theorem dX3_in_1 : decode cX3_in 1 = .ok (.iload_n 1, 1) := dk_27 (dk_at dksX3_in_0 1 rfl rfl)
theorem dX3_in_2 : decode cX3_in 2 = .ok (.if_icmp .lt 12, 3) := dk_161 0 12 (dk_at dksX3_in_0 2 rfl rfl)
theorem dX3_in_5 : decode cX3_in 5 = .ok (.iload_n 0, 1) := dk_26 (dk_at dksX3_in_0 5 rfl rfl)
theorem dX3_in_6 : decode cX3_in 6 = .ok (.iload_n 2, 1) := dk_28 (dk_at dksX3_in_0 6 rfl rfl)
theorem dX3_in_7 : decode cX3_in 7 = .ok (.if_icmp .gt 7, 3) := dk_163 0 7 (dk_at dksX3_in_0 7 rfl rfl)
theorem dX3_in_10 : decode cX3_in 10 = .ok (.iconst 1, 1) := dk_4 (dk_at dksX3_in_0 10 rfl rfl)
theorem dX3_in_11 : decode cX3_in 11 = .ok (.goto 4, 3) := dk_167 0 4 (dk_at dksX3_in_0 11 rfl rfl)
theorem dX3_in_14 : decode cX3_in 14 = .ok (.iconst 0, 1) := dk_3 (dk_at dksX3_in_0 14 rfl rfl)
theorem dX3_in_15 : decode cX3_in 15 = .ok (.ireturn, 1) := dk_172 (dk_at dksX3_in_0 15 rfl rfl)
def dkwX3_enter_0 : List UInt8 := [42, 182, 0, 90, 42, 42, 27, 28, 29, 21, 4, 182, 0, 93, 182, 0, 96, 172]
abbrev dktX3_enter_0 : List UInt8 := dkwX3_enter_0 ++ []
theorem dksX3_enter_0 : cX3_enter.data.toList.drop 0 = dktX3_enter_0 := by decide +kernel
theorem dX3_enter_0 : decode cX3_enter 0 = .ok (.aload_n 0, 1) := dk_42 (dk_at dksX3_enter_0 0 rfl rfl)
theorem dX3_enter_1 : decode cX3_enter 1 = .ok (.invokevirtual 90, 3) := dk_182 0 90 (dk_at dksX3_enter_0 1 rfl rfl)
theorem dX3_enter_4 : decode cX3_enter 4 = .ok (.aload_n 0, 1) := dk_42 (dk_at dksX3_enter_0 4 rfl rfl)
theorem dX3_enter_5 : decode cX3_enter 5 = .ok (.aload_n 0, 1) := dk_42 (dk_at dksX3_enter_0 5 rfl rfl)
theorem dX3_enter_6 : decode cX3_enter 6 = .ok (.iload_n 1, 1) := dk_27 (dk_at dksX3_enter_0 6 rfl rfl)
theorem dX3_enter_7 : decode cX3_enter 7 = .ok (.iload_n 2, 1) := dk_28 (dk_at dksX3_enter_0 7 rfl rfl)
theorem dX3_enter_8 : decode cX3_enter 8 = .ok (.iload_n 3, 1) := dk_29 (dk_at dksX3_enter_0 8 rfl rfl)
theorem dX3_enter_9 : decode cX3_enter 9 = .ok (.iload 4, 2) := dk_21 4 (dk_at dksX3_enter_0 9 rfl rfl)
theorem dX3_enter_11 : decode cX3_enter 11 = .ok (.invokevirtual 93, 3) := dk_182 0 93 (dk_at dksX3_enter_0 11 rfl rfl)
theorem dX3_enter_14 : decode cX3_enter 14 = .ok (.invokevirtual 96, 3) := dk_182 0 96 (dk_at dksX3_enter_0 14 rfl rfl)
theorem dX3_enter_17 : decode cX3_enter 17 = .ok (.ireturn, 1) := dk_172 (dk_at dksX3_enter_0 17 rfl rfl)
def dkwX3_keep_0 : List UInt8 := [42, 3, 181, 0, 49, 42, 180, 0, 9, 3, 42, 180, 0, 13, 3, 17, 1, 31, 184, 0, 52, 177]
abbrev dktX3_keep_0 : List UInt8 := dkwX3_keep_0 ++ []
theorem dksX3_keep_0 : cX3_keep.data.toList.drop 0 = dktX3_keep_0 := by decide +kernel
theorem dX3_keep_0 : decode cX3_keep 0 = .ok (.aload_n 0, 1) := dk_42 (dk_at dksX3_keep_0 0 rfl rfl)
theorem dX3_keep_1 : decode cX3_keep 1 = .ok (.iconst 0, 1) := dk_3 (dk_at dksX3_keep_0 1 rfl rfl)
theorem dX3_keep_2 : decode cX3_keep 2 = .ok (.putfield 49, 3) := dk_181 0 49 (dk_at dksX3_keep_0 2 rfl rfl)
theorem dX3_keep_5 : decode cX3_keep 5 = .ok (.aload_n 0, 1) := dk_42 (dk_at dksX3_keep_0 5 rfl rfl)
theorem dX3_keep_6 : decode cX3_keep 6 = .ok (.getfield 9, 3) := dk_180 0 9 (dk_at dksX3_keep_0 6 rfl rfl)
theorem dX3_keep_9 : decode cX3_keep 9 = .ok (.iconst 0, 1) := dk_3 (dk_at dksX3_keep_0 9 rfl rfl)
theorem dX3_keep_10 : decode cX3_keep 10 = .ok (.aload_n 0, 1) := dk_42 (dk_at dksX3_keep_0 10 rfl rfl)
theorem dX3_keep_11 : decode cX3_keep 11 = .ok (.getfield 13, 3) := dk_180 0 13 (dk_at dksX3_keep_0 11 rfl rfl)
theorem dX3_keep_14 : decode cX3_keep 14 = .ok (.iconst 0, 1) := dk_3 (dk_at dksX3_keep_0 14 rfl rfl)
theorem dX3_keep_15 : decode cX3_keep 15 = .ok (.sipush 287, 3) := dk_17 1 31 (dk_at dksX3_keep_0 15 rfl rfl)
theorem dX3_keep_18 : decode cX3_keep 18 = .ok (.invokestatic 52, 3) := dk_184 0 52 (dk_at dksX3_keep_0 18 rfl rfl)
theorem dX3_keep_21 : decode cX3_keep 21 = .ok (.return_, 1) := dk_177 (dk_at dksX3_keep_0 21 rfl rfl)
def dkwX3_doEnter_7 : List UInt8 := [79, 42, 180, 0, 9, 16, 7, 92, 46, 4, 96, 79, 21, 5, 172]
abbrev dktX3_doEnter_7 : List UInt8 := dkwX3_doEnter_7 ++ []
def dkwX3_doEnter_6 : List UInt8 := [21, 4, 167, 0, 4, 3, 182, 0, 86, 132, 8, 1, 167, 255, 197, 42, 180, 0, 9, 3, 92, 46, 4, 96]
abbrev dktX3_doEnter_6 : List UInt8 := dkwX3_doEnter_6 ++ dktX3_doEnter_7
def dkwX3_doEnter_5 : List UInt8 := [160, 0, 7, 28, 167, 0, 25, 21, 8, 6, 160, 0, 7, 29, 167, 0, 15, 21, 8, 7, 160, 0, 8]
abbrev dktX3_doEnter_5 : List UInt8 := dkwX3_doEnter_5 ++ dktX3_doEnter_6
def dkwX3_doEnter_4 : List UInt8 := [21, 8, 16, 9, 162, 0, 58, 42, 21, 5, 21, 8, 21, 8, 154, 0, 7, 27, 167, 0, 35, 21, 8, 4]
abbrev dktX3_doEnter_4 : List UInt8 := dkwX3_doEnter_4 ++ dktX3_doEnter_5
def dkwX3_doEnter_3 : List UInt8 := [21, 4, 182, 0, 83, 172, 21, 5, 16, 6, 160, 0, 11, 42, 4, 16, 6, 182, 0, 83, 172, 3, 54, 8]
abbrev dktX3_doEnter_3 : List UInt8 := dkwX3_doEnter_3 ++ dktX3_doEnter_4
def dkwX3_doEnter_2 : List UInt8 := [16, 40, 184, 0, 79, 54, 7, 21, 7, 5, 162, 0, 20, 42, 7, 21, 7, 154, 0, 7, 29, 167, 0, 5]
abbrev dktX3_doEnter_2 : List UInt8 := dkwX3_doEnter_2 ++ dktX3_doEnter_3
def dkwX3_doEnter_1 : List UInt8 := [162, 0, 19, 42, 7, 21, 6, 154, 0, 7, 27, 167, 0, 4, 28, 182, 0, 83, 172, 29, 16, 20, 21, 4]
abbrev dktX3_doEnter_1 : List UInt8 := dkwX3_doEnter_1 ++ dktX3_doEnter_2
def dkwX3_doEnter_0 : List UInt8 := [42, 180, 0, 9, 3, 46, 54, 5, 27, 16, 9, 28, 16, 9, 184, 0, 79, 54, 6, 21, 6, 5]
abbrev dktX3_doEnter_0 : List UInt8 := dkwX3_doEnter_0 ++ dktX3_doEnter_1
theorem dksX3_doEnter_0 : cX3_doEnter.data.toList.drop 0 = dktX3_doEnter_0 := by decide +kernel
theorem dksX3_doEnter_1 : cX3_doEnter.data.toList.drop 22 = dktX3_doEnter_1 := dk_seg dksX3_doEnter_0 22 rfl rfl
theorem dksX3_doEnter_2 : cX3_doEnter.data.toList.drop 46 = dktX3_doEnter_2 := dk_seg dksX3_doEnter_1 24 rfl rfl
theorem dksX3_doEnter_3 : cX3_doEnter.data.toList.drop 70 = dktX3_doEnter_3 := dk_seg dksX3_doEnter_2 24 rfl rfl
theorem dksX3_doEnter_4 : cX3_doEnter.data.toList.drop 94 = dktX3_doEnter_4 := dk_seg dksX3_doEnter_3 24 rfl rfl
theorem dksX3_doEnter_5 : cX3_doEnter.data.toList.drop 118 = dktX3_doEnter_5 := dk_seg dksX3_doEnter_4 24 rfl rfl
theorem dksX3_doEnter_6 : cX3_doEnter.data.toList.drop 141 = dktX3_doEnter_6 := dk_seg dksX3_doEnter_5 23 rfl rfl
theorem dksX3_doEnter_7 : cX3_doEnter.data.toList.drop 165 = dktX3_doEnter_7 := dk_seg dksX3_doEnter_6 24 rfl rfl
theorem dX3_doEnter_0 : decode cX3_doEnter 0 = .ok (.aload_n 0, 1) := dk_42 (dk_at dksX3_doEnter_0 0 rfl rfl)
theorem dX3_doEnter_1 : decode cX3_doEnter 1 = .ok (.getfield 9, 3) := dk_180 0 9 (dk_at dksX3_doEnter_0 1 rfl rfl)
theorem dX3_doEnter_4 : decode cX3_doEnter 4 = .ok (.iconst 0, 1) := dk_3 (dk_at dksX3_doEnter_0 4 rfl rfl)
theorem dX3_doEnter_5 : decode cX3_doEnter 5 = .ok (.iaload, 1) := dk_46 (dk_at dksX3_doEnter_0 5 rfl rfl)
theorem dX3_doEnter_6 : decode cX3_doEnter 6 = .ok (.istore 5, 2) := dk_54 5 (dk_at dksX3_doEnter_0 6 rfl rfl)
theorem dX3_doEnter_8 : decode cX3_doEnter 8 = .ok (.iload_n 1, 1) := dk_27 (dk_at dksX3_doEnter_0 8 rfl rfl)
theorem dX3_doEnter_9 : decode cX3_doEnter 9 = .ok (.bipush 9, 2) := dk_16 9 (dk_at dksX3_doEnter_0 9 rfl rfl)
theorem dX3_doEnter_11 : decode cX3_doEnter 11 = .ok (.iload_n 2, 1) := dk_28 (dk_at dksX3_doEnter_0 11 rfl rfl)
theorem dX3_doEnter_12 : decode cX3_doEnter 12 = .ok (.bipush 9, 2) := dk_16 9 (dk_at dksX3_doEnter_0 12 rfl rfl)
theorem dX3_doEnter_14 : decode cX3_doEnter 14 = .ok (.invokestatic 79, 3) := dk_184 0 79 (dk_at dksX3_doEnter_0 14 rfl rfl)
theorem dX3_doEnter_17 : decode cX3_doEnter 17 = .ok (.istore 6, 2) := dk_54 6 (dk_at dksX3_doEnter_0 17 rfl rfl)
theorem dX3_doEnter_19 : decode cX3_doEnter 19 = .ok (.iload 6, 2) := dk_21 6 (dk_at dksX3_doEnter_0 19 rfl rfl)
theorem dX3_doEnter_21 : decode cX3_doEnter 21 = .ok (.iconst 2, 1) := dk_5 (dk_at dksX3_doEnter_0 21 rfl rfl)
theorem dX3_doEnter_22 : decode cX3_doEnter 22 = .ok (.if_icmp .ge 19, 3) := dk_162 0 19 (dk_at dksX3_doEnter_1 0 rfl rfl)
theorem dX3_doEnter_25 : decode cX3_doEnter 25 = .ok (.aload_n 0, 1) := dk_42 (dk_at dksX3_doEnter_1 3 rfl rfl)
theorem dX3_doEnter_26 : decode cX3_doEnter 26 = .ok (.iconst 4, 1) := dk_7 (dk_at dksX3_doEnter_1 4 rfl rfl)
theorem dX3_doEnter_27 : decode cX3_doEnter 27 = .ok (.iload 6, 2) := dk_21 6 (dk_at dksX3_doEnter_1 5 rfl rfl)
theorem dX3_doEnter_29 : decode cX3_doEnter 29 = .ok (.ifCond .ne 7, 3) := dk_154 0 7 (dk_at dksX3_doEnter_1 7 rfl rfl)
theorem dX3_doEnter_32 : decode cX3_doEnter 32 = .ok (.iload_n 1, 1) := dk_27 (dk_at dksX3_doEnter_1 10 rfl rfl)
theorem dX3_doEnter_33 : decode cX3_doEnter 33 = .ok (.goto 4, 3) := dk_167 0 4 (dk_at dksX3_doEnter_1 11 rfl rfl)
theorem dX3_doEnter_36 : decode cX3_doEnter 36 = .ok (.iload_n 2, 1) := dk_28 (dk_at dksX3_doEnter_1 14 rfl rfl)
theorem dX3_doEnter_37 : decode cX3_doEnter 37 = .ok (.invokevirtual 83, 3) := dk_182 0 83 (dk_at dksX3_doEnter_1 15 rfl rfl)
theorem dX3_doEnter_40 : decode cX3_doEnter 40 = .ok (.ireturn, 1) := dk_172 (dk_at dksX3_doEnter_1 18 rfl rfl)
theorem dX3_doEnter_41 : decode cX3_doEnter 41 = .ok (.iload_n 3, 1) := dk_29 (dk_at dksX3_doEnter_1 19 rfl rfl)
theorem dX3_doEnter_42 : decode cX3_doEnter 42 = .ok (.bipush 20, 2) := dk_16 20 (dk_at dksX3_doEnter_1 20 rfl rfl)
theorem dX3_doEnter_44 : decode cX3_doEnter 44 = .ok (.iload 4, 2) := dk_21 4 (dk_at dksX3_doEnter_1 22 rfl rfl)
theorem dX3_doEnter_46 : decode cX3_doEnter 46 = .ok (.bipush 40, 2) := dk_16 40 (dk_at dksX3_doEnter_2 0 rfl rfl)
theorem dX3_doEnter_48 : decode cX3_doEnter 48 = .ok (.invokestatic 79, 3) := dk_184 0 79 (dk_at dksX3_doEnter_2 2 rfl rfl)
theorem dX3_doEnter_51 : decode cX3_doEnter 51 = .ok (.istore 7, 2) := dk_54 7 (dk_at dksX3_doEnter_2 5 rfl rfl)
theorem dX3_doEnter_53 : decode cX3_doEnter 53 = .ok (.iload 7, 2) := dk_21 7 (dk_at dksX3_doEnter_2 7 rfl rfl)
theorem dX3_doEnter_55 : decode cX3_doEnter 55 = .ok (.iconst 2, 1) := dk_5 (dk_at dksX3_doEnter_2 9 rfl rfl)
theorem dX3_doEnter_56 : decode cX3_doEnter 56 = .ok (.if_icmp .ge 20, 3) := dk_162 0 20 (dk_at dksX3_doEnter_2 10 rfl rfl)
theorem dX3_doEnter_59 : decode cX3_doEnter 59 = .ok (.aload_n 0, 1) := dk_42 (dk_at dksX3_doEnter_2 13 rfl rfl)
theorem dX3_doEnter_60 : decode cX3_doEnter 60 = .ok (.iconst 4, 1) := dk_7 (dk_at dksX3_doEnter_2 14 rfl rfl)
theorem dX3_doEnter_61 : decode cX3_doEnter 61 = .ok (.iload 7, 2) := dk_21 7 (dk_at dksX3_doEnter_2 15 rfl rfl)
theorem dX3_doEnter_63 : decode cX3_doEnter 63 = .ok (.ifCond .ne 7, 3) := dk_154 0 7 (dk_at dksX3_doEnter_2 17 rfl rfl)
theorem dX3_doEnter_66 : decode cX3_doEnter 66 = .ok (.iload_n 3, 1) := dk_29 (dk_at dksX3_doEnter_2 20 rfl rfl)
theorem dX3_doEnter_67 : decode cX3_doEnter 67 = .ok (.goto 5, 3) := dk_167 0 5 (dk_at dksX3_doEnter_2 21 rfl rfl)
theorem dX3_doEnter_70 : decode cX3_doEnter 70 = .ok (.iload 4, 2) := dk_21 4 (dk_at dksX3_doEnter_3 0 rfl rfl)
theorem dX3_doEnter_72 : decode cX3_doEnter 72 = .ok (.invokevirtual 83, 3) := dk_182 0 83 (dk_at dksX3_doEnter_3 2 rfl rfl)
theorem dX3_doEnter_75 : decode cX3_doEnter 75 = .ok (.ireturn, 1) := dk_172 (dk_at dksX3_doEnter_3 5 rfl rfl)
theorem dX3_doEnter_76 : decode cX3_doEnter 76 = .ok (.iload 5, 2) := dk_21 5 (dk_at dksX3_doEnter_3 6 rfl rfl)
theorem dX3_doEnter_78 : decode cX3_doEnter 78 = .ok (.bipush 6, 2) := dk_16 6 (dk_at dksX3_doEnter_3 8 rfl rfl)
theorem dX3_doEnter_80 : decode cX3_doEnter 80 = .ok (.if_icmp .ne 11, 3) := dk_160 0 11 (dk_at dksX3_doEnter_3 10 rfl rfl)
theorem dX3_doEnter_83 : decode cX3_doEnter 83 = .ok (.aload_n 0, 1) := dk_42 (dk_at dksX3_doEnter_3 13 rfl rfl)
theorem dX3_doEnter_84 : decode cX3_doEnter 84 = .ok (.iconst 1, 1) := dk_4 (dk_at dksX3_doEnter_3 14 rfl rfl)
theorem dX3_doEnter_85 : decode cX3_doEnter 85 = .ok (.bipush 6, 2) := dk_16 6 (dk_at dksX3_doEnter_3 15 rfl rfl)
theorem dX3_doEnter_87 : decode cX3_doEnter 87 = .ok (.invokevirtual 83, 3) := dk_182 0 83 (dk_at dksX3_doEnter_3 17 rfl rfl)
theorem dX3_doEnter_90 : decode cX3_doEnter 90 = .ok (.ireturn, 1) := dk_172 (dk_at dksX3_doEnter_3 20 rfl rfl)
theorem dX3_doEnter_91 : decode cX3_doEnter 91 = .ok (.iconst 0, 1) := dk_3 (dk_at dksX3_doEnter_3 21 rfl rfl)
theorem dX3_doEnter_92 : decode cX3_doEnter 92 = .ok (.istore 8, 2) := dk_54 8 (dk_at dksX3_doEnter_3 22 rfl rfl)
theorem dX3_doEnter_94 : decode cX3_doEnter 94 = .ok (.iload 8, 2) := dk_21 8 (dk_at dksX3_doEnter_4 0 rfl rfl)
theorem dX3_doEnter_96 : decode cX3_doEnter 96 = .ok (.bipush 9, 2) := dk_16 9 (dk_at dksX3_doEnter_4 2 rfl rfl)
theorem dX3_doEnter_98 : decode cX3_doEnter 98 = .ok (.if_icmp .ge 58, 3) := dk_162 0 58 (dk_at dksX3_doEnter_4 4 rfl rfl)
theorem dX3_doEnter_101 : decode cX3_doEnter 101 = .ok (.aload_n 0, 1) := dk_42 (dk_at dksX3_doEnter_4 7 rfl rfl)
theorem dX3_doEnter_102 : decode cX3_doEnter 102 = .ok (.iload 5, 2) := dk_21 5 (dk_at dksX3_doEnter_4 8 rfl rfl)
theorem dX3_doEnter_104 : decode cX3_doEnter 104 = .ok (.iload 8, 2) := dk_21 8 (dk_at dksX3_doEnter_4 10 rfl rfl)
theorem dX3_doEnter_106 : decode cX3_doEnter 106 = .ok (.iload 8, 2) := dk_21 8 (dk_at dksX3_doEnter_4 12 rfl rfl)
theorem dX3_doEnter_108 : decode cX3_doEnter 108 = .ok (.ifCond .ne 7, 3) := dk_154 0 7 (dk_at dksX3_doEnter_4 14 rfl rfl)
theorem dX3_doEnter_111 : decode cX3_doEnter 111 = .ok (.iload_n 1, 1) := dk_27 (dk_at dksX3_doEnter_4 17 rfl rfl)
theorem dX3_doEnter_112 : decode cX3_doEnter 112 = .ok (.goto 35, 3) := dk_167 0 35 (dk_at dksX3_doEnter_4 18 rfl rfl)
theorem dX3_doEnter_115 : decode cX3_doEnter 115 = .ok (.iload 8, 2) := dk_21 8 (dk_at dksX3_doEnter_4 21 rfl rfl)
theorem dX3_doEnter_117 : decode cX3_doEnter 117 = .ok (.iconst 1, 1) := dk_4 (dk_at dksX3_doEnter_4 23 rfl rfl)
theorem dX3_doEnter_118 : decode cX3_doEnter 118 = .ok (.if_icmp .ne 7, 3) := dk_160 0 7 (dk_at dksX3_doEnter_5 0 rfl rfl)
theorem dX3_doEnter_121 : decode cX3_doEnter 121 = .ok (.iload_n 2, 1) := dk_28 (dk_at dksX3_doEnter_5 3 rfl rfl)
theorem dX3_doEnter_122 : decode cX3_doEnter 122 = .ok (.goto 25, 3) := dk_167 0 25 (dk_at dksX3_doEnter_5 4 rfl rfl)
theorem dX3_doEnter_125 : decode cX3_doEnter 125 = .ok (.iload 8, 2) := dk_21 8 (dk_at dksX3_doEnter_5 7 rfl rfl)
theorem dX3_doEnter_127 : decode cX3_doEnter 127 = .ok (.iconst 3, 1) := dk_6 (dk_at dksX3_doEnter_5 9 rfl rfl)
theorem dX3_doEnter_128 : decode cX3_doEnter 128 = .ok (.if_icmp .ne 7, 3) := dk_160 0 7 (dk_at dksX3_doEnter_5 10 rfl rfl)
theorem dX3_doEnter_131 : decode cX3_doEnter 131 = .ok (.iload_n 3, 1) := dk_29 (dk_at dksX3_doEnter_5 13 rfl rfl)
theorem dX3_doEnter_132 : decode cX3_doEnter 132 = .ok (.goto 15, 3) := dk_167 0 15 (dk_at dksX3_doEnter_5 14 rfl rfl)
theorem dX3_doEnter_135 : decode cX3_doEnter 135 = .ok (.iload 8, 2) := dk_21 8 (dk_at dksX3_doEnter_5 17 rfl rfl)
theorem dX3_doEnter_137 : decode cX3_doEnter 137 = .ok (.iconst 4, 1) := dk_7 (dk_at dksX3_doEnter_5 19 rfl rfl)
theorem dX3_doEnter_138 : decode cX3_doEnter 138 = .ok (.if_icmp .ne 8, 3) := dk_160 0 8 (dk_at dksX3_doEnter_5 20 rfl rfl)
theorem dX3_doEnter_141 : decode cX3_doEnter 141 = .ok (.iload 4, 2) := dk_21 4 (dk_at dksX3_doEnter_6 0 rfl rfl)
theorem dX3_doEnter_143 : decode cX3_doEnter 143 = .ok (.goto 4, 3) := dk_167 0 4 (dk_at dksX3_doEnter_6 2 rfl rfl)
theorem dX3_doEnter_146 : decode cX3_doEnter 146 = .ok (.iconst 0, 1) := dk_3 (dk_at dksX3_doEnter_6 5 rfl rfl)
theorem dX3_doEnter_147 : decode cX3_doEnter 147 = .ok (.invokevirtual 86, 3) := dk_182 0 86 (dk_at dksX3_doEnter_6 6 rfl rfl)
theorem dX3_doEnter_150 : decode cX3_doEnter 150 = .ok (.iinc 8 1, 3) := dk_132 8 1 (dk_at dksX3_doEnter_6 9 rfl rfl)
theorem dX3_doEnter_153 : decode cX3_doEnter 153 = .ok (.goto (-59), 3) := dk_167 255 197 (dk_at dksX3_doEnter_6 12 rfl rfl)
theorem dX3_doEnter_156 : decode cX3_doEnter 156 = .ok (.aload_n 0, 1) := dk_42 (dk_at dksX3_doEnter_6 15 rfl rfl)
theorem dX3_doEnter_157 : decode cX3_doEnter 157 = .ok (.getfield 9, 3) := dk_180 0 9 (dk_at dksX3_doEnter_6 16 rfl rfl)
theorem dX3_doEnter_160 : decode cX3_doEnter 160 = .ok (.iconst 0, 1) := dk_3 (dk_at dksX3_doEnter_6 19 rfl rfl)
theorem dX3_doEnter_161 : decode cX3_doEnter 161 = .ok (.dup2, 1) := dk_92 (dk_at dksX3_doEnter_6 20 rfl rfl)
theorem dX3_doEnter_162 : decode cX3_doEnter 162 = .ok (.iaload, 1) := dk_46 (dk_at dksX3_doEnter_6 21 rfl rfl)
theorem dX3_doEnter_163 : decode cX3_doEnter 163 = .ok (.iconst 1, 1) := dk_4 (dk_at dksX3_doEnter_6 22 rfl rfl)
theorem dX3_doEnter_164 : decode cX3_doEnter 164 = .ok (.iadd, 1) := dk_96 (dk_at dksX3_doEnter_6 23 rfl rfl)
theorem dX3_doEnter_165 : decode cX3_doEnter 165 = .ok (.iastore, 1) := dk_79 (dk_at dksX3_doEnter_7 0 rfl rfl)
theorem dX3_doEnter_166 : decode cX3_doEnter 166 = .ok (.aload_n 0, 1) := dk_42 (dk_at dksX3_doEnter_7 1 rfl rfl)
theorem dX3_doEnter_167 : decode cX3_doEnter 167 = .ok (.getfield 9, 3) := dk_180 0 9 (dk_at dksX3_doEnter_7 2 rfl rfl)
theorem dX3_doEnter_170 : decode cX3_doEnter 170 = .ok (.bipush 7, 2) := dk_16 7 (dk_at dksX3_doEnter_7 5 rfl rfl)
theorem dX3_doEnter_172 : decode cX3_doEnter 172 = .ok (.dup2, 1) := dk_92 (dk_at dksX3_doEnter_7 7 rfl rfl)
theorem dX3_doEnter_173 : decode cX3_doEnter 173 = .ok (.iaload, 1) := dk_46 (dk_at dksX3_doEnter_7 8 rfl rfl)
theorem dX3_doEnter_174 : decode cX3_doEnter 174 = .ok (.iconst 1, 1) := dk_4 (dk_at dksX3_doEnter_7 9 rfl rfl)
theorem dX3_doEnter_175 : decode cX3_doEnter 175 = .ok (.iadd, 1) := dk_96 (dk_at dksX3_doEnter_7 10 rfl rfl)
theorem dX3_doEnter_176 : decode cX3_doEnter 176 = .ok (.iastore, 1) := dk_79 (dk_at dksX3_doEnter_7 11 rfl rfl)
theorem dX3_doEnter_177 : decode cX3_doEnter 177 = .ok (.iload 5, 2) := dk_21 5 (dk_at dksX3_doEnter_7 12 rfl rfl)
theorem dX3_doEnter_179 : decode cX3_doEnter 179 = .ok (.ireturn, 1) := dk_172 (dk_at dksX3_doEnter_7 14 rfl rfl)
def dkwX3_wrong_1 : List UInt8 := [167, 0, 4, 5, 172]
abbrev dktX3_wrong_1 : List UInt8 := dkwX3_wrong_1 ++ []
def dkwX3_wrong_0 : List UInt8 := [26, 3, 27, 184, 0, 61, 154, 0, 7, 3, 167, 0, 17, 28, 3, 29, 184, 0, 61, 154, 0, 7, 4]
abbrev dktX3_wrong_0 : List UInt8 := dkwX3_wrong_0 ++ dktX3_wrong_1
theorem dksX3_wrong_0 : cX3_wrong.data.toList.drop 0 = dktX3_wrong_0 := by decide +kernel
theorem dksX3_wrong_1 : cX3_wrong.data.toList.drop 23 = dktX3_wrong_1 := dk_seg dksX3_wrong_0 23 rfl rfl
theorem dX3_wrong_0 : decode cX3_wrong 0 = .ok (.iload_n 0, 1) := dk_26 (dk_at dksX3_wrong_0 0 rfl rfl)
theorem dX3_wrong_1 : decode cX3_wrong 1 = .ok (.iconst 0, 1) := dk_3 (dk_at dksX3_wrong_0 1 rfl rfl)
theorem dX3_wrong_2 : decode cX3_wrong 2 = .ok (.iload_n 1, 1) := dk_27 (dk_at dksX3_wrong_0 2 rfl rfl)
theorem dX3_wrong_3 : decode cX3_wrong 3 = .ok (.invokestatic 61, 3) := dk_184 0 61 (dk_at dksX3_wrong_0 3 rfl rfl)
theorem dX3_wrong_6 : decode cX3_wrong 6 = .ok (.ifCond .ne 7, 3) := dk_154 0 7 (dk_at dksX3_wrong_0 6 rfl rfl)
theorem dX3_wrong_9 : decode cX3_wrong 9 = .ok (.iconst 0, 1) := dk_3 (dk_at dksX3_wrong_0 9 rfl rfl)
theorem dX3_wrong_10 : decode cX3_wrong 10 = .ok (.goto 17, 3) := dk_167 0 17 (dk_at dksX3_wrong_0 10 rfl rfl)
theorem dX3_wrong_13 : decode cX3_wrong 13 = .ok (.iload_n 2, 1) := dk_28 (dk_at dksX3_wrong_0 13 rfl rfl)
theorem dX3_wrong_14 : decode cX3_wrong 14 = .ok (.iconst 0, 1) := dk_3 (dk_at dksX3_wrong_0 14 rfl rfl)
theorem dX3_wrong_15 : decode cX3_wrong 15 = .ok (.iload_n 3, 1) := dk_29 (dk_at dksX3_wrong_0 15 rfl rfl)
theorem dX3_wrong_16 : decode cX3_wrong 16 = .ok (.invokestatic 61, 3) := dk_184 0 61 (dk_at dksX3_wrong_0 16 rfl rfl)
theorem dX3_wrong_19 : decode cX3_wrong 19 = .ok (.ifCond .ne 7, 3) := dk_154 0 7 (dk_at dksX3_wrong_0 19 rfl rfl)
theorem dX3_wrong_22 : decode cX3_wrong 22 = .ok (.iconst 1, 1) := dk_4 (dk_at dksX3_wrong_0 22 rfl rfl)
theorem dX3_wrong_23 : decode cX3_wrong 23 = .ok (.goto 4, 3) := dk_167 0 4 (dk_at dksX3_wrong_1 0 rfl rfl)
theorem dX3_wrong_26 : decode cX3_wrong 26 = .ok (.iconst 2, 1) := dk_5 (dk_at dksX3_wrong_1 3 rfl rfl)
theorem dX3_wrong_27 : decode cX3_wrong 27 = .ok (.ireturn, 1) := dk_172 (dk_at dksX3_wrong_1 4 rfl rfl)
def dkwX3_refuse_1 : List UInt8 := [3, 79, 42, 180, 0, 25, 6, 3, 79, 3, 172]
abbrev dktX3_refuse_1 : List UInt8 := dkwX3_refuse_1 ++ []
def dkwX3_refuse_0 : List UInt8 := [42, 4, 181, 0, 49, 42, 180, 0, 25, 3, 27, 79, 42, 180, 0, 25, 4, 28, 79, 42, 180, 0, 25, 5]
abbrev dktX3_refuse_0 : List UInt8 := dkwX3_refuse_0 ++ dktX3_refuse_1
theorem dksX3_refuse_0 : cX3_refuse.data.toList.drop 0 = dktX3_refuse_0 := by decide +kernel
theorem dksX3_refuse_1 : cX3_refuse.data.toList.drop 24 = dktX3_refuse_1 := dk_seg dksX3_refuse_0 24 rfl rfl
theorem dX3_refuse_0 : decode cX3_refuse 0 = .ok (.aload_n 0, 1) := dk_42 (dk_at dksX3_refuse_0 0 rfl rfl)
theorem dX3_refuse_1 : decode cX3_refuse 1 = .ok (.iconst 1, 1) := dk_4 (dk_at dksX3_refuse_0 1 rfl rfl)
theorem dX3_refuse_2 : decode cX3_refuse 2 = .ok (.putfield 49, 3) := dk_181 0 49 (dk_at dksX3_refuse_0 2 rfl rfl)
theorem dX3_refuse_5 : decode cX3_refuse 5 = .ok (.aload_n 0, 1) := dk_42 (dk_at dksX3_refuse_0 5 rfl rfl)
theorem dX3_refuse_6 : decode cX3_refuse 6 = .ok (.getfield 25, 3) := dk_180 0 25 (dk_at dksX3_refuse_0 6 rfl rfl)
theorem dX3_refuse_9 : decode cX3_refuse 9 = .ok (.iconst 0, 1) := dk_3 (dk_at dksX3_refuse_0 9 rfl rfl)
theorem dX3_refuse_10 : decode cX3_refuse 10 = .ok (.iload_n 1, 1) := dk_27 (dk_at dksX3_refuse_0 10 rfl rfl)
theorem dX3_refuse_11 : decode cX3_refuse 11 = .ok (.iastore, 1) := dk_79 (dk_at dksX3_refuse_0 11 rfl rfl)
theorem dX3_refuse_12 : decode cX3_refuse 12 = .ok (.aload_n 0, 1) := dk_42 (dk_at dksX3_refuse_0 12 rfl rfl)
theorem dX3_refuse_13 : decode cX3_refuse 13 = .ok (.getfield 25, 3) := dk_180 0 25 (dk_at dksX3_refuse_0 13 rfl rfl)
theorem dX3_refuse_16 : decode cX3_refuse 16 = .ok (.iconst 1, 1) := dk_4 (dk_at dksX3_refuse_0 16 rfl rfl)
theorem dX3_refuse_17 : decode cX3_refuse 17 = .ok (.iload_n 2, 1) := dk_28 (dk_at dksX3_refuse_0 17 rfl rfl)
theorem dX3_refuse_18 : decode cX3_refuse 18 = .ok (.iastore, 1) := dk_79 (dk_at dksX3_refuse_0 18 rfl rfl)
theorem dX3_refuse_19 : decode cX3_refuse 19 = .ok (.aload_n 0, 1) := dk_42 (dk_at dksX3_refuse_0 19 rfl rfl)
theorem dX3_refuse_20 : decode cX3_refuse 20 = .ok (.getfield 25, 3) := dk_180 0 25 (dk_at dksX3_refuse_0 20 rfl rfl)
theorem dX3_refuse_23 : decode cX3_refuse 23 = .ok (.iconst 2, 1) := dk_5 (dk_at dksX3_refuse_0 23 rfl rfl)
theorem dX3_refuse_24 : decode cX3_refuse 24 = .ok (.iconst 0, 1) := dk_3 (dk_at dksX3_refuse_1 0 rfl rfl)
theorem dX3_refuse_25 : decode cX3_refuse 25 = .ok (.iastore, 1) := dk_79 (dk_at dksX3_refuse_1 1 rfl rfl)
theorem dX3_refuse_26 : decode cX3_refuse 26 = .ok (.aload_n 0, 1) := dk_42 (dk_at dksX3_refuse_1 2 rfl rfl)
theorem dX3_refuse_27 : decode cX3_refuse 27 = .ok (.getfield 25, 3) := dk_180 0 25 (dk_at dksX3_refuse_1 3 rfl rfl)
theorem dX3_refuse_30 : decode cX3_refuse 30 = .ok (.iconst 3, 1) := dk_6 (dk_at dksX3_refuse_1 6 rfl rfl)
theorem dX3_refuse_31 : decode cX3_refuse 31 = .ok (.iconst 0, 1) := dk_3 (dk_at dksX3_refuse_1 7 rfl rfl)
theorem dX3_refuse_32 : decode cX3_refuse 32 = .ok (.iastore, 1) := dk_79 (dk_at dksX3_refuse_1 8 rfl rfl)
theorem dX3_refuse_33 : decode cX3_refuse 33 = .ok (.iconst 0, 1) := dk_3 (dk_at dksX3_refuse_1 9 rfl rfl)
theorem dX3_refuse_34 : decode cX3_refuse 34 = .ok (.ireturn, 1) := dk_172 (dk_at dksX3_refuse_1 10 rfl rfl)
def dkwX3_sets_0 : List UInt8 := [42, 180, 0, 9, 16, 13, 16, 9, 27, 104, 96, 28, 96, 29, 79, 177]
abbrev dktX3_sets_0 : List UInt8 := dkwX3_sets_0 ++ []
theorem dksX3_sets_0 : cX3_sets.data.toList.drop 0 = dktX3_sets_0 := by decide +kernel
theorem dX3_sets_0 : decode cX3_sets 0 = .ok (.aload_n 0, 1) := dk_42 (dk_at dksX3_sets_0 0 rfl rfl)
theorem dX3_sets_1 : decode cX3_sets 1 = .ok (.getfield 9, 3) := dk_180 0 9 (dk_at dksX3_sets_0 1 rfl rfl)
theorem dX3_sets_4 : decode cX3_sets 4 = .ok (.bipush 13, 2) := dk_16 13 (dk_at dksX3_sets_0 4 rfl rfl)
theorem dX3_sets_6 : decode cX3_sets 6 = .ok (.bipush 9, 2) := dk_16 9 (dk_at dksX3_sets_0 6 rfl rfl)
theorem dX3_sets_8 : decode cX3_sets 8 = .ok (.iload_n 1, 1) := dk_27 (dk_at dksX3_sets_0 8 rfl rfl)
theorem dX3_sets_9 : decode cX3_sets 9 = .ok (.imul, 1) := dk_104 (dk_at dksX3_sets_0 9 rfl rfl)
theorem dX3_sets_10 : decode cX3_sets 10 = .ok (.iadd, 1) := dk_96 (dk_at dksX3_sets_0 10 rfl rfl)
theorem dX3_sets_11 : decode cX3_sets 11 = .ok (.iload_n 2, 1) := dk_28 (dk_at dksX3_sets_0 11 rfl rfl)
theorem dX3_sets_12 : decode cX3_sets 12 = .ok (.iadd, 1) := dk_96 (dk_at dksX3_sets_0 12 rfl rfl)
theorem dX3_sets_13 : decode cX3_sets 13 = .ok (.iload_n 3, 1) := dk_29 (dk_at dksX3_sets_0 13 rfl rfl)
theorem dX3_sets_14 : decode cX3_sets 14 = .ok (.iastore, 1) := dk_79 (dk_at dksX3_sets_0 14 rfl rfl)
theorem dX3_sets_15 : decode cX3_sets 15 = .ok (.return_, 1) := dk_177 (dk_at dksX3_sets_0 15 rfl rfl)
def dkwX3_ends_4 : List UInt8 := [181, 0, 58, 27, 172]
abbrev dktX3_ends_4 : List UInt8 := dkwX3_ends_4 ++ []
def dkwX3_ends_3 : List UInt8 := [180, 0, 22, 17, 1, 31, 42, 180, 0, 58, 104, 17, 1, 31, 184, 0, 52, 42, 89, 180, 0, 58, 4, 96]
abbrev dktX3_ends_3 : List UInt8 := dkwX3_ends_3 ++ dktX3_ends_4
def dkwX3_ends_2 : List UInt8 := [17, 7, 217, 184, 0, 52, 42, 89, 180, 0, 58, 4, 100, 181, 0, 58, 42, 180, 0, 13, 3, 42]
abbrev dktX3_ends_2 : List UInt8 := dkwX3_ends_2 ++ dktX3_ends_3
def dkwX3_ends_1 : List UInt8 := [172, 42, 180, 0, 58, 16, 8, 160, 0, 31, 42, 180, 0, 22, 17, 1, 31, 42, 180, 0, 22, 3]
abbrev dktX3_ends_1 : List UInt8 := dkwX3_ends_1 ++ dktX3_ends_2
def dkwX3_ends_0 : List UInt8 := [42, 180, 0, 49, 158, 0, 21, 42, 180, 0, 13, 3, 42, 180, 0, 9, 3, 17, 1, 31, 184, 0, 52, 3]
abbrev dktX3_ends_0 : List UInt8 := dkwX3_ends_0 ++ dktX3_ends_1
theorem dksX3_ends_0 : cX3_ends.data.toList.drop 0 = dktX3_ends_0 := by decide +kernel
theorem dksX3_ends_1 : cX3_ends.data.toList.drop 24 = dktX3_ends_1 := dk_seg dksX3_ends_0 24 rfl rfl
theorem dksX3_ends_2 : cX3_ends.data.toList.drop 46 = dktX3_ends_2 := dk_seg dksX3_ends_1 22 rfl rfl
theorem dksX3_ends_3 : cX3_ends.data.toList.drop 68 = dktX3_ends_3 := dk_seg dksX3_ends_2 22 rfl rfl
theorem dksX3_ends_4 : cX3_ends.data.toList.drop 92 = dktX3_ends_4 := dk_seg dksX3_ends_3 24 rfl rfl
theorem dX3_ends_0 : decode cX3_ends 0 = .ok (.aload_n 0, 1) := dk_42 (dk_at dksX3_ends_0 0 rfl rfl)
theorem dX3_ends_1 : decode cX3_ends 1 = .ok (.getfield 49, 3) := dk_180 0 49 (dk_at dksX3_ends_0 1 rfl rfl)
theorem dX3_ends_4 : decode cX3_ends 4 = .ok (.ifCond .le 21, 3) := dk_158 0 21 (dk_at dksX3_ends_0 4 rfl rfl)
theorem dX3_ends_7 : decode cX3_ends 7 = .ok (.aload_n 0, 1) := dk_42 (dk_at dksX3_ends_0 7 rfl rfl)
theorem dX3_ends_8 : decode cX3_ends 8 = .ok (.getfield 13, 3) := dk_180 0 13 (dk_at dksX3_ends_0 8 rfl rfl)
theorem dX3_ends_11 : decode cX3_ends 11 = .ok (.iconst 0, 1) := dk_3 (dk_at dksX3_ends_0 11 rfl rfl)
theorem dX3_ends_12 : decode cX3_ends 12 = .ok (.aload_n 0, 1) := dk_42 (dk_at dksX3_ends_0 12 rfl rfl)
theorem dX3_ends_13 : decode cX3_ends 13 = .ok (.getfield 9, 3) := dk_180 0 9 (dk_at dksX3_ends_0 13 rfl rfl)
theorem dX3_ends_16 : decode cX3_ends 16 = .ok (.iconst 0, 1) := dk_3 (dk_at dksX3_ends_0 16 rfl rfl)
theorem dX3_ends_17 : decode cX3_ends 17 = .ok (.sipush 287, 3) := dk_17 1 31 (dk_at dksX3_ends_0 17 rfl rfl)
theorem dX3_ends_20 : decode cX3_ends 20 = .ok (.invokestatic 52, 3) := dk_184 0 52 (dk_at dksX3_ends_0 20 rfl rfl)
theorem dX3_ends_23 : decode cX3_ends 23 = .ok (.iconst 0, 1) := dk_3 (dk_at dksX3_ends_0 23 rfl rfl)
theorem dX3_ends_24 : decode cX3_ends 24 = .ok (.ireturn, 1) := dk_172 (dk_at dksX3_ends_1 0 rfl rfl)
theorem dX3_ends_25 : decode cX3_ends 25 = .ok (.aload_n 0, 1) := dk_42 (dk_at dksX3_ends_1 1 rfl rfl)
theorem dX3_ends_26 : decode cX3_ends 26 = .ok (.getfield 58, 3) := dk_180 0 58 (dk_at dksX3_ends_1 2 rfl rfl)
theorem dX3_ends_29 : decode cX3_ends 29 = .ok (.bipush 8, 2) := dk_16 8 (dk_at dksX3_ends_1 5 rfl rfl)
theorem dX3_ends_31 : decode cX3_ends 31 = .ok (.if_icmp .ne 31, 3) := dk_160 0 31 (dk_at dksX3_ends_1 7 rfl rfl)
theorem dX3_ends_34 : decode cX3_ends 34 = .ok (.aload_n 0, 1) := dk_42 (dk_at dksX3_ends_1 10 rfl rfl)
theorem dX3_ends_35 : decode cX3_ends 35 = .ok (.getfield 22, 3) := dk_180 0 22 (dk_at dksX3_ends_1 11 rfl rfl)
theorem dX3_ends_38 : decode cX3_ends 38 = .ok (.sipush 287, 3) := dk_17 1 31 (dk_at dksX3_ends_1 14 rfl rfl)
theorem dX3_ends_41 : decode cX3_ends 41 = .ok (.aload_n 0, 1) := dk_42 (dk_at dksX3_ends_1 17 rfl rfl)
theorem dX3_ends_42 : decode cX3_ends 42 = .ok (.getfield 22, 3) := dk_180 0 22 (dk_at dksX3_ends_1 18 rfl rfl)
theorem dX3_ends_45 : decode cX3_ends 45 = .ok (.iconst 0, 1) := dk_3 (dk_at dksX3_ends_1 21 rfl rfl)
theorem dX3_ends_46 : decode cX3_ends 46 = .ok (.sipush 2009, 3) := dk_17 7 217 (dk_at dksX3_ends_2 0 rfl rfl)
theorem dX3_ends_49 : decode cX3_ends 49 = .ok (.invokestatic 52, 3) := dk_184 0 52 (dk_at dksX3_ends_2 3 rfl rfl)
theorem dX3_ends_52 : decode cX3_ends 52 = .ok (.aload_n 0, 1) := dk_42 (dk_at dksX3_ends_2 6 rfl rfl)
theorem dX3_ends_53 : decode cX3_ends 53 = .ok (.dup, 1) := dk_89 (dk_at dksX3_ends_2 7 rfl rfl)
theorem dX3_ends_54 : decode cX3_ends 54 = .ok (.getfield 58, 3) := dk_180 0 58 (dk_at dksX3_ends_2 8 rfl rfl)
theorem dX3_ends_57 : decode cX3_ends 57 = .ok (.iconst 1, 1) := dk_4 (dk_at dksX3_ends_2 11 rfl rfl)
theorem dX3_ends_58 : decode cX3_ends 58 = .ok (.isub, 1) := dk_100 (dk_at dksX3_ends_2 12 rfl rfl)
theorem dX3_ends_59 : decode cX3_ends 59 = .ok (.putfield 58, 3) := dk_181 0 58 (dk_at dksX3_ends_2 13 rfl rfl)
theorem dX3_ends_62 : decode cX3_ends 62 = .ok (.aload_n 0, 1) := dk_42 (dk_at dksX3_ends_2 16 rfl rfl)
theorem dX3_ends_63 : decode cX3_ends 63 = .ok (.getfield 13, 3) := dk_180 0 13 (dk_at dksX3_ends_2 17 rfl rfl)
theorem dX3_ends_66 : decode cX3_ends 66 = .ok (.iconst 0, 1) := dk_3 (dk_at dksX3_ends_2 20 rfl rfl)
theorem dX3_ends_67 : decode cX3_ends 67 = .ok (.aload_n 0, 1) := dk_42 (dk_at dksX3_ends_2 21 rfl rfl)
theorem dX3_ends_68 : decode cX3_ends 68 = .ok (.getfield 22, 3) := dk_180 0 22 (dk_at dksX3_ends_3 0 rfl rfl)
theorem dX3_ends_71 : decode cX3_ends 71 = .ok (.sipush 287, 3) := dk_17 1 31 (dk_at dksX3_ends_3 3 rfl rfl)
theorem dX3_ends_74 : decode cX3_ends 74 = .ok (.aload_n 0, 1) := dk_42 (dk_at dksX3_ends_3 6 rfl rfl)
theorem dX3_ends_75 : decode cX3_ends 75 = .ok (.getfield 58, 3) := dk_180 0 58 (dk_at dksX3_ends_3 7 rfl rfl)
theorem dX3_ends_78 : decode cX3_ends 78 = .ok (.imul, 1) := dk_104 (dk_at dksX3_ends_3 10 rfl rfl)
theorem dX3_ends_79 : decode cX3_ends 79 = .ok (.sipush 287, 3) := dk_17 1 31 (dk_at dksX3_ends_3 11 rfl rfl)
theorem dX3_ends_82 : decode cX3_ends 82 = .ok (.invokestatic 52, 3) := dk_184 0 52 (dk_at dksX3_ends_3 14 rfl rfl)
theorem dX3_ends_85 : decode cX3_ends 85 = .ok (.aload_n 0, 1) := dk_42 (dk_at dksX3_ends_3 17 rfl rfl)
theorem dX3_ends_86 : decode cX3_ends 86 = .ok (.dup, 1) := dk_89 (dk_at dksX3_ends_3 18 rfl rfl)
theorem dX3_ends_87 : decode cX3_ends 87 = .ok (.getfield 58, 3) := dk_180 0 58 (dk_at dksX3_ends_3 19 rfl rfl)
theorem dX3_ends_90 : decode cX3_ends 90 = .ok (.iconst 1, 1) := dk_4 (dk_at dksX3_ends_3 22 rfl rfl)
theorem dX3_ends_91 : decode cX3_ends 91 = .ok (.iadd, 1) := dk_96 (dk_at dksX3_ends_3 23 rfl rfl)
theorem dX3_ends_92 : decode cX3_ends 92 = .ok (.putfield 58, 3) := dk_181 0 58 (dk_at dksX3_ends_4 0 rfl rfl)
theorem dX3_ends_95 : decode cX3_ends 95 = .ok (.iload_n 1, 1) := dk_27 (dk_at dksX3_ends_4 3 rfl rfl)
theorem dX3_ends_96 : decode cX3_ends 96 = .ok (.ireturn, 1) := dk_172 (dk_at dksX3_ends_4 4 rfl rfl)
def dkwX3_spire_0 : List UInt8 := [42, 182, 0, 90, 42, 42, 27, 28, 29, 182, 0, 103, 182, 0, 96, 172]
abbrev dktX3_spire_0 : List UInt8 := dkwX3_spire_0 ++ []
theorem dksX3_spire_0 : cX3_spire.data.toList.drop 0 = dktX3_spire_0 := by decide +kernel
theorem dX3_spire_0 : decode cX3_spire 0 = .ok (.aload_n 0, 1) := dk_42 (dk_at dksX3_spire_0 0 rfl rfl)
theorem dX3_spire_1 : decode cX3_spire 1 = .ok (.invokevirtual 90, 3) := dk_182 0 90 (dk_at dksX3_spire_0 1 rfl rfl)
theorem dX3_spire_4 : decode cX3_spire 4 = .ok (.aload_n 0, 1) := dk_42 (dk_at dksX3_spire_0 4 rfl rfl)
theorem dX3_spire_5 : decode cX3_spire 5 = .ok (.aload_n 0, 1) := dk_42 (dk_at dksX3_spire_0 5 rfl rfl)
theorem dX3_spire_6 : decode cX3_spire 6 = .ok (.iload_n 1, 1) := dk_27 (dk_at dksX3_spire_0 6 rfl rfl)
theorem dX3_spire_7 : decode cX3_spire 7 = .ok (.iload_n 2, 1) := dk_28 (dk_at dksX3_spire_0 7 rfl rfl)
theorem dX3_spire_8 : decode cX3_spire 8 = .ok (.iload_n 3, 1) := dk_29 (dk_at dksX3_spire_0 8 rfl rfl)
theorem dX3_spire_9 : decode cX3_spire 9 = .ok (.invokevirtual 103, 3) := dk_182 0 103 (dk_at dksX3_spire_0 9 rfl rfl)
theorem dX3_spire_12 : decode cX3_spire 12 = .ok (.invokevirtual 96, 3) := dk_182 0 96 (dk_at dksX3_spire_0 12 rfl rfl)
theorem dX3_spire_15 : decode cX3_spire 15 = .ok (.ireturn, 1) := dk_172 (dk_at dksX3_spire_0 15 rfl rfl)
def dkwX3_doSpire_7 : List UInt8 := [96, 79, 21, 4, 172]
abbrev dktX3_doSpire_7 : List UInt8 := dkwX3_doSpire_7 ++ []
def dkwX3_doSpire_6 : List UInt8 := [21, 6, 5, 96, 29, 79, 42, 180, 0, 9, 21, 6, 6, 96, 3, 79, 42, 180, 0, 9, 4, 92, 46, 4]
abbrev dktX3_doSpire_6 : List UInt8 := dkwX3_doSpire_6 ++ dktX3_doSpire_7
def dkwX3_doSpire_5 : List UInt8 := [54, 6, 42, 180, 0, 9, 21, 6, 27, 79, 42, 180, 0, 9, 21, 6, 4, 96, 28, 79, 42, 180, 0, 9]
abbrev dktX3_doSpire_5 : List UInt8 := dkwX3_doSpire_5 ++ dktX3_doSpire_6
def dkwX3_doSpire_4 : List UInt8 := [182, 0, 83, 172, 21, 4, 8, 160, 0, 10, 42, 4, 8, 182, 0, 83, 172, 16, 67, 7, 21, 4, 104, 96]
abbrev dktX3_doSpire_4 : List UInt8 := dkwX3_doSpire_4 ++ dktX3_doSpire_5
def dkwX3_doSpire_3 : List UInt8 := [172, 42, 27, 28, 184, 0, 69, 182, 0, 100, 155, 0, 18, 42, 5, 42, 27, 28, 184, 0, 69, 182, 0, 100]
abbrev dktX3_doSpire_3 : List UInt8 := dkwX3_doSpire_3 ++ dktX3_doSpire_4
def dkwX3_doSpire_2 : List UInt8 := [184, 0, 61, 153, 0, 15, 27, 28, 184, 0, 69, 29, 184, 0, 73, 156, 0, 10, 42, 7, 29, 182, 0, 83]
abbrev dktX3_doSpire_2 : List UInt8 := dkwX3_doSpire_2 ++ dktX3_doSpire_3
def dkwX3_doSpire_1 : List UInt8 := [162, 0, 19, 42, 7, 21, 5, 154, 0, 7, 27, 167, 0, 4, 28, 182, 0, 83, 172, 29, 4, 7]
abbrev dktX3_doSpire_1 : List UInt8 := dkwX3_doSpire_1 ++ dktX3_doSpire_2
def dkwX3_doSpire_0 : List UInt8 := [42, 180, 0, 9, 4, 46, 54, 4, 27, 16, 9, 28, 16, 9, 184, 0, 79, 54, 5, 21, 5, 5]
abbrev dktX3_doSpire_0 : List UInt8 := dkwX3_doSpire_0 ++ dktX3_doSpire_1
theorem dksX3_doSpire_0 : cX3_doSpire.data.toList.drop 0 = dktX3_doSpire_0 := by decide +kernel
theorem dksX3_doSpire_1 : cX3_doSpire.data.toList.drop 22 = dktX3_doSpire_1 := dk_seg dksX3_doSpire_0 22 rfl rfl
theorem dksX3_doSpire_2 : cX3_doSpire.data.toList.drop 44 = dktX3_doSpire_2 := dk_seg dksX3_doSpire_1 22 rfl rfl
theorem dksX3_doSpire_3 : cX3_doSpire.data.toList.drop 68 = dktX3_doSpire_3 := dk_seg dksX3_doSpire_2 24 rfl rfl
theorem dksX3_doSpire_4 : cX3_doSpire.data.toList.drop 92 = dktX3_doSpire_4 := dk_seg dksX3_doSpire_3 24 rfl rfl
theorem dksX3_doSpire_5 : cX3_doSpire.data.toList.drop 116 = dktX3_doSpire_5 := dk_seg dksX3_doSpire_4 24 rfl rfl
theorem dksX3_doSpire_6 : cX3_doSpire.data.toList.drop 140 = dktX3_doSpire_6 := dk_seg dksX3_doSpire_5 24 rfl rfl
theorem dksX3_doSpire_7 : cX3_doSpire.data.toList.drop 164 = dktX3_doSpire_7 := dk_seg dksX3_doSpire_6 24 rfl rfl
theorem dX3_doSpire_0 : decode cX3_doSpire 0 = .ok (.aload_n 0, 1) := dk_42 (dk_at dksX3_doSpire_0 0 rfl rfl)
theorem dX3_doSpire_1 : decode cX3_doSpire 1 = .ok (.getfield 9, 3) := dk_180 0 9 (dk_at dksX3_doSpire_0 1 rfl rfl)
theorem dX3_doSpire_4 : decode cX3_doSpire 4 = .ok (.iconst 1, 1) := dk_4 (dk_at dksX3_doSpire_0 4 rfl rfl)
theorem dX3_doSpire_5 : decode cX3_doSpire 5 = .ok (.iaload, 1) := dk_46 (dk_at dksX3_doSpire_0 5 rfl rfl)
theorem dX3_doSpire_6 : decode cX3_doSpire 6 = .ok (.istore 4, 2) := dk_54 4 (dk_at dksX3_doSpire_0 6 rfl rfl)
theorem dX3_doSpire_8 : decode cX3_doSpire 8 = .ok (.iload_n 1, 1) := dk_27 (dk_at dksX3_doSpire_0 8 rfl rfl)
theorem dX3_doSpire_9 : decode cX3_doSpire 9 = .ok (.bipush 9, 2) := dk_16 9 (dk_at dksX3_doSpire_0 9 rfl rfl)
theorem dX3_doSpire_11 : decode cX3_doSpire 11 = .ok (.iload_n 2, 1) := dk_28 (dk_at dksX3_doSpire_0 11 rfl rfl)
theorem dX3_doSpire_12 : decode cX3_doSpire 12 = .ok (.bipush 9, 2) := dk_16 9 (dk_at dksX3_doSpire_0 12 rfl rfl)
theorem dX3_doSpire_14 : decode cX3_doSpire 14 = .ok (.invokestatic 79, 3) := dk_184 0 79 (dk_at dksX3_doSpire_0 14 rfl rfl)
theorem dX3_doSpire_17 : decode cX3_doSpire 17 = .ok (.istore 5, 2) := dk_54 5 (dk_at dksX3_doSpire_0 17 rfl rfl)
theorem dX3_doSpire_19 : decode cX3_doSpire 19 = .ok (.iload 5, 2) := dk_21 5 (dk_at dksX3_doSpire_0 19 rfl rfl)
theorem dX3_doSpire_21 : decode cX3_doSpire 21 = .ok (.iconst 2, 1) := dk_5 (dk_at dksX3_doSpire_0 21 rfl rfl)
theorem dX3_doSpire_22 : decode cX3_doSpire 22 = .ok (.if_icmp .ge 19, 3) := dk_162 0 19 (dk_at dksX3_doSpire_1 0 rfl rfl)
theorem dX3_doSpire_25 : decode cX3_doSpire 25 = .ok (.aload_n 0, 1) := dk_42 (dk_at dksX3_doSpire_1 3 rfl rfl)
theorem dX3_doSpire_26 : decode cX3_doSpire 26 = .ok (.iconst 4, 1) := dk_7 (dk_at dksX3_doSpire_1 4 rfl rfl)
theorem dX3_doSpire_27 : decode cX3_doSpire 27 = .ok (.iload 5, 2) := dk_21 5 (dk_at dksX3_doSpire_1 5 rfl rfl)
theorem dX3_doSpire_29 : decode cX3_doSpire 29 = .ok (.ifCond .ne 7, 3) := dk_154 0 7 (dk_at dksX3_doSpire_1 7 rfl rfl)
theorem dX3_doSpire_32 : decode cX3_doSpire 32 = .ok (.iload_n 1, 1) := dk_27 (dk_at dksX3_doSpire_1 10 rfl rfl)
theorem dX3_doSpire_33 : decode cX3_doSpire 33 = .ok (.goto 4, 3) := dk_167 0 4 (dk_at dksX3_doSpire_1 11 rfl rfl)
theorem dX3_doSpire_36 : decode cX3_doSpire 36 = .ok (.iload_n 2, 1) := dk_28 (dk_at dksX3_doSpire_1 14 rfl rfl)
theorem dX3_doSpire_37 : decode cX3_doSpire 37 = .ok (.invokevirtual 83, 3) := dk_182 0 83 (dk_at dksX3_doSpire_1 15 rfl rfl)
theorem dX3_doSpire_40 : decode cX3_doSpire 40 = .ok (.ireturn, 1) := dk_172 (dk_at dksX3_doSpire_1 18 rfl rfl)
theorem dX3_doSpire_41 : decode cX3_doSpire 41 = .ok (.iload_n 3, 1) := dk_29 (dk_at dksX3_doSpire_1 19 rfl rfl)
theorem dX3_doSpire_42 : decode cX3_doSpire 42 = .ok (.iconst 1, 1) := dk_4 (dk_at dksX3_doSpire_1 20 rfl rfl)
theorem dX3_doSpire_43 : decode cX3_doSpire 43 = .ok (.iconst 4, 1) := dk_7 (dk_at dksX3_doSpire_1 21 rfl rfl)
theorem dX3_doSpire_44 : decode cX3_doSpire 44 = .ok (.invokestatic 61, 3) := dk_184 0 61 (dk_at dksX3_doSpire_2 0 rfl rfl)
theorem dX3_doSpire_47 : decode cX3_doSpire 47 = .ok (.ifCond .eq 15, 3) := dk_153 0 15 (dk_at dksX3_doSpire_2 3 rfl rfl)
theorem dX3_doSpire_50 : decode cX3_doSpire 50 = .ok (.iload_n 1, 1) := dk_27 (dk_at dksX3_doSpire_2 6 rfl rfl)
theorem dX3_doSpire_51 : decode cX3_doSpire 51 = .ok (.iload_n 2, 1) := dk_28 (dk_at dksX3_doSpire_2 7 rfl rfl)
theorem dX3_doSpire_52 : decode cX3_doSpire 52 = .ok (.invokestatic 69, 3) := dk_184 0 69 (dk_at dksX3_doSpire_2 8 rfl rfl)
theorem dX3_doSpire_55 : decode cX3_doSpire 55 = .ok (.iload_n 3, 1) := dk_29 (dk_at dksX3_doSpire_2 11 rfl rfl)
theorem dX3_doSpire_56 : decode cX3_doSpire 56 = .ok (.invokestatic 73, 3) := dk_184 0 73 (dk_at dksX3_doSpire_2 12 rfl rfl)
theorem dX3_doSpire_59 : decode cX3_doSpire 59 = .ok (.ifCond .ge 10, 3) := dk_156 0 10 (dk_at dksX3_doSpire_2 15 rfl rfl)
theorem dX3_doSpire_62 : decode cX3_doSpire 62 = .ok (.aload_n 0, 1) := dk_42 (dk_at dksX3_doSpire_2 18 rfl rfl)
theorem dX3_doSpire_63 : decode cX3_doSpire 63 = .ok (.iconst 4, 1) := dk_7 (dk_at dksX3_doSpire_2 19 rfl rfl)
theorem dX3_doSpire_64 : decode cX3_doSpire 64 = .ok (.iload_n 3, 1) := dk_29 (dk_at dksX3_doSpire_2 20 rfl rfl)
theorem dX3_doSpire_65 : decode cX3_doSpire 65 = .ok (.invokevirtual 83, 3) := dk_182 0 83 (dk_at dksX3_doSpire_2 21 rfl rfl)
theorem dX3_doSpire_68 : decode cX3_doSpire 68 = .ok (.ireturn, 1) := dk_172 (dk_at dksX3_doSpire_3 0 rfl rfl)
theorem dX3_doSpire_69 : decode cX3_doSpire 69 = .ok (.aload_n 0, 1) := dk_42 (dk_at dksX3_doSpire_3 1 rfl rfl)
theorem dX3_doSpire_70 : decode cX3_doSpire 70 = .ok (.iload_n 1, 1) := dk_27 (dk_at dksX3_doSpire_3 2 rfl rfl)
theorem dX3_doSpire_71 : decode cX3_doSpire 71 = .ok (.iload_n 2, 1) := dk_28 (dk_at dksX3_doSpire_3 3 rfl rfl)
theorem dX3_doSpire_72 : decode cX3_doSpire 72 = .ok (.invokestatic 69, 3) := dk_184 0 69 (dk_at dksX3_doSpire_3 4 rfl rfl)
theorem dX3_doSpire_75 : decode cX3_doSpire 75 = .ok (.invokevirtual 100, 3) := dk_182 0 100 (dk_at dksX3_doSpire_3 7 rfl rfl)
theorem dX3_doSpire_78 : decode cX3_doSpire 78 = .ok (.ifCond .lt 18, 3) := dk_155 0 18 (dk_at dksX3_doSpire_3 10 rfl rfl)
theorem dX3_doSpire_81 : decode cX3_doSpire 81 = .ok (.aload_n 0, 1) := dk_42 (dk_at dksX3_doSpire_3 13 rfl rfl)
theorem dX3_doSpire_82 : decode cX3_doSpire 82 = .ok (.iconst 2, 1) := dk_5 (dk_at dksX3_doSpire_3 14 rfl rfl)
theorem dX3_doSpire_83 : decode cX3_doSpire 83 = .ok (.aload_n 0, 1) := dk_42 (dk_at dksX3_doSpire_3 15 rfl rfl)
theorem dX3_doSpire_84 : decode cX3_doSpire 84 = .ok (.iload_n 1, 1) := dk_27 (dk_at dksX3_doSpire_3 16 rfl rfl)
theorem dX3_doSpire_85 : decode cX3_doSpire 85 = .ok (.iload_n 2, 1) := dk_28 (dk_at dksX3_doSpire_3 17 rfl rfl)
theorem dX3_doSpire_86 : decode cX3_doSpire 86 = .ok (.invokestatic 69, 3) := dk_184 0 69 (dk_at dksX3_doSpire_3 18 rfl rfl)
theorem dX3_doSpire_89 : decode cX3_doSpire 89 = .ok (.invokevirtual 100, 3) := dk_182 0 100 (dk_at dksX3_doSpire_3 21 rfl rfl)
theorem dX3_doSpire_92 : decode cX3_doSpire 92 = .ok (.invokevirtual 83, 3) := dk_182 0 83 (dk_at dksX3_doSpire_4 0 rfl rfl)
theorem dX3_doSpire_95 : decode cX3_doSpire 95 = .ok (.ireturn, 1) := dk_172 (dk_at dksX3_doSpire_4 3 rfl rfl)
theorem dX3_doSpire_96 : decode cX3_doSpire 96 = .ok (.iload 4, 2) := dk_21 4 (dk_at dksX3_doSpire_4 4 rfl rfl)
theorem dX3_doSpire_98 : decode cX3_doSpire 98 = .ok (.iconst 5, 1) := dk_8 (dk_at dksX3_doSpire_4 6 rfl rfl)
theorem dX3_doSpire_99 : decode cX3_doSpire 99 = .ok (.if_icmp .ne 10, 3) := dk_160 0 10 (dk_at dksX3_doSpire_4 7 rfl rfl)
theorem dX3_doSpire_102 : decode cX3_doSpire 102 = .ok (.aload_n 0, 1) := dk_42 (dk_at dksX3_doSpire_4 10 rfl rfl)
theorem dX3_doSpire_103 : decode cX3_doSpire 103 = .ok (.iconst 1, 1) := dk_4 (dk_at dksX3_doSpire_4 11 rfl rfl)
theorem dX3_doSpire_104 : decode cX3_doSpire 104 = .ok (.iconst 5, 1) := dk_8 (dk_at dksX3_doSpire_4 12 rfl rfl)
theorem dX3_doSpire_105 : decode cX3_doSpire 105 = .ok (.invokevirtual 83, 3) := dk_182 0 83 (dk_at dksX3_doSpire_4 13 rfl rfl)
theorem dX3_doSpire_108 : decode cX3_doSpire 108 = .ok (.ireturn, 1) := dk_172 (dk_at dksX3_doSpire_4 16 rfl rfl)
theorem dX3_doSpire_109 : decode cX3_doSpire 109 = .ok (.bipush 67, 2) := dk_16 67 (dk_at dksX3_doSpire_4 17 rfl rfl)
theorem dX3_doSpire_111 : decode cX3_doSpire 111 = .ok (.iconst 4, 1) := dk_7 (dk_at dksX3_doSpire_4 19 rfl rfl)
theorem dX3_doSpire_112 : decode cX3_doSpire 112 = .ok (.iload 4, 2) := dk_21 4 (dk_at dksX3_doSpire_4 20 rfl rfl)
theorem dX3_doSpire_114 : decode cX3_doSpire 114 = .ok (.imul, 1) := dk_104 (dk_at dksX3_doSpire_4 22 rfl rfl)
theorem dX3_doSpire_115 : decode cX3_doSpire 115 = .ok (.iadd, 1) := dk_96 (dk_at dksX3_doSpire_4 23 rfl rfl)
theorem dX3_doSpire_116 : decode cX3_doSpire 116 = .ok (.istore 6, 2) := dk_54 6 (dk_at dksX3_doSpire_5 0 rfl rfl)
theorem dX3_doSpire_118 : decode cX3_doSpire 118 = .ok (.aload_n 0, 1) := dk_42 (dk_at dksX3_doSpire_5 2 rfl rfl)
theorem dX3_doSpire_119 : decode cX3_doSpire 119 = .ok (.getfield 9, 3) := dk_180 0 9 (dk_at dksX3_doSpire_5 3 rfl rfl)
theorem dX3_doSpire_122 : decode cX3_doSpire 122 = .ok (.iload 6, 2) := dk_21 6 (dk_at dksX3_doSpire_5 6 rfl rfl)
theorem dX3_doSpire_124 : decode cX3_doSpire 124 = .ok (.iload_n 1, 1) := dk_27 (dk_at dksX3_doSpire_5 8 rfl rfl)
theorem dX3_doSpire_125 : decode cX3_doSpire 125 = .ok (.iastore, 1) := dk_79 (dk_at dksX3_doSpire_5 9 rfl rfl)
theorem dX3_doSpire_126 : decode cX3_doSpire 126 = .ok (.aload_n 0, 1) := dk_42 (dk_at dksX3_doSpire_5 10 rfl rfl)
theorem dX3_doSpire_127 : decode cX3_doSpire 127 = .ok (.getfield 9, 3) := dk_180 0 9 (dk_at dksX3_doSpire_5 11 rfl rfl)
theorem dX3_doSpire_130 : decode cX3_doSpire 130 = .ok (.iload 6, 2) := dk_21 6 (dk_at dksX3_doSpire_5 14 rfl rfl)
theorem dX3_doSpire_132 : decode cX3_doSpire 132 = .ok (.iconst 1, 1) := dk_4 (dk_at dksX3_doSpire_5 16 rfl rfl)
theorem dX3_doSpire_133 : decode cX3_doSpire 133 = .ok (.iadd, 1) := dk_96 (dk_at dksX3_doSpire_5 17 rfl rfl)
theorem dX3_doSpire_134 : decode cX3_doSpire 134 = .ok (.iload_n 2, 1) := dk_28 (dk_at dksX3_doSpire_5 18 rfl rfl)
theorem dX3_doSpire_135 : decode cX3_doSpire 135 = .ok (.iastore, 1) := dk_79 (dk_at dksX3_doSpire_5 19 rfl rfl)
theorem dX3_doSpire_136 : decode cX3_doSpire 136 = .ok (.aload_n 0, 1) := dk_42 (dk_at dksX3_doSpire_5 20 rfl rfl)
theorem dX3_doSpire_137 : decode cX3_doSpire 137 = .ok (.getfield 9, 3) := dk_180 0 9 (dk_at dksX3_doSpire_5 21 rfl rfl)
theorem dX3_doSpire_140 : decode cX3_doSpire 140 = .ok (.iload 6, 2) := dk_21 6 (dk_at dksX3_doSpire_6 0 rfl rfl)
theorem dX3_doSpire_142 : decode cX3_doSpire 142 = .ok (.iconst 2, 1) := dk_5 (dk_at dksX3_doSpire_6 2 rfl rfl)
theorem dX3_doSpire_143 : decode cX3_doSpire 143 = .ok (.iadd, 1) := dk_96 (dk_at dksX3_doSpire_6 3 rfl rfl)
theorem dX3_doSpire_144 : decode cX3_doSpire 144 = .ok (.iload_n 3, 1) := dk_29 (dk_at dksX3_doSpire_6 4 rfl rfl)
theorem dX3_doSpire_145 : decode cX3_doSpire 145 = .ok (.iastore, 1) := dk_79 (dk_at dksX3_doSpire_6 5 rfl rfl)
theorem dX3_doSpire_146 : decode cX3_doSpire 146 = .ok (.aload_n 0, 1) := dk_42 (dk_at dksX3_doSpire_6 6 rfl rfl)
theorem dX3_doSpire_147 : decode cX3_doSpire 147 = .ok (.getfield 9, 3) := dk_180 0 9 (dk_at dksX3_doSpire_6 7 rfl rfl)
theorem dX3_doSpire_150 : decode cX3_doSpire 150 = .ok (.iload 6, 2) := dk_21 6 (dk_at dksX3_doSpire_6 10 rfl rfl)
theorem dX3_doSpire_152 : decode cX3_doSpire 152 = .ok (.iconst 3, 1) := dk_6 (dk_at dksX3_doSpire_6 12 rfl rfl)
theorem dX3_doSpire_153 : decode cX3_doSpire 153 = .ok (.iadd, 1) := dk_96 (dk_at dksX3_doSpire_6 13 rfl rfl)
theorem dX3_doSpire_154 : decode cX3_doSpire 154 = .ok (.iconst 0, 1) := dk_3 (dk_at dksX3_doSpire_6 14 rfl rfl)
theorem dX3_doSpire_155 : decode cX3_doSpire 155 = .ok (.iastore, 1) := dk_79 (dk_at dksX3_doSpire_6 15 rfl rfl)
theorem dX3_doSpire_156 : decode cX3_doSpire 156 = .ok (.aload_n 0, 1) := dk_42 (dk_at dksX3_doSpire_6 16 rfl rfl)
theorem dX3_doSpire_157 : decode cX3_doSpire 157 = .ok (.getfield 9, 3) := dk_180 0 9 (dk_at dksX3_doSpire_6 17 rfl rfl)
theorem dX3_doSpire_160 : decode cX3_doSpire 160 = .ok (.iconst 1, 1) := dk_4 (dk_at dksX3_doSpire_6 20 rfl rfl)
theorem dX3_doSpire_161 : decode cX3_doSpire 161 = .ok (.dup2, 1) := dk_92 (dk_at dksX3_doSpire_6 21 rfl rfl)
theorem dX3_doSpire_162 : decode cX3_doSpire 162 = .ok (.iaload, 1) := dk_46 (dk_at dksX3_doSpire_6 22 rfl rfl)
theorem dX3_doSpire_163 : decode cX3_doSpire 163 = .ok (.iconst 1, 1) := dk_4 (dk_at dksX3_doSpire_6 23 rfl rfl)
theorem dX3_doSpire_164 : decode cX3_doSpire 164 = .ok (.iadd, 1) := dk_96 (dk_at dksX3_doSpire_7 0 rfl rfl)
theorem dX3_doSpire_165 : decode cX3_doSpire 165 = .ok (.iastore, 1) := dk_79 (dk_at dksX3_doSpire_7 1 rfl rfl)
theorem dX3_doSpire_166 : decode cX3_doSpire 166 = .ok (.iload 4, 2) := dk_21 4 (dk_at dksX3_doSpire_7 2 rfl rfl)
theorem dX3_doSpire_168 : decode cX3_doSpire 168 = .ok (.ireturn, 1) := dk_172 (dk_at dksX3_doSpire_7 4 rfl rfl)
def dkwX3_code_0 : List UInt8 := [16, 10, 27, 104, 26, 96, 172]
abbrev dktX3_code_0 : List UInt8 := dkwX3_code_0 ++ []
theorem dksX3_code_0 : cX3_code.data.toList.drop 0 = dktX3_code_0 := by decide +kernel
theorem dX3_code_0 : decode cX3_code 0 = .ok (.bipush 10, 2) := dk_16 10 (dk_at dksX3_code_0 0 rfl rfl)
theorem dX3_code_2 : decode cX3_code 2 = .ok (.iload_n 1, 1) := dk_27 (dk_at dksX3_code_0 2 rfl rfl)
theorem dX3_code_3 : decode cX3_code 3 = .ok (.imul, 1) := dk_104 (dk_at dksX3_code_0 3 rfl rfl)
theorem dX3_code_4 : decode cX3_code 4 = .ok (.iload_n 0, 1) := dk_26 (dk_at dksX3_code_0 4 rfl rfl)
theorem dX3_code_5 : decode cX3_code 5 = .ok (.iadd, 1) := dk_96 (dk_at dksX3_code_0 5 rfl rfl)
theorem dX3_code_6 : decode cX3_code 6 = .ok (.ireturn, 1) := dk_172 (dk_at dksX3_code_0 6 rfl rfl)
def dkwX3_nextTo_2 : List UInt8 := [96, 62, 28, 29, 184, 0, 65, 153, 0, 11, 28, 29, 184, 0, 69, 167, 0, 4, 2, 172]
abbrev dktX3_nextTo_2 : List UInt8 := dkwX3_nextTo_2 ++ []
def dkwX3_nextTo_1 : List UInt8 := [61, 26, 16, 10, 108, 27, 6, 160, 0, 7, 4, 167, 0, 13, 27, 4, 160, 0, 7, 2, 167, 0, 4, 3]
abbrev dktX3_nextTo_1 : List UInt8 := dkwX3_nextTo_1 ++ dktX3_nextTo_2
def dkwX3_nextTo_0 : List UInt8 := [26, 16, 10, 112, 27, 5, 160, 0, 7, 4, 167, 0, 13, 27, 7, 160, 0, 7, 2, 167, 0, 4, 3, 96]
abbrev dktX3_nextTo_0 : List UInt8 := dkwX3_nextTo_0 ++ dktX3_nextTo_1
theorem dksX3_nextTo_0 : cX3_nextTo.data.toList.drop 0 = dktX3_nextTo_0 := by decide +kernel
theorem dksX3_nextTo_1 : cX3_nextTo.data.toList.drop 24 = dktX3_nextTo_1 := dk_seg dksX3_nextTo_0 24 rfl rfl
theorem dksX3_nextTo_2 : cX3_nextTo.data.toList.drop 48 = dktX3_nextTo_2 := dk_seg dksX3_nextTo_1 24 rfl rfl
theorem dX3_nextTo_0 : decode cX3_nextTo 0 = .ok (.iload_n 0, 1) := dk_26 (dk_at dksX3_nextTo_0 0 rfl rfl)
theorem dX3_nextTo_1 : decode cX3_nextTo 1 = .ok (.bipush 10, 2) := dk_16 10 (dk_at dksX3_nextTo_0 1 rfl rfl)
theorem dX3_nextTo_3 : decode cX3_nextTo 3 = .ok (.irem, 1) := dk_112 (dk_at dksX3_nextTo_0 3 rfl rfl)
theorem dX3_nextTo_4 : decode cX3_nextTo 4 = .ok (.iload_n 1, 1) := dk_27 (dk_at dksX3_nextTo_0 4 rfl rfl)
theorem dX3_nextTo_5 : decode cX3_nextTo 5 = .ok (.iconst 2, 1) := dk_5 (dk_at dksX3_nextTo_0 5 rfl rfl)
theorem dX3_nextTo_6 : decode cX3_nextTo 6 = .ok (.if_icmp .ne 7, 3) := dk_160 0 7 (dk_at dksX3_nextTo_0 6 rfl rfl)
theorem dX3_nextTo_9 : decode cX3_nextTo 9 = .ok (.iconst 1, 1) := dk_4 (dk_at dksX3_nextTo_0 9 rfl rfl)
theorem dX3_nextTo_10 : decode cX3_nextTo 10 = .ok (.goto 13, 3) := dk_167 0 13 (dk_at dksX3_nextTo_0 10 rfl rfl)
theorem dX3_nextTo_13 : decode cX3_nextTo 13 = .ok (.iload_n 1, 1) := dk_27 (dk_at dksX3_nextTo_0 13 rfl rfl)
theorem dX3_nextTo_14 : decode cX3_nextTo 14 = .ok (.iconst 4, 1) := dk_7 (dk_at dksX3_nextTo_0 14 rfl rfl)
theorem dX3_nextTo_15 : decode cX3_nextTo 15 = .ok (.if_icmp .ne 7, 3) := dk_160 0 7 (dk_at dksX3_nextTo_0 15 rfl rfl)
theorem dX3_nextTo_18 : decode cX3_nextTo 18 = .ok (.iconst (-1), 1) := dk_2 (dk_at dksX3_nextTo_0 18 rfl rfl)
theorem dX3_nextTo_19 : decode cX3_nextTo 19 = .ok (.goto 4, 3) := dk_167 0 4 (dk_at dksX3_nextTo_0 19 rfl rfl)
theorem dX3_nextTo_22 : decode cX3_nextTo 22 = .ok (.iconst 0, 1) := dk_3 (dk_at dksX3_nextTo_0 22 rfl rfl)
theorem dX3_nextTo_23 : decode cX3_nextTo 23 = .ok (.iadd, 1) := dk_96 (dk_at dksX3_nextTo_0 23 rfl rfl)
theorem dX3_nextTo_24 : decode cX3_nextTo 24 = .ok (.istore_n 2, 1) := dk_61 (dk_at dksX3_nextTo_1 0 rfl rfl)
theorem dX3_nextTo_25 : decode cX3_nextTo 25 = .ok (.iload_n 0, 1) := dk_26 (dk_at dksX3_nextTo_1 1 rfl rfl)
theorem dX3_nextTo_26 : decode cX3_nextTo 26 = .ok (.bipush 10, 2) := dk_16 10 (dk_at dksX3_nextTo_1 2 rfl rfl)
theorem dX3_nextTo_28 : decode cX3_nextTo 28 = .ok (.idiv, 1) := dk_108 (dk_at dksX3_nextTo_1 4 rfl rfl)
theorem dX3_nextTo_29 : decode cX3_nextTo 29 = .ok (.iload_n 1, 1) := dk_27 (dk_at dksX3_nextTo_1 5 rfl rfl)
theorem dX3_nextTo_30 : decode cX3_nextTo 30 = .ok (.iconst 3, 1) := dk_6 (dk_at dksX3_nextTo_1 6 rfl rfl)
theorem dX3_nextTo_31 : decode cX3_nextTo 31 = .ok (.if_icmp .ne 7, 3) := dk_160 0 7 (dk_at dksX3_nextTo_1 7 rfl rfl)
theorem dX3_nextTo_34 : decode cX3_nextTo 34 = .ok (.iconst 1, 1) := dk_4 (dk_at dksX3_nextTo_1 10 rfl rfl)
theorem dX3_nextTo_35 : decode cX3_nextTo 35 = .ok (.goto 13, 3) := dk_167 0 13 (dk_at dksX3_nextTo_1 11 rfl rfl)
theorem dX3_nextTo_38 : decode cX3_nextTo 38 = .ok (.iload_n 1, 1) := dk_27 (dk_at dksX3_nextTo_1 14 rfl rfl)
theorem dX3_nextTo_39 : decode cX3_nextTo 39 = .ok (.iconst 1, 1) := dk_4 (dk_at dksX3_nextTo_1 15 rfl rfl)
theorem dX3_nextTo_40 : decode cX3_nextTo 40 = .ok (.if_icmp .ne 7, 3) := dk_160 0 7 (dk_at dksX3_nextTo_1 16 rfl rfl)
theorem dX3_nextTo_43 : decode cX3_nextTo 43 = .ok (.iconst (-1), 1) := dk_2 (dk_at dksX3_nextTo_1 19 rfl rfl)
theorem dX3_nextTo_44 : decode cX3_nextTo 44 = .ok (.goto 4, 3) := dk_167 0 4 (dk_at dksX3_nextTo_1 20 rfl rfl)
theorem dX3_nextTo_47 : decode cX3_nextTo 47 = .ok (.iconst 0, 1) := dk_3 (dk_at dksX3_nextTo_1 23 rfl rfl)
theorem dX3_nextTo_48 : decode cX3_nextTo 48 = .ok (.iadd, 1) := dk_96 (dk_at dksX3_nextTo_2 0 rfl rfl)
theorem dX3_nextTo_49 : decode cX3_nextTo 49 = .ok (.istore_n 3, 1) := dk_62 (dk_at dksX3_nextTo_2 1 rfl rfl)
theorem dX3_nextTo_50 : decode cX3_nextTo 50 = .ok (.iload_n 2, 1) := dk_28 (dk_at dksX3_nextTo_2 2 rfl rfl)
theorem dX3_nextTo_51 : decode cX3_nextTo 51 = .ok (.iload_n 3, 1) := dk_29 (dk_at dksX3_nextTo_2 3 rfl rfl)
theorem dX3_nextTo_52 : decode cX3_nextTo 52 = .ok (.invokestatic 65, 3) := dk_184 0 65 (dk_at dksX3_nextTo_2 4 rfl rfl)
theorem dX3_nextTo_55 : decode cX3_nextTo 55 = .ok (.ifCond .eq 11, 3) := dk_153 0 11 (dk_at dksX3_nextTo_2 7 rfl rfl)
theorem dX3_nextTo_58 : decode cX3_nextTo 58 = .ok (.iload_n 2, 1) := dk_28 (dk_at dksX3_nextTo_2 10 rfl rfl)
theorem dX3_nextTo_59 : decode cX3_nextTo 59 = .ok (.iload_n 3, 1) := dk_29 (dk_at dksX3_nextTo_2 11 rfl rfl)
theorem dX3_nextTo_60 : decode cX3_nextTo 60 = .ok (.invokestatic 69, 3) := dk_184 0 69 (dk_at dksX3_nextTo_2 12 rfl rfl)
theorem dX3_nextTo_63 : decode cX3_nextTo 63 = .ok (.goto 4, 3) := dk_167 0 4 (dk_at dksX3_nextTo_2 15 rfl rfl)
theorem dX3_nextTo_66 : decode cX3_nextTo 66 = .ok (.iconst (-1), 1) := dk_2 (dk_at dksX3_nextTo_2 18 rfl rfl)
theorem dX3_nextTo_67 : decode cX3_nextTo 67 = .ok (.ireturn, 1) := dk_172 (dk_at dksX3_nextTo_2 19 rfl rfl)
def dkwX3_isPoint_1 : List UInt8 := [3, 172]
abbrev dktX3_isPoint_1 : List UInt8 := dkwX3_isPoint_1 ++ []
def dkwX3_isPoint_0 : List UInt8 := [26, 3, 16, 9, 184, 0, 61, 153, 0, 17, 27, 3, 16, 9, 184, 0, 61, 153, 0, 7, 4, 167, 0, 4]
abbrev dktX3_isPoint_0 : List UInt8 := dkwX3_isPoint_0 ++ dktX3_isPoint_1
theorem dksX3_isPoint_0 : cX3_isPoint.data.toList.drop 0 = dktX3_isPoint_0 := by decide +kernel
theorem dksX3_isPoint_1 : cX3_isPoint.data.toList.drop 24 = dktX3_isPoint_1 := dk_seg dksX3_isPoint_0 24 rfl rfl
theorem dX3_isPoint_0 : decode cX3_isPoint 0 = .ok (.iload_n 0, 1) := dk_26 (dk_at dksX3_isPoint_0 0 rfl rfl)
theorem dX3_isPoint_1 : decode cX3_isPoint 1 = .ok (.iconst 0, 1) := dk_3 (dk_at dksX3_isPoint_0 1 rfl rfl)
theorem dX3_isPoint_2 : decode cX3_isPoint 2 = .ok (.bipush 9, 2) := dk_16 9 (dk_at dksX3_isPoint_0 2 rfl rfl)
theorem dX3_isPoint_4 : decode cX3_isPoint 4 = .ok (.invokestatic 61, 3) := dk_184 0 61 (dk_at dksX3_isPoint_0 4 rfl rfl)
theorem dX3_isPoint_7 : decode cX3_isPoint 7 = .ok (.ifCond .eq 17, 3) := dk_153 0 17 (dk_at dksX3_isPoint_0 7 rfl rfl)
theorem dX3_isPoint_10 : decode cX3_isPoint 10 = .ok (.iload_n 1, 1) := dk_27 (dk_at dksX3_isPoint_0 10 rfl rfl)
theorem dX3_isPoint_11 : decode cX3_isPoint 11 = .ok (.iconst 0, 1) := dk_3 (dk_at dksX3_isPoint_0 11 rfl rfl)
theorem dX3_isPoint_12 : decode cX3_isPoint 12 = .ok (.bipush 9, 2) := dk_16 9 (dk_at dksX3_isPoint_0 12 rfl rfl)
theorem dX3_isPoint_14 : decode cX3_isPoint 14 = .ok (.invokestatic 61, 3) := dk_184 0 61 (dk_at dksX3_isPoint_0 14 rfl rfl)
theorem dX3_isPoint_17 : decode cX3_isPoint 17 = .ok (.ifCond .eq 7, 3) := dk_153 0 7 (dk_at dksX3_isPoint_0 17 rfl rfl)
theorem dX3_isPoint_20 : decode cX3_isPoint 20 = .ok (.iconst 1, 1) := dk_4 (dk_at dksX3_isPoint_0 20 rfl rfl)
theorem dX3_isPoint_21 : decode cX3_isPoint 21 = .ok (.goto 4, 3) := dk_167 0 4 (dk_at dksX3_isPoint_0 21 rfl rfl)
theorem dX3_isPoint_24 : decode cX3_isPoint 24 = .ok (.iconst 0, 1) := dk_3 (dk_at dksX3_isPoint_1 0 rfl rfl)
theorem dX3_isPoint_25 : decode cX3_isPoint 25 = .ok (.ireturn, 1) := dk_172 (dk_at dksX3_isPoint_1 1 rfl rfl)
def dkwX3_spireOn_2 : List UInt8 := [167, 0, 4, 28, 61, 132, 3, 1, 167, 255, 206, 28, 172]
abbrev dktX3_spireOn_2 : List UInt8 := dkwX3_spireOn_2 ++ []
def dkwX3_spireOn_1 : List UInt8 := [180, 0, 9, 21, 4, 46, 42, 180, 0, 9, 21, 4, 4, 96, 46, 184, 0, 69, 27, 160, 0, 7, 29]
abbrev dktX3_spireOn_1 : List UInt8 := dkwX3_spireOn_1 ++ dktX3_spireOn_2
def dkwX3_spireOn_0 : List UInt8 := [2, 61, 3, 62, 29, 42, 180, 0, 9, 4, 46, 162, 0, 46, 16, 67, 7, 29, 104, 96, 54, 4, 42]
abbrev dktX3_spireOn_0 : List UInt8 := dkwX3_spireOn_0 ++ dktX3_spireOn_1
theorem dksX3_spireOn_0 : cX3_spireOn.data.toList.drop 0 = dktX3_spireOn_0 := by decide +kernel
theorem dksX3_spireOn_1 : cX3_spireOn.data.toList.drop 23 = dktX3_spireOn_1 := dk_seg dksX3_spireOn_0 23 rfl rfl
theorem dksX3_spireOn_2 : cX3_spireOn.data.toList.drop 46 = dktX3_spireOn_2 := dk_seg dksX3_spireOn_1 23 rfl rfl
theorem dX3_spireOn_0 : decode cX3_spireOn 0 = .ok (.iconst (-1), 1) := dk_2 (dk_at dksX3_spireOn_0 0 rfl rfl)
theorem dX3_spireOn_1 : decode cX3_spireOn 1 = .ok (.istore_n 2, 1) := dk_61 (dk_at dksX3_spireOn_0 1 rfl rfl)
theorem dX3_spireOn_2 : decode cX3_spireOn 2 = .ok (.iconst 0, 1) := dk_3 (dk_at dksX3_spireOn_0 2 rfl rfl)
theorem dX3_spireOn_3 : decode cX3_spireOn 3 = .ok (.istore_n 3, 1) := dk_62 (dk_at dksX3_spireOn_0 3 rfl rfl)
theorem dX3_spireOn_4 : decode cX3_spireOn 4 = .ok (.iload_n 3, 1) := dk_29 (dk_at dksX3_spireOn_0 4 rfl rfl)
theorem dX3_spireOn_5 : decode cX3_spireOn 5 = .ok (.aload_n 0, 1) := dk_42 (dk_at dksX3_spireOn_0 5 rfl rfl)
theorem dX3_spireOn_6 : decode cX3_spireOn 6 = .ok (.getfield 9, 3) := dk_180 0 9 (dk_at dksX3_spireOn_0 6 rfl rfl)
theorem dX3_spireOn_9 : decode cX3_spireOn 9 = .ok (.iconst 1, 1) := dk_4 (dk_at dksX3_spireOn_0 9 rfl rfl)
theorem dX3_spireOn_10 : decode cX3_spireOn 10 = .ok (.iaload, 1) := dk_46 (dk_at dksX3_spireOn_0 10 rfl rfl)
theorem dX3_spireOn_11 : decode cX3_spireOn 11 = .ok (.if_icmp .ge 46, 3) := dk_162 0 46 (dk_at dksX3_spireOn_0 11 rfl rfl)
theorem dX3_spireOn_14 : decode cX3_spireOn 14 = .ok (.bipush 67, 2) := dk_16 67 (dk_at dksX3_spireOn_0 14 rfl rfl)
theorem dX3_spireOn_16 : decode cX3_spireOn 16 = .ok (.iconst 4, 1) := dk_7 (dk_at dksX3_spireOn_0 16 rfl rfl)
theorem dX3_spireOn_17 : decode cX3_spireOn 17 = .ok (.iload_n 3, 1) := dk_29 (dk_at dksX3_spireOn_0 17 rfl rfl)
theorem dX3_spireOn_18 : decode cX3_spireOn 18 = .ok (.imul, 1) := dk_104 (dk_at dksX3_spireOn_0 18 rfl rfl)
theorem dX3_spireOn_19 : decode cX3_spireOn 19 = .ok (.iadd, 1) := dk_96 (dk_at dksX3_spireOn_0 19 rfl rfl)
theorem dX3_spireOn_20 : decode cX3_spireOn 20 = .ok (.istore 4, 2) := dk_54 4 (dk_at dksX3_spireOn_0 20 rfl rfl)
theorem dX3_spireOn_22 : decode cX3_spireOn 22 = .ok (.aload_n 0, 1) := dk_42 (dk_at dksX3_spireOn_0 22 rfl rfl)
theorem dX3_spireOn_23 : decode cX3_spireOn 23 = .ok (.getfield 9, 3) := dk_180 0 9 (dk_at dksX3_spireOn_1 0 rfl rfl)
theorem dX3_spireOn_26 : decode cX3_spireOn 26 = .ok (.iload 4, 2) := dk_21 4 (dk_at dksX3_spireOn_1 3 rfl rfl)
theorem dX3_spireOn_28 : decode cX3_spireOn 28 = .ok (.iaload, 1) := dk_46 (dk_at dksX3_spireOn_1 5 rfl rfl)
theorem dX3_spireOn_29 : decode cX3_spireOn 29 = .ok (.aload_n 0, 1) := dk_42 (dk_at dksX3_spireOn_1 6 rfl rfl)
theorem dX3_spireOn_30 : decode cX3_spireOn 30 = .ok (.getfield 9, 3) := dk_180 0 9 (dk_at dksX3_spireOn_1 7 rfl rfl)
theorem dX3_spireOn_33 : decode cX3_spireOn 33 = .ok (.iload 4, 2) := dk_21 4 (dk_at dksX3_spireOn_1 10 rfl rfl)
theorem dX3_spireOn_35 : decode cX3_spireOn 35 = .ok (.iconst 1, 1) := dk_4 (dk_at dksX3_spireOn_1 12 rfl rfl)
theorem dX3_spireOn_36 : decode cX3_spireOn 36 = .ok (.iadd, 1) := dk_96 (dk_at dksX3_spireOn_1 13 rfl rfl)
theorem dX3_spireOn_37 : decode cX3_spireOn 37 = .ok (.iaload, 1) := dk_46 (dk_at dksX3_spireOn_1 14 rfl rfl)
theorem dX3_spireOn_38 : decode cX3_spireOn 38 = .ok (.invokestatic 69, 3) := dk_184 0 69 (dk_at dksX3_spireOn_1 15 rfl rfl)
theorem dX3_spireOn_41 : decode cX3_spireOn 41 = .ok (.iload_n 1, 1) := dk_27 (dk_at dksX3_spireOn_1 18 rfl rfl)
theorem dX3_spireOn_42 : decode cX3_spireOn 42 = .ok (.if_icmp .ne 7, 3) := dk_160 0 7 (dk_at dksX3_spireOn_1 19 rfl rfl)
theorem dX3_spireOn_45 : decode cX3_spireOn 45 = .ok (.iload_n 3, 1) := dk_29 (dk_at dksX3_spireOn_1 22 rfl rfl)
theorem dX3_spireOn_46 : decode cX3_spireOn 46 = .ok (.goto 4, 3) := dk_167 0 4 (dk_at dksX3_spireOn_2 0 rfl rfl)
theorem dX3_spireOn_49 : decode cX3_spireOn 49 = .ok (.iload_n 2, 1) := dk_28 (dk_at dksX3_spireOn_2 3 rfl rfl)
theorem dX3_spireOn_50 : decode cX3_spireOn 50 = .ok (.istore_n 2, 1) := dk_61 (dk_at dksX3_spireOn_2 4 rfl rfl)
theorem dX3_spireOn_51 : decode cX3_spireOn 51 = .ok (.iinc 3 1, 3) := dk_132 3 1 (dk_at dksX3_spireOn_2 5 rfl rfl)
theorem dX3_spireOn_54 : decode cX3_spireOn 54 = .ok (.goto (-50), 3) := dk_167 255 206 (dk_at dksX3_spireOn_2 8 rfl rfl)
theorem dX3_spireOn_57 : decode cX3_spireOn 57 = .ok (.iload_n 2, 1) := dk_28 (dk_at dksX3_spireOn_2 11 rfl rfl)
theorem dX3_spireOn_58 : decode cX3_spireOn 58 = .ok (.ireturn, 1) := dk_172 (dk_at dksX3_spireOn_2 12 rfl rfl)
def dkwX3_farm_0 : List UInt8 := [42, 182, 0, 90, 42, 42, 27, 28, 29, 182, 0, 107, 182, 0, 96, 172]
abbrev dktX3_farm_0 : List UInt8 := dkwX3_farm_0 ++ []
theorem dksX3_farm_0 : cX3_farm.data.toList.drop 0 = dktX3_farm_0 := by decide +kernel
theorem dX3_farm_0 : decode cX3_farm 0 = .ok (.aload_n 0, 1) := dk_42 (dk_at dksX3_farm_0 0 rfl rfl)
theorem dX3_farm_1 : decode cX3_farm 1 = .ok (.invokevirtual 90, 3) := dk_182 0 90 (dk_at dksX3_farm_0 1 rfl rfl)
theorem dX3_farm_4 : decode cX3_farm 4 = .ok (.aload_n 0, 1) := dk_42 (dk_at dksX3_farm_0 4 rfl rfl)
theorem dX3_farm_5 : decode cX3_farm 5 = .ok (.aload_n 0, 1) := dk_42 (dk_at dksX3_farm_0 5 rfl rfl)
theorem dX3_farm_6 : decode cX3_farm 6 = .ok (.iload_n 1, 1) := dk_27 (dk_at dksX3_farm_0 6 rfl rfl)
theorem dX3_farm_7 : decode cX3_farm 7 = .ok (.iload_n 2, 1) := dk_28 (dk_at dksX3_farm_0 7 rfl rfl)
theorem dX3_farm_8 : decode cX3_farm 8 = .ok (.iload_n 3, 1) := dk_29 (dk_at dksX3_farm_0 8 rfl rfl)
theorem dX3_farm_9 : decode cX3_farm 9 = .ok (.invokevirtual 107, 3) := dk_182 0 107 (dk_at dksX3_farm_0 9 rfl rfl)
theorem dX3_farm_12 : decode cX3_farm 12 = .ok (.invokevirtual 96, 3) := dk_182 0 96 (dk_at dksX3_farm_0 12 rfl rfl)
theorem dX3_farm_15 : decode cX3_farm 15 = .ok (.ireturn, 1) := dk_172 (dk_at dksX3_farm_0 15 rfl rfl)
def dkwX3_doFarm_4 : List UInt8 := [21, 5, 172]
abbrev dktX3_doFarm_4 : List UInt8 := dkwX3_doFarm_4 ++ []
def dkwX3_doFarm_3 : List UInt8 := [160, 0, 10, 42, 6, 29, 182, 0, 83, 172, 42, 180, 0, 9, 16, 87, 27, 28, 184, 0, 69, 96, 29, 79]
abbrev dktX3_doFarm_3 : List UInt8 := dkwX3_doFarm_3 ++ dktX3_doFarm_4
def dkwX3_doFarm_2 : List UInt8 := [29, 182, 0, 83, 172, 42, 180, 0, 9, 16, 87, 27, 28, 184, 0, 69, 96, 46, 54, 5, 21, 5, 29]
abbrev dktX3_doFarm_2 : List UInt8 := dkwX3_doFarm_2 ++ dktX3_doFarm_3
def dkwX3_doFarm_1 : List UInt8 := [154, 0, 29, 42, 7, 21, 4, 154, 0, 7, 27, 167, 0, 14, 21, 4, 4, 160, 0, 7, 28, 167, 0, 4]
abbrev dktX3_doFarm_1 : List UInt8 := dkwX3_doFarm_1 ++ dktX3_doFarm_2
def dkwX3_doFarm_0 : List UInt8 := [27, 16, 9, 28, 16, 9, 184, 0, 79, 54, 4, 21, 4, 5, 161, 0, 13, 29, 3, 16, 9, 184, 0, 61]
abbrev dktX3_doFarm_0 : List UInt8 := dkwX3_doFarm_0 ++ dktX3_doFarm_1
theorem dksX3_doFarm_0 : cX3_doFarm.data.toList.drop 0 = dktX3_doFarm_0 := by decide +kernel
theorem dksX3_doFarm_1 : cX3_doFarm.data.toList.drop 24 = dktX3_doFarm_1 := dk_seg dksX3_doFarm_0 24 rfl rfl
theorem dksX3_doFarm_2 : cX3_doFarm.data.toList.drop 48 = dktX3_doFarm_2 := dk_seg dksX3_doFarm_1 24 rfl rfl
theorem dksX3_doFarm_3 : cX3_doFarm.data.toList.drop 71 = dktX3_doFarm_3 := dk_seg dksX3_doFarm_2 23 rfl rfl
theorem dksX3_doFarm_4 : cX3_doFarm.data.toList.drop 95 = dktX3_doFarm_4 := dk_seg dksX3_doFarm_3 24 rfl rfl
theorem dX3_doFarm_0 : decode cX3_doFarm 0 = .ok (.iload_n 1, 1) := dk_27 (dk_at dksX3_doFarm_0 0 rfl rfl)
theorem dX3_doFarm_1 : decode cX3_doFarm 1 = .ok (.bipush 9, 2) := dk_16 9 (dk_at dksX3_doFarm_0 1 rfl rfl)
theorem dX3_doFarm_3 : decode cX3_doFarm 3 = .ok (.iload_n 2, 1) := dk_28 (dk_at dksX3_doFarm_0 3 rfl rfl)
theorem dX3_doFarm_4 : decode cX3_doFarm 4 = .ok (.bipush 9, 2) := dk_16 9 (dk_at dksX3_doFarm_0 4 rfl rfl)
theorem dX3_doFarm_6 : decode cX3_doFarm 6 = .ok (.invokestatic 79, 3) := dk_184 0 79 (dk_at dksX3_doFarm_0 6 rfl rfl)
theorem dX3_doFarm_9 : decode cX3_doFarm 9 = .ok (.istore 4, 2) := dk_54 4 (dk_at dksX3_doFarm_0 9 rfl rfl)
theorem dX3_doFarm_11 : decode cX3_doFarm 11 = .ok (.iload 4, 2) := dk_21 4 (dk_at dksX3_doFarm_0 11 rfl rfl)
theorem dX3_doFarm_13 : decode cX3_doFarm 13 = .ok (.iconst 2, 1) := dk_5 (dk_at dksX3_doFarm_0 13 rfl rfl)
theorem dX3_doFarm_14 : decode cX3_doFarm 14 = .ok (.if_icmp .lt 13, 3) := dk_161 0 13 (dk_at dksX3_doFarm_0 14 rfl rfl)
theorem dX3_doFarm_17 : decode cX3_doFarm 17 = .ok (.iload_n 3, 1) := dk_29 (dk_at dksX3_doFarm_0 17 rfl rfl)
theorem dX3_doFarm_18 : decode cX3_doFarm 18 = .ok (.iconst 0, 1) := dk_3 (dk_at dksX3_doFarm_0 18 rfl rfl)
theorem dX3_doFarm_19 : decode cX3_doFarm 19 = .ok (.bipush 9, 2) := dk_16 9 (dk_at dksX3_doFarm_0 19 rfl rfl)
theorem dX3_doFarm_21 : decode cX3_doFarm 21 = .ok (.invokestatic 61, 3) := dk_184 0 61 (dk_at dksX3_doFarm_0 21 rfl rfl)
theorem dX3_doFarm_24 : decode cX3_doFarm 24 = .ok (.ifCond .ne 29, 3) := dk_154 0 29 (dk_at dksX3_doFarm_1 0 rfl rfl)
theorem dX3_doFarm_27 : decode cX3_doFarm 27 = .ok (.aload_n 0, 1) := dk_42 (dk_at dksX3_doFarm_1 3 rfl rfl)
theorem dX3_doFarm_28 : decode cX3_doFarm 28 = .ok (.iconst 4, 1) := dk_7 (dk_at dksX3_doFarm_1 4 rfl rfl)
theorem dX3_doFarm_29 : decode cX3_doFarm 29 = .ok (.iload 4, 2) := dk_21 4 (dk_at dksX3_doFarm_1 5 rfl rfl)
theorem dX3_doFarm_31 : decode cX3_doFarm 31 = .ok (.ifCond .ne 7, 3) := dk_154 0 7 (dk_at dksX3_doFarm_1 7 rfl rfl)
theorem dX3_doFarm_34 : decode cX3_doFarm 34 = .ok (.iload_n 1, 1) := dk_27 (dk_at dksX3_doFarm_1 10 rfl rfl)
theorem dX3_doFarm_35 : decode cX3_doFarm 35 = .ok (.goto 14, 3) := dk_167 0 14 (dk_at dksX3_doFarm_1 11 rfl rfl)
theorem dX3_doFarm_38 : decode cX3_doFarm 38 = .ok (.iload 4, 2) := dk_21 4 (dk_at dksX3_doFarm_1 14 rfl rfl)
theorem dX3_doFarm_40 : decode cX3_doFarm 40 = .ok (.iconst 1, 1) := dk_4 (dk_at dksX3_doFarm_1 16 rfl rfl)
theorem dX3_doFarm_41 : decode cX3_doFarm 41 = .ok (.if_icmp .ne 7, 3) := dk_160 0 7 (dk_at dksX3_doFarm_1 17 rfl rfl)
theorem dX3_doFarm_44 : decode cX3_doFarm 44 = .ok (.iload_n 2, 1) := dk_28 (dk_at dksX3_doFarm_1 20 rfl rfl)
theorem dX3_doFarm_45 : decode cX3_doFarm 45 = .ok (.goto 4, 3) := dk_167 0 4 (dk_at dksX3_doFarm_1 21 rfl rfl)
theorem dX3_doFarm_48 : decode cX3_doFarm 48 = .ok (.iload_n 3, 1) := dk_29 (dk_at dksX3_doFarm_2 0 rfl rfl)
theorem dX3_doFarm_49 : decode cX3_doFarm 49 = .ok (.invokevirtual 83, 3) := dk_182 0 83 (dk_at dksX3_doFarm_2 1 rfl rfl)
theorem dX3_doFarm_52 : decode cX3_doFarm 52 = .ok (.ireturn, 1) := dk_172 (dk_at dksX3_doFarm_2 4 rfl rfl)
theorem dX3_doFarm_53 : decode cX3_doFarm 53 = .ok (.aload_n 0, 1) := dk_42 (dk_at dksX3_doFarm_2 5 rfl rfl)
theorem dX3_doFarm_54 : decode cX3_doFarm 54 = .ok (.getfield 9, 3) := dk_180 0 9 (dk_at dksX3_doFarm_2 6 rfl rfl)
theorem dX3_doFarm_57 : decode cX3_doFarm 57 = .ok (.bipush 87, 2) := dk_16 87 (dk_at dksX3_doFarm_2 9 rfl rfl)
theorem dX3_doFarm_59 : decode cX3_doFarm 59 = .ok (.iload_n 1, 1) := dk_27 (dk_at dksX3_doFarm_2 11 rfl rfl)
theorem dX3_doFarm_60 : decode cX3_doFarm 60 = .ok (.iload_n 2, 1) := dk_28 (dk_at dksX3_doFarm_2 12 rfl rfl)
theorem dX3_doFarm_61 : decode cX3_doFarm 61 = .ok (.invokestatic 69, 3) := dk_184 0 69 (dk_at dksX3_doFarm_2 13 rfl rfl)
theorem dX3_doFarm_64 : decode cX3_doFarm 64 = .ok (.iadd, 1) := dk_96 (dk_at dksX3_doFarm_2 16 rfl rfl)
theorem dX3_doFarm_65 : decode cX3_doFarm 65 = .ok (.iaload, 1) := dk_46 (dk_at dksX3_doFarm_2 17 rfl rfl)
theorem dX3_doFarm_66 : decode cX3_doFarm 66 = .ok (.istore 5, 2) := dk_54 5 (dk_at dksX3_doFarm_2 18 rfl rfl)
theorem dX3_doFarm_68 : decode cX3_doFarm 68 = .ok (.iload 5, 2) := dk_21 5 (dk_at dksX3_doFarm_2 20 rfl rfl)
theorem dX3_doFarm_70 : decode cX3_doFarm 70 = .ok (.iload_n 3, 1) := dk_29 (dk_at dksX3_doFarm_2 22 rfl rfl)
theorem dX3_doFarm_71 : decode cX3_doFarm 71 = .ok (.if_icmp .ne 10, 3) := dk_160 0 10 (dk_at dksX3_doFarm_3 0 rfl rfl)
theorem dX3_doFarm_74 : decode cX3_doFarm 74 = .ok (.aload_n 0, 1) := dk_42 (dk_at dksX3_doFarm_3 3 rfl rfl)
theorem dX3_doFarm_75 : decode cX3_doFarm 75 = .ok (.iconst 3, 1) := dk_6 (dk_at dksX3_doFarm_3 4 rfl rfl)
theorem dX3_doFarm_76 : decode cX3_doFarm 76 = .ok (.iload_n 3, 1) := dk_29 (dk_at dksX3_doFarm_3 5 rfl rfl)
theorem dX3_doFarm_77 : decode cX3_doFarm 77 = .ok (.invokevirtual 83, 3) := dk_182 0 83 (dk_at dksX3_doFarm_3 6 rfl rfl)
theorem dX3_doFarm_80 : decode cX3_doFarm 80 = .ok (.ireturn, 1) := dk_172 (dk_at dksX3_doFarm_3 9 rfl rfl)
theorem dX3_doFarm_81 : decode cX3_doFarm 81 = .ok (.aload_n 0, 1) := dk_42 (dk_at dksX3_doFarm_3 10 rfl rfl)
theorem dX3_doFarm_82 : decode cX3_doFarm 82 = .ok (.getfield 9, 3) := dk_180 0 9 (dk_at dksX3_doFarm_3 11 rfl rfl)
theorem dX3_doFarm_85 : decode cX3_doFarm 85 = .ok (.bipush 87, 2) := dk_16 87 (dk_at dksX3_doFarm_3 14 rfl rfl)
theorem dX3_doFarm_87 : decode cX3_doFarm 87 = .ok (.iload_n 1, 1) := dk_27 (dk_at dksX3_doFarm_3 16 rfl rfl)
theorem dX3_doFarm_88 : decode cX3_doFarm 88 = .ok (.iload_n 2, 1) := dk_28 (dk_at dksX3_doFarm_3 17 rfl rfl)
theorem dX3_doFarm_89 : decode cX3_doFarm 89 = .ok (.invokestatic 69, 3) := dk_184 0 69 (dk_at dksX3_doFarm_3 18 rfl rfl)
theorem dX3_doFarm_92 : decode cX3_doFarm 92 = .ok (.iadd, 1) := dk_96 (dk_at dksX3_doFarm_3 21 rfl rfl)
theorem dX3_doFarm_93 : decode cX3_doFarm 93 = .ok (.iload_n 3, 1) := dk_29 (dk_at dksX3_doFarm_3 22 rfl rfl)
theorem dX3_doFarm_94 : decode cX3_doFarm 94 = .ok (.iastore, 1) := dk_79 (dk_at dksX3_doFarm_3 23 rfl rfl)
theorem dX3_doFarm_95 : decode cX3_doFarm 95 = .ok (.iload 5, 2) := dk_21 5 (dk_at dksX3_doFarm_4 0 rfl rfl)
theorem dX3_doFarm_97 : decode cX3_doFarm 97 = .ok (.ireturn, 1) := dk_172 (dk_at dksX3_doFarm_4 2 rfl rfl)
def dkwX3_wind_0 : List UInt8 := [42, 182, 0, 90, 42, 42, 27, 28, 182, 0, 110, 182, 0, 96, 172]
abbrev dktX3_wind_0 : List UInt8 := dkwX3_wind_0 ++ []
theorem dksX3_wind_0 : cX3_wind.data.toList.drop 0 = dktX3_wind_0 := by decide +kernel
theorem dX3_wind_0 : decode cX3_wind 0 = .ok (.aload_n 0, 1) := dk_42 (dk_at dksX3_wind_0 0 rfl rfl)
theorem dX3_wind_1 : decode cX3_wind 1 = .ok (.invokevirtual 90, 3) := dk_182 0 90 (dk_at dksX3_wind_0 1 rfl rfl)
theorem dX3_wind_4 : decode cX3_wind 4 = .ok (.aload_n 0, 1) := dk_42 (dk_at dksX3_wind_0 4 rfl rfl)
theorem dX3_wind_5 : decode cX3_wind 5 = .ok (.aload_n 0, 1) := dk_42 (dk_at dksX3_wind_0 5 rfl rfl)
theorem dX3_wind_6 : decode cX3_wind 6 = .ok (.iload_n 1, 1) := dk_27 (dk_at dksX3_wind_0 6 rfl rfl)
theorem dX3_wind_7 : decode cX3_wind 7 = .ok (.iload_n 2, 1) := dk_28 (dk_at dksX3_wind_0 7 rfl rfl)
theorem dX3_wind_8 : decode cX3_wind 8 = .ok (.invokevirtual 110, 3) := dk_182 0 110 (dk_at dksX3_wind_0 8 rfl rfl)
theorem dX3_wind_11 : decode cX3_wind 11 = .ok (.invokevirtual 96, 3) := dk_182 0 96 (dk_at dksX3_wind_0 11 rfl rfl)
theorem dX3_wind_14 : decode cX3_wind 14 = .ok (.ireturn, 1) := dk_172 (dk_at dksX3_wind_0 14 rfl rfl)
def dkwX3_doWind_3 : List UInt8 := [100, 28, 79, 29, 172]
abbrev dktX3_doWind_3 : List UInt8 := dkwX3_doWind_3 ++ []
def dkwX3_doWind_2 : List UInt8 := [100, 46, 62, 29, 28, 160, 0, 10, 42, 6, 28, 182, 0, 83, 172, 42, 180, 0, 9, 16, 8, 27, 96, 4]
abbrev dktX3_doWind_2 : List UInt8 := dkwX3_doWind_2 ++ dktX3_doWind_3
def dkwX3_doWind_1 : List UInt8 := [184, 0, 61, 153, 0, 7, 28, 167, 0, 4, 27, 182, 0, 83, 172, 42, 180, 0, 9, 16, 8, 27, 96, 4]
abbrev dktX3_doWind_1 : List UInt8 := dkwX3_doWind_1 ++ dktX3_doWind_2
def dkwX3_doWind_0 : List UInt8 := [27, 4, 8, 184, 0, 61, 153, 0, 12, 28, 3, 7, 184, 0, 61, 154, 0, 23, 42, 7, 27, 4, 8]
abbrev dktX3_doWind_0 : List UInt8 := dkwX3_doWind_0 ++ dktX3_doWind_1
theorem dksX3_doWind_0 : cX3_doWind.data.toList.drop 0 = dktX3_doWind_0 := by decide +kernel
theorem dksX3_doWind_1 : cX3_doWind.data.toList.drop 23 = dktX3_doWind_1 := dk_seg dksX3_doWind_0 23 rfl rfl
theorem dksX3_doWind_2 : cX3_doWind.data.toList.drop 47 = dktX3_doWind_2 := dk_seg dksX3_doWind_1 24 rfl rfl
theorem dksX3_doWind_3 : cX3_doWind.data.toList.drop 71 = dktX3_doWind_3 := dk_seg dksX3_doWind_2 24 rfl rfl
theorem dX3_doWind_0 : decode cX3_doWind 0 = .ok (.iload_n 1, 1) := dk_27 (dk_at dksX3_doWind_0 0 rfl rfl)
theorem dX3_doWind_1 : decode cX3_doWind 1 = .ok (.iconst 1, 1) := dk_4 (dk_at dksX3_doWind_0 1 rfl rfl)
theorem dX3_doWind_2 : decode cX3_doWind 2 = .ok (.iconst 5, 1) := dk_8 (dk_at dksX3_doWind_0 2 rfl rfl)
theorem dX3_doWind_3 : decode cX3_doWind 3 = .ok (.invokestatic 61, 3) := dk_184 0 61 (dk_at dksX3_doWind_0 3 rfl rfl)
theorem dX3_doWind_6 : decode cX3_doWind 6 = .ok (.ifCond .eq 12, 3) := dk_153 0 12 (dk_at dksX3_doWind_0 6 rfl rfl)
theorem dX3_doWind_9 : decode cX3_doWind 9 = .ok (.iload_n 2, 1) := dk_28 (dk_at dksX3_doWind_0 9 rfl rfl)
theorem dX3_doWind_10 : decode cX3_doWind 10 = .ok (.iconst 0, 1) := dk_3 (dk_at dksX3_doWind_0 10 rfl rfl)
theorem dX3_doWind_11 : decode cX3_doWind 11 = .ok (.iconst 4, 1) := dk_7 (dk_at dksX3_doWind_0 11 rfl rfl)
theorem dX3_doWind_12 : decode cX3_doWind 12 = .ok (.invokestatic 61, 3) := dk_184 0 61 (dk_at dksX3_doWind_0 12 rfl rfl)
theorem dX3_doWind_15 : decode cX3_doWind 15 = .ok (.ifCond .ne 23, 3) := dk_154 0 23 (dk_at dksX3_doWind_0 15 rfl rfl)
theorem dX3_doWind_18 : decode cX3_doWind 18 = .ok (.aload_n 0, 1) := dk_42 (dk_at dksX3_doWind_0 18 rfl rfl)
theorem dX3_doWind_19 : decode cX3_doWind 19 = .ok (.iconst 4, 1) := dk_7 (dk_at dksX3_doWind_0 19 rfl rfl)
theorem dX3_doWind_20 : decode cX3_doWind 20 = .ok (.iload_n 1, 1) := dk_27 (dk_at dksX3_doWind_0 20 rfl rfl)
theorem dX3_doWind_21 : decode cX3_doWind 21 = .ok (.iconst 1, 1) := dk_4 (dk_at dksX3_doWind_0 21 rfl rfl)
theorem dX3_doWind_22 : decode cX3_doWind 22 = .ok (.iconst 5, 1) := dk_8 (dk_at dksX3_doWind_0 22 rfl rfl)
theorem dX3_doWind_23 : decode cX3_doWind 23 = .ok (.invokestatic 61, 3) := dk_184 0 61 (dk_at dksX3_doWind_1 0 rfl rfl)
theorem dX3_doWind_26 : decode cX3_doWind 26 = .ok (.ifCond .eq 7, 3) := dk_153 0 7 (dk_at dksX3_doWind_1 3 rfl rfl)
theorem dX3_doWind_29 : decode cX3_doWind 29 = .ok (.iload_n 2, 1) := dk_28 (dk_at dksX3_doWind_1 6 rfl rfl)
theorem dX3_doWind_30 : decode cX3_doWind 30 = .ok (.goto 4, 3) := dk_167 0 4 (dk_at dksX3_doWind_1 7 rfl rfl)
theorem dX3_doWind_33 : decode cX3_doWind 33 = .ok (.iload_n 1, 1) := dk_27 (dk_at dksX3_doWind_1 10 rfl rfl)
theorem dX3_doWind_34 : decode cX3_doWind 34 = .ok (.invokevirtual 83, 3) := dk_182 0 83 (dk_at dksX3_doWind_1 11 rfl rfl)
theorem dX3_doWind_37 : decode cX3_doWind 37 = .ok (.ireturn, 1) := dk_172 (dk_at dksX3_doWind_1 14 rfl rfl)
theorem dX3_doWind_38 : decode cX3_doWind 38 = .ok (.aload_n 0, 1) := dk_42 (dk_at dksX3_doWind_1 15 rfl rfl)
theorem dX3_doWind_39 : decode cX3_doWind 39 = .ok (.getfield 9, 3) := dk_180 0 9 (dk_at dksX3_doWind_1 16 rfl rfl)
theorem dX3_doWind_42 : decode cX3_doWind 42 = .ok (.bipush 8, 2) := dk_16 8 (dk_at dksX3_doWind_1 19 rfl rfl)
theorem dX3_doWind_44 : decode cX3_doWind 44 = .ok (.iload_n 1, 1) := dk_27 (dk_at dksX3_doWind_1 21 rfl rfl)
theorem dX3_doWind_45 : decode cX3_doWind 45 = .ok (.iadd, 1) := dk_96 (dk_at dksX3_doWind_1 22 rfl rfl)
theorem dX3_doWind_46 : decode cX3_doWind 46 = .ok (.iconst 1, 1) := dk_4 (dk_at dksX3_doWind_1 23 rfl rfl)
theorem dX3_doWind_47 : decode cX3_doWind 47 = .ok (.isub, 1) := dk_100 (dk_at dksX3_doWind_2 0 rfl rfl)
theorem dX3_doWind_48 : decode cX3_doWind 48 = .ok (.iaload, 1) := dk_46 (dk_at dksX3_doWind_2 1 rfl rfl)
theorem dX3_doWind_49 : decode cX3_doWind 49 = .ok (.istore_n 3, 1) := dk_62 (dk_at dksX3_doWind_2 2 rfl rfl)
theorem dX3_doWind_50 : decode cX3_doWind 50 = .ok (.iload_n 3, 1) := dk_29 (dk_at dksX3_doWind_2 3 rfl rfl)
theorem dX3_doWind_51 : decode cX3_doWind 51 = .ok (.iload_n 2, 1) := dk_28 (dk_at dksX3_doWind_2 4 rfl rfl)
theorem dX3_doWind_52 : decode cX3_doWind 52 = .ok (.if_icmp .ne 10, 3) := dk_160 0 10 (dk_at dksX3_doWind_2 5 rfl rfl)
theorem dX3_doWind_55 : decode cX3_doWind 55 = .ok (.aload_n 0, 1) := dk_42 (dk_at dksX3_doWind_2 8 rfl rfl)
theorem dX3_doWind_56 : decode cX3_doWind 56 = .ok (.iconst 3, 1) := dk_6 (dk_at dksX3_doWind_2 9 rfl rfl)
theorem dX3_doWind_57 : decode cX3_doWind 57 = .ok (.iload_n 2, 1) := dk_28 (dk_at dksX3_doWind_2 10 rfl rfl)
theorem dX3_doWind_58 : decode cX3_doWind 58 = .ok (.invokevirtual 83, 3) := dk_182 0 83 (dk_at dksX3_doWind_2 11 rfl rfl)
theorem dX3_doWind_61 : decode cX3_doWind 61 = .ok (.ireturn, 1) := dk_172 (dk_at dksX3_doWind_2 14 rfl rfl)
theorem dX3_doWind_62 : decode cX3_doWind 62 = .ok (.aload_n 0, 1) := dk_42 (dk_at dksX3_doWind_2 15 rfl rfl)
theorem dX3_doWind_63 : decode cX3_doWind 63 = .ok (.getfield 9, 3) := dk_180 0 9 (dk_at dksX3_doWind_2 16 rfl rfl)
theorem dX3_doWind_66 : decode cX3_doWind 66 = .ok (.bipush 8, 2) := dk_16 8 (dk_at dksX3_doWind_2 19 rfl rfl)
theorem dX3_doWind_68 : decode cX3_doWind 68 = .ok (.iload_n 1, 1) := dk_27 (dk_at dksX3_doWind_2 21 rfl rfl)
theorem dX3_doWind_69 : decode cX3_doWind 69 = .ok (.iadd, 1) := dk_96 (dk_at dksX3_doWind_2 22 rfl rfl)
theorem dX3_doWind_70 : decode cX3_doWind 70 = .ok (.iconst 1, 1) := dk_4 (dk_at dksX3_doWind_2 23 rfl rfl)
theorem dX3_doWind_71 : decode cX3_doWind 71 = .ok (.isub, 1) := dk_100 (dk_at dksX3_doWind_3 0 rfl rfl)
theorem dX3_doWind_72 : decode cX3_doWind 72 = .ok (.iload_n 2, 1) := dk_28 (dk_at dksX3_doWind_3 1 rfl rfl)
theorem dX3_doWind_73 : decode cX3_doWind 73 = .ok (.iastore, 1) := dk_79 (dk_at dksX3_doWind_3 2 rfl rfl)
theorem dX3_doWind_74 : decode cX3_doWind 74 = .ok (.iload_n 3, 1) := dk_29 (dk_at dksX3_doWind_3 3 rfl rfl)
theorem dX3_doWind_75 : decode cX3_doWind 75 = .ok (.ireturn, 1) := dk_172 (dk_at dksX3_doWind_3 4 rfl rfl)
def dkwX3_drop_0 : List UInt8 := [42, 182, 0, 90, 42, 42, 27, 28, 182, 0, 117, 182, 0, 96, 172]
abbrev dktX3_drop_0 : List UInt8 := dkwX3_drop_0 ++ []
theorem dksX3_drop_0 : cX3_drop.data.toList.drop 0 = dktX3_drop_0 := by decide +kernel
theorem dX3_drop_0 : decode cX3_drop 0 = .ok (.aload_n 0, 1) := dk_42 (dk_at dksX3_drop_0 0 rfl rfl)
theorem dX3_drop_1 : decode cX3_drop 1 = .ok (.invokevirtual 90, 3) := dk_182 0 90 (dk_at dksX3_drop_0 1 rfl rfl)
theorem dX3_drop_4 : decode cX3_drop 4 = .ok (.aload_n 0, 1) := dk_42 (dk_at dksX3_drop_0 4 rfl rfl)
theorem dX3_drop_5 : decode cX3_drop 5 = .ok (.aload_n 0, 1) := dk_42 (dk_at dksX3_drop_0 5 rfl rfl)
theorem dX3_drop_6 : decode cX3_drop 6 = .ok (.iload_n 1, 1) := dk_27 (dk_at dksX3_drop_0 6 rfl rfl)
theorem dX3_drop_7 : decode cX3_drop 7 = .ok (.iload_n 2, 1) := dk_28 (dk_at dksX3_drop_0 7 rfl rfl)
theorem dX3_drop_8 : decode cX3_drop 8 = .ok (.invokevirtual 117, 3) := dk_182 0 117 (dk_at dksX3_drop_0 8 rfl rfl)
theorem dX3_drop_11 : decode cX3_drop 11 = .ok (.invokevirtual 96, 3) := dk_182 0 96 (dk_at dksX3_drop_0 11 rfl rfl)
theorem dX3_drop_14 : decode cX3_drop 14 = .ok (.ireturn, 1) := dk_172 (dk_at dksX3_drop_0 14 rfl rfl)
def dkwX3_doDrop_5 : List UInt8 := [182, 0, 86, 42, 180, 0, 9, 16, 6, 92, 46, 28, 96, 79, 29, 28, 96, 172]
abbrev dktX3_doDrop_5 : List UInt8 := dkwX3_doDrop_5 ++ []
def dkwX3_doDrop_4 : List UInt8 := [182, 0, 83, 172, 42, 27, 5, 29, 28, 96, 182, 0, 86, 42, 27, 6, 42, 27, 6, 182, 0, 76, 28, 100]
abbrev dktX3_doDrop_4 : List UInt8 := dkwX3_doDrop_4 ++ dktX3_doDrop_5
def dkwX3_doDrop_3 : List UInt8 := [42, 27, 6, 182, 0, 76, 182, 0, 83, 172, 29, 28, 96, 8, 164, 0, 13, 42, 16, 7, 8, 29, 100]
abbrev dktX3_doDrop_3 : List UInt8 := dkwX3_doDrop_3 ++ dktX3_doDrop_4
def dkwX3_doDrop_2 : List UInt8 := [154, 0, 11, 42, 16, 8, 29, 182, 0, 83, 172, 42, 27, 6, 182, 0, 76, 28, 162, 0, 16, 42, 16, 6]
abbrev dktX3_doDrop_2 : List UInt8 := dkwX3_doDrop_2 ++ dktX3_doDrop_3
def dkwX3_doDrop_1 : List UInt8 := [154, 0, 10, 42, 7, 28, 182, 0, 83, 172, 42, 27, 5, 182, 0, 76, 62, 42, 27, 7, 182, 0, 76]
abbrev dktX3_doDrop_1 : List UInt8 := dkwX3_doDrop_1 ++ dktX3_doDrop_2
def dkwX3_doDrop_0 : List UInt8 := [42, 27, 182, 0, 113, 154, 0, 10, 42, 8, 27, 182, 0, 83, 172, 28, 4, 16, 9, 184, 0, 61]
abbrev dktX3_doDrop_0 : List UInt8 := dkwX3_doDrop_0 ++ dktX3_doDrop_1
theorem dksX3_doDrop_0 : cX3_doDrop.data.toList.drop 0 = dktX3_doDrop_0 := by decide +kernel
theorem dksX3_doDrop_1 : cX3_doDrop.data.toList.drop 22 = dktX3_doDrop_1 := dk_seg dksX3_doDrop_0 22 rfl rfl
theorem dksX3_doDrop_2 : cX3_doDrop.data.toList.drop 45 = dktX3_doDrop_2 := dk_seg dksX3_doDrop_1 23 rfl rfl
theorem dksX3_doDrop_3 : cX3_doDrop.data.toList.drop 69 = dktX3_doDrop_3 := dk_seg dksX3_doDrop_2 24 rfl rfl
theorem dksX3_doDrop_4 : cX3_doDrop.data.toList.drop 92 = dktX3_doDrop_4 := dk_seg dksX3_doDrop_3 23 rfl rfl
theorem dksX3_doDrop_5 : cX3_doDrop.data.toList.drop 116 = dktX3_doDrop_5 := dk_seg dksX3_doDrop_4 24 rfl rfl
theorem dX3_doDrop_0 : decode cX3_doDrop 0 = .ok (.aload_n 0, 1) := dk_42 (dk_at dksX3_doDrop_0 0 rfl rfl)
theorem dX3_doDrop_1 : decode cX3_doDrop 1 = .ok (.iload_n 1, 1) := dk_27 (dk_at dksX3_doDrop_0 1 rfl rfl)
theorem dX3_doDrop_2 : decode cX3_doDrop 2 = .ok (.invokevirtual 113, 3) := dk_182 0 113 (dk_at dksX3_doDrop_0 2 rfl rfl)
theorem dX3_doDrop_5 : decode cX3_doDrop 5 = .ok (.ifCond .ne 10, 3) := dk_154 0 10 (dk_at dksX3_doDrop_0 5 rfl rfl)
theorem dX3_doDrop_8 : decode cX3_doDrop 8 = .ok (.aload_n 0, 1) := dk_42 (dk_at dksX3_doDrop_0 8 rfl rfl)
theorem dX3_doDrop_9 : decode cX3_doDrop 9 = .ok (.iconst 5, 1) := dk_8 (dk_at dksX3_doDrop_0 9 rfl rfl)
theorem dX3_doDrop_10 : decode cX3_doDrop 10 = .ok (.iload_n 1, 1) := dk_27 (dk_at dksX3_doDrop_0 10 rfl rfl)
theorem dX3_doDrop_11 : decode cX3_doDrop 11 = .ok (.invokevirtual 83, 3) := dk_182 0 83 (dk_at dksX3_doDrop_0 11 rfl rfl)
theorem dX3_doDrop_14 : decode cX3_doDrop 14 = .ok (.ireturn, 1) := dk_172 (dk_at dksX3_doDrop_0 14 rfl rfl)
theorem dX3_doDrop_15 : decode cX3_doDrop 15 = .ok (.iload_n 2, 1) := dk_28 (dk_at dksX3_doDrop_0 15 rfl rfl)
theorem dX3_doDrop_16 : decode cX3_doDrop 16 = .ok (.iconst 1, 1) := dk_4 (dk_at dksX3_doDrop_0 16 rfl rfl)
theorem dX3_doDrop_17 : decode cX3_doDrop 17 = .ok (.bipush 9, 2) := dk_16 9 (dk_at dksX3_doDrop_0 17 rfl rfl)
theorem dX3_doDrop_19 : decode cX3_doDrop 19 = .ok (.invokestatic 61, 3) := dk_184 0 61 (dk_at dksX3_doDrop_0 19 rfl rfl)
theorem dX3_doDrop_22 : decode cX3_doDrop 22 = .ok (.ifCond .ne 10, 3) := dk_154 0 10 (dk_at dksX3_doDrop_1 0 rfl rfl)
theorem dX3_doDrop_25 : decode cX3_doDrop 25 = .ok (.aload_n 0, 1) := dk_42 (dk_at dksX3_doDrop_1 3 rfl rfl)
theorem dX3_doDrop_26 : decode cX3_doDrop 26 = .ok (.iconst 4, 1) := dk_7 (dk_at dksX3_doDrop_1 4 rfl rfl)
theorem dX3_doDrop_27 : decode cX3_doDrop 27 = .ok (.iload_n 2, 1) := dk_28 (dk_at dksX3_doDrop_1 5 rfl rfl)
theorem dX3_doDrop_28 : decode cX3_doDrop 28 = .ok (.invokevirtual 83, 3) := dk_182 0 83 (dk_at dksX3_doDrop_1 6 rfl rfl)
theorem dX3_doDrop_31 : decode cX3_doDrop 31 = .ok (.ireturn, 1) := dk_172 (dk_at dksX3_doDrop_1 9 rfl rfl)
theorem dX3_doDrop_32 : decode cX3_doDrop 32 = .ok (.aload_n 0, 1) := dk_42 (dk_at dksX3_doDrop_1 10 rfl rfl)
theorem dX3_doDrop_33 : decode cX3_doDrop 33 = .ok (.iload_n 1, 1) := dk_27 (dk_at dksX3_doDrop_1 11 rfl rfl)
theorem dX3_doDrop_34 : decode cX3_doDrop 34 = .ok (.iconst 2, 1) := dk_5 (dk_at dksX3_doDrop_1 12 rfl rfl)
theorem dX3_doDrop_35 : decode cX3_doDrop 35 = .ok (.invokevirtual 76, 3) := dk_182 0 76 (dk_at dksX3_doDrop_1 13 rfl rfl)
theorem dX3_doDrop_38 : decode cX3_doDrop 38 = .ok (.istore_n 3, 1) := dk_62 (dk_at dksX3_doDrop_1 16 rfl rfl)
theorem dX3_doDrop_39 : decode cX3_doDrop 39 = .ok (.aload_n 0, 1) := dk_42 (dk_at dksX3_doDrop_1 17 rfl rfl)
theorem dX3_doDrop_40 : decode cX3_doDrop 40 = .ok (.iload_n 1, 1) := dk_27 (dk_at dksX3_doDrop_1 18 rfl rfl)
theorem dX3_doDrop_41 : decode cX3_doDrop 41 = .ok (.iconst 4, 1) := dk_7 (dk_at dksX3_doDrop_1 19 rfl rfl)
theorem dX3_doDrop_42 : decode cX3_doDrop 42 = .ok (.invokevirtual 76, 3) := dk_182 0 76 (dk_at dksX3_doDrop_1 20 rfl rfl)
theorem dX3_doDrop_45 : decode cX3_doDrop 45 = .ok (.ifCond .ne 11, 3) := dk_154 0 11 (dk_at dksX3_doDrop_2 0 rfl rfl)
theorem dX3_doDrop_48 : decode cX3_doDrop 48 = .ok (.aload_n 0, 1) := dk_42 (dk_at dksX3_doDrop_2 3 rfl rfl)
theorem dX3_doDrop_49 : decode cX3_doDrop 49 = .ok (.bipush 8, 2) := dk_16 8 (dk_at dksX3_doDrop_2 4 rfl rfl)
theorem dX3_doDrop_51 : decode cX3_doDrop 51 = .ok (.iload_n 3, 1) := dk_29 (dk_at dksX3_doDrop_2 6 rfl rfl)
theorem dX3_doDrop_52 : decode cX3_doDrop 52 = .ok (.invokevirtual 83, 3) := dk_182 0 83 (dk_at dksX3_doDrop_2 7 rfl rfl)
theorem dX3_doDrop_55 : decode cX3_doDrop 55 = .ok (.ireturn, 1) := dk_172 (dk_at dksX3_doDrop_2 10 rfl rfl)
theorem dX3_doDrop_56 : decode cX3_doDrop 56 = .ok (.aload_n 0, 1) := dk_42 (dk_at dksX3_doDrop_2 11 rfl rfl)
theorem dX3_doDrop_57 : decode cX3_doDrop 57 = .ok (.iload_n 1, 1) := dk_27 (dk_at dksX3_doDrop_2 12 rfl rfl)
theorem dX3_doDrop_58 : decode cX3_doDrop 58 = .ok (.iconst 3, 1) := dk_6 (dk_at dksX3_doDrop_2 13 rfl rfl)
theorem dX3_doDrop_59 : decode cX3_doDrop 59 = .ok (.invokevirtual 76, 3) := dk_182 0 76 (dk_at dksX3_doDrop_2 14 rfl rfl)
theorem dX3_doDrop_62 : decode cX3_doDrop 62 = .ok (.iload_n 2, 1) := dk_28 (dk_at dksX3_doDrop_2 17 rfl rfl)
theorem dX3_doDrop_63 : decode cX3_doDrop 63 = .ok (.if_icmp .ge 16, 3) := dk_162 0 16 (dk_at dksX3_doDrop_2 18 rfl rfl)
theorem dX3_doDrop_66 : decode cX3_doDrop 66 = .ok (.aload_n 0, 1) := dk_42 (dk_at dksX3_doDrop_2 21 rfl rfl)
theorem dX3_doDrop_67 : decode cX3_doDrop 67 = .ok (.bipush 6, 2) := dk_16 6 (dk_at dksX3_doDrop_2 22 rfl rfl)
theorem dX3_doDrop_69 : decode cX3_doDrop 69 = .ok (.aload_n 0, 1) := dk_42 (dk_at dksX3_doDrop_3 0 rfl rfl)
theorem dX3_doDrop_70 : decode cX3_doDrop 70 = .ok (.iload_n 1, 1) := dk_27 (dk_at dksX3_doDrop_3 1 rfl rfl)
theorem dX3_doDrop_71 : decode cX3_doDrop 71 = .ok (.iconst 3, 1) := dk_6 (dk_at dksX3_doDrop_3 2 rfl rfl)
theorem dX3_doDrop_72 : decode cX3_doDrop 72 = .ok (.invokevirtual 76, 3) := dk_182 0 76 (dk_at dksX3_doDrop_3 3 rfl rfl)
theorem dX3_doDrop_75 : decode cX3_doDrop 75 = .ok (.invokevirtual 83, 3) := dk_182 0 83 (dk_at dksX3_doDrop_3 6 rfl rfl)
theorem dX3_doDrop_78 : decode cX3_doDrop 78 = .ok (.ireturn, 1) := dk_172 (dk_at dksX3_doDrop_3 9 rfl rfl)
theorem dX3_doDrop_79 : decode cX3_doDrop 79 = .ok (.iload_n 3, 1) := dk_29 (dk_at dksX3_doDrop_3 10 rfl rfl)
theorem dX3_doDrop_80 : decode cX3_doDrop 80 = .ok (.iload_n 2, 1) := dk_28 (dk_at dksX3_doDrop_3 11 rfl rfl)
theorem dX3_doDrop_81 : decode cX3_doDrop 81 = .ok (.iadd, 1) := dk_96 (dk_at dksX3_doDrop_3 12 rfl rfl)
theorem dX3_doDrop_82 : decode cX3_doDrop 82 = .ok (.iconst 5, 1) := dk_8 (dk_at dksX3_doDrop_3 13 rfl rfl)
theorem dX3_doDrop_83 : decode cX3_doDrop 83 = .ok (.if_icmp .le 13, 3) := dk_164 0 13 (dk_at dksX3_doDrop_3 14 rfl rfl)
theorem dX3_doDrop_86 : decode cX3_doDrop 86 = .ok (.aload_n 0, 1) := dk_42 (dk_at dksX3_doDrop_3 17 rfl rfl)
theorem dX3_doDrop_87 : decode cX3_doDrop 87 = .ok (.bipush 7, 2) := dk_16 7 (dk_at dksX3_doDrop_3 18 rfl rfl)
theorem dX3_doDrop_89 : decode cX3_doDrop 89 = .ok (.iconst 5, 1) := dk_8 (dk_at dksX3_doDrop_3 20 rfl rfl)
theorem dX3_doDrop_90 : decode cX3_doDrop 90 = .ok (.iload_n 3, 1) := dk_29 (dk_at dksX3_doDrop_3 21 rfl rfl)
theorem dX3_doDrop_91 : decode cX3_doDrop 91 = .ok (.isub, 1) := dk_100 (dk_at dksX3_doDrop_3 22 rfl rfl)
theorem dX3_doDrop_92 : decode cX3_doDrop 92 = .ok (.invokevirtual 83, 3) := dk_182 0 83 (dk_at dksX3_doDrop_4 0 rfl rfl)
theorem dX3_doDrop_95 : decode cX3_doDrop 95 = .ok (.ireturn, 1) := dk_172 (dk_at dksX3_doDrop_4 3 rfl rfl)
theorem dX3_doDrop_96 : decode cX3_doDrop 96 = .ok (.aload_n 0, 1) := dk_42 (dk_at dksX3_doDrop_4 4 rfl rfl)
theorem dX3_doDrop_97 : decode cX3_doDrop 97 = .ok (.iload_n 1, 1) := dk_27 (dk_at dksX3_doDrop_4 5 rfl rfl)
theorem dX3_doDrop_98 : decode cX3_doDrop 98 = .ok (.iconst 2, 1) := dk_5 (dk_at dksX3_doDrop_4 6 rfl rfl)
theorem dX3_doDrop_99 : decode cX3_doDrop 99 = .ok (.iload_n 3, 1) := dk_29 (dk_at dksX3_doDrop_4 7 rfl rfl)
theorem dX3_doDrop_100 : decode cX3_doDrop 100 = .ok (.iload_n 2, 1) := dk_28 (dk_at dksX3_doDrop_4 8 rfl rfl)
theorem dX3_doDrop_101 : decode cX3_doDrop 101 = .ok (.iadd, 1) := dk_96 (dk_at dksX3_doDrop_4 9 rfl rfl)
theorem dX3_doDrop_102 : decode cX3_doDrop 102 = .ok (.invokevirtual 86, 3) := dk_182 0 86 (dk_at dksX3_doDrop_4 10 rfl rfl)
theorem dX3_doDrop_105 : decode cX3_doDrop 105 = .ok (.aload_n 0, 1) := dk_42 (dk_at dksX3_doDrop_4 13 rfl rfl)
theorem dX3_doDrop_106 : decode cX3_doDrop 106 = .ok (.iload_n 1, 1) := dk_27 (dk_at dksX3_doDrop_4 14 rfl rfl)
theorem dX3_doDrop_107 : decode cX3_doDrop 107 = .ok (.iconst 3, 1) := dk_6 (dk_at dksX3_doDrop_4 15 rfl rfl)
theorem dX3_doDrop_108 : decode cX3_doDrop 108 = .ok (.aload_n 0, 1) := dk_42 (dk_at dksX3_doDrop_4 16 rfl rfl)
theorem dX3_doDrop_109 : decode cX3_doDrop 109 = .ok (.iload_n 1, 1) := dk_27 (dk_at dksX3_doDrop_4 17 rfl rfl)
theorem dX3_doDrop_110 : decode cX3_doDrop 110 = .ok (.iconst 3, 1) := dk_6 (dk_at dksX3_doDrop_4 18 rfl rfl)
theorem dX3_doDrop_111 : decode cX3_doDrop 111 = .ok (.invokevirtual 76, 3) := dk_182 0 76 (dk_at dksX3_doDrop_4 19 rfl rfl)
theorem dX3_doDrop_114 : decode cX3_doDrop 114 = .ok (.iload_n 2, 1) := dk_28 (dk_at dksX3_doDrop_4 22 rfl rfl)
theorem dX3_doDrop_115 : decode cX3_doDrop 115 = .ok (.isub, 1) := dk_100 (dk_at dksX3_doDrop_4 23 rfl rfl)
theorem dX3_doDrop_116 : decode cX3_doDrop 116 = .ok (.invokevirtual 86, 3) := dk_182 0 86 (dk_at dksX3_doDrop_5 0 rfl rfl)
theorem dX3_doDrop_119 : decode cX3_doDrop 119 = .ok (.aload_n 0, 1) := dk_42 (dk_at dksX3_doDrop_5 3 rfl rfl)
theorem dX3_doDrop_120 : decode cX3_doDrop 120 = .ok (.getfield 9, 3) := dk_180 0 9 (dk_at dksX3_doDrop_5 4 rfl rfl)
theorem dX3_doDrop_123 : decode cX3_doDrop 123 = .ok (.bipush 6, 2) := dk_16 6 (dk_at dksX3_doDrop_5 7 rfl rfl)
theorem dX3_doDrop_125 : decode cX3_doDrop 125 = .ok (.dup2, 1) := dk_92 (dk_at dksX3_doDrop_5 9 rfl rfl)
theorem dX3_doDrop_126 : decode cX3_doDrop 126 = .ok (.iaload, 1) := dk_46 (dk_at dksX3_doDrop_5 10 rfl rfl)
theorem dX3_doDrop_127 : decode cX3_doDrop 127 = .ok (.iload_n 2, 1) := dk_28 (dk_at dksX3_doDrop_5 11 rfl rfl)
theorem dX3_doDrop_128 : decode cX3_doDrop 128 = .ok (.iadd, 1) := dk_96 (dk_at dksX3_doDrop_5 12 rfl rfl)
theorem dX3_doDrop_129 : decode cX3_doDrop 129 = .ok (.iastore, 1) := dk_79 (dk_at dksX3_doDrop_5 13 rfl rfl)
theorem dX3_doDrop_130 : decode cX3_doDrop 130 = .ok (.iload_n 3, 1) := dk_29 (dk_at dksX3_doDrop_5 14 rfl rfl)
theorem dX3_doDrop_131 : decode cX3_doDrop 131 = .ok (.iload_n 2, 1) := dk_28 (dk_at dksX3_doDrop_5 15 rfl rfl)
theorem dX3_doDrop_132 : decode cX3_doDrop 132 = .ok (.iadd, 1) := dk_96 (dk_at dksX3_doDrop_5 16 rfl rfl)
theorem dX3_doDrop_133 : decode cX3_doDrop 133 = .ok (.ireturn, 1) := dk_172 (dk_at dksX3_doDrop_5 17 rfl rfl)
def dkwX3_isBalloon_0 : List UInt8 := [27, 3, 42, 180, 0, 9, 3, 46, 4, 100, 184, 0, 61, 172]
abbrev dktX3_isBalloon_0 : List UInt8 := dkwX3_isBalloon_0 ++ []
theorem dksX3_isBalloon_0 : cX3_isBalloon.data.toList.drop 0 = dktX3_isBalloon_0 := by decide +kernel
theorem dX3_isBalloon_0 : decode cX3_isBalloon 0 = .ok (.iload_n 1, 1) := dk_27 (dk_at dksX3_isBalloon_0 0 rfl rfl)
theorem dX3_isBalloon_1 : decode cX3_isBalloon 1 = .ok (.iconst 0, 1) := dk_3 (dk_at dksX3_isBalloon_0 1 rfl rfl)
theorem dX3_isBalloon_2 : decode cX3_isBalloon 2 = .ok (.aload_n 0, 1) := dk_42 (dk_at dksX3_isBalloon_0 2 rfl rfl)
theorem dX3_isBalloon_3 : decode cX3_isBalloon 3 = .ok (.getfield 9, 3) := dk_180 0 9 (dk_at dksX3_isBalloon_0 3 rfl rfl)
theorem dX3_isBalloon_6 : decode cX3_isBalloon 6 = .ok (.iconst 0, 1) := dk_3 (dk_at dksX3_isBalloon_0 6 rfl rfl)
theorem dX3_isBalloon_7 : decode cX3_isBalloon 7 = .ok (.iaload, 1) := dk_46 (dk_at dksX3_isBalloon_0 7 rfl rfl)
theorem dX3_isBalloon_8 : decode cX3_isBalloon 8 = .ok (.iconst 1, 1) := dk_4 (dk_at dksX3_isBalloon_0 8 rfl rfl)
theorem dX3_isBalloon_9 : decode cX3_isBalloon 9 = .ok (.isub, 1) := dk_100 (dk_at dksX3_isBalloon_0 9 rfl rfl)
theorem dX3_isBalloon_10 : decode cX3_isBalloon 10 = .ok (.invokestatic 61, 3) := dk_184 0 61 (dk_at dksX3_isBalloon_0 10 rfl rfl)
theorem dX3_isBalloon_13 : decode cX3_isBalloon 13 = .ok (.ireturn, 1) := dk_172 (dk_at dksX3_isBalloon_0 13 rfl rfl)
def dkwX3_of_0 : List UInt8 := [42, 180, 0, 9, 16, 13, 16, 9, 27, 104, 96, 28, 96, 46, 172]
abbrev dktX3_of_0 : List UInt8 := dkwX3_of_0 ++ []
theorem dksX3_of_0 : cX3_of.data.toList.drop 0 = dktX3_of_0 := by decide +kernel
theorem dX3_of_0 : decode cX3_of 0 = .ok (.aload_n 0, 1) := dk_42 (dk_at dksX3_of_0 0 rfl rfl)
theorem dX3_of_1 : decode cX3_of 1 = .ok (.getfield 9, 3) := dk_180 0 9 (dk_at dksX3_of_0 1 rfl rfl)
theorem dX3_of_4 : decode cX3_of 4 = .ok (.bipush 13, 2) := dk_16 13 (dk_at dksX3_of_0 4 rfl rfl)
theorem dX3_of_6 : decode cX3_of 6 = .ok (.bipush 9, 2) := dk_16 9 (dk_at dksX3_of_0 6 rfl rfl)
theorem dX3_of_8 : decode cX3_of 8 = .ok (.iload_n 1, 1) := dk_27 (dk_at dksX3_of_0 8 rfl rfl)
theorem dX3_of_9 : decode cX3_of 9 = .ok (.imul, 1) := dk_104 (dk_at dksX3_of_0 9 rfl rfl)
theorem dX3_of_10 : decode cX3_of 10 = .ok (.iadd, 1) := dk_96 (dk_at dksX3_of_0 10 rfl rfl)
theorem dX3_of_11 : decode cX3_of 11 = .ok (.iload_n 2, 1) := dk_28 (dk_at dksX3_of_0 11 rfl rfl)
theorem dX3_of_12 : decode cX3_of 12 = .ok (.iadd, 1) := dk_96 (dk_at dksX3_of_0 12 rfl rfl)
theorem dX3_of_13 : decode cX3_of 13 = .ok (.iaload, 1) := dk_46 (dk_at dksX3_of_0 13 rfl rfl)
theorem dX3_of_14 : decode cX3_of 14 = .ok (.ireturn, 1) := dk_172 (dk_at dksX3_of_0 14 rfl rfl)
def dkwX3_vent_0 : List UInt8 := [42, 182, 0, 90, 42, 42, 27, 28, 182, 0, 131, 182, 0, 96, 172]
abbrev dktX3_vent_0 : List UInt8 := dkwX3_vent_0 ++ []
theorem dksX3_vent_0 : cX3_vent.data.toList.drop 0 = dktX3_vent_0 := by decide +kernel
theorem dX3_vent_0 : decode cX3_vent 0 = .ok (.aload_n 0, 1) := dk_42 (dk_at dksX3_vent_0 0 rfl rfl)
theorem dX3_vent_1 : decode cX3_vent 1 = .ok (.invokevirtual 90, 3) := dk_182 0 90 (dk_at dksX3_vent_0 1 rfl rfl)
theorem dX3_vent_4 : decode cX3_vent 4 = .ok (.aload_n 0, 1) := dk_42 (dk_at dksX3_vent_0 4 rfl rfl)
theorem dX3_vent_5 : decode cX3_vent 5 = .ok (.aload_n 0, 1) := dk_42 (dk_at dksX3_vent_0 5 rfl rfl)
theorem dX3_vent_6 : decode cX3_vent 6 = .ok (.iload_n 1, 1) := dk_27 (dk_at dksX3_vent_0 6 rfl rfl)
theorem dX3_vent_7 : decode cX3_vent 7 = .ok (.iload_n 2, 1) := dk_28 (dk_at dksX3_vent_0 7 rfl rfl)
theorem dX3_vent_8 : decode cX3_vent 8 = .ok (.invokevirtual 131, 3) := dk_182 0 131 (dk_at dksX3_vent_0 8 rfl rfl)
theorem dX3_vent_11 : decode cX3_vent 11 = .ok (.invokevirtual 96, 3) := dk_182 0 96 (dk_at dksX3_vent_0 11 rfl rfl)
theorem dX3_vent_14 : decode cX3_vent 14 = .ok (.ireturn, 1) := dk_172 (dk_at dksX3_vent_0 14 rfl rfl)
def dkwX3_doVent_3 : List UInt8 := [182, 0, 86, 42, 27, 28, 182, 0, 128, 172]
abbrev dktX3_doVent_3 : List UInt8 := dkwX3_doVent_3 ++ []
def dkwX3_doVent_2 : List UInt8 := [182, 0, 76, 182, 0, 83, 172, 42, 27, 7, 3, 42, 27, 7, 182, 0, 76, 28, 100, 184, 0, 123]
abbrev dktX3_doVent_2 : List UInt8 := dkwX3_doVent_2 ++ dktX3_doVent_3
def dkwX3_doVent_1 : List UInt8 := [42, 7, 28, 182, 0, 83, 172, 28, 42, 27, 5, 182, 0, 76, 164, 0, 16, 42, 16, 7, 42, 27, 5]
abbrev dktX3_doVent_1 : List UInt8 := dkwX3_doVent_1 ++ dktX3_doVent_2
def dkwX3_doVent_0 : List UInt8 := [42, 27, 182, 0, 113, 154, 0, 10, 42, 8, 27, 182, 0, 83, 172, 28, 4, 8, 184, 0, 61, 154, 0, 10]
abbrev dktX3_doVent_0 : List UInt8 := dkwX3_doVent_0 ++ dktX3_doVent_1
theorem dksX3_doVent_0 : cX3_doVent.data.toList.drop 0 = dktX3_doVent_0 := by decide +kernel
theorem dksX3_doVent_1 : cX3_doVent.data.toList.drop 24 = dktX3_doVent_1 := dk_seg dksX3_doVent_0 24 rfl rfl
theorem dksX3_doVent_2 : cX3_doVent.data.toList.drop 47 = dktX3_doVent_2 := dk_seg dksX3_doVent_1 23 rfl rfl
theorem dksX3_doVent_3 : cX3_doVent.data.toList.drop 69 = dktX3_doVent_3 := dk_seg dksX3_doVent_2 22 rfl rfl
theorem dX3_doVent_0 : decode cX3_doVent 0 = .ok (.aload_n 0, 1) := dk_42 (dk_at dksX3_doVent_0 0 rfl rfl)
theorem dX3_doVent_1 : decode cX3_doVent 1 = .ok (.iload_n 1, 1) := dk_27 (dk_at dksX3_doVent_0 1 rfl rfl)
theorem dX3_doVent_2 : decode cX3_doVent 2 = .ok (.invokevirtual 113, 3) := dk_182 0 113 (dk_at dksX3_doVent_0 2 rfl rfl)
theorem dX3_doVent_5 : decode cX3_doVent 5 = .ok (.ifCond .ne 10, 3) := dk_154 0 10 (dk_at dksX3_doVent_0 5 rfl rfl)
theorem dX3_doVent_8 : decode cX3_doVent 8 = .ok (.aload_n 0, 1) := dk_42 (dk_at dksX3_doVent_0 8 rfl rfl)
theorem dX3_doVent_9 : decode cX3_doVent 9 = .ok (.iconst 5, 1) := dk_8 (dk_at dksX3_doVent_0 9 rfl rfl)
theorem dX3_doVent_10 : decode cX3_doVent 10 = .ok (.iload_n 1, 1) := dk_27 (dk_at dksX3_doVent_0 10 rfl rfl)
theorem dX3_doVent_11 : decode cX3_doVent 11 = .ok (.invokevirtual 83, 3) := dk_182 0 83 (dk_at dksX3_doVent_0 11 rfl rfl)
theorem dX3_doVent_14 : decode cX3_doVent 14 = .ok (.ireturn, 1) := dk_172 (dk_at dksX3_doVent_0 14 rfl rfl)
theorem dX3_doVent_15 : decode cX3_doVent 15 = .ok (.iload_n 2, 1) := dk_28 (dk_at dksX3_doVent_0 15 rfl rfl)
theorem dX3_doVent_16 : decode cX3_doVent 16 = .ok (.iconst 1, 1) := dk_4 (dk_at dksX3_doVent_0 16 rfl rfl)
theorem dX3_doVent_17 : decode cX3_doVent 17 = .ok (.iconst 5, 1) := dk_8 (dk_at dksX3_doVent_0 17 rfl rfl)
theorem dX3_doVent_18 : decode cX3_doVent 18 = .ok (.invokestatic 61, 3) := dk_184 0 61 (dk_at dksX3_doVent_0 18 rfl rfl)
theorem dX3_doVent_21 : decode cX3_doVent 21 = .ok (.ifCond .ne 10, 3) := dk_154 0 10 (dk_at dksX3_doVent_0 21 rfl rfl)
theorem dX3_doVent_24 : decode cX3_doVent 24 = .ok (.aload_n 0, 1) := dk_42 (dk_at dksX3_doVent_1 0 rfl rfl)
theorem dX3_doVent_25 : decode cX3_doVent 25 = .ok (.iconst 4, 1) := dk_7 (dk_at dksX3_doVent_1 1 rfl rfl)
theorem dX3_doVent_26 : decode cX3_doVent 26 = .ok (.iload_n 2, 1) := dk_28 (dk_at dksX3_doVent_1 2 rfl rfl)
theorem dX3_doVent_27 : decode cX3_doVent 27 = .ok (.invokevirtual 83, 3) := dk_182 0 83 (dk_at dksX3_doVent_1 3 rfl rfl)
theorem dX3_doVent_30 : decode cX3_doVent 30 = .ok (.ireturn, 1) := dk_172 (dk_at dksX3_doVent_1 6 rfl rfl)
theorem dX3_doVent_31 : decode cX3_doVent 31 = .ok (.iload_n 2, 1) := dk_28 (dk_at dksX3_doVent_1 7 rfl rfl)
theorem dX3_doVent_32 : decode cX3_doVent 32 = .ok (.aload_n 0, 1) := dk_42 (dk_at dksX3_doVent_1 8 rfl rfl)
theorem dX3_doVent_33 : decode cX3_doVent 33 = .ok (.iload_n 1, 1) := dk_27 (dk_at dksX3_doVent_1 9 rfl rfl)
theorem dX3_doVent_34 : decode cX3_doVent 34 = .ok (.iconst 2, 1) := dk_5 (dk_at dksX3_doVent_1 10 rfl rfl)
theorem dX3_doVent_35 : decode cX3_doVent 35 = .ok (.invokevirtual 76, 3) := dk_182 0 76 (dk_at dksX3_doVent_1 11 rfl rfl)
theorem dX3_doVent_38 : decode cX3_doVent 38 = .ok (.if_icmp .le 16, 3) := dk_164 0 16 (dk_at dksX3_doVent_1 14 rfl rfl)
theorem dX3_doVent_41 : decode cX3_doVent 41 = .ok (.aload_n 0, 1) := dk_42 (dk_at dksX3_doVent_1 17 rfl rfl)
theorem dX3_doVent_42 : decode cX3_doVent 42 = .ok (.bipush 7, 2) := dk_16 7 (dk_at dksX3_doVent_1 18 rfl rfl)
theorem dX3_doVent_44 : decode cX3_doVent 44 = .ok (.aload_n 0, 1) := dk_42 (dk_at dksX3_doVent_1 20 rfl rfl)
theorem dX3_doVent_45 : decode cX3_doVent 45 = .ok (.iload_n 1, 1) := dk_27 (dk_at dksX3_doVent_1 21 rfl rfl)
theorem dX3_doVent_46 : decode cX3_doVent 46 = .ok (.iconst 2, 1) := dk_5 (dk_at dksX3_doVent_1 22 rfl rfl)
theorem dX3_doVent_47 : decode cX3_doVent 47 = .ok (.invokevirtual 76, 3) := dk_182 0 76 (dk_at dksX3_doVent_2 0 rfl rfl)
theorem dX3_doVent_50 : decode cX3_doVent 50 = .ok (.invokevirtual 83, 3) := dk_182 0 83 (dk_at dksX3_doVent_2 3 rfl rfl)
theorem dX3_doVent_53 : decode cX3_doVent 53 = .ok (.ireturn, 1) := dk_172 (dk_at dksX3_doVent_2 6 rfl rfl)
theorem dX3_doVent_54 : decode cX3_doVent 54 = .ok (.aload_n 0, 1) := dk_42 (dk_at dksX3_doVent_2 7 rfl rfl)
theorem dX3_doVent_55 : decode cX3_doVent 55 = .ok (.iload_n 1, 1) := dk_27 (dk_at dksX3_doVent_2 8 rfl rfl)
theorem dX3_doVent_56 : decode cX3_doVent 56 = .ok (.iconst 4, 1) := dk_7 (dk_at dksX3_doVent_2 9 rfl rfl)
theorem dX3_doVent_57 : decode cX3_doVent 57 = .ok (.iconst 0, 1) := dk_3 (dk_at dksX3_doVent_2 10 rfl rfl)
theorem dX3_doVent_58 : decode cX3_doVent 58 = .ok (.aload_n 0, 1) := dk_42 (dk_at dksX3_doVent_2 11 rfl rfl)
theorem dX3_doVent_59 : decode cX3_doVent 59 = .ok (.iload_n 1, 1) := dk_27 (dk_at dksX3_doVent_2 12 rfl rfl)
theorem dX3_doVent_60 : decode cX3_doVent 60 = .ok (.iconst 4, 1) := dk_7 (dk_at dksX3_doVent_2 13 rfl rfl)
theorem dX3_doVent_61 : decode cX3_doVent 61 = .ok (.invokevirtual 76, 3) := dk_182 0 76 (dk_at dksX3_doVent_2 14 rfl rfl)
theorem dX3_doVent_64 : decode cX3_doVent 64 = .ok (.iload_n 2, 1) := dk_28 (dk_at dksX3_doVent_2 17 rfl rfl)
theorem dX3_doVent_65 : decode cX3_doVent 65 = .ok (.isub, 1) := dk_100 (dk_at dksX3_doVent_2 18 rfl rfl)
theorem dX3_doVent_66 : decode cX3_doVent 66 = .ok (.invokestatic 123, 3) := dk_184 0 123 (dk_at dksX3_doVent_2 19 rfl rfl)
theorem dX3_doVent_69 : decode cX3_doVent 69 = .ok (.invokevirtual 86, 3) := dk_182 0 86 (dk_at dksX3_doVent_3 0 rfl rfl)
theorem dX3_doVent_72 : decode cX3_doVent 72 = .ok (.aload_n 0, 1) := dk_42 (dk_at dksX3_doVent_3 3 rfl rfl)
theorem dX3_doVent_73 : decode cX3_doVent 73 = .ok (.iload_n 1, 1) := dk_27 (dk_at dksX3_doVent_3 4 rfl rfl)
theorem dX3_doVent_74 : decode cX3_doVent 74 = .ok (.iload_n 2, 1) := dk_28 (dk_at dksX3_doVent_3 5 rfl rfl)
theorem dX3_doVent_75 : decode cX3_doVent 75 = .ok (.invokevirtual 128, 3) := dk_182 0 128 (dk_at dksX3_doVent_3 6 rfl rfl)
theorem dX3_doVent_78 : decode cX3_doVent 78 = .ok (.ireturn, 1) := dk_172 (dk_at dksX3_doVent_3 9 rfl rfl)
def dkwX3_sinks_3 : List UInt8 := [21, 4, 96, 79, 42, 180, 0, 9, 8, 92, 46, 21, 4, 96, 79, 21, 4, 172]
abbrev dktX3_sinks_3 : List UInt8 := dkwX3_sinks_3 ++ []
def dkwX3_sinks_2 : List UInt8 := [182, 0, 76, 21, 4, 96, 182, 0, 86, 42, 180, 0, 9, 17, 0, 187, 42, 27, 182, 0, 120, 96, 92, 46]
abbrev dktX3_sinks_2 : List UInt8 := dkwX3_sinks_2 ++ dktX3_sinks_3
def dkwX3_sinks_1 : List UInt8 := [42, 180, 0, 9, 16, 87, 42, 27, 182, 0, 120, 96, 46, 54, 4, 42, 27, 16, 7, 42, 27, 16, 7]
abbrev dktX3_sinks_1 : List UInt8 := dkwX3_sinks_1 ++ dktX3_sinks_2
def dkwX3_sinks_0 : List UInt8 := [42, 27, 5, 182, 0, 76, 28, 100, 62, 42, 27, 5, 29, 182, 0, 86, 29, 158, 0, 7, 3, 167, 0, 16]
abbrev dktX3_sinks_0 : List UInt8 := dkwX3_sinks_0 ++ dktX3_sinks_1
theorem dksX3_sinks_0 : cX3_sinks.data.toList.drop 0 = dktX3_sinks_0 := by decide +kernel
theorem dksX3_sinks_1 : cX3_sinks.data.toList.drop 24 = dktX3_sinks_1 := dk_seg dksX3_sinks_0 24 rfl rfl
theorem dksX3_sinks_2 : cX3_sinks.data.toList.drop 47 = dktX3_sinks_2 := dk_seg dksX3_sinks_1 23 rfl rfl
theorem dksX3_sinks_3 : cX3_sinks.data.toList.drop 71 = dktX3_sinks_3 := dk_seg dksX3_sinks_2 24 rfl rfl
theorem dX3_sinks_0 : decode cX3_sinks 0 = .ok (.aload_n 0, 1) := dk_42 (dk_at dksX3_sinks_0 0 rfl rfl)
theorem dX3_sinks_1 : decode cX3_sinks 1 = .ok (.iload_n 1, 1) := dk_27 (dk_at dksX3_sinks_0 1 rfl rfl)
theorem dX3_sinks_2 : decode cX3_sinks 2 = .ok (.iconst 2, 1) := dk_5 (dk_at dksX3_sinks_0 2 rfl rfl)
theorem dX3_sinks_3 : decode cX3_sinks 3 = .ok (.invokevirtual 76, 3) := dk_182 0 76 (dk_at dksX3_sinks_0 3 rfl rfl)
theorem dX3_sinks_6 : decode cX3_sinks 6 = .ok (.iload_n 2, 1) := dk_28 (dk_at dksX3_sinks_0 6 rfl rfl)
theorem dX3_sinks_7 : decode cX3_sinks 7 = .ok (.isub, 1) := dk_100 (dk_at dksX3_sinks_0 7 rfl rfl)
theorem dX3_sinks_8 : decode cX3_sinks 8 = .ok (.istore_n 3, 1) := dk_62 (dk_at dksX3_sinks_0 8 rfl rfl)
theorem dX3_sinks_9 : decode cX3_sinks 9 = .ok (.aload_n 0, 1) := dk_42 (dk_at dksX3_sinks_0 9 rfl rfl)
theorem dX3_sinks_10 : decode cX3_sinks 10 = .ok (.iload_n 1, 1) := dk_27 (dk_at dksX3_sinks_0 10 rfl rfl)
theorem dX3_sinks_11 : decode cX3_sinks 11 = .ok (.iconst 2, 1) := dk_5 (dk_at dksX3_sinks_0 11 rfl rfl)
theorem dX3_sinks_12 : decode cX3_sinks 12 = .ok (.iload_n 3, 1) := dk_29 (dk_at dksX3_sinks_0 12 rfl rfl)
theorem dX3_sinks_13 : decode cX3_sinks 13 = .ok (.invokevirtual 86, 3) := dk_182 0 86 (dk_at dksX3_sinks_0 13 rfl rfl)
theorem dX3_sinks_16 : decode cX3_sinks 16 = .ok (.iload_n 3, 1) := dk_29 (dk_at dksX3_sinks_0 16 rfl rfl)
theorem dX3_sinks_17 : decode cX3_sinks 17 = .ok (.ifCond .le 7, 3) := dk_158 0 7 (dk_at dksX3_sinks_0 17 rfl rfl)
theorem dX3_sinks_20 : decode cX3_sinks 20 = .ok (.iconst 0, 1) := dk_3 (dk_at dksX3_sinks_0 20 rfl rfl)
theorem dX3_sinks_21 : decode cX3_sinks 21 = .ok (.goto 16, 3) := dk_167 0 16 (dk_at dksX3_sinks_0 21 rfl rfl)
theorem dX3_sinks_24 : decode cX3_sinks 24 = .ok (.aload_n 0, 1) := dk_42 (dk_at dksX3_sinks_1 0 rfl rfl)
theorem dX3_sinks_25 : decode cX3_sinks 25 = .ok (.getfield 9, 3) := dk_180 0 9 (dk_at dksX3_sinks_1 1 rfl rfl)
theorem dX3_sinks_28 : decode cX3_sinks 28 = .ok (.bipush 87, 2) := dk_16 87 (dk_at dksX3_sinks_1 4 rfl rfl)
theorem dX3_sinks_30 : decode cX3_sinks 30 = .ok (.aload_n 0, 1) := dk_42 (dk_at dksX3_sinks_1 6 rfl rfl)
theorem dX3_sinks_31 : decode cX3_sinks 31 = .ok (.iload_n 1, 1) := dk_27 (dk_at dksX3_sinks_1 7 rfl rfl)
theorem dX3_sinks_32 : decode cX3_sinks 32 = .ok (.invokevirtual 120, 3) := dk_182 0 120 (dk_at dksX3_sinks_1 8 rfl rfl)
theorem dX3_sinks_35 : decode cX3_sinks 35 = .ok (.iadd, 1) := dk_96 (dk_at dksX3_sinks_1 11 rfl rfl)
theorem dX3_sinks_36 : decode cX3_sinks 36 = .ok (.iaload, 1) := dk_46 (dk_at dksX3_sinks_1 12 rfl rfl)
theorem dX3_sinks_37 : decode cX3_sinks 37 = .ok (.istore 4, 2) := dk_54 4 (dk_at dksX3_sinks_1 13 rfl rfl)
theorem dX3_sinks_39 : decode cX3_sinks 39 = .ok (.aload_n 0, 1) := dk_42 (dk_at dksX3_sinks_1 15 rfl rfl)
theorem dX3_sinks_40 : decode cX3_sinks 40 = .ok (.iload_n 1, 1) := dk_27 (dk_at dksX3_sinks_1 16 rfl rfl)
theorem dX3_sinks_41 : decode cX3_sinks 41 = .ok (.bipush 7, 2) := dk_16 7 (dk_at dksX3_sinks_1 17 rfl rfl)
theorem dX3_sinks_43 : decode cX3_sinks 43 = .ok (.aload_n 0, 1) := dk_42 (dk_at dksX3_sinks_1 19 rfl rfl)
theorem dX3_sinks_44 : decode cX3_sinks 44 = .ok (.iload_n 1, 1) := dk_27 (dk_at dksX3_sinks_1 20 rfl rfl)
theorem dX3_sinks_45 : decode cX3_sinks 45 = .ok (.bipush 7, 2) := dk_16 7 (dk_at dksX3_sinks_1 21 rfl rfl)
theorem dX3_sinks_47 : decode cX3_sinks 47 = .ok (.invokevirtual 76, 3) := dk_182 0 76 (dk_at dksX3_sinks_2 0 rfl rfl)
theorem dX3_sinks_50 : decode cX3_sinks 50 = .ok (.iload 4, 2) := dk_21 4 (dk_at dksX3_sinks_2 3 rfl rfl)
theorem dX3_sinks_52 : decode cX3_sinks 52 = .ok (.iadd, 1) := dk_96 (dk_at dksX3_sinks_2 5 rfl rfl)
theorem dX3_sinks_53 : decode cX3_sinks 53 = .ok (.invokevirtual 86, 3) := dk_182 0 86 (dk_at dksX3_sinks_2 6 rfl rfl)
theorem dX3_sinks_56 : decode cX3_sinks 56 = .ok (.aload_n 0, 1) := dk_42 (dk_at dksX3_sinks_2 9 rfl rfl)
theorem dX3_sinks_57 : decode cX3_sinks 57 = .ok (.getfield 9, 3) := dk_180 0 9 (dk_at dksX3_sinks_2 10 rfl rfl)
theorem dX3_sinks_60 : decode cX3_sinks 60 = .ok (.sipush 187, 3) := dk_17 0 187 (dk_at dksX3_sinks_2 13 rfl rfl)
theorem dX3_sinks_63 : decode cX3_sinks 63 = .ok (.aload_n 0, 1) := dk_42 (dk_at dksX3_sinks_2 16 rfl rfl)
theorem dX3_sinks_64 : decode cX3_sinks 64 = .ok (.iload_n 1, 1) := dk_27 (dk_at dksX3_sinks_2 17 rfl rfl)
theorem dX3_sinks_65 : decode cX3_sinks 65 = .ok (.invokevirtual 120, 3) := dk_182 0 120 (dk_at dksX3_sinks_2 18 rfl rfl)
theorem dX3_sinks_68 : decode cX3_sinks 68 = .ok (.iadd, 1) := dk_96 (dk_at dksX3_sinks_2 21 rfl rfl)
theorem dX3_sinks_69 : decode cX3_sinks 69 = .ok (.dup2, 1) := dk_92 (dk_at dksX3_sinks_2 22 rfl rfl)
theorem dX3_sinks_70 : decode cX3_sinks 70 = .ok (.iaload, 1) := dk_46 (dk_at dksX3_sinks_2 23 rfl rfl)
theorem dX3_sinks_71 : decode cX3_sinks 71 = .ok (.iload 4, 2) := dk_21 4 (dk_at dksX3_sinks_3 0 rfl rfl)
theorem dX3_sinks_73 : decode cX3_sinks 73 = .ok (.iadd, 1) := dk_96 (dk_at dksX3_sinks_3 2 rfl rfl)
theorem dX3_sinks_74 : decode cX3_sinks 74 = .ok (.iastore, 1) := dk_79 (dk_at dksX3_sinks_3 3 rfl rfl)
theorem dX3_sinks_75 : decode cX3_sinks 75 = .ok (.aload_n 0, 1) := dk_42 (dk_at dksX3_sinks_3 4 rfl rfl)
theorem dX3_sinks_76 : decode cX3_sinks 76 = .ok (.getfield 9, 3) := dk_180 0 9 (dk_at dksX3_sinks_3 5 rfl rfl)
theorem dX3_sinks_79 : decode cX3_sinks 79 = .ok (.iconst 5, 1) := dk_8 (dk_at dksX3_sinks_3 8 rfl rfl)
theorem dX3_sinks_80 : decode cX3_sinks 80 = .ok (.dup2, 1) := dk_92 (dk_at dksX3_sinks_3 9 rfl rfl)
theorem dX3_sinks_81 : decode cX3_sinks 81 = .ok (.iaload, 1) := dk_46 (dk_at dksX3_sinks_3 10 rfl rfl)
theorem dX3_sinks_82 : decode cX3_sinks 82 = .ok (.iload 4, 2) := dk_21 4 (dk_at dksX3_sinks_3 11 rfl rfl)
theorem dX3_sinks_84 : decode cX3_sinks 84 = .ok (.iadd, 1) := dk_96 (dk_at dksX3_sinks_3 13 rfl rfl)
theorem dX3_sinks_85 : decode cX3_sinks 85 = .ok (.iastore, 1) := dk_79 (dk_at dksX3_sinks_3 14 rfl rfl)
theorem dX3_sinks_86 : decode cX3_sinks 86 = .ok (.iload 4, 2) := dk_21 4 (dk_at dksX3_sinks_3 15 rfl rfl)
theorem dX3_sinks_88 : decode cX3_sinks 88 = .ok (.ireturn, 1) := dk_172 (dk_at dksX3_sinks_3 17 rfl rfl)
def dkwX3_pointOf_0 : List UInt8 := [42, 27, 3, 182, 0, 76, 42, 27, 4, 182, 0, 76, 184, 0, 69, 172]
abbrev dktX3_pointOf_0 : List UInt8 := dkwX3_pointOf_0 ++ []
theorem dksX3_pointOf_0 : cX3_pointOf.data.toList.drop 0 = dktX3_pointOf_0 := by decide +kernel
theorem dX3_pointOf_0 : decode cX3_pointOf 0 = .ok (.aload_n 0, 1) := dk_42 (dk_at dksX3_pointOf_0 0 rfl rfl)
theorem dX3_pointOf_1 : decode cX3_pointOf 1 = .ok (.iload_n 1, 1) := dk_27 (dk_at dksX3_pointOf_0 1 rfl rfl)
theorem dX3_pointOf_2 : decode cX3_pointOf 2 = .ok (.iconst 0, 1) := dk_3 (dk_at dksX3_pointOf_0 2 rfl rfl)
theorem dX3_pointOf_3 : decode cX3_pointOf 3 = .ok (.invokevirtual 76, 3) := dk_182 0 76 (dk_at dksX3_pointOf_0 3 rfl rfl)
theorem dX3_pointOf_6 : decode cX3_pointOf 6 = .ok (.aload_n 0, 1) := dk_42 (dk_at dksX3_pointOf_0 6 rfl rfl)
theorem dX3_pointOf_7 : decode cX3_pointOf 7 = .ok (.iload_n 1, 1) := dk_27 (dk_at dksX3_pointOf_0 7 rfl rfl)
theorem dX3_pointOf_8 : decode cX3_pointOf 8 = .ok (.iconst 1, 1) := dk_4 (dk_at dksX3_pointOf_0 8 rfl rfl)
theorem dX3_pointOf_9 : decode cX3_pointOf 9 = .ok (.invokevirtual 76, 3) := dk_182 0 76 (dk_at dksX3_pointOf_0 9 rfl rfl)
theorem dX3_pointOf_12 : decode cX3_pointOf 12 = .ok (.invokestatic 69, 3) := dk_184 0 69 (dk_at dksX3_pointOf_0 12 rfl rfl)
theorem dX3_pointOf_15 : decode cX3_pointOf 15 = .ok (.ireturn, 1) := dk_172 (dk_at dksX3_pointOf_0 15 rfl rfl)
def dkwX3_trade_0 : List UInt8 := [42, 182, 0, 90, 42, 42, 27, 28, 29, 182, 0, 137, 182, 0, 96, 172]
abbrev dktX3_trade_0 : List UInt8 := dkwX3_trade_0 ++ []
theorem dksX3_trade_0 : cX3_trade.data.toList.drop 0 = dktX3_trade_0 := by decide +kernel
theorem dX3_trade_0 : decode cX3_trade 0 = .ok (.aload_n 0, 1) := dk_42 (dk_at dksX3_trade_0 0 rfl rfl)
theorem dX3_trade_1 : decode cX3_trade 1 = .ok (.invokevirtual 90, 3) := dk_182 0 90 (dk_at dksX3_trade_0 1 rfl rfl)
theorem dX3_trade_4 : decode cX3_trade 4 = .ok (.aload_n 0, 1) := dk_42 (dk_at dksX3_trade_0 4 rfl rfl)
theorem dX3_trade_5 : decode cX3_trade 5 = .ok (.aload_n 0, 1) := dk_42 (dk_at dksX3_trade_0 5 rfl rfl)
theorem dX3_trade_6 : decode cX3_trade 6 = .ok (.iload_n 1, 1) := dk_27 (dk_at dksX3_trade_0 6 rfl rfl)
theorem dX3_trade_7 : decode cX3_trade 7 = .ok (.iload_n 2, 1) := dk_28 (dk_at dksX3_trade_0 7 rfl rfl)
theorem dX3_trade_8 : decode cX3_trade 8 = .ok (.iload_n 3, 1) := dk_29 (dk_at dksX3_trade_0 8 rfl rfl)
theorem dX3_trade_9 : decode cX3_trade 9 = .ok (.invokevirtual 137, 3) := dk_182 0 137 (dk_at dksX3_trade_0 9 rfl rfl)
theorem dX3_trade_12 : decode cX3_trade 12 = .ok (.invokevirtual 96, 3) := dk_182 0 96 (dk_at dksX3_trade_0 12 rfl rfl)
theorem dX3_trade_15 : decode cX3_trade 15 = .ok (.ireturn, 1) := dk_172 (dk_at dksX3_trade_0 15 rfl rfl)
def dkwX3_doTrade_8 : List UInt8 := [182, 0, 86, 42, 28, 6, 182, 0, 76, 172]
abbrev dktX3_doTrade_8 : List UInt8 := dkwX3_doTrade_8 ++ []
def dkwX3_doTrade_7 : List UInt8 := [27, 6, 42, 27, 6, 182, 0, 76, 29, 100, 182, 0, 86, 42, 28, 6, 42, 28, 6, 182, 0, 76, 29, 96]
abbrev dktX3_doTrade_7 : List UInt8 := dkwX3_doTrade_7 ++ dktX3_doTrade_8
def dkwX3_doTrade_6 : List UInt8 := [28, 6, 182, 0, 76, 100, 54, 5, 29, 21, 5, 164, 0, 12, 42, 16, 10, 21, 5, 182, 0, 83, 172, 42]
abbrev dktX3_doTrade_6 : List UInt8 := dkwX3_doTrade_6 ++ dktX3_doTrade_7
def dkwX3_doTrade_5 : List UInt8 := [6, 182, 0, 76, 29, 162, 0, 16, 42, 16, 6, 42, 27, 6, 182, 0, 76, 182, 0, 83, 172, 16, 20, 42]
abbrev dktX3_doTrade_5 : List UInt8 := dkwX3_doTrade_5 ++ dktX3_doTrade_6
def dkwX3_doTrade_4 : List UInt8 := [167, 0, 5, 16, 9, 54, 4, 21, 4, 4, 164, 0, 12, 42, 16, 9, 21, 4, 182, 0, 83, 172, 42, 27]
abbrev dktX3_doTrade_4 : List UInt8 := dkwX3_doTrade_4 ++ dktX3_doTrade_5
def dkwX3_doTrade_3 : List UInt8 := [28, 182, 0, 120, 160, 0, 22, 42, 27, 5, 182, 0, 76, 42, 28, 5, 182, 0, 76, 100, 184, 0, 134]
abbrev dktX3_doTrade_3 : List UInt8 := dkwX3_doTrade_3 ++ dktX3_doTrade_4
def dkwX3_doTrade_2 : List UInt8 := [172, 29, 4, 16, 9, 184, 0, 61, 154, 0, 10, 42, 7, 29, 182, 0, 83, 172, 42, 27, 182, 0, 120, 42]
abbrev dktX3_doTrade_2 : List UInt8 := dkwX3_doTrade_2 ++ dktX3_doTrade_3
def dkwX3_doTrade_1 : List UInt8 := [153, 0, 7, 28, 167, 0, 4, 27, 182, 0, 83, 172, 27, 28, 160, 0, 11, 42, 16, 11, 27, 182, 0, 83]
abbrev dktX3_doTrade_1 : List UInt8 := dkwX3_doTrade_1 ++ dktX3_doTrade_2
def dkwX3_doTrade_0 : List UInt8 := [42, 27, 182, 0, 113, 153, 0, 11, 42, 28, 182, 0, 113, 154, 0, 22, 42, 8, 42, 27, 182, 0, 113]
abbrev dktX3_doTrade_0 : List UInt8 := dkwX3_doTrade_0 ++ dktX3_doTrade_1
theorem dksX3_doTrade_0 : cX3_doTrade.data.toList.drop 0 = dktX3_doTrade_0 := by decide +kernel
theorem dksX3_doTrade_1 : cX3_doTrade.data.toList.drop 23 = dktX3_doTrade_1 := dk_seg dksX3_doTrade_0 23 rfl rfl
theorem dksX3_doTrade_2 : cX3_doTrade.data.toList.drop 47 = dktX3_doTrade_2 := dk_seg dksX3_doTrade_1 24 rfl rfl
theorem dksX3_doTrade_3 : cX3_doTrade.data.toList.drop 71 = dktX3_doTrade_3 := dk_seg dksX3_doTrade_2 24 rfl rfl
theorem dksX3_doTrade_4 : cX3_doTrade.data.toList.drop 94 = dktX3_doTrade_4 := dk_seg dksX3_doTrade_3 23 rfl rfl
theorem dksX3_doTrade_5 : cX3_doTrade.data.toList.drop 118 = dktX3_doTrade_5 := dk_seg dksX3_doTrade_4 24 rfl rfl
theorem dksX3_doTrade_6 : cX3_doTrade.data.toList.drop 142 = dktX3_doTrade_6 := dk_seg dksX3_doTrade_5 24 rfl rfl
theorem dksX3_doTrade_7 : cX3_doTrade.data.toList.drop 166 = dktX3_doTrade_7 := dk_seg dksX3_doTrade_6 24 rfl rfl
theorem dksX3_doTrade_8 : cX3_doTrade.data.toList.drop 190 = dktX3_doTrade_8 := dk_seg dksX3_doTrade_7 24 rfl rfl
theorem dX3_doTrade_0 : decode cX3_doTrade 0 = .ok (.aload_n 0, 1) := dk_42 (dk_at dksX3_doTrade_0 0 rfl rfl)
theorem dX3_doTrade_1 : decode cX3_doTrade 1 = .ok (.iload_n 1, 1) := dk_27 (dk_at dksX3_doTrade_0 1 rfl rfl)
theorem dX3_doTrade_2 : decode cX3_doTrade 2 = .ok (.invokevirtual 113, 3) := dk_182 0 113 (dk_at dksX3_doTrade_0 2 rfl rfl)
theorem dX3_doTrade_5 : decode cX3_doTrade 5 = .ok (.ifCond .eq 11, 3) := dk_153 0 11 (dk_at dksX3_doTrade_0 5 rfl rfl)
theorem dX3_doTrade_8 : decode cX3_doTrade 8 = .ok (.aload_n 0, 1) := dk_42 (dk_at dksX3_doTrade_0 8 rfl rfl)
theorem dX3_doTrade_9 : decode cX3_doTrade 9 = .ok (.iload_n 2, 1) := dk_28 (dk_at dksX3_doTrade_0 9 rfl rfl)
theorem dX3_doTrade_10 : decode cX3_doTrade 10 = .ok (.invokevirtual 113, 3) := dk_182 0 113 (dk_at dksX3_doTrade_0 10 rfl rfl)
theorem dX3_doTrade_13 : decode cX3_doTrade 13 = .ok (.ifCond .ne 22, 3) := dk_154 0 22 (dk_at dksX3_doTrade_0 13 rfl rfl)
theorem dX3_doTrade_16 : decode cX3_doTrade 16 = .ok (.aload_n 0, 1) := dk_42 (dk_at dksX3_doTrade_0 16 rfl rfl)
theorem dX3_doTrade_17 : decode cX3_doTrade 17 = .ok (.iconst 5, 1) := dk_8 (dk_at dksX3_doTrade_0 17 rfl rfl)
theorem dX3_doTrade_18 : decode cX3_doTrade 18 = .ok (.aload_n 0, 1) := dk_42 (dk_at dksX3_doTrade_0 18 rfl rfl)
theorem dX3_doTrade_19 : decode cX3_doTrade 19 = .ok (.iload_n 1, 1) := dk_27 (dk_at dksX3_doTrade_0 19 rfl rfl)
theorem dX3_doTrade_20 : decode cX3_doTrade 20 = .ok (.invokevirtual 113, 3) := dk_182 0 113 (dk_at dksX3_doTrade_0 20 rfl rfl)
theorem dX3_doTrade_23 : decode cX3_doTrade 23 = .ok (.ifCond .eq 7, 3) := dk_153 0 7 (dk_at dksX3_doTrade_1 0 rfl rfl)
theorem dX3_doTrade_26 : decode cX3_doTrade 26 = .ok (.iload_n 2, 1) := dk_28 (dk_at dksX3_doTrade_1 3 rfl rfl)
theorem dX3_doTrade_27 : decode cX3_doTrade 27 = .ok (.goto 4, 3) := dk_167 0 4 (dk_at dksX3_doTrade_1 4 rfl rfl)
theorem dX3_doTrade_30 : decode cX3_doTrade 30 = .ok (.iload_n 1, 1) := dk_27 (dk_at dksX3_doTrade_1 7 rfl rfl)
theorem dX3_doTrade_31 : decode cX3_doTrade 31 = .ok (.invokevirtual 83, 3) := dk_182 0 83 (dk_at dksX3_doTrade_1 8 rfl rfl)
theorem dX3_doTrade_34 : decode cX3_doTrade 34 = .ok (.ireturn, 1) := dk_172 (dk_at dksX3_doTrade_1 11 rfl rfl)
theorem dX3_doTrade_35 : decode cX3_doTrade 35 = .ok (.iload_n 1, 1) := dk_27 (dk_at dksX3_doTrade_1 12 rfl rfl)
theorem dX3_doTrade_36 : decode cX3_doTrade 36 = .ok (.iload_n 2, 1) := dk_28 (dk_at dksX3_doTrade_1 13 rfl rfl)
theorem dX3_doTrade_37 : decode cX3_doTrade 37 = .ok (.if_icmp .ne 11, 3) := dk_160 0 11 (dk_at dksX3_doTrade_1 14 rfl rfl)
theorem dX3_doTrade_40 : decode cX3_doTrade 40 = .ok (.aload_n 0, 1) := dk_42 (dk_at dksX3_doTrade_1 17 rfl rfl)
theorem dX3_doTrade_41 : decode cX3_doTrade 41 = .ok (.bipush 11, 2) := dk_16 11 (dk_at dksX3_doTrade_1 18 rfl rfl)
theorem dX3_doTrade_43 : decode cX3_doTrade 43 = .ok (.iload_n 1, 1) := dk_27 (dk_at dksX3_doTrade_1 20 rfl rfl)
theorem dX3_doTrade_44 : decode cX3_doTrade 44 = .ok (.invokevirtual 83, 3) := dk_182 0 83 (dk_at dksX3_doTrade_1 21 rfl rfl)
theorem dX3_doTrade_47 : decode cX3_doTrade 47 = .ok (.ireturn, 1) := dk_172 (dk_at dksX3_doTrade_2 0 rfl rfl)
theorem dX3_doTrade_48 : decode cX3_doTrade 48 = .ok (.iload_n 3, 1) := dk_29 (dk_at dksX3_doTrade_2 1 rfl rfl)
theorem dX3_doTrade_49 : decode cX3_doTrade 49 = .ok (.iconst 1, 1) := dk_4 (dk_at dksX3_doTrade_2 2 rfl rfl)
theorem dX3_doTrade_50 : decode cX3_doTrade 50 = .ok (.bipush 9, 2) := dk_16 9 (dk_at dksX3_doTrade_2 3 rfl rfl)
theorem dX3_doTrade_52 : decode cX3_doTrade 52 = .ok (.invokestatic 61, 3) := dk_184 0 61 (dk_at dksX3_doTrade_2 5 rfl rfl)
theorem dX3_doTrade_55 : decode cX3_doTrade 55 = .ok (.ifCond .ne 10, 3) := dk_154 0 10 (dk_at dksX3_doTrade_2 8 rfl rfl)
theorem dX3_doTrade_58 : decode cX3_doTrade 58 = .ok (.aload_n 0, 1) := dk_42 (dk_at dksX3_doTrade_2 11 rfl rfl)
theorem dX3_doTrade_59 : decode cX3_doTrade 59 = .ok (.iconst 4, 1) := dk_7 (dk_at dksX3_doTrade_2 12 rfl rfl)
theorem dX3_doTrade_60 : decode cX3_doTrade 60 = .ok (.iload_n 3, 1) := dk_29 (dk_at dksX3_doTrade_2 13 rfl rfl)
theorem dX3_doTrade_61 : decode cX3_doTrade 61 = .ok (.invokevirtual 83, 3) := dk_182 0 83 (dk_at dksX3_doTrade_2 14 rfl rfl)
theorem dX3_doTrade_64 : decode cX3_doTrade 64 = .ok (.ireturn, 1) := dk_172 (dk_at dksX3_doTrade_2 17 rfl rfl)
theorem dX3_doTrade_65 : decode cX3_doTrade 65 = .ok (.aload_n 0, 1) := dk_42 (dk_at dksX3_doTrade_2 18 rfl rfl)
theorem dX3_doTrade_66 : decode cX3_doTrade 66 = .ok (.iload_n 1, 1) := dk_27 (dk_at dksX3_doTrade_2 19 rfl rfl)
theorem dX3_doTrade_67 : decode cX3_doTrade 67 = .ok (.invokevirtual 120, 3) := dk_182 0 120 (dk_at dksX3_doTrade_2 20 rfl rfl)
theorem dX3_doTrade_70 : decode cX3_doTrade 70 = .ok (.aload_n 0, 1) := dk_42 (dk_at dksX3_doTrade_2 23 rfl rfl)
theorem dX3_doTrade_71 : decode cX3_doTrade 71 = .ok (.iload_n 2, 1) := dk_28 (dk_at dksX3_doTrade_3 0 rfl rfl)
theorem dX3_doTrade_72 : decode cX3_doTrade 72 = .ok (.invokevirtual 120, 3) := dk_182 0 120 (dk_at dksX3_doTrade_3 1 rfl rfl)
theorem dX3_doTrade_75 : decode cX3_doTrade 75 = .ok (.if_icmp .ne 22, 3) := dk_160 0 22 (dk_at dksX3_doTrade_3 4 rfl rfl)
theorem dX3_doTrade_78 : decode cX3_doTrade 78 = .ok (.aload_n 0, 1) := dk_42 (dk_at dksX3_doTrade_3 7 rfl rfl)
theorem dX3_doTrade_79 : decode cX3_doTrade 79 = .ok (.iload_n 1, 1) := dk_27 (dk_at dksX3_doTrade_3 8 rfl rfl)
theorem dX3_doTrade_80 : decode cX3_doTrade 80 = .ok (.iconst 2, 1) := dk_5 (dk_at dksX3_doTrade_3 9 rfl rfl)
theorem dX3_doTrade_81 : decode cX3_doTrade 81 = .ok (.invokevirtual 76, 3) := dk_182 0 76 (dk_at dksX3_doTrade_3 10 rfl rfl)
theorem dX3_doTrade_84 : decode cX3_doTrade 84 = .ok (.aload_n 0, 1) := dk_42 (dk_at dksX3_doTrade_3 13 rfl rfl)
theorem dX3_doTrade_85 : decode cX3_doTrade 85 = .ok (.iload_n 2, 1) := dk_28 (dk_at dksX3_doTrade_3 14 rfl rfl)
theorem dX3_doTrade_86 : decode cX3_doTrade 86 = .ok (.iconst 2, 1) := dk_5 (dk_at dksX3_doTrade_3 15 rfl rfl)
theorem dX3_doTrade_87 : decode cX3_doTrade 87 = .ok (.invokevirtual 76, 3) := dk_182 0 76 (dk_at dksX3_doTrade_3 16 rfl rfl)
theorem dX3_doTrade_90 : decode cX3_doTrade 90 = .ok (.isub, 1) := dk_100 (dk_at dksX3_doTrade_3 19 rfl rfl)
theorem dX3_doTrade_91 : decode cX3_doTrade 91 = .ok (.invokestatic 134, 3) := dk_184 0 134 (dk_at dksX3_doTrade_3 20 rfl rfl)
theorem dX3_doTrade_94 : decode cX3_doTrade 94 = .ok (.goto 5, 3) := dk_167 0 5 (dk_at dksX3_doTrade_4 0 rfl rfl)
theorem dX3_doTrade_97 : decode cX3_doTrade 97 = .ok (.bipush 9, 2) := dk_16 9 (dk_at dksX3_doTrade_4 3 rfl rfl)
theorem dX3_doTrade_99 : decode cX3_doTrade 99 = .ok (.istore 4, 2) := dk_54 4 (dk_at dksX3_doTrade_4 5 rfl rfl)
theorem dX3_doTrade_101 : decode cX3_doTrade 101 = .ok (.iload 4, 2) := dk_21 4 (dk_at dksX3_doTrade_4 7 rfl rfl)
theorem dX3_doTrade_103 : decode cX3_doTrade 103 = .ok (.iconst 1, 1) := dk_4 (dk_at dksX3_doTrade_4 9 rfl rfl)
theorem dX3_doTrade_104 : decode cX3_doTrade 104 = .ok (.if_icmp .le 12, 3) := dk_164 0 12 (dk_at dksX3_doTrade_4 10 rfl rfl)
theorem dX3_doTrade_107 : decode cX3_doTrade 107 = .ok (.aload_n 0, 1) := dk_42 (dk_at dksX3_doTrade_4 13 rfl rfl)
theorem dX3_doTrade_108 : decode cX3_doTrade 108 = .ok (.bipush 9, 2) := dk_16 9 (dk_at dksX3_doTrade_4 14 rfl rfl)
theorem dX3_doTrade_110 : decode cX3_doTrade 110 = .ok (.iload 4, 2) := dk_21 4 (dk_at dksX3_doTrade_4 16 rfl rfl)
theorem dX3_doTrade_112 : decode cX3_doTrade 112 = .ok (.invokevirtual 83, 3) := dk_182 0 83 (dk_at dksX3_doTrade_4 18 rfl rfl)
theorem dX3_doTrade_115 : decode cX3_doTrade 115 = .ok (.ireturn, 1) := dk_172 (dk_at dksX3_doTrade_4 21 rfl rfl)
theorem dX3_doTrade_116 : decode cX3_doTrade 116 = .ok (.aload_n 0, 1) := dk_42 (dk_at dksX3_doTrade_4 22 rfl rfl)
theorem dX3_doTrade_117 : decode cX3_doTrade 117 = .ok (.iload_n 1, 1) := dk_27 (dk_at dksX3_doTrade_4 23 rfl rfl)
theorem dX3_doTrade_118 : decode cX3_doTrade 118 = .ok (.iconst 3, 1) := dk_6 (dk_at dksX3_doTrade_5 0 rfl rfl)
theorem dX3_doTrade_119 : decode cX3_doTrade 119 = .ok (.invokevirtual 76, 3) := dk_182 0 76 (dk_at dksX3_doTrade_5 1 rfl rfl)
theorem dX3_doTrade_122 : decode cX3_doTrade 122 = .ok (.iload_n 3, 1) := dk_29 (dk_at dksX3_doTrade_5 4 rfl rfl)
theorem dX3_doTrade_123 : decode cX3_doTrade 123 = .ok (.if_icmp .ge 16, 3) := dk_162 0 16 (dk_at dksX3_doTrade_5 5 rfl rfl)
theorem dX3_doTrade_126 : decode cX3_doTrade 126 = .ok (.aload_n 0, 1) := dk_42 (dk_at dksX3_doTrade_5 8 rfl rfl)
theorem dX3_doTrade_127 : decode cX3_doTrade 127 = .ok (.bipush 6, 2) := dk_16 6 (dk_at dksX3_doTrade_5 9 rfl rfl)
theorem dX3_doTrade_129 : decode cX3_doTrade 129 = .ok (.aload_n 0, 1) := dk_42 (dk_at dksX3_doTrade_5 11 rfl rfl)
theorem dX3_doTrade_130 : decode cX3_doTrade 130 = .ok (.iload_n 1, 1) := dk_27 (dk_at dksX3_doTrade_5 12 rfl rfl)
theorem dX3_doTrade_131 : decode cX3_doTrade 131 = .ok (.iconst 3, 1) := dk_6 (dk_at dksX3_doTrade_5 13 rfl rfl)
theorem dX3_doTrade_132 : decode cX3_doTrade 132 = .ok (.invokevirtual 76, 3) := dk_182 0 76 (dk_at dksX3_doTrade_5 14 rfl rfl)
theorem dX3_doTrade_135 : decode cX3_doTrade 135 = .ok (.invokevirtual 83, 3) := dk_182 0 83 (dk_at dksX3_doTrade_5 17 rfl rfl)
theorem dX3_doTrade_138 : decode cX3_doTrade 138 = .ok (.ireturn, 1) := dk_172 (dk_at dksX3_doTrade_5 20 rfl rfl)
theorem dX3_doTrade_139 : decode cX3_doTrade 139 = .ok (.bipush 20, 2) := dk_16 20 (dk_at dksX3_doTrade_5 21 rfl rfl)
theorem dX3_doTrade_141 : decode cX3_doTrade 141 = .ok (.aload_n 0, 1) := dk_42 (dk_at dksX3_doTrade_5 23 rfl rfl)
theorem dX3_doTrade_142 : decode cX3_doTrade 142 = .ok (.iload_n 2, 1) := dk_28 (dk_at dksX3_doTrade_6 0 rfl rfl)
theorem dX3_doTrade_143 : decode cX3_doTrade 143 = .ok (.iconst 3, 1) := dk_6 (dk_at dksX3_doTrade_6 1 rfl rfl)
theorem dX3_doTrade_144 : decode cX3_doTrade 144 = .ok (.invokevirtual 76, 3) := dk_182 0 76 (dk_at dksX3_doTrade_6 2 rfl rfl)
theorem dX3_doTrade_147 : decode cX3_doTrade 147 = .ok (.isub, 1) := dk_100 (dk_at dksX3_doTrade_6 5 rfl rfl)
theorem dX3_doTrade_148 : decode cX3_doTrade 148 = .ok (.istore 5, 2) := dk_54 5 (dk_at dksX3_doTrade_6 6 rfl rfl)
theorem dX3_doTrade_150 : decode cX3_doTrade 150 = .ok (.iload_n 3, 1) := dk_29 (dk_at dksX3_doTrade_6 8 rfl rfl)
theorem dX3_doTrade_151 : decode cX3_doTrade 151 = .ok (.iload 5, 2) := dk_21 5 (dk_at dksX3_doTrade_6 9 rfl rfl)
theorem dX3_doTrade_153 : decode cX3_doTrade 153 = .ok (.if_icmp .le 12, 3) := dk_164 0 12 (dk_at dksX3_doTrade_6 11 rfl rfl)
theorem dX3_doTrade_156 : decode cX3_doTrade 156 = .ok (.aload_n 0, 1) := dk_42 (dk_at dksX3_doTrade_6 14 rfl rfl)
theorem dX3_doTrade_157 : decode cX3_doTrade 157 = .ok (.bipush 10, 2) := dk_16 10 (dk_at dksX3_doTrade_6 15 rfl rfl)
theorem dX3_doTrade_159 : decode cX3_doTrade 159 = .ok (.iload 5, 2) := dk_21 5 (dk_at dksX3_doTrade_6 17 rfl rfl)
theorem dX3_doTrade_161 : decode cX3_doTrade 161 = .ok (.invokevirtual 83, 3) := dk_182 0 83 (dk_at dksX3_doTrade_6 19 rfl rfl)
theorem dX3_doTrade_164 : decode cX3_doTrade 164 = .ok (.ireturn, 1) := dk_172 (dk_at dksX3_doTrade_6 22 rfl rfl)
theorem dX3_doTrade_165 : decode cX3_doTrade 165 = .ok (.aload_n 0, 1) := dk_42 (dk_at dksX3_doTrade_6 23 rfl rfl)
theorem dX3_doTrade_166 : decode cX3_doTrade 166 = .ok (.iload_n 1, 1) := dk_27 (dk_at dksX3_doTrade_7 0 rfl rfl)
theorem dX3_doTrade_167 : decode cX3_doTrade 167 = .ok (.iconst 3, 1) := dk_6 (dk_at dksX3_doTrade_7 1 rfl rfl)
theorem dX3_doTrade_168 : decode cX3_doTrade 168 = .ok (.aload_n 0, 1) := dk_42 (dk_at dksX3_doTrade_7 2 rfl rfl)
theorem dX3_doTrade_169 : decode cX3_doTrade 169 = .ok (.iload_n 1, 1) := dk_27 (dk_at dksX3_doTrade_7 3 rfl rfl)
theorem dX3_doTrade_170 : decode cX3_doTrade 170 = .ok (.iconst 3, 1) := dk_6 (dk_at dksX3_doTrade_7 4 rfl rfl)
theorem dX3_doTrade_171 : decode cX3_doTrade 171 = .ok (.invokevirtual 76, 3) := dk_182 0 76 (dk_at dksX3_doTrade_7 5 rfl rfl)
theorem dX3_doTrade_174 : decode cX3_doTrade 174 = .ok (.iload_n 3, 1) := dk_29 (dk_at dksX3_doTrade_7 8 rfl rfl)
theorem dX3_doTrade_175 : decode cX3_doTrade 175 = .ok (.isub, 1) := dk_100 (dk_at dksX3_doTrade_7 9 rfl rfl)
theorem dX3_doTrade_176 : decode cX3_doTrade 176 = .ok (.invokevirtual 86, 3) := dk_182 0 86 (dk_at dksX3_doTrade_7 10 rfl rfl)
theorem dX3_doTrade_179 : decode cX3_doTrade 179 = .ok (.aload_n 0, 1) := dk_42 (dk_at dksX3_doTrade_7 13 rfl rfl)
theorem dX3_doTrade_180 : decode cX3_doTrade 180 = .ok (.iload_n 2, 1) := dk_28 (dk_at dksX3_doTrade_7 14 rfl rfl)
theorem dX3_doTrade_181 : decode cX3_doTrade 181 = .ok (.iconst 3, 1) := dk_6 (dk_at dksX3_doTrade_7 15 rfl rfl)
theorem dX3_doTrade_182 : decode cX3_doTrade 182 = .ok (.aload_n 0, 1) := dk_42 (dk_at dksX3_doTrade_7 16 rfl rfl)
theorem dX3_doTrade_183 : decode cX3_doTrade 183 = .ok (.iload_n 2, 1) := dk_28 (dk_at dksX3_doTrade_7 17 rfl rfl)
theorem dX3_doTrade_184 : decode cX3_doTrade 184 = .ok (.iconst 3, 1) := dk_6 (dk_at dksX3_doTrade_7 18 rfl rfl)
theorem dX3_doTrade_185 : decode cX3_doTrade 185 = .ok (.invokevirtual 76, 3) := dk_182 0 76 (dk_at dksX3_doTrade_7 19 rfl rfl)
theorem dX3_doTrade_188 : decode cX3_doTrade 188 = .ok (.iload_n 3, 1) := dk_29 (dk_at dksX3_doTrade_7 22 rfl rfl)
theorem dX3_doTrade_189 : decode cX3_doTrade 189 = .ok (.iadd, 1) := dk_96 (dk_at dksX3_doTrade_7 23 rfl rfl)
theorem dX3_doTrade_190 : decode cX3_doTrade 190 = .ok (.invokevirtual 86, 3) := dk_182 0 86 (dk_at dksX3_doTrade_8 0 rfl rfl)
theorem dX3_doTrade_193 : decode cX3_doTrade 193 = .ok (.aload_n 0, 1) := dk_42 (dk_at dksX3_doTrade_8 3 rfl rfl)
theorem dX3_doTrade_194 : decode cX3_doTrade 194 = .ok (.iload_n 2, 1) := dk_28 (dk_at dksX3_doTrade_8 4 rfl rfl)
theorem dX3_doTrade_195 : decode cX3_doTrade 195 = .ok (.iconst 3, 1) := dk_6 (dk_at dksX3_doTrade_8 5 rfl rfl)
theorem dX3_doTrade_196 : decode cX3_doTrade 196 = .ok (.invokevirtual 76, 3) := dk_182 0 76 (dk_at dksX3_doTrade_8 6 rfl rfl)
theorem dX3_doTrade_199 : decode cX3_doTrade 199 = .ok (.ireturn, 1) := dk_172 (dk_at dksX3_doTrade_8 9 rfl rfl)
def dkwX3_seal_0 : List UInt8 := [42, 182, 0, 90, 42, 42, 27, 28, 182, 0, 140, 182, 0, 96, 172]
abbrev dktX3_seal_0 : List UInt8 := dkwX3_seal_0 ++ []
theorem dksX3_seal_0 : cX3_seal.data.toList.drop 0 = dktX3_seal_0 := by decide +kernel
theorem dX3_seal_0 : decode cX3_seal 0 = .ok (.aload_n 0, 1) := dk_42 (dk_at dksX3_seal_0 0 rfl rfl)
theorem dX3_seal_1 : decode cX3_seal 1 = .ok (.invokevirtual 90, 3) := dk_182 0 90 (dk_at dksX3_seal_0 1 rfl rfl)
theorem dX3_seal_4 : decode cX3_seal 4 = .ok (.aload_n 0, 1) := dk_42 (dk_at dksX3_seal_0 4 rfl rfl)
theorem dX3_seal_5 : decode cX3_seal 5 = .ok (.aload_n 0, 1) := dk_42 (dk_at dksX3_seal_0 5 rfl rfl)
theorem dX3_seal_6 : decode cX3_seal 6 = .ok (.iload_n 1, 1) := dk_27 (dk_at dksX3_seal_0 6 rfl rfl)
theorem dX3_seal_7 : decode cX3_seal 7 = .ok (.iload_n 2, 1) := dk_28 (dk_at dksX3_seal_0 7 rfl rfl)
theorem dX3_seal_8 : decode cX3_seal 8 = .ok (.invokevirtual 140, 3) := dk_182 0 140 (dk_at dksX3_seal_0 8 rfl rfl)
theorem dX3_seal_11 : decode cX3_seal 11 = .ok (.invokevirtual 96, 3) := dk_182 0 96 (dk_at dksX3_seal_0 11 rfl rfl)
theorem dX3_seal_14 : decode cX3_seal 14 = .ok (.ireturn, 1) := dk_172 (dk_at dksX3_seal_0 14 rfl rfl)
def dkwX3_doSeal_2 : List UInt8 := [182, 0, 83, 172, 42, 27, 16, 8, 28, 182, 0, 86, 29, 172]
abbrev dktX3_doSeal_2 : List UInt8 := dkwX3_doSeal_2 ++ []
def dkwX3_doSeal_1 : List UInt8 := [42, 7, 28, 182, 0, 83, 172, 42, 27, 16, 8, 182, 0, 76, 62, 29, 28, 160, 0, 10, 42, 6, 28]
abbrev dktX3_doSeal_1 : List UInt8 := dkwX3_doSeal_1 ++ dktX3_doSeal_2
def dkwX3_doSeal_0 : List UInt8 := [42, 27, 182, 0, 113, 154, 0, 10, 42, 8, 27, 182, 0, 83, 172, 28, 3, 8, 184, 0, 61, 154, 0, 10]
abbrev dktX3_doSeal_0 : List UInt8 := dkwX3_doSeal_0 ++ dktX3_doSeal_1
theorem dksX3_doSeal_0 : cX3_doSeal.data.toList.drop 0 = dktX3_doSeal_0 := by decide +kernel
theorem dksX3_doSeal_1 : cX3_doSeal.data.toList.drop 24 = dktX3_doSeal_1 := dk_seg dksX3_doSeal_0 24 rfl rfl
theorem dksX3_doSeal_2 : cX3_doSeal.data.toList.drop 47 = dktX3_doSeal_2 := dk_seg dksX3_doSeal_1 23 rfl rfl
theorem dX3_doSeal_0 : decode cX3_doSeal 0 = .ok (.aload_n 0, 1) := dk_42 (dk_at dksX3_doSeal_0 0 rfl rfl)
theorem dX3_doSeal_1 : decode cX3_doSeal 1 = .ok (.iload_n 1, 1) := dk_27 (dk_at dksX3_doSeal_0 1 rfl rfl)
theorem dX3_doSeal_2 : decode cX3_doSeal 2 = .ok (.invokevirtual 113, 3) := dk_182 0 113 (dk_at dksX3_doSeal_0 2 rfl rfl)
theorem dX3_doSeal_5 : decode cX3_doSeal 5 = .ok (.ifCond .ne 10, 3) := dk_154 0 10 (dk_at dksX3_doSeal_0 5 rfl rfl)
theorem dX3_doSeal_8 : decode cX3_doSeal 8 = .ok (.aload_n 0, 1) := dk_42 (dk_at dksX3_doSeal_0 8 rfl rfl)
theorem dX3_doSeal_9 : decode cX3_doSeal 9 = .ok (.iconst 5, 1) := dk_8 (dk_at dksX3_doSeal_0 9 rfl rfl)
theorem dX3_doSeal_10 : decode cX3_doSeal 10 = .ok (.iload_n 1, 1) := dk_27 (dk_at dksX3_doSeal_0 10 rfl rfl)
theorem dX3_doSeal_11 : decode cX3_doSeal 11 = .ok (.invokevirtual 83, 3) := dk_182 0 83 (dk_at dksX3_doSeal_0 11 rfl rfl)
theorem dX3_doSeal_14 : decode cX3_doSeal 14 = .ok (.ireturn, 1) := dk_172 (dk_at dksX3_doSeal_0 14 rfl rfl)
theorem dX3_doSeal_15 : decode cX3_doSeal 15 = .ok (.iload_n 2, 1) := dk_28 (dk_at dksX3_doSeal_0 15 rfl rfl)
theorem dX3_doSeal_16 : decode cX3_doSeal 16 = .ok (.iconst 0, 1) := dk_3 (dk_at dksX3_doSeal_0 16 rfl rfl)
theorem dX3_doSeal_17 : decode cX3_doSeal 17 = .ok (.iconst 5, 1) := dk_8 (dk_at dksX3_doSeal_0 17 rfl rfl)
theorem dX3_doSeal_18 : decode cX3_doSeal 18 = .ok (.invokestatic 61, 3) := dk_184 0 61 (dk_at dksX3_doSeal_0 18 rfl rfl)
theorem dX3_doSeal_21 : decode cX3_doSeal 21 = .ok (.ifCond .ne 10, 3) := dk_154 0 10 (dk_at dksX3_doSeal_0 21 rfl rfl)
theorem dX3_doSeal_24 : decode cX3_doSeal 24 = .ok (.aload_n 0, 1) := dk_42 (dk_at dksX3_doSeal_1 0 rfl rfl)
theorem dX3_doSeal_25 : decode cX3_doSeal 25 = .ok (.iconst 4, 1) := dk_7 (dk_at dksX3_doSeal_1 1 rfl rfl)
theorem dX3_doSeal_26 : decode cX3_doSeal 26 = .ok (.iload_n 2, 1) := dk_28 (dk_at dksX3_doSeal_1 2 rfl rfl)
theorem dX3_doSeal_27 : decode cX3_doSeal 27 = .ok (.invokevirtual 83, 3) := dk_182 0 83 (dk_at dksX3_doSeal_1 3 rfl rfl)
theorem dX3_doSeal_30 : decode cX3_doSeal 30 = .ok (.ireturn, 1) := dk_172 (dk_at dksX3_doSeal_1 6 rfl rfl)
theorem dX3_doSeal_31 : decode cX3_doSeal 31 = .ok (.aload_n 0, 1) := dk_42 (dk_at dksX3_doSeal_1 7 rfl rfl)
theorem dX3_doSeal_32 : decode cX3_doSeal 32 = .ok (.iload_n 1, 1) := dk_27 (dk_at dksX3_doSeal_1 8 rfl rfl)
theorem dX3_doSeal_33 : decode cX3_doSeal 33 = .ok (.bipush 8, 2) := dk_16 8 (dk_at dksX3_doSeal_1 9 rfl rfl)
theorem dX3_doSeal_35 : decode cX3_doSeal 35 = .ok (.invokevirtual 76, 3) := dk_182 0 76 (dk_at dksX3_doSeal_1 11 rfl rfl)
theorem dX3_doSeal_38 : decode cX3_doSeal 38 = .ok (.istore_n 3, 1) := dk_62 (dk_at dksX3_doSeal_1 14 rfl rfl)
theorem dX3_doSeal_39 : decode cX3_doSeal 39 = .ok (.iload_n 3, 1) := dk_29 (dk_at dksX3_doSeal_1 15 rfl rfl)
theorem dX3_doSeal_40 : decode cX3_doSeal 40 = .ok (.iload_n 2, 1) := dk_28 (dk_at dksX3_doSeal_1 16 rfl rfl)
theorem dX3_doSeal_41 : decode cX3_doSeal 41 = .ok (.if_icmp .ne 10, 3) := dk_160 0 10 (dk_at dksX3_doSeal_1 17 rfl rfl)
theorem dX3_doSeal_44 : decode cX3_doSeal 44 = .ok (.aload_n 0, 1) := dk_42 (dk_at dksX3_doSeal_1 20 rfl rfl)
theorem dX3_doSeal_45 : decode cX3_doSeal 45 = .ok (.iconst 3, 1) := dk_6 (dk_at dksX3_doSeal_1 21 rfl rfl)
theorem dX3_doSeal_46 : decode cX3_doSeal 46 = .ok (.iload_n 2, 1) := dk_28 (dk_at dksX3_doSeal_1 22 rfl rfl)
theorem dX3_doSeal_47 : decode cX3_doSeal 47 = .ok (.invokevirtual 83, 3) := dk_182 0 83 (dk_at dksX3_doSeal_2 0 rfl rfl)
theorem dX3_doSeal_50 : decode cX3_doSeal 50 = .ok (.ireturn, 1) := dk_172 (dk_at dksX3_doSeal_2 3 rfl rfl)
theorem dX3_doSeal_51 : decode cX3_doSeal 51 = .ok (.aload_n 0, 1) := dk_42 (dk_at dksX3_doSeal_2 4 rfl rfl)
theorem dX3_doSeal_52 : decode cX3_doSeal 52 = .ok (.iload_n 1, 1) := dk_27 (dk_at dksX3_doSeal_2 5 rfl rfl)
theorem dX3_doSeal_53 : decode cX3_doSeal 53 = .ok (.bipush 8, 2) := dk_16 8 (dk_at dksX3_doSeal_2 6 rfl rfl)
theorem dX3_doSeal_55 : decode cX3_doSeal 55 = .ok (.iload_n 2, 1) := dk_28 (dk_at dksX3_doSeal_2 8 rfl rfl)
theorem dX3_doSeal_56 : decode cX3_doSeal 56 = .ok (.invokevirtual 86, 3) := dk_182 0 86 (dk_at dksX3_doSeal_2 9 rfl rfl)
theorem dX3_doSeal_59 : decode cX3_doSeal 59 = .ok (.iload_n 3, 1) := dk_29 (dk_at dksX3_doSeal_2 12 rfl rfl)
theorem dX3_doSeal_60 : decode cX3_doSeal 60 = .ok (.ireturn, 1) := dk_172 (dk_at dksX3_doSeal_2 13 rfl rfl)
def dkwX3_hour_0 : List UInt8 := [42, 182, 0, 90, 42, 42, 27, 182, 0, 165, 182, 0, 96, 172]
abbrev dktX3_hour_0 : List UInt8 := dkwX3_hour_0 ++ []
theorem dksX3_hour_0 : cX3_hour.data.toList.drop 0 = dktX3_hour_0 := by decide +kernel
theorem dX3_hour_0 : decode cX3_hour 0 = .ok (.aload_n 0, 1) := dk_42 (dk_at dksX3_hour_0 0 rfl rfl)
theorem dX3_hour_1 : decode cX3_hour 1 = .ok (.invokevirtual 90, 3) := dk_182 0 90 (dk_at dksX3_hour_0 1 rfl rfl)
theorem dX3_hour_4 : decode cX3_hour 4 = .ok (.aload_n 0, 1) := dk_42 (dk_at dksX3_hour_0 4 rfl rfl)
theorem dX3_hour_5 : decode cX3_hour 5 = .ok (.aload_n 0, 1) := dk_42 (dk_at dksX3_hour_0 5 rfl rfl)
theorem dX3_hour_6 : decode cX3_hour 6 = .ok (.iload_n 1, 1) := dk_27 (dk_at dksX3_hour_0 6 rfl rfl)
theorem dX3_hour_7 : decode cX3_hour 7 = .ok (.invokevirtual 165, 3) := dk_182 0 165 (dk_at dksX3_hour_0 7 rfl rfl)
theorem dX3_hour_10 : decode cX3_hour 10 = .ok (.invokevirtual 96, 3) := dk_182 0 96 (dk_at dksX3_hour_0 10 rfl rfl)
theorem dX3_hour_13 : decode cX3_hour 13 = .ok (.ireturn, 1) := dk_172 (dk_at dksX3_hour_0 13 rfl rfl)
def dkwX3_doHour_2 : List UInt8 := [100, 172]
abbrev dktX3_doHour_2 : List UInt8 := dkwX3_doHour_2 ++ []
def dkwX3_doHour_1 : List UInt8 := [3, 62, 29, 27, 162, 0, 13, 42, 182, 0, 162, 132, 3, 1, 167, 255, 244, 42, 180, 0, 9, 6, 46, 28]
abbrev dktX3_doHour_1 : List UInt8 := dkwX3_doHour_1 ++ dktX3_doHour_2
def dkwX3_doHour_0 : List UInt8 := [27, 4, 16, 24, 184, 0, 61, 154, 0, 10, 42, 7, 27, 182, 0, 83, 172, 42, 180, 0, 9, 6, 46, 61]
abbrev dktX3_doHour_0 : List UInt8 := dkwX3_doHour_0 ++ dktX3_doHour_1
theorem dksX3_doHour_0 : cX3_doHour.data.toList.drop 0 = dktX3_doHour_0 := by decide +kernel
theorem dksX3_doHour_1 : cX3_doHour.data.toList.drop 24 = dktX3_doHour_1 := dk_seg dksX3_doHour_0 24 rfl rfl
theorem dksX3_doHour_2 : cX3_doHour.data.toList.drop 48 = dktX3_doHour_2 := dk_seg dksX3_doHour_1 24 rfl rfl
theorem dX3_doHour_0 : decode cX3_doHour 0 = .ok (.iload_n 1, 1) := dk_27 (dk_at dksX3_doHour_0 0 rfl rfl)
theorem dX3_doHour_1 : decode cX3_doHour 1 = .ok (.iconst 1, 1) := dk_4 (dk_at dksX3_doHour_0 1 rfl rfl)
theorem dX3_doHour_2 : decode cX3_doHour 2 = .ok (.bipush 24, 2) := dk_16 24 (dk_at dksX3_doHour_0 2 rfl rfl)
theorem dX3_doHour_4 : decode cX3_doHour 4 = .ok (.invokestatic 61, 3) := dk_184 0 61 (dk_at dksX3_doHour_0 4 rfl rfl)
theorem dX3_doHour_7 : decode cX3_doHour 7 = .ok (.ifCond .ne 10, 3) := dk_154 0 10 (dk_at dksX3_doHour_0 7 rfl rfl)
theorem dX3_doHour_10 : decode cX3_doHour 10 = .ok (.aload_n 0, 1) := dk_42 (dk_at dksX3_doHour_0 10 rfl rfl)
theorem dX3_doHour_11 : decode cX3_doHour 11 = .ok (.iconst 4, 1) := dk_7 (dk_at dksX3_doHour_0 11 rfl rfl)
theorem dX3_doHour_12 : decode cX3_doHour 12 = .ok (.iload_n 1, 1) := dk_27 (dk_at dksX3_doHour_0 12 rfl rfl)
theorem dX3_doHour_13 : decode cX3_doHour 13 = .ok (.invokevirtual 83, 3) := dk_182 0 83 (dk_at dksX3_doHour_0 13 rfl rfl)
theorem dX3_doHour_16 : decode cX3_doHour 16 = .ok (.ireturn, 1) := dk_172 (dk_at dksX3_doHour_0 16 rfl rfl)
theorem dX3_doHour_17 : decode cX3_doHour 17 = .ok (.aload_n 0, 1) := dk_42 (dk_at dksX3_doHour_0 17 rfl rfl)
theorem dX3_doHour_18 : decode cX3_doHour 18 = .ok (.getfield 9, 3) := dk_180 0 9 (dk_at dksX3_doHour_0 18 rfl rfl)
theorem dX3_doHour_21 : decode cX3_doHour 21 = .ok (.iconst 3, 1) := dk_6 (dk_at dksX3_doHour_0 21 rfl rfl)
theorem dX3_doHour_22 : decode cX3_doHour 22 = .ok (.iaload, 1) := dk_46 (dk_at dksX3_doHour_0 22 rfl rfl)
theorem dX3_doHour_23 : decode cX3_doHour 23 = .ok (.istore_n 2, 1) := dk_61 (dk_at dksX3_doHour_0 23 rfl rfl)
theorem dX3_doHour_24 : decode cX3_doHour 24 = .ok (.iconst 0, 1) := dk_3 (dk_at dksX3_doHour_1 0 rfl rfl)
theorem dX3_doHour_25 : decode cX3_doHour 25 = .ok (.istore_n 3, 1) := dk_62 (dk_at dksX3_doHour_1 1 rfl rfl)
theorem dX3_doHour_26 : decode cX3_doHour 26 = .ok (.iload_n 3, 1) := dk_29 (dk_at dksX3_doHour_1 2 rfl rfl)
theorem dX3_doHour_27 : decode cX3_doHour 27 = .ok (.iload_n 1, 1) := dk_27 (dk_at dksX3_doHour_1 3 rfl rfl)
theorem dX3_doHour_28 : decode cX3_doHour 28 = .ok (.if_icmp .ge 13, 3) := dk_162 0 13 (dk_at dksX3_doHour_1 4 rfl rfl)
theorem dX3_doHour_31 : decode cX3_doHour 31 = .ok (.aload_n 0, 1) := dk_42 (dk_at dksX3_doHour_1 7 rfl rfl)
theorem dX3_doHour_32 : decode cX3_doHour 32 = .ok (.invokevirtual 162, 3) := dk_182 0 162 (dk_at dksX3_doHour_1 8 rfl rfl)
theorem dX3_doHour_35 : decode cX3_doHour 35 = .ok (.iinc 3 1, 3) := dk_132 3 1 (dk_at dksX3_doHour_1 11 rfl rfl)
theorem dX3_doHour_38 : decode cX3_doHour 38 = .ok (.goto (-12), 3) := dk_167 255 244 (dk_at dksX3_doHour_1 14 rfl rfl)
theorem dX3_doHour_41 : decode cX3_doHour 41 = .ok (.aload_n 0, 1) := dk_42 (dk_at dksX3_doHour_1 17 rfl rfl)
theorem dX3_doHour_42 : decode cX3_doHour 42 = .ok (.getfield 9, 3) := dk_180 0 9 (dk_at dksX3_doHour_1 18 rfl rfl)
theorem dX3_doHour_45 : decode cX3_doHour 45 = .ok (.iconst 3, 1) := dk_6 (dk_at dksX3_doHour_1 21 rfl rfl)
theorem dX3_doHour_46 : decode cX3_doHour 46 = .ok (.iaload, 1) := dk_46 (dk_at dksX3_doHour_1 22 rfl rfl)
theorem dX3_doHour_47 : decode cX3_doHour 47 = .ok (.iload_n 2, 1) := dk_28 (dk_at dksX3_doHour_1 23 rfl rfl)
theorem dX3_doHour_48 : decode cX3_doHour 48 = .ok (.isub, 1) := dk_100 (dk_at dksX3_doHour_2 0 rfl rfl)
theorem dX3_doHour_49 : decode cX3_doHour 49 = .ok (.ireturn, 1) := dk_172 (dk_at dksX3_doHour_2 1 rfl rfl)
def dkwX3_goesHour_1 : List UInt8 := [182, 0, 159, 132, 1, 1, 167, 255, 229, 42, 180, 0, 9, 5, 92, 46, 4, 96, 79, 177]
abbrev dktX3_goesHour_1 : List UInt8 := dkwX3_goesHour_1 ++ []
def dkwX3_goesHour_0 : List UInt8 := [3, 60, 27, 42, 180, 0, 9, 3, 46, 162, 0, 23, 42, 27, 5, 182, 0, 76, 158, 0, 8, 42, 27]
abbrev dktX3_goesHour_0 : List UInt8 := dkwX3_goesHour_0 ++ dktX3_goesHour_1
theorem dksX3_goesHour_0 : cX3_goesHour.data.toList.drop 0 = dktX3_goesHour_0 := by decide +kernel
theorem dksX3_goesHour_1 : cX3_goesHour.data.toList.drop 23 = dktX3_goesHour_1 := dk_seg dksX3_goesHour_0 23 rfl rfl
theorem dX3_goesHour_0 : decode cX3_goesHour 0 = .ok (.iconst 0, 1) := dk_3 (dk_at dksX3_goesHour_0 0 rfl rfl)
theorem dX3_goesHour_1 : decode cX3_goesHour 1 = .ok (.istore_n 1, 1) := dk_60 (dk_at dksX3_goesHour_0 1 rfl rfl)
theorem dX3_goesHour_2 : decode cX3_goesHour 2 = .ok (.iload_n 1, 1) := dk_27 (dk_at dksX3_goesHour_0 2 rfl rfl)
theorem dX3_goesHour_3 : decode cX3_goesHour 3 = .ok (.aload_n 0, 1) := dk_42 (dk_at dksX3_goesHour_0 3 rfl rfl)
theorem dX3_goesHour_4 : decode cX3_goesHour 4 = .ok (.getfield 9, 3) := dk_180 0 9 (dk_at dksX3_goesHour_0 4 rfl rfl)
theorem dX3_goesHour_7 : decode cX3_goesHour 7 = .ok (.iconst 0, 1) := dk_3 (dk_at dksX3_goesHour_0 7 rfl rfl)
theorem dX3_goesHour_8 : decode cX3_goesHour 8 = .ok (.iaload, 1) := dk_46 (dk_at dksX3_goesHour_0 8 rfl rfl)
theorem dX3_goesHour_9 : decode cX3_goesHour 9 = .ok (.if_icmp .ge 23, 3) := dk_162 0 23 (dk_at dksX3_goesHour_0 9 rfl rfl)
theorem dX3_goesHour_12 : decode cX3_goesHour 12 = .ok (.aload_n 0, 1) := dk_42 (dk_at dksX3_goesHour_0 12 rfl rfl)
theorem dX3_goesHour_13 : decode cX3_goesHour 13 = .ok (.iload_n 1, 1) := dk_27 (dk_at dksX3_goesHour_0 13 rfl rfl)
theorem dX3_goesHour_14 : decode cX3_goesHour 14 = .ok (.iconst 2, 1) := dk_5 (dk_at dksX3_goesHour_0 14 rfl rfl)
theorem dX3_goesHour_15 : decode cX3_goesHour 15 = .ok (.invokevirtual 76, 3) := dk_182 0 76 (dk_at dksX3_goesHour_0 15 rfl rfl)
theorem dX3_goesHour_18 : decode cX3_goesHour 18 = .ok (.ifCond .le 8, 3) := dk_158 0 8 (dk_at dksX3_goesHour_0 18 rfl rfl)
theorem dX3_goesHour_21 : decode cX3_goesHour 21 = .ok (.aload_n 0, 1) := dk_42 (dk_at dksX3_goesHour_0 21 rfl rfl)
theorem dX3_goesHour_22 : decode cX3_goesHour 22 = .ok (.iload_n 1, 1) := dk_27 (dk_at dksX3_goesHour_0 22 rfl rfl)
theorem dX3_goesHour_23 : decode cX3_goesHour 23 = .ok (.invokevirtual 159, 3) := dk_182 0 159 (dk_at dksX3_goesHour_1 0 rfl rfl)
theorem dX3_goesHour_26 : decode cX3_goesHour 26 = .ok (.iinc 1 1, 3) := dk_132 1 1 (dk_at dksX3_goesHour_1 3 rfl rfl)
theorem dX3_goesHour_29 : decode cX3_goesHour 29 = .ok (.goto (-27), 3) := dk_167 255 229 (dk_at dksX3_goesHour_1 6 rfl rfl)
theorem dX3_goesHour_32 : decode cX3_goesHour 32 = .ok (.aload_n 0, 1) := dk_42 (dk_at dksX3_goesHour_1 9 rfl rfl)
theorem dX3_goesHour_33 : decode cX3_goesHour 33 = .ok (.getfield 9, 3) := dk_180 0 9 (dk_at dksX3_goesHour_1 10 rfl rfl)
theorem dX3_goesHour_36 : decode cX3_goesHour 36 = .ok (.iconst 2, 1) := dk_5 (dk_at dksX3_goesHour_1 13 rfl rfl)
theorem dX3_goesHour_37 : decode cX3_goesHour 37 = .ok (.dup2, 1) := dk_92 (dk_at dksX3_goesHour_1 14 rfl rfl)
theorem dX3_goesHour_38 : decode cX3_goesHour 38 = .ok (.iaload, 1) := dk_46 (dk_at dksX3_goesHour_1 15 rfl rfl)
theorem dX3_goesHour_39 : decode cX3_goesHour 39 = .ok (.iconst 1, 1) := dk_4 (dk_at dksX3_goesHour_1 16 rfl rfl)
theorem dX3_goesHour_40 : decode cX3_goesHour 40 = .ok (.iadd, 1) := dk_96 (dk_at dksX3_goesHour_1 17 rfl rfl)
theorem dX3_goesHour_41 : decode cX3_goesHour 41 = .ok (.iastore, 1) := dk_79 (dk_at dksX3_goesHour_1 18 rfl rfl)
theorem dX3_goesHour_42 : decode cX3_goesHour 42 = .ok (.return_, 1) := dk_177 (dk_at dksX3_goesHour_1 19 rfl rfl)
def dkwX3_flies_3 : List UInt8 := [182, 0, 76, 154, 0, 10, 42, 27, 4, 182, 0, 128, 62, 177]
abbrev dktX3_flies_3 : List UInt8 := dkwX3_flies_3 ++ []
def dkwX3_flies_2 : List UInt8 := [182, 0, 155, 42, 27, 7, 3, 42, 27, 7, 182, 0, 76, 4, 100, 184, 0, 123, 182, 0, 86, 42, 27, 7]
abbrev dktX3_flies_2 : List UInt8 := dkwX3_flies_2 ++ dktX3_flies_3
def dkwX3_flies_1 : List UInt8 := [182, 0, 86, 42, 27, 4, 28, 16, 10, 108, 182, 0, 86, 42, 27, 182, 0, 152, 153, 0, 8, 42, 27]
abbrev dktX3_flies_1 : List UInt8 := dkwX3_flies_1 ++ dktX3_flies_2
def dkwX3_flies_0 : List UInt8 := [42, 42, 27, 182, 0, 120, 42, 27, 5, 182, 0, 76, 182, 0, 149, 61, 42, 27, 3, 28, 16, 10, 112]
abbrev dktX3_flies_0 : List UInt8 := dkwX3_flies_0 ++ dktX3_flies_1
theorem dksX3_flies_0 : cX3_flies.data.toList.drop 0 = dktX3_flies_0 := by decide +kernel
theorem dksX3_flies_1 : cX3_flies.data.toList.drop 23 = dktX3_flies_1 := dk_seg dksX3_flies_0 23 rfl rfl
theorem dksX3_flies_2 : cX3_flies.data.toList.drop 46 = dktX3_flies_2 := dk_seg dksX3_flies_1 23 rfl rfl
theorem dksX3_flies_3 : cX3_flies.data.toList.drop 70 = dktX3_flies_3 := dk_seg dksX3_flies_2 24 rfl rfl
theorem dX3_flies_0 : decode cX3_flies 0 = .ok (.aload_n 0, 1) := dk_42 (dk_at dksX3_flies_0 0 rfl rfl)
theorem dX3_flies_1 : decode cX3_flies 1 = .ok (.aload_n 0, 1) := dk_42 (dk_at dksX3_flies_0 1 rfl rfl)
theorem dX3_flies_2 : decode cX3_flies 2 = .ok (.iload_n 1, 1) := dk_27 (dk_at dksX3_flies_0 2 rfl rfl)
theorem dX3_flies_3 : decode cX3_flies 3 = .ok (.invokevirtual 120, 3) := dk_182 0 120 (dk_at dksX3_flies_0 3 rfl rfl)
theorem dX3_flies_6 : decode cX3_flies 6 = .ok (.aload_n 0, 1) := dk_42 (dk_at dksX3_flies_0 6 rfl rfl)
theorem dX3_flies_7 : decode cX3_flies 7 = .ok (.iload_n 1, 1) := dk_27 (dk_at dksX3_flies_0 7 rfl rfl)
theorem dX3_flies_8 : decode cX3_flies 8 = .ok (.iconst 2, 1) := dk_5 (dk_at dksX3_flies_0 8 rfl rfl)
theorem dX3_flies_9 : decode cX3_flies 9 = .ok (.invokevirtual 76, 3) := dk_182 0 76 (dk_at dksX3_flies_0 9 rfl rfl)
theorem dX3_flies_12 : decode cX3_flies 12 = .ok (.invokevirtual 149, 3) := dk_182 0 149 (dk_at dksX3_flies_0 12 rfl rfl)
theorem dX3_flies_15 : decode cX3_flies 15 = .ok (.istore_n 2, 1) := dk_61 (dk_at dksX3_flies_0 15 rfl rfl)
theorem dX3_flies_16 : decode cX3_flies 16 = .ok (.aload_n 0, 1) := dk_42 (dk_at dksX3_flies_0 16 rfl rfl)
theorem dX3_flies_17 : decode cX3_flies 17 = .ok (.iload_n 1, 1) := dk_27 (dk_at dksX3_flies_0 17 rfl rfl)
theorem dX3_flies_18 : decode cX3_flies 18 = .ok (.iconst 0, 1) := dk_3 (dk_at dksX3_flies_0 18 rfl rfl)
theorem dX3_flies_19 : decode cX3_flies 19 = .ok (.iload_n 2, 1) := dk_28 (dk_at dksX3_flies_0 19 rfl rfl)
theorem dX3_flies_20 : decode cX3_flies 20 = .ok (.bipush 10, 2) := dk_16 10 (dk_at dksX3_flies_0 20 rfl rfl)
theorem dX3_flies_22 : decode cX3_flies 22 = .ok (.irem, 1) := dk_112 (dk_at dksX3_flies_0 22 rfl rfl)
theorem dX3_flies_23 : decode cX3_flies 23 = .ok (.invokevirtual 86, 3) := dk_182 0 86 (dk_at dksX3_flies_1 0 rfl rfl)
theorem dX3_flies_26 : decode cX3_flies 26 = .ok (.aload_n 0, 1) := dk_42 (dk_at dksX3_flies_1 3 rfl rfl)
theorem dX3_flies_27 : decode cX3_flies 27 = .ok (.iload_n 1, 1) := dk_27 (dk_at dksX3_flies_1 4 rfl rfl)
theorem dX3_flies_28 : decode cX3_flies 28 = .ok (.iconst 1, 1) := dk_4 (dk_at dksX3_flies_1 5 rfl rfl)
theorem dX3_flies_29 : decode cX3_flies 29 = .ok (.iload_n 2, 1) := dk_28 (dk_at dksX3_flies_1 6 rfl rfl)
theorem dX3_flies_30 : decode cX3_flies 30 = .ok (.bipush 10, 2) := dk_16 10 (dk_at dksX3_flies_1 7 rfl rfl)
theorem dX3_flies_32 : decode cX3_flies 32 = .ok (.idiv, 1) := dk_108 (dk_at dksX3_flies_1 9 rfl rfl)
theorem dX3_flies_33 : decode cX3_flies 33 = .ok (.invokevirtual 86, 3) := dk_182 0 86 (dk_at dksX3_flies_1 10 rfl rfl)
theorem dX3_flies_36 : decode cX3_flies 36 = .ok (.aload_n 0, 1) := dk_42 (dk_at dksX3_flies_1 13 rfl rfl)
theorem dX3_flies_37 : decode cX3_flies 37 = .ok (.iload_n 1, 1) := dk_27 (dk_at dksX3_flies_1 14 rfl rfl)
theorem dX3_flies_38 : decode cX3_flies 38 = .ok (.invokevirtual 152, 3) := dk_182 0 152 (dk_at dksX3_flies_1 15 rfl rfl)
theorem dX3_flies_41 : decode cX3_flies 41 = .ok (.ifCond .eq 8, 3) := dk_153 0 8 (dk_at dksX3_flies_1 18 rfl rfl)
theorem dX3_flies_44 : decode cX3_flies 44 = .ok (.aload_n 0, 1) := dk_42 (dk_at dksX3_flies_1 21 rfl rfl)
theorem dX3_flies_45 : decode cX3_flies 45 = .ok (.iload_n 1, 1) := dk_27 (dk_at dksX3_flies_1 22 rfl rfl)
theorem dX3_flies_46 : decode cX3_flies 46 = .ok (.invokevirtual 155, 3) := dk_182 0 155 (dk_at dksX3_flies_2 0 rfl rfl)
theorem dX3_flies_49 : decode cX3_flies 49 = .ok (.aload_n 0, 1) := dk_42 (dk_at dksX3_flies_2 3 rfl rfl)
theorem dX3_flies_50 : decode cX3_flies 50 = .ok (.iload_n 1, 1) := dk_27 (dk_at dksX3_flies_2 4 rfl rfl)
theorem dX3_flies_51 : decode cX3_flies 51 = .ok (.iconst 4, 1) := dk_7 (dk_at dksX3_flies_2 5 rfl rfl)
theorem dX3_flies_52 : decode cX3_flies 52 = .ok (.iconst 0, 1) := dk_3 (dk_at dksX3_flies_2 6 rfl rfl)
theorem dX3_flies_53 : decode cX3_flies 53 = .ok (.aload_n 0, 1) := dk_42 (dk_at dksX3_flies_2 7 rfl rfl)
theorem dX3_flies_54 : decode cX3_flies 54 = .ok (.iload_n 1, 1) := dk_27 (dk_at dksX3_flies_2 8 rfl rfl)
theorem dX3_flies_55 : decode cX3_flies 55 = .ok (.iconst 4, 1) := dk_7 (dk_at dksX3_flies_2 9 rfl rfl)
theorem dX3_flies_56 : decode cX3_flies 56 = .ok (.invokevirtual 76, 3) := dk_182 0 76 (dk_at dksX3_flies_2 10 rfl rfl)
theorem dX3_flies_59 : decode cX3_flies 59 = .ok (.iconst 1, 1) := dk_4 (dk_at dksX3_flies_2 13 rfl rfl)
theorem dX3_flies_60 : decode cX3_flies 60 = .ok (.isub, 1) := dk_100 (dk_at dksX3_flies_2 14 rfl rfl)
theorem dX3_flies_61 : decode cX3_flies 61 = .ok (.invokestatic 123, 3) := dk_184 0 123 (dk_at dksX3_flies_2 15 rfl rfl)
theorem dX3_flies_64 : decode cX3_flies 64 = .ok (.invokevirtual 86, 3) := dk_182 0 86 (dk_at dksX3_flies_2 18 rfl rfl)
theorem dX3_flies_67 : decode cX3_flies 67 = .ok (.aload_n 0, 1) := dk_42 (dk_at dksX3_flies_2 21 rfl rfl)
theorem dX3_flies_68 : decode cX3_flies 68 = .ok (.iload_n 1, 1) := dk_27 (dk_at dksX3_flies_2 22 rfl rfl)
theorem dX3_flies_69 : decode cX3_flies 69 = .ok (.iconst 4, 1) := dk_7 (dk_at dksX3_flies_2 23 rfl rfl)
theorem dX3_flies_70 : decode cX3_flies 70 = .ok (.invokevirtual 76, 3) := dk_182 0 76 (dk_at dksX3_flies_3 0 rfl rfl)
theorem dX3_flies_73 : decode cX3_flies 73 = .ok (.ifCond .ne 10, 3) := dk_154 0 10 (dk_at dksX3_flies_3 3 rfl rfl)
theorem dX3_flies_76 : decode cX3_flies 76 = .ok (.aload_n 0, 1) := dk_42 (dk_at dksX3_flies_3 6 rfl rfl)
theorem dX3_flies_77 : decode cX3_flies 77 = .ok (.iload_n 1, 1) := dk_27 (dk_at dksX3_flies_3 7 rfl rfl)
theorem dX3_flies_78 : decode cX3_flies 78 = .ok (.iconst 1, 1) := dk_4 (dk_at dksX3_flies_3 8 rfl rfl)
theorem dX3_flies_79 : decode cX3_flies 79 = .ok (.invokevirtual 128, 3) := dk_182 0 128 (dk_at dksX3_flies_3 9 rfl rfl)
theorem dX3_flies_82 : decode cX3_flies 82 = .ok (.istore_n 3, 1) := dk_62 (dk_at dksX3_flies_3 12 rfl rfl)
theorem dX3_flies_83 : decode cX3_flies 83 = .ok (.return_, 1) := dk_177 (dk_at dksX3_flies_3 13 rfl rfl)
def dkwX3_drifted_1 : List UInt8 := [29, 172]
abbrev dktX3_drifted_1 : List UInt8 := dkwX3_drifted_1 ++ []
def dkwX3_drifted_0 : List UInt8 := [27, 42, 180, 0, 9, 16, 8, 28, 96, 4, 100, 46, 184, 0, 73, 62, 29, 156, 0, 7, 27, 167, 0, 4]
abbrev dktX3_drifted_0 : List UInt8 := dkwX3_drifted_0 ++ dktX3_drifted_1
theorem dksX3_drifted_0 : cX3_drifted.data.toList.drop 0 = dktX3_drifted_0 := by decide +kernel
theorem dksX3_drifted_1 : cX3_drifted.data.toList.drop 24 = dktX3_drifted_1 := dk_seg dksX3_drifted_0 24 rfl rfl
theorem dX3_drifted_0 : decode cX3_drifted 0 = .ok (.iload_n 1, 1) := dk_27 (dk_at dksX3_drifted_0 0 rfl rfl)
theorem dX3_drifted_1 : decode cX3_drifted 1 = .ok (.aload_n 0, 1) := dk_42 (dk_at dksX3_drifted_0 1 rfl rfl)
theorem dX3_drifted_2 : decode cX3_drifted 2 = .ok (.getfield 9, 3) := dk_180 0 9 (dk_at dksX3_drifted_0 2 rfl rfl)
theorem dX3_drifted_5 : decode cX3_drifted 5 = .ok (.bipush 8, 2) := dk_16 8 (dk_at dksX3_drifted_0 5 rfl rfl)
theorem dX3_drifted_7 : decode cX3_drifted 7 = .ok (.iload_n 2, 1) := dk_28 (dk_at dksX3_drifted_0 7 rfl rfl)
theorem dX3_drifted_8 : decode cX3_drifted 8 = .ok (.iadd, 1) := dk_96 (dk_at dksX3_drifted_0 8 rfl rfl)
theorem dX3_drifted_9 : decode cX3_drifted 9 = .ok (.iconst 1, 1) := dk_4 (dk_at dksX3_drifted_0 9 rfl rfl)
theorem dX3_drifted_10 : decode cX3_drifted 10 = .ok (.isub, 1) := dk_100 (dk_at dksX3_drifted_0 10 rfl rfl)
theorem dX3_drifted_11 : decode cX3_drifted 11 = .ok (.iaload, 1) := dk_46 (dk_at dksX3_drifted_0 11 rfl rfl)
theorem dX3_drifted_12 : decode cX3_drifted 12 = .ok (.invokestatic 73, 3) := dk_184 0 73 (dk_at dksX3_drifted_0 12 rfl rfl)
theorem dX3_drifted_15 : decode cX3_drifted 15 = .ok (.istore_n 3, 1) := dk_62 (dk_at dksX3_drifted_0 15 rfl rfl)
theorem dX3_drifted_16 : decode cX3_drifted 16 = .ok (.iload_n 3, 1) := dk_29 (dk_at dksX3_drifted_0 16 rfl rfl)
theorem dX3_drifted_17 : decode cX3_drifted 17 = .ok (.ifCond .ge 7, 3) := dk_156 0 7 (dk_at dksX3_drifted_0 17 rfl rfl)
theorem dX3_drifted_20 : decode cX3_drifted 20 = .ok (.iload_n 1, 1) := dk_27 (dk_at dksX3_drifted_0 20 rfl rfl)
theorem dX3_drifted_21 : decode cX3_drifted 21 = .ok (.goto 4, 3) := dk_167 0 4 (dk_at dksX3_drifted_0 21 rfl rfl)
theorem dX3_drifted_24 : decode cX3_drifted 24 = .ok (.iload_n 3, 1) := dk_29 (dk_at dksX3_drifted_1 0 rfl rfl)
theorem dX3_drifted_25 : decode cX3_drifted 25 = .ok (.ireturn, 1) := dk_172 (dk_at dksX3_drifted_1 1 rfl rfl)
def dkwX3_atGate_1 : List UInt8 := [160, 0, 7, 4, 167, 0, 4, 3, 172]
abbrev dktX3_atGate_1 : List UInt8 := dkwX3_atGate_1 ++ []
def dkwX3_atGate_0 : List UInt8 := [42, 27, 182, 0, 143, 153, 0, 25, 42, 42, 27, 8, 182, 0, 76, 182, 0, 146, 42, 27, 182, 0, 120]
abbrev dktX3_atGate_0 : List UInt8 := dkwX3_atGate_0 ++ dktX3_atGate_1
theorem dksX3_atGate_0 : cX3_atGate.data.toList.drop 0 = dktX3_atGate_0 := by decide +kernel
theorem dksX3_atGate_1 : cX3_atGate.data.toList.drop 23 = dktX3_atGate_1 := dk_seg dksX3_atGate_0 23 rfl rfl
theorem dX3_atGate_0 : decode cX3_atGate 0 = .ok (.aload_n 0, 1) := dk_42 (dk_at dksX3_atGate_0 0 rfl rfl)
theorem dX3_atGate_1 : decode cX3_atGate 1 = .ok (.iload_n 1, 1) := dk_27 (dk_at dksX3_atGate_0 1 rfl rfl)
theorem dX3_atGate_2 : decode cX3_atGate 2 = .ok (.invokevirtual 143, 3) := dk_182 0 143 (dk_at dksX3_atGate_0 2 rfl rfl)
theorem dX3_atGate_5 : decode cX3_atGate 5 = .ok (.ifCond .eq 25, 3) := dk_153 0 25 (dk_at dksX3_atGate_0 5 rfl rfl)
theorem dX3_atGate_8 : decode cX3_atGate 8 = .ok (.aload_n 0, 1) := dk_42 (dk_at dksX3_atGate_0 8 rfl rfl)
theorem dX3_atGate_9 : decode cX3_atGate 9 = .ok (.aload_n 0, 1) := dk_42 (dk_at dksX3_atGate_0 9 rfl rfl)
theorem dX3_atGate_10 : decode cX3_atGate 10 = .ok (.iload_n 1, 1) := dk_27 (dk_at dksX3_atGate_0 10 rfl rfl)
theorem dX3_atGate_11 : decode cX3_atGate 11 = .ok (.iconst 5, 1) := dk_8 (dk_at dksX3_atGate_0 11 rfl rfl)
theorem dX3_atGate_12 : decode cX3_atGate 12 = .ok (.invokevirtual 76, 3) := dk_182 0 76 (dk_at dksX3_atGate_0 12 rfl rfl)
theorem dX3_atGate_15 : decode cX3_atGate 15 = .ok (.invokevirtual 146, 3) := dk_182 0 146 (dk_at dksX3_atGate_0 15 rfl rfl)
theorem dX3_atGate_18 : decode cX3_atGate 18 = .ok (.aload_n 0, 1) := dk_42 (dk_at dksX3_atGate_0 18 rfl rfl)
theorem dX3_atGate_19 : decode cX3_atGate 19 = .ok (.iload_n 1, 1) := dk_27 (dk_at dksX3_atGate_0 19 rfl rfl)
theorem dX3_atGate_20 : decode cX3_atGate 20 = .ok (.invokevirtual 120, 3) := dk_182 0 120 (dk_at dksX3_atGate_0 20 rfl rfl)
theorem dX3_atGate_23 : decode cX3_atGate 23 = .ok (.if_icmp .ne 7, 3) := dk_160 0 7 (dk_at dksX3_atGate_1 0 rfl rfl)
theorem dX3_atGate_26 : decode cX3_atGate 26 = .ok (.iconst 1, 1) := dk_4 (dk_at dksX3_atGate_1 3 rfl rfl)
theorem dX3_atGate_27 : decode cX3_atGate 27 = .ok (.goto 4, 3) := dk_167 0 4 (dk_at dksX3_atGate_1 4 rfl rfl)
theorem dX3_atGate_30 : decode cX3_atGate 30 = .ok (.iconst 0, 1) := dk_3 (dk_at dksX3_atGate_1 7 rfl rfl)
theorem dX3_atGate_31 : decode cX3_atGate 31 = .ok (.ireturn, 1) := dk_172 (dk_at dksX3_atGate_1 8 rfl rfl)
def dkwX3_hasNext_0 : List UInt8 := [42, 27, 8, 182, 0, 76, 42, 180, 0, 9, 4, 46, 162, 0, 7, 4, 167, 0, 4, 3, 172]
abbrev dktX3_hasNext_0 : List UInt8 := dkwX3_hasNext_0 ++ []
theorem dksX3_hasNext_0 : cX3_hasNext.data.toList.drop 0 = dktX3_hasNext_0 := by decide +kernel
theorem dX3_hasNext_0 : decode cX3_hasNext 0 = .ok (.aload_n 0, 1) := dk_42 (dk_at dksX3_hasNext_0 0 rfl rfl)
theorem dX3_hasNext_1 : decode cX3_hasNext 1 = .ok (.iload_n 1, 1) := dk_27 (dk_at dksX3_hasNext_0 1 rfl rfl)
theorem dX3_hasNext_2 : decode cX3_hasNext 2 = .ok (.iconst 5, 1) := dk_8 (dk_at dksX3_hasNext_0 2 rfl rfl)
theorem dX3_hasNext_3 : decode cX3_hasNext 3 = .ok (.invokevirtual 76, 3) := dk_182 0 76 (dk_at dksX3_hasNext_0 3 rfl rfl)
theorem dX3_hasNext_6 : decode cX3_hasNext 6 = .ok (.aload_n 0, 1) := dk_42 (dk_at dksX3_hasNext_0 6 rfl rfl)
theorem dX3_hasNext_7 : decode cX3_hasNext 7 = .ok (.getfield 9, 3) := dk_180 0 9 (dk_at dksX3_hasNext_0 7 rfl rfl)
theorem dX3_hasNext_10 : decode cX3_hasNext 10 = .ok (.iconst 1, 1) := dk_4 (dk_at dksX3_hasNext_0 10 rfl rfl)
theorem dX3_hasNext_11 : decode cX3_hasNext 11 = .ok (.iaload, 1) := dk_46 (dk_at dksX3_hasNext_0 11 rfl rfl)
theorem dX3_hasNext_12 : decode cX3_hasNext 12 = .ok (.if_icmp .ge 7, 3) := dk_162 0 7 (dk_at dksX3_hasNext_0 12 rfl rfl)
theorem dX3_hasNext_15 : decode cX3_hasNext 15 = .ok (.iconst 1, 1) := dk_4 (dk_at dksX3_hasNext_0 15 rfl rfl)
theorem dX3_hasNext_16 : decode cX3_hasNext 16 = .ok (.goto 4, 3) := dk_167 0 4 (dk_at dksX3_hasNext_0 16 rfl rfl)
theorem dX3_hasNext_19 : decode cX3_hasNext 19 = .ok (.iconst 0, 1) := dk_3 (dk_at dksX3_hasNext_0 19 rfl rfl)
theorem dX3_hasNext_20 : decode cX3_hasNext 20 = .ok (.ireturn, 1) := dk_172 (dk_at dksX3_hasNext_0 20 rfl rfl)
def dkwX3_gate_1 : List UInt8 := [42, 180, 0, 9, 28, 5, 96, 46, 184, 0, 73, 172]
abbrev dktX3_gate_1 : List UInt8 := dkwX3_gate_1 ++ []
def dkwX3_gate_0 : List UInt8 := [16, 67, 7, 27, 104, 96, 61, 42, 180, 0, 9, 28, 46, 42, 180, 0, 9, 28, 4, 96, 46, 184, 0, 69]
abbrev dktX3_gate_0 : List UInt8 := dkwX3_gate_0 ++ dktX3_gate_1
theorem dksX3_gate_0 : cX3_gate.data.toList.drop 0 = dktX3_gate_0 := by decide +kernel
theorem dksX3_gate_1 : cX3_gate.data.toList.drop 24 = dktX3_gate_1 := dk_seg dksX3_gate_0 24 rfl rfl
theorem dX3_gate_0 : decode cX3_gate 0 = .ok (.bipush 67, 2) := dk_16 67 (dk_at dksX3_gate_0 0 rfl rfl)
theorem dX3_gate_2 : decode cX3_gate 2 = .ok (.iconst 4, 1) := dk_7 (dk_at dksX3_gate_0 2 rfl rfl)
theorem dX3_gate_3 : decode cX3_gate 3 = .ok (.iload_n 1, 1) := dk_27 (dk_at dksX3_gate_0 3 rfl rfl)
theorem dX3_gate_4 : decode cX3_gate 4 = .ok (.imul, 1) := dk_104 (dk_at dksX3_gate_0 4 rfl rfl)
theorem dX3_gate_5 : decode cX3_gate 5 = .ok (.iadd, 1) := dk_96 (dk_at dksX3_gate_0 5 rfl rfl)
theorem dX3_gate_6 : decode cX3_gate 6 = .ok (.istore_n 2, 1) := dk_61 (dk_at dksX3_gate_0 6 rfl rfl)
theorem dX3_gate_7 : decode cX3_gate 7 = .ok (.aload_n 0, 1) := dk_42 (dk_at dksX3_gate_0 7 rfl rfl)
theorem dX3_gate_8 : decode cX3_gate 8 = .ok (.getfield 9, 3) := dk_180 0 9 (dk_at dksX3_gate_0 8 rfl rfl)
theorem dX3_gate_11 : decode cX3_gate 11 = .ok (.iload_n 2, 1) := dk_28 (dk_at dksX3_gate_0 11 rfl rfl)
theorem dX3_gate_12 : decode cX3_gate 12 = .ok (.iaload, 1) := dk_46 (dk_at dksX3_gate_0 12 rfl rfl)
theorem dX3_gate_13 : decode cX3_gate 13 = .ok (.aload_n 0, 1) := dk_42 (dk_at dksX3_gate_0 13 rfl rfl)
theorem dX3_gate_14 : decode cX3_gate 14 = .ok (.getfield 9, 3) := dk_180 0 9 (dk_at dksX3_gate_0 14 rfl rfl)
theorem dX3_gate_17 : decode cX3_gate 17 = .ok (.iload_n 2, 1) := dk_28 (dk_at dksX3_gate_0 17 rfl rfl)
theorem dX3_gate_18 : decode cX3_gate 18 = .ok (.iconst 1, 1) := dk_4 (dk_at dksX3_gate_0 18 rfl rfl)
theorem dX3_gate_19 : decode cX3_gate 19 = .ok (.iadd, 1) := dk_96 (dk_at dksX3_gate_0 19 rfl rfl)
theorem dX3_gate_20 : decode cX3_gate 20 = .ok (.iaload, 1) := dk_46 (dk_at dksX3_gate_0 20 rfl rfl)
theorem dX3_gate_21 : decode cX3_gate 21 = .ok (.invokestatic 69, 3) := dk_184 0 69 (dk_at dksX3_gate_0 21 rfl rfl)
theorem dX3_gate_24 : decode cX3_gate 24 = .ok (.aload_n 0, 1) := dk_42 (dk_at dksX3_gate_1 0 rfl rfl)
theorem dX3_gate_25 : decode cX3_gate 25 = .ok (.getfield 9, 3) := dk_180 0 9 (dk_at dksX3_gate_1 1 rfl rfl)
theorem dX3_gate_28 : decode cX3_gate 28 = .ok (.iload_n 2, 1) := dk_28 (dk_at dksX3_gate_1 4 rfl rfl)
theorem dX3_gate_29 : decode cX3_gate 29 = .ok (.iconst 2, 1) := dk_5 (dk_at dksX3_gate_1 5 rfl rfl)
theorem dX3_gate_30 : decode cX3_gate 30 = .ok (.iadd, 1) := dk_96 (dk_at dksX3_gate_1 6 rfl rfl)
theorem dX3_gate_31 : decode cX3_gate 31 = .ok (.iaload, 1) := dk_46 (dk_at dksX3_gate_1 7 rfl rfl)
theorem dX3_gate_32 : decode cX3_gate 32 = .ok (.invokestatic 73, 3) := dk_184 0 73 (dk_at dksX3_gate_1 8 rfl rfl)
theorem dX3_gate_35 : decode cX3_gate 35 = .ok (.ireturn, 1) := dk_172 (dk_at dksX3_gate_1 11 rfl rfl)
def dkwX3_rounds_4 : List UInt8 := [42, 27, 16, 8, 3, 182, 0, 86, 42, 180, 0, 9, 7, 92, 46, 4, 96, 79, 177]
abbrev dktX3_rounds_4 : List UInt8 := dkwX3_rounds_4 ++ []
def dkwX3_rounds_3 : List UInt8 := [27, 5, 182, 0, 76, 160, 0, 37, 42, 27, 16, 6, 42, 27, 16, 6, 182, 0, 76, 8, 96, 182, 0, 86]
abbrev dktX3_rounds_3 : List UInt8 := dkwX3_rounds_3 ++ dktX3_rounds_4
def dkwX3_rounds_2 : List UInt8 := [16, 10, 96, 182, 0, 86, 42, 180, 0, 9, 6, 92, 46, 4, 96, 79, 42, 27, 16, 8, 182, 0, 76, 42]
abbrev dktX3_rounds_2 : List UInt8 := dkwX3_rounds_2 ++ dktX3_rounds_3
def dkwX3_rounds_1 : List UInt8 := [8, 42, 27, 8, 182, 0, 76, 4, 96, 182, 0, 86, 42, 27, 16, 6, 42, 27, 16, 6, 182, 0, 76]
abbrev dktX3_rounds_1 : List UInt8 := dkwX3_rounds_1 ++ dktX3_rounds_2
def dkwX3_rounds_0 : List UInt8 := [42, 180, 0, 9, 16, 67, 7, 42, 27, 8, 182, 0, 76, 104, 96, 6, 96, 92, 46, 4, 96, 79, 42, 27]
abbrev dktX3_rounds_0 : List UInt8 := dkwX3_rounds_0 ++ dktX3_rounds_1
theorem dksX3_rounds_0 : cX3_rounds.data.toList.drop 0 = dktX3_rounds_0 := by decide +kernel
theorem dksX3_rounds_1 : cX3_rounds.data.toList.drop 24 = dktX3_rounds_1 := dk_seg dksX3_rounds_0 24 rfl rfl
theorem dksX3_rounds_2 : cX3_rounds.data.toList.drop 47 = dktX3_rounds_2 := dk_seg dksX3_rounds_1 23 rfl rfl
theorem dksX3_rounds_3 : cX3_rounds.data.toList.drop 71 = dktX3_rounds_3 := dk_seg dksX3_rounds_2 24 rfl rfl
theorem dksX3_rounds_4 : cX3_rounds.data.toList.drop 95 = dktX3_rounds_4 := dk_seg dksX3_rounds_3 24 rfl rfl
theorem dX3_rounds_0 : decode cX3_rounds 0 = .ok (.aload_n 0, 1) := dk_42 (dk_at dksX3_rounds_0 0 rfl rfl)
theorem dX3_rounds_1 : decode cX3_rounds 1 = .ok (.getfield 9, 3) := dk_180 0 9 (dk_at dksX3_rounds_0 1 rfl rfl)
theorem dX3_rounds_4 : decode cX3_rounds 4 = .ok (.bipush 67, 2) := dk_16 67 (dk_at dksX3_rounds_0 4 rfl rfl)
theorem dX3_rounds_6 : decode cX3_rounds 6 = .ok (.iconst 4, 1) := dk_7 (dk_at dksX3_rounds_0 6 rfl rfl)
theorem dX3_rounds_7 : decode cX3_rounds 7 = .ok (.aload_n 0, 1) := dk_42 (dk_at dksX3_rounds_0 7 rfl rfl)
theorem dX3_rounds_8 : decode cX3_rounds 8 = .ok (.iload_n 1, 1) := dk_27 (dk_at dksX3_rounds_0 8 rfl rfl)
theorem dX3_rounds_9 : decode cX3_rounds 9 = .ok (.iconst 5, 1) := dk_8 (dk_at dksX3_rounds_0 9 rfl rfl)
theorem dX3_rounds_10 : decode cX3_rounds 10 = .ok (.invokevirtual 76, 3) := dk_182 0 76 (dk_at dksX3_rounds_0 10 rfl rfl)
theorem dX3_rounds_13 : decode cX3_rounds 13 = .ok (.imul, 1) := dk_104 (dk_at dksX3_rounds_0 13 rfl rfl)
theorem dX3_rounds_14 : decode cX3_rounds 14 = .ok (.iadd, 1) := dk_96 (dk_at dksX3_rounds_0 14 rfl rfl)
theorem dX3_rounds_15 : decode cX3_rounds 15 = .ok (.iconst 3, 1) := dk_6 (dk_at dksX3_rounds_0 15 rfl rfl)
theorem dX3_rounds_16 : decode cX3_rounds 16 = .ok (.iadd, 1) := dk_96 (dk_at dksX3_rounds_0 16 rfl rfl)
theorem dX3_rounds_17 : decode cX3_rounds 17 = .ok (.dup2, 1) := dk_92 (dk_at dksX3_rounds_0 17 rfl rfl)
theorem dX3_rounds_18 : decode cX3_rounds 18 = .ok (.iaload, 1) := dk_46 (dk_at dksX3_rounds_0 18 rfl rfl)
theorem dX3_rounds_19 : decode cX3_rounds 19 = .ok (.iconst 1, 1) := dk_4 (dk_at dksX3_rounds_0 19 rfl rfl)
theorem dX3_rounds_20 : decode cX3_rounds 20 = .ok (.iadd, 1) := dk_96 (dk_at dksX3_rounds_0 20 rfl rfl)
theorem dX3_rounds_21 : decode cX3_rounds 21 = .ok (.iastore, 1) := dk_79 (dk_at dksX3_rounds_0 21 rfl rfl)
theorem dX3_rounds_22 : decode cX3_rounds 22 = .ok (.aload_n 0, 1) := dk_42 (dk_at dksX3_rounds_0 22 rfl rfl)
theorem dX3_rounds_23 : decode cX3_rounds 23 = .ok (.iload_n 1, 1) := dk_27 (dk_at dksX3_rounds_0 23 rfl rfl)
theorem dX3_rounds_24 : decode cX3_rounds 24 = .ok (.iconst 5, 1) := dk_8 (dk_at dksX3_rounds_1 0 rfl rfl)
theorem dX3_rounds_25 : decode cX3_rounds 25 = .ok (.aload_n 0, 1) := dk_42 (dk_at dksX3_rounds_1 1 rfl rfl)
theorem dX3_rounds_26 : decode cX3_rounds 26 = .ok (.iload_n 1, 1) := dk_27 (dk_at dksX3_rounds_1 2 rfl rfl)
theorem dX3_rounds_27 : decode cX3_rounds 27 = .ok (.iconst 5, 1) := dk_8 (dk_at dksX3_rounds_1 3 rfl rfl)
theorem dX3_rounds_28 : decode cX3_rounds 28 = .ok (.invokevirtual 76, 3) := dk_182 0 76 (dk_at dksX3_rounds_1 4 rfl rfl)
theorem dX3_rounds_31 : decode cX3_rounds 31 = .ok (.iconst 1, 1) := dk_4 (dk_at dksX3_rounds_1 7 rfl rfl)
theorem dX3_rounds_32 : decode cX3_rounds 32 = .ok (.iadd, 1) := dk_96 (dk_at dksX3_rounds_1 8 rfl rfl)
theorem dX3_rounds_33 : decode cX3_rounds 33 = .ok (.invokevirtual 86, 3) := dk_182 0 86 (dk_at dksX3_rounds_1 9 rfl rfl)
theorem dX3_rounds_36 : decode cX3_rounds 36 = .ok (.aload_n 0, 1) := dk_42 (dk_at dksX3_rounds_1 12 rfl rfl)
theorem dX3_rounds_37 : decode cX3_rounds 37 = .ok (.iload_n 1, 1) := dk_27 (dk_at dksX3_rounds_1 13 rfl rfl)
theorem dX3_rounds_38 : decode cX3_rounds 38 = .ok (.bipush 6, 2) := dk_16 6 (dk_at dksX3_rounds_1 14 rfl rfl)
theorem dX3_rounds_40 : decode cX3_rounds 40 = .ok (.aload_n 0, 1) := dk_42 (dk_at dksX3_rounds_1 16 rfl rfl)
theorem dX3_rounds_41 : decode cX3_rounds 41 = .ok (.iload_n 1, 1) := dk_27 (dk_at dksX3_rounds_1 17 rfl rfl)
theorem dX3_rounds_42 : decode cX3_rounds 42 = .ok (.bipush 6, 2) := dk_16 6 (dk_at dksX3_rounds_1 18 rfl rfl)
theorem dX3_rounds_44 : decode cX3_rounds 44 = .ok (.invokevirtual 76, 3) := dk_182 0 76 (dk_at dksX3_rounds_1 20 rfl rfl)
theorem dX3_rounds_47 : decode cX3_rounds 47 = .ok (.bipush 10, 2) := dk_16 10 (dk_at dksX3_rounds_2 0 rfl rfl)
theorem dX3_rounds_49 : decode cX3_rounds 49 = .ok (.iadd, 1) := dk_96 (dk_at dksX3_rounds_2 2 rfl rfl)
theorem dX3_rounds_50 : decode cX3_rounds 50 = .ok (.invokevirtual 86, 3) := dk_182 0 86 (dk_at dksX3_rounds_2 3 rfl rfl)
theorem dX3_rounds_53 : decode cX3_rounds 53 = .ok (.aload_n 0, 1) := dk_42 (dk_at dksX3_rounds_2 6 rfl rfl)
theorem dX3_rounds_54 : decode cX3_rounds 54 = .ok (.getfield 9, 3) := dk_180 0 9 (dk_at dksX3_rounds_2 7 rfl rfl)
theorem dX3_rounds_57 : decode cX3_rounds 57 = .ok (.iconst 3, 1) := dk_6 (dk_at dksX3_rounds_2 10 rfl rfl)
theorem dX3_rounds_58 : decode cX3_rounds 58 = .ok (.dup2, 1) := dk_92 (dk_at dksX3_rounds_2 11 rfl rfl)
theorem dX3_rounds_59 : decode cX3_rounds 59 = .ok (.iaload, 1) := dk_46 (dk_at dksX3_rounds_2 12 rfl rfl)
theorem dX3_rounds_60 : decode cX3_rounds 60 = .ok (.iconst 1, 1) := dk_4 (dk_at dksX3_rounds_2 13 rfl rfl)
theorem dX3_rounds_61 : decode cX3_rounds 61 = .ok (.iadd, 1) := dk_96 (dk_at dksX3_rounds_2 14 rfl rfl)
theorem dX3_rounds_62 : decode cX3_rounds 62 = .ok (.iastore, 1) := dk_79 (dk_at dksX3_rounds_2 15 rfl rfl)
theorem dX3_rounds_63 : decode cX3_rounds 63 = .ok (.aload_n 0, 1) := dk_42 (dk_at dksX3_rounds_2 16 rfl rfl)
theorem dX3_rounds_64 : decode cX3_rounds 64 = .ok (.iload_n 1, 1) := dk_27 (dk_at dksX3_rounds_2 17 rfl rfl)
theorem dX3_rounds_65 : decode cX3_rounds 65 = .ok (.bipush 8, 2) := dk_16 8 (dk_at dksX3_rounds_2 18 rfl rfl)
theorem dX3_rounds_67 : decode cX3_rounds 67 = .ok (.invokevirtual 76, 3) := dk_182 0 76 (dk_at dksX3_rounds_2 20 rfl rfl)
theorem dX3_rounds_70 : decode cX3_rounds 70 = .ok (.aload_n 0, 1) := dk_42 (dk_at dksX3_rounds_2 23 rfl rfl)
theorem dX3_rounds_71 : decode cX3_rounds 71 = .ok (.iload_n 1, 1) := dk_27 (dk_at dksX3_rounds_3 0 rfl rfl)
theorem dX3_rounds_72 : decode cX3_rounds 72 = .ok (.iconst 2, 1) := dk_5 (dk_at dksX3_rounds_3 1 rfl rfl)
theorem dX3_rounds_73 : decode cX3_rounds 73 = .ok (.invokevirtual 76, 3) := dk_182 0 76 (dk_at dksX3_rounds_3 2 rfl rfl)
theorem dX3_rounds_76 : decode cX3_rounds 76 = .ok (.if_icmp .ne 37, 3) := dk_160 0 37 (dk_at dksX3_rounds_3 5 rfl rfl)
theorem dX3_rounds_79 : decode cX3_rounds 79 = .ok (.aload_n 0, 1) := dk_42 (dk_at dksX3_rounds_3 8 rfl rfl)
theorem dX3_rounds_80 : decode cX3_rounds 80 = .ok (.iload_n 1, 1) := dk_27 (dk_at dksX3_rounds_3 9 rfl rfl)
theorem dX3_rounds_81 : decode cX3_rounds 81 = .ok (.bipush 6, 2) := dk_16 6 (dk_at dksX3_rounds_3 10 rfl rfl)
theorem dX3_rounds_83 : decode cX3_rounds 83 = .ok (.aload_n 0, 1) := dk_42 (dk_at dksX3_rounds_3 12 rfl rfl)
theorem dX3_rounds_84 : decode cX3_rounds 84 = .ok (.iload_n 1, 1) := dk_27 (dk_at dksX3_rounds_3 13 rfl rfl)
theorem dX3_rounds_85 : decode cX3_rounds 85 = .ok (.bipush 6, 2) := dk_16 6 (dk_at dksX3_rounds_3 14 rfl rfl)
theorem dX3_rounds_87 : decode cX3_rounds 87 = .ok (.invokevirtual 76, 3) := dk_182 0 76 (dk_at dksX3_rounds_3 16 rfl rfl)
theorem dX3_rounds_90 : decode cX3_rounds 90 = .ok (.iconst 5, 1) := dk_8 (dk_at dksX3_rounds_3 19 rfl rfl)
theorem dX3_rounds_91 : decode cX3_rounds 91 = .ok (.iadd, 1) := dk_96 (dk_at dksX3_rounds_3 20 rfl rfl)
theorem dX3_rounds_92 : decode cX3_rounds 92 = .ok (.invokevirtual 86, 3) := dk_182 0 86 (dk_at dksX3_rounds_3 21 rfl rfl)
theorem dX3_rounds_95 : decode cX3_rounds 95 = .ok (.aload_n 0, 1) := dk_42 (dk_at dksX3_rounds_4 0 rfl rfl)
theorem dX3_rounds_96 : decode cX3_rounds 96 = .ok (.iload_n 1, 1) := dk_27 (dk_at dksX3_rounds_4 1 rfl rfl)
theorem dX3_rounds_97 : decode cX3_rounds 97 = .ok (.bipush 8, 2) := dk_16 8 (dk_at dksX3_rounds_4 2 rfl rfl)
theorem dX3_rounds_99 : decode cX3_rounds 99 = .ok (.iconst 0, 1) := dk_3 (dk_at dksX3_rounds_4 4 rfl rfl)
theorem dX3_rounds_100 : decode cX3_rounds 100 = .ok (.invokevirtual 86, 3) := dk_182 0 86 (dk_at dksX3_rounds_4 5 rfl rfl)
theorem dX3_rounds_103 : decode cX3_rounds 103 = .ok (.aload_n 0, 1) := dk_42 (dk_at dksX3_rounds_4 8 rfl rfl)
theorem dX3_rounds_104 : decode cX3_rounds 104 = .ok (.getfield 9, 3) := dk_180 0 9 (dk_at dksX3_rounds_4 9 rfl rfl)
theorem dX3_rounds_107 : decode cX3_rounds 107 = .ok (.iconst 4, 1) := dk_7 (dk_at dksX3_rounds_4 12 rfl rfl)
theorem dX3_rounds_108 : decode cX3_rounds 108 = .ok (.dup2, 1) := dk_92 (dk_at dksX3_rounds_4 13 rfl rfl)
theorem dX3_rounds_109 : decode cX3_rounds 109 = .ok (.iaload, 1) := dk_46 (dk_at dksX3_rounds_4 14 rfl rfl)
theorem dX3_rounds_110 : decode cX3_rounds 110 = .ok (.iconst 1, 1) := dk_4 (dk_at dksX3_rounds_4 15 rfl rfl)
theorem dX3_rounds_111 : decode cX3_rounds 111 = .ok (.iadd, 1) := dk_96 (dk_at dksX3_rounds_4 16 rfl rfl)
theorem dX3_rounds_112 : decode cX3_rounds 112 = .ok (.iastore, 1) := dk_79 (dk_at dksX3_rounds_4 17 rfl rfl)
theorem dX3_rounds_113 : decode cX3_rounds 113 = .ok (.return_, 1) := dk_177 (dk_at dksX3_rounds_4 18 rfl rfl)
def dkwX3_retire_0 : List UInt8 := [42, 182, 0, 90, 42, 42, 27, 182, 0, 168, 182, 0, 96, 172]
abbrev dktX3_retire_0 : List UInt8 := dkwX3_retire_0 ++ []
theorem dksX3_retire_0 : cX3_retire.data.toList.drop 0 = dktX3_retire_0 := by decide +kernel
theorem dX3_retire_0 : decode cX3_retire 0 = .ok (.aload_n 0, 1) := dk_42 (dk_at dksX3_retire_0 0 rfl rfl)
theorem dX3_retire_1 : decode cX3_retire 1 = .ok (.invokevirtual 90, 3) := dk_182 0 90 (dk_at dksX3_retire_0 1 rfl rfl)
theorem dX3_retire_4 : decode cX3_retire 4 = .ok (.aload_n 0, 1) := dk_42 (dk_at dksX3_retire_0 4 rfl rfl)
theorem dX3_retire_5 : decode cX3_retire 5 = .ok (.aload_n 0, 1) := dk_42 (dk_at dksX3_retire_0 5 rfl rfl)
theorem dX3_retire_6 : decode cX3_retire 6 = .ok (.iload_n 1, 1) := dk_27 (dk_at dksX3_retire_0 6 rfl rfl)
theorem dX3_retire_7 : decode cX3_retire 7 = .ok (.invokevirtual 168, 3) := dk_182 0 168 (dk_at dksX3_retire_0 7 rfl rfl)
theorem dX3_retire_10 : decode cX3_retire 10 = .ok (.invokevirtual 96, 3) := dk_182 0 96 (dk_at dksX3_retire_0 10 rfl rfl)
theorem dX3_retire_13 : decode cX3_retire 13 = .ok (.ireturn, 1) := dk_172 (dk_at dksX3_retire_0 13 rfl rfl)
def dkwX3_doRetire_2 : List UInt8 := [27, 100, 104, 184, 0, 52, 42, 180, 0, 9, 3, 28, 79, 28, 172]
abbrev dktX3_doRetire_2 : List UInt8 := dkwX3_doRetire_2 ++ []
def dkwX3_doRetire_1 : List UInt8 := [16, 13, 16, 9, 27, 104, 96, 62, 42, 180, 0, 9, 29, 16, 9, 96, 42, 180, 0, 9, 29, 16, 9, 28]
abbrev dktX3_doRetire_1 : List UInt8 := dkwX3_doRetire_1 ++ dktX3_doRetire_2
def dkwX3_doRetire_0 : List UInt8 := [42, 27, 182, 0, 113, 154, 0, 10, 42, 8, 27, 182, 0, 83, 172, 42, 180, 0, 9, 3, 46, 4, 100, 61]
abbrev dktX3_doRetire_0 : List UInt8 := dkwX3_doRetire_0 ++ dktX3_doRetire_1
theorem dksX3_doRetire_0 : cX3_doRetire.data.toList.drop 0 = dktX3_doRetire_0 := by decide +kernel
theorem dksX3_doRetire_1 : cX3_doRetire.data.toList.drop 24 = dktX3_doRetire_1 := dk_seg dksX3_doRetire_0 24 rfl rfl
theorem dksX3_doRetire_2 : cX3_doRetire.data.toList.drop 48 = dktX3_doRetire_2 := dk_seg dksX3_doRetire_1 24 rfl rfl
theorem dX3_doRetire_0 : decode cX3_doRetire 0 = .ok (.aload_n 0, 1) := dk_42 (dk_at dksX3_doRetire_0 0 rfl rfl)
theorem dX3_doRetire_1 : decode cX3_doRetire 1 = .ok (.iload_n 1, 1) := dk_27 (dk_at dksX3_doRetire_0 1 rfl rfl)
theorem dX3_doRetire_2 : decode cX3_doRetire 2 = .ok (.invokevirtual 113, 3) := dk_182 0 113 (dk_at dksX3_doRetire_0 2 rfl rfl)
theorem dX3_doRetire_5 : decode cX3_doRetire 5 = .ok (.ifCond .ne 10, 3) := dk_154 0 10 (dk_at dksX3_doRetire_0 5 rfl rfl)
theorem dX3_doRetire_8 : decode cX3_doRetire 8 = .ok (.aload_n 0, 1) := dk_42 (dk_at dksX3_doRetire_0 8 rfl rfl)
theorem dX3_doRetire_9 : decode cX3_doRetire 9 = .ok (.iconst 5, 1) := dk_8 (dk_at dksX3_doRetire_0 9 rfl rfl)
theorem dX3_doRetire_10 : decode cX3_doRetire 10 = .ok (.iload_n 1, 1) := dk_27 (dk_at dksX3_doRetire_0 10 rfl rfl)
theorem dX3_doRetire_11 : decode cX3_doRetire 11 = .ok (.invokevirtual 83, 3) := dk_182 0 83 (dk_at dksX3_doRetire_0 11 rfl rfl)
theorem dX3_doRetire_14 : decode cX3_doRetire 14 = .ok (.ireturn, 1) := dk_172 (dk_at dksX3_doRetire_0 14 rfl rfl)
theorem dX3_doRetire_15 : decode cX3_doRetire 15 = .ok (.aload_n 0, 1) := dk_42 (dk_at dksX3_doRetire_0 15 rfl rfl)
theorem dX3_doRetire_16 : decode cX3_doRetire 16 = .ok (.getfield 9, 3) := dk_180 0 9 (dk_at dksX3_doRetire_0 16 rfl rfl)
theorem dX3_doRetire_19 : decode cX3_doRetire 19 = .ok (.iconst 0, 1) := dk_3 (dk_at dksX3_doRetire_0 19 rfl rfl)
theorem dX3_doRetire_20 : decode cX3_doRetire 20 = .ok (.iaload, 1) := dk_46 (dk_at dksX3_doRetire_0 20 rfl rfl)
theorem dX3_doRetire_21 : decode cX3_doRetire 21 = .ok (.iconst 1, 1) := dk_4 (dk_at dksX3_doRetire_0 21 rfl rfl)
theorem dX3_doRetire_22 : decode cX3_doRetire 22 = .ok (.isub, 1) := dk_100 (dk_at dksX3_doRetire_0 22 rfl rfl)
theorem dX3_doRetire_23 : decode cX3_doRetire 23 = .ok (.istore_n 2, 1) := dk_61 (dk_at dksX3_doRetire_0 23 rfl rfl)
theorem dX3_doRetire_24 : decode cX3_doRetire 24 = .ok (.bipush 13, 2) := dk_16 13 (dk_at dksX3_doRetire_1 0 rfl rfl)
theorem dX3_doRetire_26 : decode cX3_doRetire 26 = .ok (.bipush 9, 2) := dk_16 9 (dk_at dksX3_doRetire_1 2 rfl rfl)
theorem dX3_doRetire_28 : decode cX3_doRetire 28 = .ok (.iload_n 1, 1) := dk_27 (dk_at dksX3_doRetire_1 4 rfl rfl)
theorem dX3_doRetire_29 : decode cX3_doRetire 29 = .ok (.imul, 1) := dk_104 (dk_at dksX3_doRetire_1 5 rfl rfl)
theorem dX3_doRetire_30 : decode cX3_doRetire 30 = .ok (.iadd, 1) := dk_96 (dk_at dksX3_doRetire_1 6 rfl rfl)
theorem dX3_doRetire_31 : decode cX3_doRetire 31 = .ok (.istore_n 3, 1) := dk_62 (dk_at dksX3_doRetire_1 7 rfl rfl)
theorem dX3_doRetire_32 : decode cX3_doRetire 32 = .ok (.aload_n 0, 1) := dk_42 (dk_at dksX3_doRetire_1 8 rfl rfl)
theorem dX3_doRetire_33 : decode cX3_doRetire 33 = .ok (.getfield 9, 3) := dk_180 0 9 (dk_at dksX3_doRetire_1 9 rfl rfl)
theorem dX3_doRetire_36 : decode cX3_doRetire 36 = .ok (.iload_n 3, 1) := dk_29 (dk_at dksX3_doRetire_1 12 rfl rfl)
theorem dX3_doRetire_37 : decode cX3_doRetire 37 = .ok (.bipush 9, 2) := dk_16 9 (dk_at dksX3_doRetire_1 13 rfl rfl)
theorem dX3_doRetire_39 : decode cX3_doRetire 39 = .ok (.iadd, 1) := dk_96 (dk_at dksX3_doRetire_1 15 rfl rfl)
theorem dX3_doRetire_40 : decode cX3_doRetire 40 = .ok (.aload_n 0, 1) := dk_42 (dk_at dksX3_doRetire_1 16 rfl rfl)
theorem dX3_doRetire_41 : decode cX3_doRetire 41 = .ok (.getfield 9, 3) := dk_180 0 9 (dk_at dksX3_doRetire_1 17 rfl rfl)
theorem dX3_doRetire_44 : decode cX3_doRetire 44 = .ok (.iload_n 3, 1) := dk_29 (dk_at dksX3_doRetire_1 20 rfl rfl)
theorem dX3_doRetire_45 : decode cX3_doRetire 45 = .ok (.bipush 9, 2) := dk_16 9 (dk_at dksX3_doRetire_1 21 rfl rfl)
theorem dX3_doRetire_47 : decode cX3_doRetire 47 = .ok (.iload_n 2, 1) := dk_28 (dk_at dksX3_doRetire_1 23 rfl rfl)
theorem dX3_doRetire_48 : decode cX3_doRetire 48 = .ok (.iload_n 1, 1) := dk_27 (dk_at dksX3_doRetire_2 0 rfl rfl)
theorem dX3_doRetire_49 : decode cX3_doRetire 49 = .ok (.isub, 1) := dk_100 (dk_at dksX3_doRetire_2 1 rfl rfl)
theorem dX3_doRetire_50 : decode cX3_doRetire 50 = .ok (.imul, 1) := dk_104 (dk_at dksX3_doRetire_2 2 rfl rfl)
theorem dX3_doRetire_51 : decode cX3_doRetire 51 = .ok (.invokestatic 52, 3) := dk_184 0 52 (dk_at dksX3_doRetire_2 3 rfl rfl)
theorem dX3_doRetire_54 : decode cX3_doRetire 54 = .ok (.aload_n 0, 1) := dk_42 (dk_at dksX3_doRetire_2 6 rfl rfl)
theorem dX3_doRetire_55 : decode cX3_doRetire 55 = .ok (.getfield 9, 3) := dk_180 0 9 (dk_at dksX3_doRetire_2 7 rfl rfl)
theorem dX3_doRetire_58 : decode cX3_doRetire 58 = .ok (.iconst 0, 1) := dk_3 (dk_at dksX3_doRetire_2 10 rfl rfl)
theorem dX3_doRetire_59 : decode cX3_doRetire 59 = .ok (.iload_n 2, 1) := dk_28 (dk_at dksX3_doRetire_2 11 rfl rfl)
theorem dX3_doRetire_60 : decode cX3_doRetire 60 = .ok (.iastore, 1) := dk_79 (dk_at dksX3_doRetire_2 12 rfl rfl)
theorem dX3_doRetire_61 : decode cX3_doRetire 61 = .ok (.iload_n 2, 1) := dk_28 (dk_at dksX3_doRetire_2 13 rfl rfl)
theorem dX3_doRetire_62 : decode cX3_doRetire 62 = .ok (.ireturn, 1) := dk_172 (dk_at dksX3_doRetire_2 14 rfl rfl)
def dkwX3_balloonOf_2 : List UInt8 := [172]
abbrev dktX3_balloonOf_2 : List UInt8 := dkwX3_balloonOf_2 ++ []
def dkwX3_balloonOf_1 : List UInt8 := [167, 0, 4, 3, 181, 0, 49, 42, 180, 0, 49, 158, 0, 7, 3, 167, 0, 9, 42, 27, 28, 182, 0, 76]
abbrev dktX3_balloonOf_1 : List UInt8 := dkwX3_balloonOf_1 ++ dktX3_balloonOf_2
def dkwX3_balloonOf_0 : List UInt8 := [42, 42, 27, 182, 0, 113, 154, 0, 7, 4, 167, 0, 18, 28, 3, 16, 8, 184, 0, 61, 154, 0, 7, 5]
abbrev dktX3_balloonOf_0 : List UInt8 := dkwX3_balloonOf_0 ++ dktX3_balloonOf_1
theorem dksX3_balloonOf_0 : cX3_balloonOf.data.toList.drop 0 = dktX3_balloonOf_0 := by decide +kernel
theorem dksX3_balloonOf_1 : cX3_balloonOf.data.toList.drop 24 = dktX3_balloonOf_1 := dk_seg dksX3_balloonOf_0 24 rfl rfl
theorem dksX3_balloonOf_2 : cX3_balloonOf.data.toList.drop 48 = dktX3_balloonOf_2 := dk_seg dksX3_balloonOf_1 24 rfl rfl
theorem dX3_balloonOf_0 : decode cX3_balloonOf 0 = .ok (.aload_n 0, 1) := dk_42 (dk_at dksX3_balloonOf_0 0 rfl rfl)
theorem dX3_balloonOf_1 : decode cX3_balloonOf 1 = .ok (.aload_n 0, 1) := dk_42 (dk_at dksX3_balloonOf_0 1 rfl rfl)
theorem dX3_balloonOf_2 : decode cX3_balloonOf 2 = .ok (.iload_n 1, 1) := dk_27 (dk_at dksX3_balloonOf_0 2 rfl rfl)
theorem dX3_balloonOf_3 : decode cX3_balloonOf 3 = .ok (.invokevirtual 113, 3) := dk_182 0 113 (dk_at dksX3_balloonOf_0 3 rfl rfl)
theorem dX3_balloonOf_6 : decode cX3_balloonOf 6 = .ok (.ifCond .ne 7, 3) := dk_154 0 7 (dk_at dksX3_balloonOf_0 6 rfl rfl)
theorem dX3_balloonOf_9 : decode cX3_balloonOf 9 = .ok (.iconst 1, 1) := dk_4 (dk_at dksX3_balloonOf_0 9 rfl rfl)
theorem dX3_balloonOf_10 : decode cX3_balloonOf 10 = .ok (.goto 18, 3) := dk_167 0 18 (dk_at dksX3_balloonOf_0 10 rfl rfl)
theorem dX3_balloonOf_13 : decode cX3_balloonOf 13 = .ok (.iload_n 2, 1) := dk_28 (dk_at dksX3_balloonOf_0 13 rfl rfl)
theorem dX3_balloonOf_14 : decode cX3_balloonOf 14 = .ok (.iconst 0, 1) := dk_3 (dk_at dksX3_balloonOf_0 14 rfl rfl)
theorem dX3_balloonOf_15 : decode cX3_balloonOf 15 = .ok (.bipush 8, 2) := dk_16 8 (dk_at dksX3_balloonOf_0 15 rfl rfl)
theorem dX3_balloonOf_17 : decode cX3_balloonOf 17 = .ok (.invokestatic 61, 3) := dk_184 0 61 (dk_at dksX3_balloonOf_0 17 rfl rfl)
theorem dX3_balloonOf_20 : decode cX3_balloonOf 20 = .ok (.ifCond .ne 7, 3) := dk_154 0 7 (dk_at dksX3_balloonOf_0 20 rfl rfl)
theorem dX3_balloonOf_23 : decode cX3_balloonOf 23 = .ok (.iconst 2, 1) := dk_5 (dk_at dksX3_balloonOf_0 23 rfl rfl)
theorem dX3_balloonOf_24 : decode cX3_balloonOf 24 = .ok (.goto 4, 3) := dk_167 0 4 (dk_at dksX3_balloonOf_1 0 rfl rfl)
theorem dX3_balloonOf_27 : decode cX3_balloonOf 27 = .ok (.iconst 0, 1) := dk_3 (dk_at dksX3_balloonOf_1 3 rfl rfl)
theorem dX3_balloonOf_28 : decode cX3_balloonOf 28 = .ok (.putfield 49, 3) := dk_181 0 49 (dk_at dksX3_balloonOf_1 4 rfl rfl)
theorem dX3_balloonOf_31 : decode cX3_balloonOf 31 = .ok (.aload_n 0, 1) := dk_42 (dk_at dksX3_balloonOf_1 7 rfl rfl)
theorem dX3_balloonOf_32 : decode cX3_balloonOf 32 = .ok (.getfield 49, 3) := dk_180 0 49 (dk_at dksX3_balloonOf_1 8 rfl rfl)
theorem dX3_balloonOf_35 : decode cX3_balloonOf 35 = .ok (.ifCond .le 7, 3) := dk_158 0 7 (dk_at dksX3_balloonOf_1 11 rfl rfl)
theorem dX3_balloonOf_38 : decode cX3_balloonOf 38 = .ok (.iconst 0, 1) := dk_3 (dk_at dksX3_balloonOf_1 14 rfl rfl)
theorem dX3_balloonOf_39 : decode cX3_balloonOf 39 = .ok (.goto 9, 3) := dk_167 0 9 (dk_at dksX3_balloonOf_1 15 rfl rfl)
theorem dX3_balloonOf_42 : decode cX3_balloonOf 42 = .ok (.aload_n 0, 1) := dk_42 (dk_at dksX3_balloonOf_1 18 rfl rfl)
theorem dX3_balloonOf_43 : decode cX3_balloonOf 43 = .ok (.iload_n 1, 1) := dk_27 (dk_at dksX3_balloonOf_1 19 rfl rfl)
theorem dX3_balloonOf_44 : decode cX3_balloonOf 44 = .ok (.iload_n 2, 1) := dk_28 (dk_at dksX3_balloonOf_1 20 rfl rfl)
theorem dX3_balloonOf_45 : decode cX3_balloonOf 45 = .ok (.invokevirtual 76, 3) := dk_182 0 76 (dk_at dksX3_balloonOf_1 21 rfl rfl)
theorem dX3_balloonOf_48 : decode cX3_balloonOf 48 = .ok (.ireturn, 1) := dk_172 (dk_at dksX3_balloonOf_2 0 rfl rfl)
def dkwX3_spireOf_3 : List UInt8 := [160, 0, 7, 6, 167, 0, 4, 28, 96, 46, 172]
abbrev dktX3_spireOf_3 : List UInt8 := dkwX3_spireOf_3 ++ []
def dkwX3_spireOf_2 : List UInt8 := [6, 160, 0, 11, 42, 27, 182, 0, 146, 167, 0, 25, 42, 180, 0, 9, 16, 67, 7, 27, 104, 96, 28, 7]
abbrev dktX3_spireOf_2 : List UInt8 := dkwX3_spireOf_2 ++ dktX3_spireOf_3
def dkwX3_spireOf_1 : List UInt8 := [184, 0, 61, 154, 0, 7, 5, 167, 0, 4, 3, 181, 0, 49, 42, 180, 0, 49, 158, 0, 5, 3, 172, 28]
abbrev dktX3_spireOf_1 : List UInt8 := dkwX3_spireOf_1 ++ dktX3_spireOf_2
def dkwX3_spireOf_0 : List UInt8 := [42, 27, 3, 42, 180, 0, 9, 4, 46, 4, 100, 184, 0, 61, 154, 0, 7, 4, 167, 0, 17, 28, 3, 7]
abbrev dktX3_spireOf_0 : List UInt8 := dkwX3_spireOf_0 ++ dktX3_spireOf_1
theorem dksX3_spireOf_0 : cX3_spireOf.data.toList.drop 0 = dktX3_spireOf_0 := by decide +kernel
theorem dksX3_spireOf_1 : cX3_spireOf.data.toList.drop 24 = dktX3_spireOf_1 := dk_seg dksX3_spireOf_0 24 rfl rfl
theorem dksX3_spireOf_2 : cX3_spireOf.data.toList.drop 48 = dktX3_spireOf_2 := dk_seg dksX3_spireOf_1 24 rfl rfl
theorem dksX3_spireOf_3 : cX3_spireOf.data.toList.drop 72 = dktX3_spireOf_3 := dk_seg dksX3_spireOf_2 24 rfl rfl
theorem dX3_spireOf_0 : decode cX3_spireOf 0 = .ok (.aload_n 0, 1) := dk_42 (dk_at dksX3_spireOf_0 0 rfl rfl)
theorem dX3_spireOf_1 : decode cX3_spireOf 1 = .ok (.iload_n 1, 1) := dk_27 (dk_at dksX3_spireOf_0 1 rfl rfl)
theorem dX3_spireOf_2 : decode cX3_spireOf 2 = .ok (.iconst 0, 1) := dk_3 (dk_at dksX3_spireOf_0 2 rfl rfl)
theorem dX3_spireOf_3 : decode cX3_spireOf 3 = .ok (.aload_n 0, 1) := dk_42 (dk_at dksX3_spireOf_0 3 rfl rfl)
theorem dX3_spireOf_4 : decode cX3_spireOf 4 = .ok (.getfield 9, 3) := dk_180 0 9 (dk_at dksX3_spireOf_0 4 rfl rfl)
theorem dX3_spireOf_7 : decode cX3_spireOf 7 = .ok (.iconst 1, 1) := dk_4 (dk_at dksX3_spireOf_0 7 rfl rfl)
theorem dX3_spireOf_8 : decode cX3_spireOf 8 = .ok (.iaload, 1) := dk_46 (dk_at dksX3_spireOf_0 8 rfl rfl)
theorem dX3_spireOf_9 : decode cX3_spireOf 9 = .ok (.iconst 1, 1) := dk_4 (dk_at dksX3_spireOf_0 9 rfl rfl)
theorem dX3_spireOf_10 : decode cX3_spireOf 10 = .ok (.isub, 1) := dk_100 (dk_at dksX3_spireOf_0 10 rfl rfl)
theorem dX3_spireOf_11 : decode cX3_spireOf 11 = .ok (.invokestatic 61, 3) := dk_184 0 61 (dk_at dksX3_spireOf_0 11 rfl rfl)
theorem dX3_spireOf_14 : decode cX3_spireOf 14 = .ok (.ifCond .ne 7, 3) := dk_154 0 7 (dk_at dksX3_spireOf_0 14 rfl rfl)
theorem dX3_spireOf_17 : decode cX3_spireOf 17 = .ok (.iconst 1, 1) := dk_4 (dk_at dksX3_spireOf_0 17 rfl rfl)
theorem dX3_spireOf_18 : decode cX3_spireOf 18 = .ok (.goto 17, 3) := dk_167 0 17 (dk_at dksX3_spireOf_0 18 rfl rfl)
theorem dX3_spireOf_21 : decode cX3_spireOf 21 = .ok (.iload_n 2, 1) := dk_28 (dk_at dksX3_spireOf_0 21 rfl rfl)
theorem dX3_spireOf_22 : decode cX3_spireOf 22 = .ok (.iconst 0, 1) := dk_3 (dk_at dksX3_spireOf_0 22 rfl rfl)
theorem dX3_spireOf_23 : decode cX3_spireOf 23 = .ok (.iconst 4, 1) := dk_7 (dk_at dksX3_spireOf_0 23 rfl rfl)
theorem dX3_spireOf_24 : decode cX3_spireOf 24 = .ok (.invokestatic 61, 3) := dk_184 0 61 (dk_at dksX3_spireOf_1 0 rfl rfl)
theorem dX3_spireOf_27 : decode cX3_spireOf 27 = .ok (.ifCond .ne 7, 3) := dk_154 0 7 (dk_at dksX3_spireOf_1 3 rfl rfl)
theorem dX3_spireOf_30 : decode cX3_spireOf 30 = .ok (.iconst 2, 1) := dk_5 (dk_at dksX3_spireOf_1 6 rfl rfl)
theorem dX3_spireOf_31 : decode cX3_spireOf 31 = .ok (.goto 4, 3) := dk_167 0 4 (dk_at dksX3_spireOf_1 7 rfl rfl)
theorem dX3_spireOf_34 : decode cX3_spireOf 34 = .ok (.iconst 0, 1) := dk_3 (dk_at dksX3_spireOf_1 10 rfl rfl)
theorem dX3_spireOf_35 : decode cX3_spireOf 35 = .ok (.putfield 49, 3) := dk_181 0 49 (dk_at dksX3_spireOf_1 11 rfl rfl)
theorem dX3_spireOf_38 : decode cX3_spireOf 38 = .ok (.aload_n 0, 1) := dk_42 (dk_at dksX3_spireOf_1 14 rfl rfl)
theorem dX3_spireOf_39 : decode cX3_spireOf 39 = .ok (.getfield 49, 3) := dk_180 0 49 (dk_at dksX3_spireOf_1 15 rfl rfl)
theorem dX3_spireOf_42 : decode cX3_spireOf 42 = .ok (.ifCond .le 5, 3) := dk_158 0 5 (dk_at dksX3_spireOf_1 18 rfl rfl)
theorem dX3_spireOf_45 : decode cX3_spireOf 45 = .ok (.iconst 0, 1) := dk_3 (dk_at dksX3_spireOf_1 21 rfl rfl)
theorem dX3_spireOf_46 : decode cX3_spireOf 46 = .ok (.ireturn, 1) := dk_172 (dk_at dksX3_spireOf_1 22 rfl rfl)
theorem dX3_spireOf_47 : decode cX3_spireOf 47 = .ok (.iload_n 2, 1) := dk_28 (dk_at dksX3_spireOf_1 23 rfl rfl)
theorem dX3_spireOf_48 : decode cX3_spireOf 48 = .ok (.iconst 3, 1) := dk_6 (dk_at dksX3_spireOf_2 0 rfl rfl)
theorem dX3_spireOf_49 : decode cX3_spireOf 49 = .ok (.if_icmp .ne 11, 3) := dk_160 0 11 (dk_at dksX3_spireOf_2 1 rfl rfl)
theorem dX3_spireOf_52 : decode cX3_spireOf 52 = .ok (.aload_n 0, 1) := dk_42 (dk_at dksX3_spireOf_2 4 rfl rfl)
theorem dX3_spireOf_53 : decode cX3_spireOf 53 = .ok (.iload_n 1, 1) := dk_27 (dk_at dksX3_spireOf_2 5 rfl rfl)
theorem dX3_spireOf_54 : decode cX3_spireOf 54 = .ok (.invokevirtual 146, 3) := dk_182 0 146 (dk_at dksX3_spireOf_2 6 rfl rfl)
theorem dX3_spireOf_57 : decode cX3_spireOf 57 = .ok (.goto 25, 3) := dk_167 0 25 (dk_at dksX3_spireOf_2 9 rfl rfl)
theorem dX3_spireOf_60 : decode cX3_spireOf 60 = .ok (.aload_n 0, 1) := dk_42 (dk_at dksX3_spireOf_2 12 rfl rfl)
theorem dX3_spireOf_61 : decode cX3_spireOf 61 = .ok (.getfield 9, 3) := dk_180 0 9 (dk_at dksX3_spireOf_2 13 rfl rfl)
theorem dX3_spireOf_64 : decode cX3_spireOf 64 = .ok (.bipush 67, 2) := dk_16 67 (dk_at dksX3_spireOf_2 16 rfl rfl)
theorem dX3_spireOf_66 : decode cX3_spireOf 66 = .ok (.iconst 4, 1) := dk_7 (dk_at dksX3_spireOf_2 18 rfl rfl)
theorem dX3_spireOf_67 : decode cX3_spireOf 67 = .ok (.iload_n 1, 1) := dk_27 (dk_at dksX3_spireOf_2 19 rfl rfl)
theorem dX3_spireOf_68 : decode cX3_spireOf 68 = .ok (.imul, 1) := dk_104 (dk_at dksX3_spireOf_2 20 rfl rfl)
theorem dX3_spireOf_69 : decode cX3_spireOf 69 = .ok (.iadd, 1) := dk_96 (dk_at dksX3_spireOf_2 21 rfl rfl)
theorem dX3_spireOf_70 : decode cX3_spireOf 70 = .ok (.iload_n 2, 1) := dk_28 (dk_at dksX3_spireOf_2 22 rfl rfl)
theorem dX3_spireOf_71 : decode cX3_spireOf 71 = .ok (.iconst 4, 1) := dk_7 (dk_at dksX3_spireOf_2 23 rfl rfl)
theorem dX3_spireOf_72 : decode cX3_spireOf 72 = .ok (.if_icmp .ne 7, 3) := dk_160 0 7 (dk_at dksX3_spireOf_3 0 rfl rfl)
theorem dX3_spireOf_75 : decode cX3_spireOf 75 = .ok (.iconst 3, 1) := dk_6 (dk_at dksX3_spireOf_3 3 rfl rfl)
theorem dX3_spireOf_76 : decode cX3_spireOf 76 = .ok (.goto 4, 3) := dk_167 0 4 (dk_at dksX3_spireOf_3 4 rfl rfl)
theorem dX3_spireOf_79 : decode cX3_spireOf 79 = .ok (.iload_n 2, 1) := dk_28 (dk_at dksX3_spireOf_3 7 rfl rfl)
theorem dX3_spireOf_80 : decode cX3_spireOf 80 = .ok (.iadd, 1) := dk_96 (dk_at dksX3_spireOf_3 8 rfl rfl)
theorem dX3_spireOf_81 : decode cX3_spireOf 81 = .ok (.iaload, 1) := dk_46 (dk_at dksX3_spireOf_3 9 rfl rfl)
theorem dX3_spireOf_82 : decode cX3_spireOf 82 = .ok (.ireturn, 1) := dk_172 (dk_at dksX3_spireOf_3 10 rfl rfl)
def dkwX3_fee_1 : List UInt8 := [3, 167, 0, 16, 42, 180, 0, 9, 16, 87, 27, 28, 184, 0, 69, 96, 46, 172]
abbrev dktX3_fee_1 : List UInt8 := dkwX3_fee_1 ++ []
def dkwX3_fee_0 : List UInt8 := [42, 27, 28, 184, 0, 65, 153, 0, 7, 3, 167, 0, 4, 4, 181, 0, 49, 42, 180, 0, 49, 158, 0, 7]
abbrev dktX3_fee_0 : List UInt8 := dkwX3_fee_0 ++ dktX3_fee_1
theorem dksX3_fee_0 : cX3_fee.data.toList.drop 0 = dktX3_fee_0 := by decide +kernel
theorem dksX3_fee_1 : cX3_fee.data.toList.drop 24 = dktX3_fee_1 := dk_seg dksX3_fee_0 24 rfl rfl
theorem dX3_fee_0 : decode cX3_fee 0 = .ok (.aload_n 0, 1) := dk_42 (dk_at dksX3_fee_0 0 rfl rfl)
theorem dX3_fee_1 : decode cX3_fee 1 = .ok (.iload_n 1, 1) := dk_27 (dk_at dksX3_fee_0 1 rfl rfl)
theorem dX3_fee_2 : decode cX3_fee 2 = .ok (.iload_n 2, 1) := dk_28 (dk_at dksX3_fee_0 2 rfl rfl)
theorem dX3_fee_3 : decode cX3_fee 3 = .ok (.invokestatic 65, 3) := dk_184 0 65 (dk_at dksX3_fee_0 3 rfl rfl)
theorem dX3_fee_6 : decode cX3_fee 6 = .ok (.ifCond .eq 7, 3) := dk_153 0 7 (dk_at dksX3_fee_0 6 rfl rfl)
theorem dX3_fee_9 : decode cX3_fee 9 = .ok (.iconst 0, 1) := dk_3 (dk_at dksX3_fee_0 9 rfl rfl)
theorem dX3_fee_10 : decode cX3_fee 10 = .ok (.goto 4, 3) := dk_167 0 4 (dk_at dksX3_fee_0 10 rfl rfl)
theorem dX3_fee_13 : decode cX3_fee 13 = .ok (.iconst 1, 1) := dk_4 (dk_at dksX3_fee_0 13 rfl rfl)
theorem dX3_fee_14 : decode cX3_fee 14 = .ok (.putfield 49, 3) := dk_181 0 49 (dk_at dksX3_fee_0 14 rfl rfl)
theorem dX3_fee_17 : decode cX3_fee 17 = .ok (.aload_n 0, 1) := dk_42 (dk_at dksX3_fee_0 17 rfl rfl)
theorem dX3_fee_18 : decode cX3_fee 18 = .ok (.getfield 49, 3) := dk_180 0 49 (dk_at dksX3_fee_0 18 rfl rfl)
theorem dX3_fee_21 : decode cX3_fee 21 = .ok (.ifCond .le 7, 3) := dk_158 0 7 (dk_at dksX3_fee_0 21 rfl rfl)
theorem dX3_fee_24 : decode cX3_fee 24 = .ok (.iconst 0, 1) := dk_3 (dk_at dksX3_fee_1 0 rfl rfl)
theorem dX3_fee_25 : decode cX3_fee 25 = .ok (.goto 16, 3) := dk_167 0 16 (dk_at dksX3_fee_1 1 rfl rfl)
theorem dX3_fee_28 : decode cX3_fee 28 = .ok (.aload_n 0, 1) := dk_42 (dk_at dksX3_fee_1 4 rfl rfl)
theorem dX3_fee_29 : decode cX3_fee 29 = .ok (.getfield 9, 3) := dk_180 0 9 (dk_at dksX3_fee_1 5 rfl rfl)
theorem dX3_fee_32 : decode cX3_fee 32 = .ok (.bipush 87, 2) := dk_16 87 (dk_at dksX3_fee_1 8 rfl rfl)
theorem dX3_fee_34 : decode cX3_fee 34 = .ok (.iload_n 1, 1) := dk_27 (dk_at dksX3_fee_1 10 rfl rfl)
theorem dX3_fee_35 : decode cX3_fee 35 = .ok (.iload_n 2, 1) := dk_28 (dk_at dksX3_fee_1 11 rfl rfl)
theorem dX3_fee_36 : decode cX3_fee 36 = .ok (.invokestatic 69, 3) := dk_184 0 69 (dk_at dksX3_fee_1 12 rfl rfl)
theorem dX3_fee_39 : decode cX3_fee 39 = .ok (.iadd, 1) := dk_96 (dk_at dksX3_fee_1 15 rfl rfl)
theorem dX3_fee_40 : decode cX3_fee 40 = .ok (.iaload, 1) := dk_46 (dk_at dksX3_fee_1 16 rfl rfl)
theorem dX3_fee_41 : decode cX3_fee 41 = .ok (.ireturn, 1) := dk_172 (dk_at dksX3_fee_1 17 rfl rfl)
def dkwX3_claims_1 : List UInt8 := [3, 167, 0, 17, 42, 180, 0, 9, 17, 0, 187, 27, 28, 184, 0, 69, 96, 46, 172]
abbrev dktX3_claims_1 : List UInt8 := dkwX3_claims_1 ++ []
def dkwX3_claims_0 : List UInt8 := [42, 27, 28, 184, 0, 65, 153, 0, 7, 3, 167, 0, 4, 4, 181, 0, 49, 42, 180, 0, 49, 158, 0, 7]
abbrev dktX3_claims_0 : List UInt8 := dkwX3_claims_0 ++ dktX3_claims_1
theorem dksX3_claims_0 : cX3_claims.data.toList.drop 0 = dktX3_claims_0 := by decide +kernel
theorem dksX3_claims_1 : cX3_claims.data.toList.drop 24 = dktX3_claims_1 := dk_seg dksX3_claims_0 24 rfl rfl
theorem dX3_claims_0 : decode cX3_claims 0 = .ok (.aload_n 0, 1) := dk_42 (dk_at dksX3_claims_0 0 rfl rfl)
theorem dX3_claims_1 : decode cX3_claims 1 = .ok (.iload_n 1, 1) := dk_27 (dk_at dksX3_claims_0 1 rfl rfl)
theorem dX3_claims_2 : decode cX3_claims 2 = .ok (.iload_n 2, 1) := dk_28 (dk_at dksX3_claims_0 2 rfl rfl)
theorem dX3_claims_3 : decode cX3_claims 3 = .ok (.invokestatic 65, 3) := dk_184 0 65 (dk_at dksX3_claims_0 3 rfl rfl)
theorem dX3_claims_6 : decode cX3_claims 6 = .ok (.ifCond .eq 7, 3) := dk_153 0 7 (dk_at dksX3_claims_0 6 rfl rfl)
theorem dX3_claims_9 : decode cX3_claims 9 = .ok (.iconst 0, 1) := dk_3 (dk_at dksX3_claims_0 9 rfl rfl)
theorem dX3_claims_10 : decode cX3_claims 10 = .ok (.goto 4, 3) := dk_167 0 4 (dk_at dksX3_claims_0 10 rfl rfl)
theorem dX3_claims_13 : decode cX3_claims 13 = .ok (.iconst 1, 1) := dk_4 (dk_at dksX3_claims_0 13 rfl rfl)
theorem dX3_claims_14 : decode cX3_claims 14 = .ok (.putfield 49, 3) := dk_181 0 49 (dk_at dksX3_claims_0 14 rfl rfl)
theorem dX3_claims_17 : decode cX3_claims 17 = .ok (.aload_n 0, 1) := dk_42 (dk_at dksX3_claims_0 17 rfl rfl)
theorem dX3_claims_18 : decode cX3_claims 18 = .ok (.getfield 49, 3) := dk_180 0 49 (dk_at dksX3_claims_0 18 rfl rfl)
theorem dX3_claims_21 : decode cX3_claims 21 = .ok (.ifCond .le 7, 3) := dk_158 0 7 (dk_at dksX3_claims_0 21 rfl rfl)
theorem dX3_claims_24 : decode cX3_claims 24 = .ok (.iconst 0, 1) := dk_3 (dk_at dksX3_claims_1 0 rfl rfl)
theorem dX3_claims_25 : decode cX3_claims 25 = .ok (.goto 17, 3) := dk_167 0 17 (dk_at dksX3_claims_1 1 rfl rfl)
theorem dX3_claims_28 : decode cX3_claims 28 = .ok (.aload_n 0, 1) := dk_42 (dk_at dksX3_claims_1 4 rfl rfl)
theorem dX3_claims_29 : decode cX3_claims 29 = .ok (.getfield 9, 3) := dk_180 0 9 (dk_at dksX3_claims_1 5 rfl rfl)
theorem dX3_claims_32 : decode cX3_claims 32 = .ok (.sipush 187, 3) := dk_17 0 187 (dk_at dksX3_claims_1 8 rfl rfl)
theorem dX3_claims_35 : decode cX3_claims 35 = .ok (.iload_n 1, 1) := dk_27 (dk_at dksX3_claims_1 11 rfl rfl)
theorem dX3_claims_36 : decode cX3_claims 36 = .ok (.iload_n 2, 1) := dk_28 (dk_at dksX3_claims_1 12 rfl rfl)
theorem dX3_claims_37 : decode cX3_claims 37 = .ok (.invokestatic 69, 3) := dk_184 0 69 (dk_at dksX3_claims_1 13 rfl rfl)
theorem dX3_claims_40 : decode cX3_claims 40 = .ok (.iadd, 1) := dk_96 (dk_at dksX3_claims_1 16 rfl rfl)
theorem dX3_claims_41 : decode cX3_claims 41 = .ok (.iaload, 1) := dk_46 (dk_at dksX3_claims_1 17 rfl rfl)
theorem dX3_claims_42 : decode cX3_claims 42 = .ok (.ireturn, 1) := dk_172 (dk_at dksX3_claims_1 18 rfl rfl)
def dkwX3_windAt_1 : List UInt8 := [158, 0, 7, 3, 167, 0, 14, 42, 180, 0, 9, 16, 8, 27, 96, 4, 100, 46, 172]
abbrev dktX3_windAt_1 : List UInt8 := dkwX3_windAt_1 ++ []
def dkwX3_windAt_0 : List UInt8 := [42, 27, 4, 8, 184, 0, 61, 153, 0, 7, 3, 167, 0, 4, 4, 181, 0, 49, 42, 180, 0, 49]
abbrev dktX3_windAt_0 : List UInt8 := dkwX3_windAt_0 ++ dktX3_windAt_1
theorem dksX3_windAt_0 : cX3_windAt.data.toList.drop 0 = dktX3_windAt_0 := by decide +kernel
theorem dksX3_windAt_1 : cX3_windAt.data.toList.drop 22 = dktX3_windAt_1 := dk_seg dksX3_windAt_0 22 rfl rfl
theorem dX3_windAt_0 : decode cX3_windAt 0 = .ok (.aload_n 0, 1) := dk_42 (dk_at dksX3_windAt_0 0 rfl rfl)
theorem dX3_windAt_1 : decode cX3_windAt 1 = .ok (.iload_n 1, 1) := dk_27 (dk_at dksX3_windAt_0 1 rfl rfl)
theorem dX3_windAt_2 : decode cX3_windAt 2 = .ok (.iconst 1, 1) := dk_4 (dk_at dksX3_windAt_0 2 rfl rfl)
theorem dX3_windAt_3 : decode cX3_windAt 3 = .ok (.iconst 5, 1) := dk_8 (dk_at dksX3_windAt_0 3 rfl rfl)
theorem dX3_windAt_4 : decode cX3_windAt 4 = .ok (.invokestatic 61, 3) := dk_184 0 61 (dk_at dksX3_windAt_0 4 rfl rfl)
theorem dX3_windAt_7 : decode cX3_windAt 7 = .ok (.ifCond .eq 7, 3) := dk_153 0 7 (dk_at dksX3_windAt_0 7 rfl rfl)
theorem dX3_windAt_10 : decode cX3_windAt 10 = .ok (.iconst 0, 1) := dk_3 (dk_at dksX3_windAt_0 10 rfl rfl)
theorem dX3_windAt_11 : decode cX3_windAt 11 = .ok (.goto 4, 3) := dk_167 0 4 (dk_at dksX3_windAt_0 11 rfl rfl)
theorem dX3_windAt_14 : decode cX3_windAt 14 = .ok (.iconst 1, 1) := dk_4 (dk_at dksX3_windAt_0 14 rfl rfl)
theorem dX3_windAt_15 : decode cX3_windAt 15 = .ok (.putfield 49, 3) := dk_181 0 49 (dk_at dksX3_windAt_0 15 rfl rfl)
theorem dX3_windAt_18 : decode cX3_windAt 18 = .ok (.aload_n 0, 1) := dk_42 (dk_at dksX3_windAt_0 18 rfl rfl)
theorem dX3_windAt_19 : decode cX3_windAt 19 = .ok (.getfield 49, 3) := dk_180 0 49 (dk_at dksX3_windAt_0 19 rfl rfl)
theorem dX3_windAt_22 : decode cX3_windAt 22 = .ok (.ifCond .le 7, 3) := dk_158 0 7 (dk_at dksX3_windAt_1 0 rfl rfl)
theorem dX3_windAt_25 : decode cX3_windAt 25 = .ok (.iconst 0, 1) := dk_3 (dk_at dksX3_windAt_1 3 rfl rfl)
theorem dX3_windAt_26 : decode cX3_windAt 26 = .ok (.goto 14, 3) := dk_167 0 14 (dk_at dksX3_windAt_1 4 rfl rfl)
theorem dX3_windAt_29 : decode cX3_windAt 29 = .ok (.aload_n 0, 1) := dk_42 (dk_at dksX3_windAt_1 7 rfl rfl)
theorem dX3_windAt_30 : decode cX3_windAt 30 = .ok (.getfield 9, 3) := dk_180 0 9 (dk_at dksX3_windAt_1 8 rfl rfl)
theorem dX3_windAt_33 : decode cX3_windAt 33 = .ok (.bipush 8, 2) := dk_16 8 (dk_at dksX3_windAt_1 11 rfl rfl)
theorem dX3_windAt_35 : decode cX3_windAt 35 = .ok (.iload_n 1, 1) := dk_27 (dk_at dksX3_windAt_1 13 rfl rfl)
theorem dX3_windAt_36 : decode cX3_windAt 36 = .ok (.iadd, 1) := dk_96 (dk_at dksX3_windAt_1 14 rfl rfl)
theorem dX3_windAt_37 : decode cX3_windAt 37 = .ok (.iconst 1, 1) := dk_4 (dk_at dksX3_windAt_1 15 rfl rfl)
theorem dX3_windAt_38 : decode cX3_windAt 38 = .ok (.isub, 1) := dk_100 (dk_at dksX3_windAt_1 16 rfl rfl)
theorem dX3_windAt_39 : decode cX3_windAt 39 = .ok (.iaload, 1) := dk_46 (dk_at dksX3_windAt_1 17 rfl rfl)
theorem dX3_windAt_40 : decode cX3_windAt 40 = .ok (.ireturn, 1) := dk_172 (dk_at dksX3_windAt_1 18 rfl rfl)
def dkwX3_at_1 : List UInt8 := [3, 167, 0, 12, 42, 27, 28, 184, 0, 69, 182, 0, 171, 172]
abbrev dktX3_at_1 : List UInt8 := dkwX3_at_1 ++ []
def dkwX3_at_0 : List UInt8 := [42, 27, 28, 184, 0, 65, 153, 0, 7, 3, 167, 0, 4, 4, 181, 0, 49, 42, 180, 0, 49, 158, 0, 7]
abbrev dktX3_at_0 : List UInt8 := dkwX3_at_0 ++ dktX3_at_1
theorem dksX3_at_0 : cX3_at.data.toList.drop 0 = dktX3_at_0 := by decide +kernel
theorem dksX3_at_1 : cX3_at.data.toList.drop 24 = dktX3_at_1 := dk_seg dksX3_at_0 24 rfl rfl
theorem dX3_at_0 : decode cX3_at 0 = .ok (.aload_n 0, 1) := dk_42 (dk_at dksX3_at_0 0 rfl rfl)
theorem dX3_at_1 : decode cX3_at 1 = .ok (.iload_n 1, 1) := dk_27 (dk_at dksX3_at_0 1 rfl rfl)
theorem dX3_at_2 : decode cX3_at 2 = .ok (.iload_n 2, 1) := dk_28 (dk_at dksX3_at_0 2 rfl rfl)
theorem dX3_at_3 : decode cX3_at 3 = .ok (.invokestatic 65, 3) := dk_184 0 65 (dk_at dksX3_at_0 3 rfl rfl)
theorem dX3_at_6 : decode cX3_at 6 = .ok (.ifCond .eq 7, 3) := dk_153 0 7 (dk_at dksX3_at_0 6 rfl rfl)
theorem dX3_at_9 : decode cX3_at 9 = .ok (.iconst 0, 1) := dk_3 (dk_at dksX3_at_0 9 rfl rfl)
theorem dX3_at_10 : decode cX3_at 10 = .ok (.goto 4, 3) := dk_167 0 4 (dk_at dksX3_at_0 10 rfl rfl)
theorem dX3_at_13 : decode cX3_at 13 = .ok (.iconst 1, 1) := dk_4 (dk_at dksX3_at_0 13 rfl rfl)
theorem dX3_at_14 : decode cX3_at 14 = .ok (.putfield 49, 3) := dk_181 0 49 (dk_at dksX3_at_0 14 rfl rfl)
theorem dX3_at_17 : decode cX3_at 17 = .ok (.aload_n 0, 1) := dk_42 (dk_at dksX3_at_0 17 rfl rfl)
theorem dX3_at_18 : decode cX3_at 18 = .ok (.getfield 49, 3) := dk_180 0 49 (dk_at dksX3_at_0 18 rfl rfl)
theorem dX3_at_21 : decode cX3_at 21 = .ok (.ifCond .le 7, 3) := dk_158 0 7 (dk_at dksX3_at_0 21 rfl rfl)
theorem dX3_at_24 : decode cX3_at 24 = .ok (.iconst 0, 1) := dk_3 (dk_at dksX3_at_1 0 rfl rfl)
theorem dX3_at_25 : decode cX3_at 25 = .ok (.goto 12, 3) := dk_167 0 12 (dk_at dksX3_at_1 1 rfl rfl)
theorem dX3_at_28 : decode cX3_at 28 = .ok (.aload_n 0, 1) := dk_42 (dk_at dksX3_at_1 4 rfl rfl)
theorem dX3_at_29 : decode cX3_at 29 = .ok (.iload_n 1, 1) := dk_27 (dk_at dksX3_at_1 5 rfl rfl)
theorem dX3_at_30 : decode cX3_at 30 = .ok (.iload_n 2, 1) := dk_28 (dk_at dksX3_at_1 6 rfl rfl)
theorem dX3_at_31 : decode cX3_at 31 = .ok (.invokestatic 69, 3) := dk_184 0 69 (dk_at dksX3_at_1 7 rfl rfl)
theorem dX3_at_34 : decode cX3_at 34 = .ok (.invokevirtual 171, 3) := dk_182 0 171 (dk_at dksX3_at_1 10 rfl rfl)
theorem dX3_at_37 : decode cX3_at 37 = .ok (.ireturn, 1) := dk_172 (dk_at dksX3_at_1 13 rfl rfl)
def dkwX3_balloonsOn_1 : List UInt8 := [4, 29, 120, 167, 0, 4, 3, 128, 61, 132, 3, 1, 167, 255, 224, 28, 172]
abbrev dktX3_balloonsOn_1 : List UInt8 := dkwX3_balloonsOn_1 ++ []
def dkwX3_balloonsOn_0 : List UInt8 := [3, 61, 3, 62, 29, 42, 180, 0, 9, 3, 46, 162, 0, 28, 28, 42, 29, 182, 0, 120, 27, 160, 0, 9]
abbrev dktX3_balloonsOn_0 : List UInt8 := dkwX3_balloonsOn_0 ++ dktX3_balloonsOn_1
theorem dksX3_balloonsOn_0 : cX3_balloonsOn.data.toList.drop 0 = dktX3_balloonsOn_0 := by decide +kernel
theorem dksX3_balloonsOn_1 : cX3_balloonsOn.data.toList.drop 24 = dktX3_balloonsOn_1 := dk_seg dksX3_balloonsOn_0 24 rfl rfl
theorem dX3_balloonsOn_0 : decode cX3_balloonsOn 0 = .ok (.iconst 0, 1) := dk_3 (dk_at dksX3_balloonsOn_0 0 rfl rfl)
theorem dX3_balloonsOn_1 : decode cX3_balloonsOn 1 = .ok (.istore_n 2, 1) := dk_61 (dk_at dksX3_balloonsOn_0 1 rfl rfl)
theorem dX3_balloonsOn_2 : decode cX3_balloonsOn 2 = .ok (.iconst 0, 1) := dk_3 (dk_at dksX3_balloonsOn_0 2 rfl rfl)
theorem dX3_balloonsOn_3 : decode cX3_balloonsOn 3 = .ok (.istore_n 3, 1) := dk_62 (dk_at dksX3_balloonsOn_0 3 rfl rfl)
theorem dX3_balloonsOn_4 : decode cX3_balloonsOn 4 = .ok (.iload_n 3, 1) := dk_29 (dk_at dksX3_balloonsOn_0 4 rfl rfl)
theorem dX3_balloonsOn_5 : decode cX3_balloonsOn 5 = .ok (.aload_n 0, 1) := dk_42 (dk_at dksX3_balloonsOn_0 5 rfl rfl)
theorem dX3_balloonsOn_6 : decode cX3_balloonsOn 6 = .ok (.getfield 9, 3) := dk_180 0 9 (dk_at dksX3_balloonsOn_0 6 rfl rfl)
theorem dX3_balloonsOn_9 : decode cX3_balloonsOn 9 = .ok (.iconst 0, 1) := dk_3 (dk_at dksX3_balloonsOn_0 9 rfl rfl)
theorem dX3_balloonsOn_10 : decode cX3_balloonsOn 10 = .ok (.iaload, 1) := dk_46 (dk_at dksX3_balloonsOn_0 10 rfl rfl)
theorem dX3_balloonsOn_11 : decode cX3_balloonsOn 11 = .ok (.if_icmp .ge 28, 3) := dk_162 0 28 (dk_at dksX3_balloonsOn_0 11 rfl rfl)
theorem dX3_balloonsOn_14 : decode cX3_balloonsOn 14 = .ok (.iload_n 2, 1) := dk_28 (dk_at dksX3_balloonsOn_0 14 rfl rfl)
theorem dX3_balloonsOn_15 : decode cX3_balloonsOn 15 = .ok (.aload_n 0, 1) := dk_42 (dk_at dksX3_balloonsOn_0 15 rfl rfl)
theorem dX3_balloonsOn_16 : decode cX3_balloonsOn 16 = .ok (.iload_n 3, 1) := dk_29 (dk_at dksX3_balloonsOn_0 16 rfl rfl)
theorem dX3_balloonsOn_17 : decode cX3_balloonsOn 17 = .ok (.invokevirtual 120, 3) := dk_182 0 120 (dk_at dksX3_balloonsOn_0 17 rfl rfl)
theorem dX3_balloonsOn_20 : decode cX3_balloonsOn 20 = .ok (.iload_n 1, 1) := dk_27 (dk_at dksX3_balloonsOn_0 20 rfl rfl)
theorem dX3_balloonsOn_21 : decode cX3_balloonsOn 21 = .ok (.if_icmp .ne 9, 3) := dk_160 0 9 (dk_at dksX3_balloonsOn_0 21 rfl rfl)
theorem dX3_balloonsOn_24 : decode cX3_balloonsOn 24 = .ok (.iconst 1, 1) := dk_4 (dk_at dksX3_balloonsOn_1 0 rfl rfl)
theorem dX3_balloonsOn_25 : decode cX3_balloonsOn 25 = .ok (.iload_n 3, 1) := dk_29 (dk_at dksX3_balloonsOn_1 1 rfl rfl)
theorem dX3_balloonsOn_26 : decode cX3_balloonsOn 26 = .ok (.ishl, 1) := dk_120 (dk_at dksX3_balloonsOn_1 2 rfl rfl)
theorem dX3_balloonsOn_27 : decode cX3_balloonsOn 27 = .ok (.goto 4, 3) := dk_167 0 4 (dk_at dksX3_balloonsOn_1 3 rfl rfl)
theorem dX3_balloonsOn_30 : decode cX3_balloonsOn 30 = .ok (.iconst 0, 1) := dk_3 (dk_at dksX3_balloonsOn_1 6 rfl rfl)
theorem dX3_balloonsOn_31 : decode cX3_balloonsOn 31 = .ok (.ior, 1) := dk_128 (dk_at dksX3_balloonsOn_1 7 rfl rfl)
theorem dX3_balloonsOn_32 : decode cX3_balloonsOn 32 = .ok (.istore_n 2, 1) := dk_61 (dk_at dksX3_balloonsOn_1 8 rfl rfl)
theorem dX3_balloonsOn_33 : decode cX3_balloonsOn 33 = .ok (.iinc 3 1, 3) := dk_132 3 1 (dk_at dksX3_balloonsOn_1 9 rfl rfl)
theorem dX3_balloonsOn_36 : decode cX3_balloonsOn 36 = .ok (.goto (-32), 3) := dk_167 255 224 (dk_at dksX3_balloonsOn_1 12 rfl rfl)
theorem dX3_balloonsOn_39 : decode cX3_balloonsOn 39 = .ok (.iload_n 2, 1) := dk_28 (dk_at dksX3_balloonsOn_1 15 rfl rfl)
theorem dX3_balloonsOn_40 : decode cX3_balloonsOn 40 = .ok (.ireturn, 1) := dk_172 (dk_at dksX3_balloonsOn_1 16 rfl rfl)
def dkwX3_isAtGate_1 : List UInt8 := [42, 27, 182, 0, 152, 153, 0, 7, 4, 167, 0, 4, 3, 172]
abbrev dktX3_isAtGate_1 : List UInt8 := dkwX3_isAtGate_1 ++ []
def dkwX3_isAtGate_0 : List UInt8 := [42, 42, 27, 182, 0, 113, 153, 0, 7, 3, 167, 0, 4, 4, 181, 0, 49, 42, 180, 0, 49, 154, 0, 15]
abbrev dktX3_isAtGate_0 : List UInt8 := dkwX3_isAtGate_0 ++ dktX3_isAtGate_1
theorem dksX3_isAtGate_0 : cX3_isAtGate.data.toList.drop 0 = dktX3_isAtGate_0 := by decide +kernel
theorem dksX3_isAtGate_1 : cX3_isAtGate.data.toList.drop 24 = dktX3_isAtGate_1 := dk_seg dksX3_isAtGate_0 24 rfl rfl
theorem dX3_isAtGate_0 : decode cX3_isAtGate 0 = .ok (.aload_n 0, 1) := dk_42 (dk_at dksX3_isAtGate_0 0 rfl rfl)
theorem dX3_isAtGate_1 : decode cX3_isAtGate 1 = .ok (.aload_n 0, 1) := dk_42 (dk_at dksX3_isAtGate_0 1 rfl rfl)
theorem dX3_isAtGate_2 : decode cX3_isAtGate 2 = .ok (.iload_n 1, 1) := dk_27 (dk_at dksX3_isAtGate_0 2 rfl rfl)
theorem dX3_isAtGate_3 : decode cX3_isAtGate 3 = .ok (.invokevirtual 113, 3) := dk_182 0 113 (dk_at dksX3_isAtGate_0 3 rfl rfl)
theorem dX3_isAtGate_6 : decode cX3_isAtGate 6 = .ok (.ifCond .eq 7, 3) := dk_153 0 7 (dk_at dksX3_isAtGate_0 6 rfl rfl)
theorem dX3_isAtGate_9 : decode cX3_isAtGate 9 = .ok (.iconst 0, 1) := dk_3 (dk_at dksX3_isAtGate_0 9 rfl rfl)
theorem dX3_isAtGate_10 : decode cX3_isAtGate 10 = .ok (.goto 4, 3) := dk_167 0 4 (dk_at dksX3_isAtGate_0 10 rfl rfl)
theorem dX3_isAtGate_13 : decode cX3_isAtGate 13 = .ok (.iconst 1, 1) := dk_4 (dk_at dksX3_isAtGate_0 13 rfl rfl)
theorem dX3_isAtGate_14 : decode cX3_isAtGate 14 = .ok (.putfield 49, 3) := dk_181 0 49 (dk_at dksX3_isAtGate_0 14 rfl rfl)
theorem dX3_isAtGate_17 : decode cX3_isAtGate 17 = .ok (.aload_n 0, 1) := dk_42 (dk_at dksX3_isAtGate_0 17 rfl rfl)
theorem dX3_isAtGate_18 : decode cX3_isAtGate 18 = .ok (.getfield 49, 3) := dk_180 0 49 (dk_at dksX3_isAtGate_0 18 rfl rfl)
theorem dX3_isAtGate_21 : decode cX3_isAtGate 21 = .ok (.ifCond .ne 15, 3) := dk_154 0 15 (dk_at dksX3_isAtGate_0 21 rfl rfl)
theorem dX3_isAtGate_24 : decode cX3_isAtGate 24 = .ok (.aload_n 0, 1) := dk_42 (dk_at dksX3_isAtGate_1 0 rfl rfl)
theorem dX3_isAtGate_25 : decode cX3_isAtGate 25 = .ok (.iload_n 1, 1) := dk_27 (dk_at dksX3_isAtGate_1 1 rfl rfl)
theorem dX3_isAtGate_26 : decode cX3_isAtGate 26 = .ok (.invokevirtual 152, 3) := dk_182 0 152 (dk_at dksX3_isAtGate_1 2 rfl rfl)
theorem dX3_isAtGate_29 : decode cX3_isAtGate 29 = .ok (.ifCond .eq 7, 3) := dk_153 0 7 (dk_at dksX3_isAtGate_1 5 rfl rfl)
theorem dX3_isAtGate_32 : decode cX3_isAtGate 32 = .ok (.iconst 1, 1) := dk_4 (dk_at dksX3_isAtGate_1 8 rfl rfl)
theorem dX3_isAtGate_33 : decode cX3_isAtGate 33 = .ok (.goto 4, 3) := dk_167 0 4 (dk_at dksX3_isAtGate_1 9 rfl rfl)
theorem dX3_isAtGate_36 : decode cX3_isAtGate 36 = .ok (.iconst 0, 1) := dk_3 (dk_at dksX3_isAtGate_1 12 rfl rfl)
theorem dX3_isAtGate_37 : decode cX3_isAtGate 37 = .ok (.ireturn, 1) := dk_172 (dk_at dksX3_isAtGate_1 13 rfl rfl)
def dkwX3_partners_4 : List UInt8 := [167, 0, 4, 3, 128, 61, 132, 3, 1, 167, 255, 176, 28, 172]
abbrev dktX3_partners_4 : List UInt8 := dkwX3_partners_4 ++ []
def dkwX3_partners_3 : List UInt8 := [42, 29, 5, 182, 0, 76, 42, 27, 5, 182, 0, 76, 100, 184, 0, 134, 5, 162, 0, 9, 4, 29, 120]
abbrev dktX3_partners_3 : List UInt8 := dkwX3_partners_3 ++ dktX3_partners_4
def dkwX3_partners_2 : List UInt8 := [182, 0, 120, 42, 27, 182, 0, 120, 160, 0, 7, 4, 167, 0, 4, 3, 54, 4, 28, 21, 4, 153, 0, 29]
abbrev dktX3_partners_2 : List UInt8 := dkwX3_partners_2 ++ dktX3_partners_3
def dkwX3_partners_1 : List UInt8 := [180, 0, 9, 3, 46, 162, 0, 76, 42, 180, 0, 49, 154, 0, 69, 29, 27, 159, 0, 20, 42, 29]
abbrev dktX3_partners_1 : List UInt8 := dkwX3_partners_1 ++ dktX3_partners_2
def dkwX3_partners_0 : List UInt8 := [42, 42, 27, 182, 0, 113, 153, 0, 7, 3, 167, 0, 4, 4, 181, 0, 49, 3, 61, 3, 62, 29, 42]
abbrev dktX3_partners_0 : List UInt8 := dkwX3_partners_0 ++ dktX3_partners_1
theorem dksX3_partners_0 : cX3_partners.data.toList.drop 0 = dktX3_partners_0 := by decide +kernel
theorem dksX3_partners_1 : cX3_partners.data.toList.drop 23 = dktX3_partners_1 := dk_seg dksX3_partners_0 23 rfl rfl
theorem dksX3_partners_2 : cX3_partners.data.toList.drop 45 = dktX3_partners_2 := dk_seg dksX3_partners_1 22 rfl rfl
theorem dksX3_partners_3 : cX3_partners.data.toList.drop 69 = dktX3_partners_3 := dk_seg dksX3_partners_2 24 rfl rfl
theorem dksX3_partners_4 : cX3_partners.data.toList.drop 92 = dktX3_partners_4 := dk_seg dksX3_partners_3 23 rfl rfl
theorem dX3_partners_0 : decode cX3_partners 0 = .ok (.aload_n 0, 1) := dk_42 (dk_at dksX3_partners_0 0 rfl rfl)
theorem dX3_partners_1 : decode cX3_partners 1 = .ok (.aload_n 0, 1) := dk_42 (dk_at dksX3_partners_0 1 rfl rfl)
theorem dX3_partners_2 : decode cX3_partners 2 = .ok (.iload_n 1, 1) := dk_27 (dk_at dksX3_partners_0 2 rfl rfl)
theorem dX3_partners_3 : decode cX3_partners 3 = .ok (.invokevirtual 113, 3) := dk_182 0 113 (dk_at dksX3_partners_0 3 rfl rfl)
theorem dX3_partners_6 : decode cX3_partners 6 = .ok (.ifCond .eq 7, 3) := dk_153 0 7 (dk_at dksX3_partners_0 6 rfl rfl)
theorem dX3_partners_9 : decode cX3_partners 9 = .ok (.iconst 0, 1) := dk_3 (dk_at dksX3_partners_0 9 rfl rfl)
theorem dX3_partners_10 : decode cX3_partners 10 = .ok (.goto 4, 3) := dk_167 0 4 (dk_at dksX3_partners_0 10 rfl rfl)
theorem dX3_partners_13 : decode cX3_partners 13 = .ok (.iconst 1, 1) := dk_4 (dk_at dksX3_partners_0 13 rfl rfl)
theorem dX3_partners_14 : decode cX3_partners 14 = .ok (.putfield 49, 3) := dk_181 0 49 (dk_at dksX3_partners_0 14 rfl rfl)
theorem dX3_partners_17 : decode cX3_partners 17 = .ok (.iconst 0, 1) := dk_3 (dk_at dksX3_partners_0 17 rfl rfl)
theorem dX3_partners_18 : decode cX3_partners 18 = .ok (.istore_n 2, 1) := dk_61 (dk_at dksX3_partners_0 18 rfl rfl)
theorem dX3_partners_19 : decode cX3_partners 19 = .ok (.iconst 0, 1) := dk_3 (dk_at dksX3_partners_0 19 rfl rfl)
theorem dX3_partners_20 : decode cX3_partners 20 = .ok (.istore_n 3, 1) := dk_62 (dk_at dksX3_partners_0 20 rfl rfl)
theorem dX3_partners_21 : decode cX3_partners 21 = .ok (.iload_n 3, 1) := dk_29 (dk_at dksX3_partners_0 21 rfl rfl)
theorem dX3_partners_22 : decode cX3_partners 22 = .ok (.aload_n 0, 1) := dk_42 (dk_at dksX3_partners_0 22 rfl rfl)
theorem dX3_partners_23 : decode cX3_partners 23 = .ok (.getfield 9, 3) := dk_180 0 9 (dk_at dksX3_partners_1 0 rfl rfl)
theorem dX3_partners_26 : decode cX3_partners 26 = .ok (.iconst 0, 1) := dk_3 (dk_at dksX3_partners_1 3 rfl rfl)
theorem dX3_partners_27 : decode cX3_partners 27 = .ok (.iaload, 1) := dk_46 (dk_at dksX3_partners_1 4 rfl rfl)
theorem dX3_partners_28 : decode cX3_partners 28 = .ok (.if_icmp .ge 76, 3) := dk_162 0 76 (dk_at dksX3_partners_1 5 rfl rfl)
theorem dX3_partners_31 : decode cX3_partners 31 = .ok (.aload_n 0, 1) := dk_42 (dk_at dksX3_partners_1 8 rfl rfl)
theorem dX3_partners_32 : decode cX3_partners 32 = .ok (.getfield 49, 3) := dk_180 0 49 (dk_at dksX3_partners_1 9 rfl rfl)
theorem dX3_partners_35 : decode cX3_partners 35 = .ok (.ifCond .ne 69, 3) := dk_154 0 69 (dk_at dksX3_partners_1 12 rfl rfl)
theorem dX3_partners_38 : decode cX3_partners 38 = .ok (.iload_n 3, 1) := dk_29 (dk_at dksX3_partners_1 15 rfl rfl)
theorem dX3_partners_39 : decode cX3_partners 39 = .ok (.iload_n 1, 1) := dk_27 (dk_at dksX3_partners_1 16 rfl rfl)
theorem dX3_partners_40 : decode cX3_partners 40 = .ok (.if_icmp .eq 20, 3) := dk_159 0 20 (dk_at dksX3_partners_1 17 rfl rfl)
theorem dX3_partners_43 : decode cX3_partners 43 = .ok (.aload_n 0, 1) := dk_42 (dk_at dksX3_partners_1 20 rfl rfl)
theorem dX3_partners_44 : decode cX3_partners 44 = .ok (.iload_n 3, 1) := dk_29 (dk_at dksX3_partners_1 21 rfl rfl)
theorem dX3_partners_45 : decode cX3_partners 45 = .ok (.invokevirtual 120, 3) := dk_182 0 120 (dk_at dksX3_partners_2 0 rfl rfl)
theorem dX3_partners_48 : decode cX3_partners 48 = .ok (.aload_n 0, 1) := dk_42 (dk_at dksX3_partners_2 3 rfl rfl)
theorem dX3_partners_49 : decode cX3_partners 49 = .ok (.iload_n 1, 1) := dk_27 (dk_at dksX3_partners_2 4 rfl rfl)
theorem dX3_partners_50 : decode cX3_partners 50 = .ok (.invokevirtual 120, 3) := dk_182 0 120 (dk_at dksX3_partners_2 5 rfl rfl)
theorem dX3_partners_53 : decode cX3_partners 53 = .ok (.if_icmp .ne 7, 3) := dk_160 0 7 (dk_at dksX3_partners_2 8 rfl rfl)
theorem dX3_partners_56 : decode cX3_partners 56 = .ok (.iconst 1, 1) := dk_4 (dk_at dksX3_partners_2 11 rfl rfl)
theorem dX3_partners_57 : decode cX3_partners 57 = .ok (.goto 4, 3) := dk_167 0 4 (dk_at dksX3_partners_2 12 rfl rfl)
theorem dX3_partners_60 : decode cX3_partners 60 = .ok (.iconst 0, 1) := dk_3 (dk_at dksX3_partners_2 15 rfl rfl)
theorem dX3_partners_61 : decode cX3_partners 61 = .ok (.istore 4, 2) := dk_54 4 (dk_at dksX3_partners_2 16 rfl rfl)
theorem dX3_partners_63 : decode cX3_partners 63 = .ok (.iload_n 2, 1) := dk_28 (dk_at dksX3_partners_2 18 rfl rfl)
theorem dX3_partners_64 : decode cX3_partners 64 = .ok (.iload 4, 2) := dk_21 4 (dk_at dksX3_partners_2 19 rfl rfl)
theorem dX3_partners_66 : decode cX3_partners 66 = .ok (.ifCond .eq 29, 3) := dk_153 0 29 (dk_at dksX3_partners_2 21 rfl rfl)
theorem dX3_partners_69 : decode cX3_partners 69 = .ok (.aload_n 0, 1) := dk_42 (dk_at dksX3_partners_3 0 rfl rfl)
theorem dX3_partners_70 : decode cX3_partners 70 = .ok (.iload_n 3, 1) := dk_29 (dk_at dksX3_partners_3 1 rfl rfl)
theorem dX3_partners_71 : decode cX3_partners 71 = .ok (.iconst 2, 1) := dk_5 (dk_at dksX3_partners_3 2 rfl rfl)
theorem dX3_partners_72 : decode cX3_partners 72 = .ok (.invokevirtual 76, 3) := dk_182 0 76 (dk_at dksX3_partners_3 3 rfl rfl)
theorem dX3_partners_75 : decode cX3_partners 75 = .ok (.aload_n 0, 1) := dk_42 (dk_at dksX3_partners_3 6 rfl rfl)
theorem dX3_partners_76 : decode cX3_partners 76 = .ok (.iload_n 1, 1) := dk_27 (dk_at dksX3_partners_3 7 rfl rfl)
theorem dX3_partners_77 : decode cX3_partners 77 = .ok (.iconst 2, 1) := dk_5 (dk_at dksX3_partners_3 8 rfl rfl)
theorem dX3_partners_78 : decode cX3_partners 78 = .ok (.invokevirtual 76, 3) := dk_182 0 76 (dk_at dksX3_partners_3 9 rfl rfl)
theorem dX3_partners_81 : decode cX3_partners 81 = .ok (.isub, 1) := dk_100 (dk_at dksX3_partners_3 12 rfl rfl)
theorem dX3_partners_82 : decode cX3_partners 82 = .ok (.invokestatic 134, 3) := dk_184 0 134 (dk_at dksX3_partners_3 13 rfl rfl)
theorem dX3_partners_85 : decode cX3_partners 85 = .ok (.iconst 2, 1) := dk_5 (dk_at dksX3_partners_3 16 rfl rfl)
theorem dX3_partners_86 : decode cX3_partners 86 = .ok (.if_icmp .ge 9, 3) := dk_162 0 9 (dk_at dksX3_partners_3 17 rfl rfl)
theorem dX3_partners_89 : decode cX3_partners 89 = .ok (.iconst 1, 1) := dk_4 (dk_at dksX3_partners_3 20 rfl rfl)
theorem dX3_partners_90 : decode cX3_partners 90 = .ok (.iload_n 3, 1) := dk_29 (dk_at dksX3_partners_3 21 rfl rfl)
theorem dX3_partners_91 : decode cX3_partners 91 = .ok (.ishl, 1) := dk_120 (dk_at dksX3_partners_3 22 rfl rfl)
theorem dX3_partners_92 : decode cX3_partners 92 = .ok (.goto 4, 3) := dk_167 0 4 (dk_at dksX3_partners_4 0 rfl rfl)
theorem dX3_partners_95 : decode cX3_partners 95 = .ok (.iconst 0, 1) := dk_3 (dk_at dksX3_partners_4 3 rfl rfl)
theorem dX3_partners_96 : decode cX3_partners 96 = .ok (.ior, 1) := dk_128 (dk_at dksX3_partners_4 4 rfl rfl)
theorem dX3_partners_97 : decode cX3_partners 97 = .ok (.istore_n 2, 1) := dk_61 (dk_at dksX3_partners_4 5 rfl rfl)
theorem dX3_partners_98 : decode cX3_partners 98 = .ok (.iinc 3 1, 3) := dk_132 3 1 (dk_at dksX3_partners_4 6 rfl rfl)
theorem dX3_partners_101 : decode cX3_partners 101 = .ok (.goto (-80), 3) := dk_167 255 176 (dk_at dksX3_partners_4 9 rfl rfl)
theorem dX3_partners_104 : decode cX3_partners 104 = .ok (.iload_n 2, 1) := dk_28 (dk_at dksX3_partners_4 12 rfl rfl)
theorem dX3_partners_105 : decode cX3_partners 105 = .ok (.ireturn, 1) := dk_172 (dk_at dksX3_partners_4 13 rfl rfl)
def dkwX3_drift_1 : List UInt8 := [27, 28, 3, 182, 0, 183, 172]
abbrev dktX3_drift_1 : List UInt8 := dkwX3_drift_1 ++ []
def dkwX3_drift_0 : List UInt8 := [42, 42, 27, 28, 16, 60, 182, 0, 180, 181, 0, 49, 42, 180, 0, 49, 158, 0, 7, 3, 167, 0, 10, 42]
abbrev dktX3_drift_0 : List UInt8 := dkwX3_drift_0 ++ dktX3_drift_1
theorem dksX3_drift_0 : cX3_drift.data.toList.drop 0 = dktX3_drift_0 := by decide +kernel
theorem dksX3_drift_1 : cX3_drift.data.toList.drop 24 = dktX3_drift_1 := dk_seg dksX3_drift_0 24 rfl rfl
theorem dX3_drift_0 : decode cX3_drift 0 = .ok (.aload_n 0, 1) := dk_42 (dk_at dksX3_drift_0 0 rfl rfl)
theorem dX3_drift_1 : decode cX3_drift 1 = .ok (.aload_n 0, 1) := dk_42 (dk_at dksX3_drift_0 1 rfl rfl)
theorem dX3_drift_2 : decode cX3_drift 2 = .ok (.iload_n 1, 1) := dk_27 (dk_at dksX3_drift_0 2 rfl rfl)
theorem dX3_drift_3 : decode cX3_drift 3 = .ok (.iload_n 2, 1) := dk_28 (dk_at dksX3_drift_0 3 rfl rfl)
theorem dX3_drift_4 : decode cX3_drift 4 = .ok (.bipush 60, 2) := dk_16 60 (dk_at dksX3_drift_0 4 rfl rfl)
theorem dX3_drift_6 : decode cX3_drift 6 = .ok (.invokevirtual 180, 3) := dk_182 0 180 (dk_at dksX3_drift_0 6 rfl rfl)
theorem dX3_drift_9 : decode cX3_drift 9 = .ok (.putfield 49, 3) := dk_181 0 49 (dk_at dksX3_drift_0 9 rfl rfl)
theorem dX3_drift_12 : decode cX3_drift 12 = .ok (.aload_n 0, 1) := dk_42 (dk_at dksX3_drift_0 12 rfl rfl)
theorem dX3_drift_13 : decode cX3_drift 13 = .ok (.getfield 49, 3) := dk_180 0 49 (dk_at dksX3_drift_0 13 rfl rfl)
theorem dX3_drift_16 : decode cX3_drift 16 = .ok (.ifCond .le 7, 3) := dk_158 0 7 (dk_at dksX3_drift_0 16 rfl rfl)
theorem dX3_drift_19 : decode cX3_drift 19 = .ok (.iconst 0, 1) := dk_3 (dk_at dksX3_drift_0 19 rfl rfl)
theorem dX3_drift_20 : decode cX3_drift 20 = .ok (.goto 10, 3) := dk_167 0 10 (dk_at dksX3_drift_0 20 rfl rfl)
theorem dX3_drift_23 : decode cX3_drift 23 = .ok (.aload_n 0, 1) := dk_42 (dk_at dksX3_drift_0 23 rfl rfl)
theorem dX3_drift_24 : decode cX3_drift 24 = .ok (.iload_n 1, 1) := dk_27 (dk_at dksX3_drift_1 0 rfl rfl)
theorem dX3_drift_25 : decode cX3_drift 25 = .ok (.iload_n 2, 1) := dk_28 (dk_at dksX3_drift_1 1 rfl rfl)
theorem dX3_drift_26 : decode cX3_drift 26 = .ok (.iconst 0, 1) := dk_3 (dk_at dksX3_drift_1 2 rfl rfl)
theorem dX3_drift_27 : decode cX3_drift 27 = .ok (.invokevirtual 183, 3) := dk_182 0 183 (dk_at dksX3_drift_1 3 rfl rfl)
theorem dX3_drift_30 : decode cX3_drift 30 = .ok (.ireturn, 1) := dk_172 (dk_at dksX3_drift_1 6 rfl rfl)
def dkwX3_cannot_1 : List UInt8 := [167, 0, 4, 3, 172]
abbrev dktX3_cannot_1 : List UInt8 := dkwX3_cannot_1 ++ []
def dkwX3_cannot_0 : List UInt8 := [42, 27, 182, 0, 113, 154, 0, 7, 4, 167, 0, 17, 28, 3, 29, 184, 0, 61, 154, 0, 7, 5]
abbrev dktX3_cannot_0 : List UInt8 := dkwX3_cannot_0 ++ dktX3_cannot_1
theorem dksX3_cannot_0 : cX3_cannot.data.toList.drop 0 = dktX3_cannot_0 := by decide +kernel
theorem dksX3_cannot_1 : cX3_cannot.data.toList.drop 22 = dktX3_cannot_1 := dk_seg dksX3_cannot_0 22 rfl rfl
theorem dX3_cannot_0 : decode cX3_cannot 0 = .ok (.aload_n 0, 1) := dk_42 (dk_at dksX3_cannot_0 0 rfl rfl)
theorem dX3_cannot_1 : decode cX3_cannot 1 = .ok (.iload_n 1, 1) := dk_27 (dk_at dksX3_cannot_0 1 rfl rfl)
theorem dX3_cannot_2 : decode cX3_cannot 2 = .ok (.invokevirtual 113, 3) := dk_182 0 113 (dk_at dksX3_cannot_0 2 rfl rfl)
theorem dX3_cannot_5 : decode cX3_cannot 5 = .ok (.ifCond .ne 7, 3) := dk_154 0 7 (dk_at dksX3_cannot_0 5 rfl rfl)
theorem dX3_cannot_8 : decode cX3_cannot 8 = .ok (.iconst 1, 1) := dk_4 (dk_at dksX3_cannot_0 8 rfl rfl)
theorem dX3_cannot_9 : decode cX3_cannot 9 = .ok (.goto 17, 3) := dk_167 0 17 (dk_at dksX3_cannot_0 9 rfl rfl)
theorem dX3_cannot_12 : decode cX3_cannot 12 = .ok (.iload_n 2, 1) := dk_28 (dk_at dksX3_cannot_0 12 rfl rfl)
theorem dX3_cannot_13 : decode cX3_cannot 13 = .ok (.iconst 0, 1) := dk_3 (dk_at dksX3_cannot_0 13 rfl rfl)
theorem dX3_cannot_14 : decode cX3_cannot 14 = .ok (.iload_n 3, 1) := dk_29 (dk_at dksX3_cannot_0 14 rfl rfl)
theorem dX3_cannot_15 : decode cX3_cannot 15 = .ok (.invokestatic 61, 3) := dk_184 0 61 (dk_at dksX3_cannot_0 15 rfl rfl)
theorem dX3_cannot_18 : decode cX3_cannot 18 = .ok (.ifCond .ne 7, 3) := dk_154 0 7 (dk_at dksX3_cannot_0 18 rfl rfl)
theorem dX3_cannot_21 : decode cX3_cannot 21 = .ok (.iconst 2, 1) := dk_5 (dk_at dksX3_cannot_0 21 rfl rfl)
theorem dX3_cannot_22 : decode cX3_cannot 22 = .ok (.goto 4, 3) := dk_167 0 4 (dk_at dksX3_cannot_1 0 rfl rfl)
theorem dX3_cannot_25 : decode cX3_cannot 25 = .ok (.iconst 0, 1) := dk_3 (dk_at dksX3_cannot_1 3 rfl rfl)
theorem dX3_cannot_26 : decode cX3_cannot 26 = .ok (.ireturn, 1) := dk_172 (dk_at dksX3_cannot_1 4 rfl rfl)
def dkwX3_after_2 : List UInt8 := [21, 4, 172]
abbrev dktX3_after_2 : List UInt8 := dkwX3_after_2 ++ []
def dkwX3_after_1 : List UInt8 := [154, 0, 11, 42, 27, 182, 0, 120, 167, 0, 9, 42, 27, 29, 182, 0, 76, 54, 4, 42, 182, 0, 177]
abbrev dktX3_after_1 : List UInt8 := dkwX3_after_1 ++ dktX3_after_2
def dkwX3_after_0 : List UInt8 := [42, 182, 0, 174, 3, 54, 4, 21, 4, 28, 162, 0, 13, 42, 182, 0, 162, 132, 4, 1, 167, 255, 243, 29]
abbrev dktX3_after_0 : List UInt8 := dkwX3_after_0 ++ dktX3_after_1
theorem dksX3_after_0 : cX3_after.data.toList.drop 0 = dktX3_after_0 := by decide +kernel
theorem dksX3_after_1 : cX3_after.data.toList.drop 24 = dktX3_after_1 := dk_seg dksX3_after_0 24 rfl rfl
theorem dksX3_after_2 : cX3_after.data.toList.drop 47 = dktX3_after_2 := dk_seg dksX3_after_1 23 rfl rfl
theorem dX3_after_0 : decode cX3_after 0 = .ok (.aload_n 0, 1) := dk_42 (dk_at dksX3_after_0 0 rfl rfl)
theorem dX3_after_1 : decode cX3_after 1 = .ok (.invokevirtual 174, 3) := dk_182 0 174 (dk_at dksX3_after_0 1 rfl rfl)
theorem dX3_after_4 : decode cX3_after 4 = .ok (.iconst 0, 1) := dk_3 (dk_at dksX3_after_0 4 rfl rfl)
theorem dX3_after_5 : decode cX3_after 5 = .ok (.istore 4, 2) := dk_54 4 (dk_at dksX3_after_0 5 rfl rfl)
theorem dX3_after_7 : decode cX3_after 7 = .ok (.iload 4, 2) := dk_21 4 (dk_at dksX3_after_0 7 rfl rfl)
theorem dX3_after_9 : decode cX3_after 9 = .ok (.iload_n 2, 1) := dk_28 (dk_at dksX3_after_0 9 rfl rfl)
theorem dX3_after_10 : decode cX3_after 10 = .ok (.if_icmp .ge 13, 3) := dk_162 0 13 (dk_at dksX3_after_0 10 rfl rfl)
theorem dX3_after_13 : decode cX3_after 13 = .ok (.aload_n 0, 1) := dk_42 (dk_at dksX3_after_0 13 rfl rfl)
theorem dX3_after_14 : decode cX3_after 14 = .ok (.invokevirtual 162, 3) := dk_182 0 162 (dk_at dksX3_after_0 14 rfl rfl)
theorem dX3_after_17 : decode cX3_after 17 = .ok (.iinc 4 1, 3) := dk_132 4 1 (dk_at dksX3_after_0 17 rfl rfl)
theorem dX3_after_20 : decode cX3_after 20 = .ok (.goto (-13), 3) := dk_167 255 243 (dk_at dksX3_after_0 20 rfl rfl)
theorem dX3_after_23 : decode cX3_after 23 = .ok (.iload_n 3, 1) := dk_29 (dk_at dksX3_after_0 23 rfl rfl)
theorem dX3_after_24 : decode cX3_after 24 = .ok (.ifCond .ne 11, 3) := dk_154 0 11 (dk_at dksX3_after_1 0 rfl rfl)
theorem dX3_after_27 : decode cX3_after 27 = .ok (.aload_n 0, 1) := dk_42 (dk_at dksX3_after_1 3 rfl rfl)
theorem dX3_after_28 : decode cX3_after 28 = .ok (.iload_n 1, 1) := dk_27 (dk_at dksX3_after_1 4 rfl rfl)
theorem dX3_after_29 : decode cX3_after 29 = .ok (.invokevirtual 120, 3) := dk_182 0 120 (dk_at dksX3_after_1 5 rfl rfl)
theorem dX3_after_32 : decode cX3_after 32 = .ok (.goto 9, 3) := dk_167 0 9 (dk_at dksX3_after_1 8 rfl rfl)
theorem dX3_after_35 : decode cX3_after 35 = .ok (.aload_n 0, 1) := dk_42 (dk_at dksX3_after_1 11 rfl rfl)
theorem dX3_after_36 : decode cX3_after 36 = .ok (.iload_n 1, 1) := dk_27 (dk_at dksX3_after_1 12 rfl rfl)
theorem dX3_after_37 : decode cX3_after 37 = .ok (.iload_n 3, 1) := dk_29 (dk_at dksX3_after_1 13 rfl rfl)
theorem dX3_after_38 : decode cX3_after 38 = .ok (.invokevirtual 76, 3) := dk_182 0 76 (dk_at dksX3_after_1 14 rfl rfl)
theorem dX3_after_41 : decode cX3_after 41 = .ok (.istore 4, 2) := dk_54 4 (dk_at dksX3_after_1 17 rfl rfl)
theorem dX3_after_43 : decode cX3_after 43 = .ok (.aload_n 0, 1) := dk_42 (dk_at dksX3_after_1 19 rfl rfl)
theorem dX3_after_44 : decode cX3_after 44 = .ok (.invokevirtual 177, 3) := dk_182 0 177 (dk_at dksX3_after_1 20 rfl rfl)
theorem dX3_after_47 : decode cX3_after 47 = .ok (.iload 4, 2) := dk_21 4 (dk_at dksX3_after_2 0 rfl rfl)
theorem dX3_after_49 : decode cX3_after 49 = .ok (.ireturn, 1) := dk_172 (dk_at dksX3_after_2 2 rfl rfl)
def dkwX3_thinks_0 : List UInt8 := [42, 180, 0, 9, 3, 42, 180, 0, 16, 3, 17, 1, 31, 184, 0, 52, 177]
abbrev dktX3_thinks_0 : List UInt8 := dkwX3_thinks_0 ++ []
theorem dksX3_thinks_0 : cX3_thinks.data.toList.drop 0 = dktX3_thinks_0 := by decide +kernel
theorem dX3_thinks_0 : decode cX3_thinks 0 = .ok (.aload_n 0, 1) := dk_42 (dk_at dksX3_thinks_0 0 rfl rfl)
theorem dX3_thinks_1 : decode cX3_thinks 1 = .ok (.getfield 9, 3) := dk_180 0 9 (dk_at dksX3_thinks_0 1 rfl rfl)
theorem dX3_thinks_4 : decode cX3_thinks 4 = .ok (.iconst 0, 1) := dk_3 (dk_at dksX3_thinks_0 4 rfl rfl)
theorem dX3_thinks_5 : decode cX3_thinks 5 = .ok (.aload_n 0, 1) := dk_42 (dk_at dksX3_thinks_0 5 rfl rfl)
theorem dX3_thinks_6 : decode cX3_thinks 6 = .ok (.getfield 16, 3) := dk_180 0 16 (dk_at dksX3_thinks_0 6 rfl rfl)
theorem dX3_thinks_9 : decode cX3_thinks 9 = .ok (.iconst 0, 1) := dk_3 (dk_at dksX3_thinks_0 9 rfl rfl)
theorem dX3_thinks_10 : decode cX3_thinks 10 = .ok (.sipush 287, 3) := dk_17 1 31 (dk_at dksX3_thinks_0 10 rfl rfl)
theorem dX3_thinks_13 : decode cX3_thinks 13 = .ok (.invokestatic 52, 3) := dk_184 0 52 (dk_at dksX3_thinks_0 13 rfl rfl)
theorem dX3_thinks_16 : decode cX3_thinks 16 = .ok (.return_, 1) := dk_177 (dk_at dksX3_thinks_0 16 rfl rfl)
def dkwX3_forgets_0 : List UInt8 := [42, 180, 0, 16, 3, 42, 180, 0, 9, 3, 17, 1, 31, 184, 0, 52, 177]
abbrev dktX3_forgets_0 : List UInt8 := dkwX3_forgets_0 ++ []
theorem dksX3_forgets_0 : cX3_forgets.data.toList.drop 0 = dktX3_forgets_0 := by decide +kernel
theorem dX3_forgets_0 : decode cX3_forgets 0 = .ok (.aload_n 0, 1) := dk_42 (dk_at dksX3_forgets_0 0 rfl rfl)
theorem dX3_forgets_1 : decode cX3_forgets 1 = .ok (.getfield 16, 3) := dk_180 0 16 (dk_at dksX3_forgets_0 1 rfl rfl)
theorem dX3_forgets_4 : decode cX3_forgets 4 = .ok (.iconst 0, 1) := dk_3 (dk_at dksX3_forgets_0 4 rfl rfl)
theorem dX3_forgets_5 : decode cX3_forgets 5 = .ok (.aload_n 0, 1) := dk_42 (dk_at dksX3_forgets_0 5 rfl rfl)
theorem dX3_forgets_6 : decode cX3_forgets 6 = .ok (.getfield 9, 3) := dk_180 0 9 (dk_at dksX3_forgets_0 6 rfl rfl)
theorem dX3_forgets_9 : decode cX3_forgets 9 = .ok (.iconst 0, 1) := dk_3 (dk_at dksX3_forgets_0 9 rfl rfl)
theorem dX3_forgets_10 : decode cX3_forgets 10 = .ok (.sipush 287, 3) := dk_17 1 31 (dk_at dksX3_forgets_0 10 rfl rfl)
theorem dX3_forgets_13 : decode cX3_forgets 13 = .ok (.invokestatic 52, 3) := dk_184 0 52 (dk_at dksX3_forgets_0 13 rfl rfl)
theorem dX3_forgets_16 : decode cX3_forgets 16 = .ok (.return_, 1) := dk_177 (dk_at dksX3_forgets_0 16 rfl rfl)
def dkwX3_heightIn_1 : List UInt8 := [27, 28, 5, 182, 0, 183, 172]
abbrev dktX3_heightIn_1 : List UInt8 := dkwX3_heightIn_1 ++ []
def dkwX3_heightIn_0 : List UInt8 := [42, 42, 27, 28, 16, 60, 182, 0, 180, 181, 0, 49, 42, 180, 0, 49, 158, 0, 7, 3, 167, 0, 10, 42]
abbrev dktX3_heightIn_0 : List UInt8 := dkwX3_heightIn_0 ++ dktX3_heightIn_1
theorem dksX3_heightIn_0 : cX3_heightIn.data.toList.drop 0 = dktX3_heightIn_0 := by decide +kernel
theorem dksX3_heightIn_1 : cX3_heightIn.data.toList.drop 24 = dktX3_heightIn_1 := dk_seg dksX3_heightIn_0 24 rfl rfl
theorem dX3_heightIn_0 : decode cX3_heightIn 0 = .ok (.aload_n 0, 1) := dk_42 (dk_at dksX3_heightIn_0 0 rfl rfl)
theorem dX3_heightIn_1 : decode cX3_heightIn 1 = .ok (.aload_n 0, 1) := dk_42 (dk_at dksX3_heightIn_0 1 rfl rfl)
theorem dX3_heightIn_2 : decode cX3_heightIn 2 = .ok (.iload_n 1, 1) := dk_27 (dk_at dksX3_heightIn_0 2 rfl rfl)
theorem dX3_heightIn_3 : decode cX3_heightIn 3 = .ok (.iload_n 2, 1) := dk_28 (dk_at dksX3_heightIn_0 3 rfl rfl)
theorem dX3_heightIn_4 : decode cX3_heightIn 4 = .ok (.bipush 60, 2) := dk_16 60 (dk_at dksX3_heightIn_0 4 rfl rfl)
theorem dX3_heightIn_6 : decode cX3_heightIn 6 = .ok (.invokevirtual 180, 3) := dk_182 0 180 (dk_at dksX3_heightIn_0 6 rfl rfl)
theorem dX3_heightIn_9 : decode cX3_heightIn 9 = .ok (.putfield 49, 3) := dk_181 0 49 (dk_at dksX3_heightIn_0 9 rfl rfl)
theorem dX3_heightIn_12 : decode cX3_heightIn 12 = .ok (.aload_n 0, 1) := dk_42 (dk_at dksX3_heightIn_0 12 rfl rfl)
theorem dX3_heightIn_13 : decode cX3_heightIn 13 = .ok (.getfield 49, 3) := dk_180 0 49 (dk_at dksX3_heightIn_0 13 rfl rfl)
theorem dX3_heightIn_16 : decode cX3_heightIn 16 = .ok (.ifCond .le 7, 3) := dk_158 0 7 (dk_at dksX3_heightIn_0 16 rfl rfl)
theorem dX3_heightIn_19 : decode cX3_heightIn 19 = .ok (.iconst 0, 1) := dk_3 (dk_at dksX3_heightIn_0 19 rfl rfl)
theorem dX3_heightIn_20 : decode cX3_heightIn 20 = .ok (.goto 10, 3) := dk_167 0 10 (dk_at dksX3_heightIn_0 20 rfl rfl)
theorem dX3_heightIn_23 : decode cX3_heightIn 23 = .ok (.aload_n 0, 1) := dk_42 (dk_at dksX3_heightIn_0 23 rfl rfl)
theorem dX3_heightIn_24 : decode cX3_heightIn 24 = .ok (.iload_n 1, 1) := dk_27 (dk_at dksX3_heightIn_1 0 rfl rfl)
theorem dX3_heightIn_25 : decode cX3_heightIn 25 = .ok (.iload_n 2, 1) := dk_28 (dk_at dksX3_heightIn_1 1 rfl rfl)
theorem dX3_heightIn_26 : decode cX3_heightIn 26 = .ok (.iconst 2, 1) := dk_5 (dk_at dksX3_heightIn_1 2 rfl rfl)
theorem dX3_heightIn_27 : decode cX3_heightIn 27 = .ok (.invokevirtual 183, 3) := dk_182 0 183 (dk_at dksX3_heightIn_1 3 rfl rfl)
theorem dX3_heightIn_30 : decode cX3_heightIn 30 = .ok (.ireturn, 1) := dk_172 (dk_at dksX3_heightIn_1 6 rfl rfl)
def dkwX3_wouldScore_1 : List UInt8 := [27, 28, 16, 6, 182, 0, 183, 42, 27, 16, 6, 182, 0, 76, 100, 172]
abbrev dktX3_wouldScore_1 : List UInt8 := dkwX3_wouldScore_1 ++ []
def dkwX3_wouldScore_0 : List UInt8 := [42, 42, 27, 28, 16, 60, 182, 0, 180, 181, 0, 49, 42, 180, 0, 49, 158, 0, 7, 3, 167, 0, 19, 42]
abbrev dktX3_wouldScore_0 : List UInt8 := dkwX3_wouldScore_0 ++ dktX3_wouldScore_1
theorem dksX3_wouldScore_0 : cX3_wouldScore.data.toList.drop 0 = dktX3_wouldScore_0 := by decide +kernel
theorem dksX3_wouldScore_1 : cX3_wouldScore.data.toList.drop 24 = dktX3_wouldScore_1 := dk_seg dksX3_wouldScore_0 24 rfl rfl
theorem dX3_wouldScore_0 : decode cX3_wouldScore 0 = .ok (.aload_n 0, 1) := dk_42 (dk_at dksX3_wouldScore_0 0 rfl rfl)
theorem dX3_wouldScore_1 : decode cX3_wouldScore 1 = .ok (.aload_n 0, 1) := dk_42 (dk_at dksX3_wouldScore_0 1 rfl rfl)
theorem dX3_wouldScore_2 : decode cX3_wouldScore 2 = .ok (.iload_n 1, 1) := dk_27 (dk_at dksX3_wouldScore_0 2 rfl rfl)
theorem dX3_wouldScore_3 : decode cX3_wouldScore 3 = .ok (.iload_n 2, 1) := dk_28 (dk_at dksX3_wouldScore_0 3 rfl rfl)
theorem dX3_wouldScore_4 : decode cX3_wouldScore 4 = .ok (.bipush 60, 2) := dk_16 60 (dk_at dksX3_wouldScore_0 4 rfl rfl)
theorem dX3_wouldScore_6 : decode cX3_wouldScore 6 = .ok (.invokevirtual 180, 3) := dk_182 0 180 (dk_at dksX3_wouldScore_0 6 rfl rfl)
theorem dX3_wouldScore_9 : decode cX3_wouldScore 9 = .ok (.putfield 49, 3) := dk_181 0 49 (dk_at dksX3_wouldScore_0 9 rfl rfl)
theorem dX3_wouldScore_12 : decode cX3_wouldScore 12 = .ok (.aload_n 0, 1) := dk_42 (dk_at dksX3_wouldScore_0 12 rfl rfl)
theorem dX3_wouldScore_13 : decode cX3_wouldScore 13 = .ok (.getfield 49, 3) := dk_180 0 49 (dk_at dksX3_wouldScore_0 13 rfl rfl)
theorem dX3_wouldScore_16 : decode cX3_wouldScore 16 = .ok (.ifCond .le 7, 3) := dk_158 0 7 (dk_at dksX3_wouldScore_0 16 rfl rfl)
theorem dX3_wouldScore_19 : decode cX3_wouldScore 19 = .ok (.iconst 0, 1) := dk_3 (dk_at dksX3_wouldScore_0 19 rfl rfl)
theorem dX3_wouldScore_20 : decode cX3_wouldScore 20 = .ok (.goto 19, 3) := dk_167 0 19 (dk_at dksX3_wouldScore_0 20 rfl rfl)
theorem dX3_wouldScore_23 : decode cX3_wouldScore 23 = .ok (.aload_n 0, 1) := dk_42 (dk_at dksX3_wouldScore_0 23 rfl rfl)
theorem dX3_wouldScore_24 : decode cX3_wouldScore 24 = .ok (.iload_n 1, 1) := dk_27 (dk_at dksX3_wouldScore_1 0 rfl rfl)
theorem dX3_wouldScore_25 : decode cX3_wouldScore 25 = .ok (.iload_n 2, 1) := dk_28 (dk_at dksX3_wouldScore_1 1 rfl rfl)
theorem dX3_wouldScore_26 : decode cX3_wouldScore 26 = .ok (.bipush 6, 2) := dk_16 6 (dk_at dksX3_wouldScore_1 2 rfl rfl)
theorem dX3_wouldScore_28 : decode cX3_wouldScore 28 = .ok (.invokevirtual 183, 3) := dk_182 0 183 (dk_at dksX3_wouldScore_1 4 rfl rfl)
theorem dX3_wouldScore_31 : decode cX3_wouldScore 31 = .ok (.aload_n 0, 1) := dk_42 (dk_at dksX3_wouldScore_1 7 rfl rfl)
theorem dX3_wouldScore_32 : decode cX3_wouldScore 32 = .ok (.iload_n 1, 1) := dk_27 (dk_at dksX3_wouldScore_1 8 rfl rfl)
theorem dX3_wouldScore_33 : decode cX3_wouldScore 33 = .ok (.bipush 6, 2) := dk_16 6 (dk_at dksX3_wouldScore_1 9 rfl rfl)
theorem dX3_wouldScore_35 : decode cX3_wouldScore 35 = .ok (.invokevirtual 76, 3) := dk_182 0 76 (dk_at dksX3_wouldScore_1 11 rfl rfl)
theorem dX3_wouldScore_38 : decode cX3_wouldScore 38 = .ok (.isub, 1) := dk_100 (dk_at dksX3_wouldScore_1 14 rfl rfl)
theorem dX3_wouldScore_39 : decode cX3_wouldScore 39 = .ok (.ireturn, 1) := dk_172 (dk_at dksX3_wouldScore_1 15 rfl rfl)
def dkwX3_roundsIn_3 : List UInt8 := [3, 181, 0, 49, 42, 182, 0, 177, 42, 180, 0, 49, 158, 0, 7, 3, 167, 0, 4, 29, 172]
abbrev dktX3_roundsIn_3 : List UInt8 := dkwX3_roundsIn_3 ++ []
def dkwX3_roundsIn_2 : List UInt8 := [182, 0, 162, 132, 3, 1, 167, 255, 230, 42, 42, 27, 8, 182, 0, 76, 28, 160, 0, 7, 5, 167, 0, 4]
abbrev dktX3_roundsIn_2 : List UInt8 := dkwX3_roundsIn_2 ++ dktX3_roundsIn_3
def dkwX3_roundsIn_1 : List UInt8 := [61, 3, 62, 42, 27, 5, 182, 0, 76, 158, 0, 23, 42, 27, 8, 182, 0, 76, 28, 160, 0, 13, 42]
abbrev dktX3_roundsIn_1 : List UInt8 := dkwX3_roundsIn_1 ++ dktX3_roundsIn_2
def dkwX3_roundsIn_0 : List UInt8 := [42, 27, 182, 0, 113, 154, 0, 9, 42, 4, 182, 0, 186, 172, 42, 182, 0, 174, 42, 27, 8, 182, 0, 76]
abbrev dktX3_roundsIn_0 : List UInt8 := dkwX3_roundsIn_0 ++ dktX3_roundsIn_1
theorem dksX3_roundsIn_0 : cX3_roundsIn.data.toList.drop 0 = dktX3_roundsIn_0 := by decide +kernel
theorem dksX3_roundsIn_1 : cX3_roundsIn.data.toList.drop 24 = dktX3_roundsIn_1 := dk_seg dksX3_roundsIn_0 24 rfl rfl
theorem dksX3_roundsIn_2 : cX3_roundsIn.data.toList.drop 47 = dktX3_roundsIn_2 := dk_seg dksX3_roundsIn_1 23 rfl rfl
theorem dksX3_roundsIn_3 : cX3_roundsIn.data.toList.drop 71 = dktX3_roundsIn_3 := dk_seg dksX3_roundsIn_2 24 rfl rfl
theorem dX3_roundsIn_0 : decode cX3_roundsIn 0 = .ok (.aload_n 0, 1) := dk_42 (dk_at dksX3_roundsIn_0 0 rfl rfl)
theorem dX3_roundsIn_1 : decode cX3_roundsIn 1 = .ok (.iload_n 1, 1) := dk_27 (dk_at dksX3_roundsIn_0 1 rfl rfl)
theorem dX3_roundsIn_2 : decode cX3_roundsIn 2 = .ok (.invokevirtual 113, 3) := dk_182 0 113 (dk_at dksX3_roundsIn_0 2 rfl rfl)
theorem dX3_roundsIn_5 : decode cX3_roundsIn 5 = .ok (.ifCond .ne 9, 3) := dk_154 0 9 (dk_at dksX3_roundsIn_0 5 rfl rfl)
theorem dX3_roundsIn_8 : decode cX3_roundsIn 8 = .ok (.aload_n 0, 1) := dk_42 (dk_at dksX3_roundsIn_0 8 rfl rfl)
theorem dX3_roundsIn_9 : decode cX3_roundsIn 9 = .ok (.iconst 1, 1) := dk_4 (dk_at dksX3_roundsIn_0 9 rfl rfl)
theorem dX3_roundsIn_10 : decode cX3_roundsIn 10 = .ok (.invokevirtual 186, 3) := dk_182 0 186 (dk_at dksX3_roundsIn_0 10 rfl rfl)
theorem dX3_roundsIn_13 : decode cX3_roundsIn 13 = .ok (.ireturn, 1) := dk_172 (dk_at dksX3_roundsIn_0 13 rfl rfl)
theorem dX3_roundsIn_14 : decode cX3_roundsIn 14 = .ok (.aload_n 0, 1) := dk_42 (dk_at dksX3_roundsIn_0 14 rfl rfl)
theorem dX3_roundsIn_15 : decode cX3_roundsIn 15 = .ok (.invokevirtual 174, 3) := dk_182 0 174 (dk_at dksX3_roundsIn_0 15 rfl rfl)
theorem dX3_roundsIn_18 : decode cX3_roundsIn 18 = .ok (.aload_n 0, 1) := dk_42 (dk_at dksX3_roundsIn_0 18 rfl rfl)
theorem dX3_roundsIn_19 : decode cX3_roundsIn 19 = .ok (.iload_n 1, 1) := dk_27 (dk_at dksX3_roundsIn_0 19 rfl rfl)
theorem dX3_roundsIn_20 : decode cX3_roundsIn 20 = .ok (.iconst 5, 1) := dk_8 (dk_at dksX3_roundsIn_0 20 rfl rfl)
theorem dX3_roundsIn_21 : decode cX3_roundsIn 21 = .ok (.invokevirtual 76, 3) := dk_182 0 76 (dk_at dksX3_roundsIn_0 21 rfl rfl)
theorem dX3_roundsIn_24 : decode cX3_roundsIn 24 = .ok (.istore_n 2, 1) := dk_61 (dk_at dksX3_roundsIn_1 0 rfl rfl)
theorem dX3_roundsIn_25 : decode cX3_roundsIn 25 = .ok (.iconst 0, 1) := dk_3 (dk_at dksX3_roundsIn_1 1 rfl rfl)
theorem dX3_roundsIn_26 : decode cX3_roundsIn 26 = .ok (.istore_n 3, 1) := dk_62 (dk_at dksX3_roundsIn_1 2 rfl rfl)
theorem dX3_roundsIn_27 : decode cX3_roundsIn 27 = .ok (.aload_n 0, 1) := dk_42 (dk_at dksX3_roundsIn_1 3 rfl rfl)
theorem dX3_roundsIn_28 : decode cX3_roundsIn 28 = .ok (.iload_n 1, 1) := dk_27 (dk_at dksX3_roundsIn_1 4 rfl rfl)
theorem dX3_roundsIn_29 : decode cX3_roundsIn 29 = .ok (.iconst 2, 1) := dk_5 (dk_at dksX3_roundsIn_1 5 rfl rfl)
theorem dX3_roundsIn_30 : decode cX3_roundsIn 30 = .ok (.invokevirtual 76, 3) := dk_182 0 76 (dk_at dksX3_roundsIn_1 6 rfl rfl)
theorem dX3_roundsIn_33 : decode cX3_roundsIn 33 = .ok (.ifCond .le 23, 3) := dk_158 0 23 (dk_at dksX3_roundsIn_1 9 rfl rfl)
theorem dX3_roundsIn_36 : decode cX3_roundsIn 36 = .ok (.aload_n 0, 1) := dk_42 (dk_at dksX3_roundsIn_1 12 rfl rfl)
theorem dX3_roundsIn_37 : decode cX3_roundsIn 37 = .ok (.iload_n 1, 1) := dk_27 (dk_at dksX3_roundsIn_1 13 rfl rfl)
theorem dX3_roundsIn_38 : decode cX3_roundsIn 38 = .ok (.iconst 5, 1) := dk_8 (dk_at dksX3_roundsIn_1 14 rfl rfl)
theorem dX3_roundsIn_39 : decode cX3_roundsIn 39 = .ok (.invokevirtual 76, 3) := dk_182 0 76 (dk_at dksX3_roundsIn_1 15 rfl rfl)
theorem dX3_roundsIn_42 : decode cX3_roundsIn 42 = .ok (.iload_n 2, 1) := dk_28 (dk_at dksX3_roundsIn_1 18 rfl rfl)
theorem dX3_roundsIn_43 : decode cX3_roundsIn 43 = .ok (.if_icmp .ne 13, 3) := dk_160 0 13 (dk_at dksX3_roundsIn_1 19 rfl rfl)
theorem dX3_roundsIn_46 : decode cX3_roundsIn 46 = .ok (.aload_n 0, 1) := dk_42 (dk_at dksX3_roundsIn_1 22 rfl rfl)
theorem dX3_roundsIn_47 : decode cX3_roundsIn 47 = .ok (.invokevirtual 162, 3) := dk_182 0 162 (dk_at dksX3_roundsIn_2 0 rfl rfl)
theorem dX3_roundsIn_50 : decode cX3_roundsIn 50 = .ok (.iinc 3 1, 3) := dk_132 3 1 (dk_at dksX3_roundsIn_2 3 rfl rfl)
theorem dX3_roundsIn_53 : decode cX3_roundsIn 53 = .ok (.goto (-26), 3) := dk_167 255 230 (dk_at dksX3_roundsIn_2 6 rfl rfl)
theorem dX3_roundsIn_56 : decode cX3_roundsIn 56 = .ok (.aload_n 0, 1) := dk_42 (dk_at dksX3_roundsIn_2 9 rfl rfl)
theorem dX3_roundsIn_57 : decode cX3_roundsIn 57 = .ok (.aload_n 0, 1) := dk_42 (dk_at dksX3_roundsIn_2 10 rfl rfl)
theorem dX3_roundsIn_58 : decode cX3_roundsIn 58 = .ok (.iload_n 1, 1) := dk_27 (dk_at dksX3_roundsIn_2 11 rfl rfl)
theorem dX3_roundsIn_59 : decode cX3_roundsIn 59 = .ok (.iconst 5, 1) := dk_8 (dk_at dksX3_roundsIn_2 12 rfl rfl)
theorem dX3_roundsIn_60 : decode cX3_roundsIn 60 = .ok (.invokevirtual 76, 3) := dk_182 0 76 (dk_at dksX3_roundsIn_2 13 rfl rfl)
theorem dX3_roundsIn_63 : decode cX3_roundsIn 63 = .ok (.iload_n 2, 1) := dk_28 (dk_at dksX3_roundsIn_2 16 rfl rfl)
theorem dX3_roundsIn_64 : decode cX3_roundsIn 64 = .ok (.if_icmp .ne 7, 3) := dk_160 0 7 (dk_at dksX3_roundsIn_2 17 rfl rfl)
theorem dX3_roundsIn_67 : decode cX3_roundsIn 67 = .ok (.iconst 2, 1) := dk_5 (dk_at dksX3_roundsIn_2 20 rfl rfl)
theorem dX3_roundsIn_68 : decode cX3_roundsIn 68 = .ok (.goto 4, 3) := dk_167 0 4 (dk_at dksX3_roundsIn_2 21 rfl rfl)
theorem dX3_roundsIn_71 : decode cX3_roundsIn 71 = .ok (.iconst 0, 1) := dk_3 (dk_at dksX3_roundsIn_3 0 rfl rfl)
theorem dX3_roundsIn_72 : decode cX3_roundsIn 72 = .ok (.putfield 49, 3) := dk_181 0 49 (dk_at dksX3_roundsIn_3 1 rfl rfl)
theorem dX3_roundsIn_75 : decode cX3_roundsIn 75 = .ok (.aload_n 0, 1) := dk_42 (dk_at dksX3_roundsIn_3 4 rfl rfl)
theorem dX3_roundsIn_76 : decode cX3_roundsIn 76 = .ok (.invokevirtual 177, 3) := dk_182 0 177 (dk_at dksX3_roundsIn_3 5 rfl rfl)
theorem dX3_roundsIn_79 : decode cX3_roundsIn 79 = .ok (.aload_n 0, 1) := dk_42 (dk_at dksX3_roundsIn_3 8 rfl rfl)
theorem dX3_roundsIn_80 : decode cX3_roundsIn 80 = .ok (.getfield 49, 3) := dk_180 0 49 (dk_at dksX3_roundsIn_3 9 rfl rfl)
theorem dX3_roundsIn_83 : decode cX3_roundsIn 83 = .ok (.ifCond .le 7, 3) := dk_158 0 7 (dk_at dksX3_roundsIn_3 12 rfl rfl)
theorem dX3_roundsIn_86 : decode cX3_roundsIn 86 = .ok (.iconst 0, 1) := dk_3 (dk_at dksX3_roundsIn_3 15 rfl rfl)
theorem dX3_roundsIn_87 : decode cX3_roundsIn 87 = .ok (.goto 4, 3) := dk_167 0 4 (dk_at dksX3_roundsIn_3 16 rfl rfl)
theorem dX3_roundsIn_90 : decode cX3_roundsIn 90 = .ok (.iload_n 3, 1) := dk_29 (dk_at dksX3_roundsIn_3 19 rfl rfl)
theorem dX3_roundsIn_91 : decode cX3_roundsIn 91 = .ok (.ireturn, 1) := dk_172 (dk_at dksX3_roundsIn_3 20 rfl rfl)
def dkwX3_fails_0 : List UInt8 := [42, 27, 181, 0, 49, 3, 172]
abbrev dktX3_fails_0 : List UInt8 := dkwX3_fails_0 ++ []
theorem dksX3_fails_0 : cX3_fails.data.toList.drop 0 = dktX3_fails_0 := by decide +kernel
theorem dX3_fails_0 : decode cX3_fails 0 = .ok (.aload_n 0, 1) := dk_42 (dk_at dksX3_fails_0 0 rfl rfl)
theorem dX3_fails_1 : decode cX3_fails 1 = .ok (.iload_n 1, 1) := dk_27 (dk_at dksX3_fails_0 1 rfl rfl)
theorem dX3_fails_2 : decode cX3_fails 2 = .ok (.putfield 49, 3) := dk_181 0 49 (dk_at dksX3_fails_0 2 rfl rfl)
theorem dX3_fails_5 : decode cX3_fails 5 = .ok (.iconst 0, 1) := dk_3 (dk_at dksX3_fails_0 5 rfl rfl)
theorem dX3_fails_6 : decode cX3_fails 6 = .ok (.ireturn, 1) := dk_172 (dk_at dksX3_fails_0 6 rfl rfl)
def dkwX3_landsIn_2 : List UInt8 := [158, 0, 9, 132, 2, 1, 167, 255, 236, 28, 172]
abbrev dktX3_landsIn_2 : List UInt8 := dkwX3_landsIn_2 ++ []
def dkwX3_landsIn_1 : List UInt8 := [167, 0, 4, 3, 181, 0, 49, 3, 61, 42, 180, 0, 49, 154, 0, 19, 42, 27, 28, 5, 182, 0, 183]
abbrev dktX3_landsIn_1 : List UInt8 := dkwX3_landsIn_1 ++ dktX3_landsIn_2
def dkwX3_landsIn_0 : List UInt8 := [42, 42, 27, 182, 0, 113, 154, 0, 7, 4, 167, 0, 17, 42, 27, 5, 182, 0, 76, 154, 0, 7, 5]
abbrev dktX3_landsIn_0 : List UInt8 := dkwX3_landsIn_0 ++ dktX3_landsIn_1
theorem dksX3_landsIn_0 : cX3_landsIn.data.toList.drop 0 = dktX3_landsIn_0 := by decide +kernel
theorem dksX3_landsIn_1 : cX3_landsIn.data.toList.drop 23 = dktX3_landsIn_1 := dk_seg dksX3_landsIn_0 23 rfl rfl
theorem dksX3_landsIn_2 : cX3_landsIn.data.toList.drop 46 = dktX3_landsIn_2 := dk_seg dksX3_landsIn_1 23 rfl rfl
theorem dX3_landsIn_0 : decode cX3_landsIn 0 = .ok (.aload_n 0, 1) := dk_42 (dk_at dksX3_landsIn_0 0 rfl rfl)
theorem dX3_landsIn_1 : decode cX3_landsIn 1 = .ok (.aload_n 0, 1) := dk_42 (dk_at dksX3_landsIn_0 1 rfl rfl)
theorem dX3_landsIn_2 : decode cX3_landsIn 2 = .ok (.iload_n 1, 1) := dk_27 (dk_at dksX3_landsIn_0 2 rfl rfl)
theorem dX3_landsIn_3 : decode cX3_landsIn 3 = .ok (.invokevirtual 113, 3) := dk_182 0 113 (dk_at dksX3_landsIn_0 3 rfl rfl)
theorem dX3_landsIn_6 : decode cX3_landsIn 6 = .ok (.ifCond .ne 7, 3) := dk_154 0 7 (dk_at dksX3_landsIn_0 6 rfl rfl)
theorem dX3_landsIn_9 : decode cX3_landsIn 9 = .ok (.iconst 1, 1) := dk_4 (dk_at dksX3_landsIn_0 9 rfl rfl)
theorem dX3_landsIn_10 : decode cX3_landsIn 10 = .ok (.goto 17, 3) := dk_167 0 17 (dk_at dksX3_landsIn_0 10 rfl rfl)
theorem dX3_landsIn_13 : decode cX3_landsIn 13 = .ok (.aload_n 0, 1) := dk_42 (dk_at dksX3_landsIn_0 13 rfl rfl)
theorem dX3_landsIn_14 : decode cX3_landsIn 14 = .ok (.iload_n 1, 1) := dk_27 (dk_at dksX3_landsIn_0 14 rfl rfl)
theorem dX3_landsIn_15 : decode cX3_landsIn 15 = .ok (.iconst 2, 1) := dk_5 (dk_at dksX3_landsIn_0 15 rfl rfl)
theorem dX3_landsIn_16 : decode cX3_landsIn 16 = .ok (.invokevirtual 76, 3) := dk_182 0 76 (dk_at dksX3_landsIn_0 16 rfl rfl)
theorem dX3_landsIn_19 : decode cX3_landsIn 19 = .ok (.ifCond .ne 7, 3) := dk_154 0 7 (dk_at dksX3_landsIn_0 19 rfl rfl)
theorem dX3_landsIn_22 : decode cX3_landsIn 22 = .ok (.iconst 2, 1) := dk_5 (dk_at dksX3_landsIn_0 22 rfl rfl)
theorem dX3_landsIn_23 : decode cX3_landsIn 23 = .ok (.goto 4, 3) := dk_167 0 4 (dk_at dksX3_landsIn_1 0 rfl rfl)
theorem dX3_landsIn_26 : decode cX3_landsIn 26 = .ok (.iconst 0, 1) := dk_3 (dk_at dksX3_landsIn_1 3 rfl rfl)
theorem dX3_landsIn_27 : decode cX3_landsIn 27 = .ok (.putfield 49, 3) := dk_181 0 49 (dk_at dksX3_landsIn_1 4 rfl rfl)
theorem dX3_landsIn_30 : decode cX3_landsIn 30 = .ok (.iconst 0, 1) := dk_3 (dk_at dksX3_landsIn_1 7 rfl rfl)
theorem dX3_landsIn_31 : decode cX3_landsIn 31 = .ok (.istore_n 2, 1) := dk_61 (dk_at dksX3_landsIn_1 8 rfl rfl)
theorem dX3_landsIn_32 : decode cX3_landsIn 32 = .ok (.aload_n 0, 1) := dk_42 (dk_at dksX3_landsIn_1 9 rfl rfl)
theorem dX3_landsIn_33 : decode cX3_landsIn 33 = .ok (.getfield 49, 3) := dk_180 0 49 (dk_at dksX3_landsIn_1 10 rfl rfl)
theorem dX3_landsIn_36 : decode cX3_landsIn 36 = .ok (.ifCond .ne 19, 3) := dk_154 0 19 (dk_at dksX3_landsIn_1 13 rfl rfl)
theorem dX3_landsIn_39 : decode cX3_landsIn 39 = .ok (.aload_n 0, 1) := dk_42 (dk_at dksX3_landsIn_1 16 rfl rfl)
theorem dX3_landsIn_40 : decode cX3_landsIn 40 = .ok (.iload_n 1, 1) := dk_27 (dk_at dksX3_landsIn_1 17 rfl rfl)
theorem dX3_landsIn_41 : decode cX3_landsIn 41 = .ok (.iload_n 2, 1) := dk_28 (dk_at dksX3_landsIn_1 18 rfl rfl)
theorem dX3_landsIn_42 : decode cX3_landsIn 42 = .ok (.iconst 2, 1) := dk_5 (dk_at dksX3_landsIn_1 19 rfl rfl)
theorem dX3_landsIn_43 : decode cX3_landsIn 43 = .ok (.invokevirtual 183, 3) := dk_182 0 183 (dk_at dksX3_landsIn_1 20 rfl rfl)
theorem dX3_landsIn_46 : decode cX3_landsIn 46 = .ok (.ifCond .le 9, 3) := dk_158 0 9 (dk_at dksX3_landsIn_2 0 rfl rfl)
theorem dX3_landsIn_49 : decode cX3_landsIn 49 = .ok (.iinc 2 1, 3) := dk_132 2 1 (dk_at dksX3_landsIn_2 3 rfl rfl)
theorem dX3_landsIn_52 : decode cX3_landsIn 52 = .ok (.goto (-20), 3) := dk_167 255 236 (dk_at dksX3_landsIn_2 6 rfl rfl)
theorem dX3_landsIn_55 : decode cX3_landsIn 55 = .ok (.iload_n 2, 1) := dk_28 (dk_at dksX3_landsIn_2 9 rfl rfl)
theorem dX3_landsIn_56 : decode cX3_landsIn 56 = .ok (.ireturn, 1) := dk_172 (dk_at dksX3_landsIn_2 10 rfl rfl)
def dkwX3_landsAt_1 : List UInt8 := [172]
abbrev dktX3_landsAt_1 : List UInt8 := dkwX3_landsAt_1 ++ []
def dkwX3_landsAt_0 : List UInt8 := [42, 27, 182, 0, 189, 61, 42, 180, 0, 49, 158, 0, 7, 3, 167, 0, 10, 42, 27, 28, 3, 182, 0, 183]
abbrev dktX3_landsAt_0 : List UInt8 := dkwX3_landsAt_0 ++ dktX3_landsAt_1
theorem dksX3_landsAt_0 : cX3_landsAt.data.toList.drop 0 = dktX3_landsAt_0 := by decide +kernel
theorem dksX3_landsAt_1 : cX3_landsAt.data.toList.drop 24 = dktX3_landsAt_1 := dk_seg dksX3_landsAt_0 24 rfl rfl
theorem dX3_landsAt_0 : decode cX3_landsAt 0 = .ok (.aload_n 0, 1) := dk_42 (dk_at dksX3_landsAt_0 0 rfl rfl)
theorem dX3_landsAt_1 : decode cX3_landsAt 1 = .ok (.iload_n 1, 1) := dk_27 (dk_at dksX3_landsAt_0 1 rfl rfl)
theorem dX3_landsAt_2 : decode cX3_landsAt 2 = .ok (.invokevirtual 189, 3) := dk_182 0 189 (dk_at dksX3_landsAt_0 2 rfl rfl)
theorem dX3_landsAt_5 : decode cX3_landsAt 5 = .ok (.istore_n 2, 1) := dk_61 (dk_at dksX3_landsAt_0 5 rfl rfl)
theorem dX3_landsAt_6 : decode cX3_landsAt 6 = .ok (.aload_n 0, 1) := dk_42 (dk_at dksX3_landsAt_0 6 rfl rfl)
theorem dX3_landsAt_7 : decode cX3_landsAt 7 = .ok (.getfield 49, 3) := dk_180 0 49 (dk_at dksX3_landsAt_0 7 rfl rfl)
theorem dX3_landsAt_10 : decode cX3_landsAt 10 = .ok (.ifCond .le 7, 3) := dk_158 0 7 (dk_at dksX3_landsAt_0 10 rfl rfl)
theorem dX3_landsAt_13 : decode cX3_landsAt 13 = .ok (.iconst 0, 1) := dk_3 (dk_at dksX3_landsAt_0 13 rfl rfl)
theorem dX3_landsAt_14 : decode cX3_landsAt 14 = .ok (.goto 10, 3) := dk_167 0 10 (dk_at dksX3_landsAt_0 14 rfl rfl)
theorem dX3_landsAt_17 : decode cX3_landsAt 17 = .ok (.aload_n 0, 1) := dk_42 (dk_at dksX3_landsAt_0 17 rfl rfl)
theorem dX3_landsAt_18 : decode cX3_landsAt 18 = .ok (.iload_n 1, 1) := dk_27 (dk_at dksX3_landsAt_0 18 rfl rfl)
theorem dX3_landsAt_19 : decode cX3_landsAt 19 = .ok (.iload_n 2, 1) := dk_28 (dk_at dksX3_landsAt_0 19 rfl rfl)
theorem dX3_landsAt_20 : decode cX3_landsAt 20 = .ok (.iconst 0, 1) := dk_3 (dk_at dksX3_landsAt_0 20 rfl rfl)
theorem dX3_landsAt_21 : decode cX3_landsAt 21 = .ok (.invokevirtual 183, 3) := dk_182 0 183 (dk_at dksX3_landsAt_0 21 rfl rfl)
theorem dX3_landsAt_24 : decode cX3_landsAt 24 = .ok (.ireturn, 1) := dk_172 (dk_at dksX3_landsAt_1 0 rfl rfl)
def dkwX3_fewest_2 : List UInt8 := [167, 0, 4, 28, 172]
abbrev dktX3_fewest_2 : List UInt8 := dkwX3_fewest_2 ++ []
def dkwX3_fewest_1 : List UInt8 := [17, 3, 232, 160, 0, 7, 5, 167, 0, 4, 3, 181, 0, 49, 42, 180, 0, 49, 158, 0, 7, 3]
abbrev dktX3_fewest_1 : List UInt8 := dkwX3_fewest_1 ++ dktX3_fewest_2
def dkwX3_fewest_0 : List UInt8 := [42, 27, 182, 0, 113, 154, 0, 9, 42, 4, 182, 0, 186, 172, 42, 27, 182, 0, 201, 61, 42, 28]
abbrev dktX3_fewest_0 : List UInt8 := dkwX3_fewest_0 ++ dktX3_fewest_1
theorem dksX3_fewest_0 : cX3_fewest.data.toList.drop 0 = dktX3_fewest_0 := by decide +kernel
theorem dksX3_fewest_1 : cX3_fewest.data.toList.drop 22 = dktX3_fewest_1 := dk_seg dksX3_fewest_0 22 rfl rfl
theorem dksX3_fewest_2 : cX3_fewest.data.toList.drop 44 = dktX3_fewest_2 := dk_seg dksX3_fewest_1 22 rfl rfl
theorem dX3_fewest_0 : decode cX3_fewest 0 = .ok (.aload_n 0, 1) := dk_42 (dk_at dksX3_fewest_0 0 rfl rfl)
theorem dX3_fewest_1 : decode cX3_fewest 1 = .ok (.iload_n 1, 1) := dk_27 (dk_at dksX3_fewest_0 1 rfl rfl)
theorem dX3_fewest_2 : decode cX3_fewest 2 = .ok (.invokevirtual 113, 3) := dk_182 0 113 (dk_at dksX3_fewest_0 2 rfl rfl)
theorem dX3_fewest_5 : decode cX3_fewest 5 = .ok (.ifCond .ne 9, 3) := dk_154 0 9 (dk_at dksX3_fewest_0 5 rfl rfl)
theorem dX3_fewest_8 : decode cX3_fewest 8 = .ok (.aload_n 0, 1) := dk_42 (dk_at dksX3_fewest_0 8 rfl rfl)
theorem dX3_fewest_9 : decode cX3_fewest 9 = .ok (.iconst 1, 1) := dk_4 (dk_at dksX3_fewest_0 9 rfl rfl)
theorem dX3_fewest_10 : decode cX3_fewest 10 = .ok (.invokevirtual 186, 3) := dk_182 0 186 (dk_at dksX3_fewest_0 10 rfl rfl)
theorem dX3_fewest_13 : decode cX3_fewest 13 = .ok (.ireturn, 1) := dk_172 (dk_at dksX3_fewest_0 13 rfl rfl)
theorem dX3_fewest_14 : decode cX3_fewest 14 = .ok (.aload_n 0, 1) := dk_42 (dk_at dksX3_fewest_0 14 rfl rfl)
theorem dX3_fewest_15 : decode cX3_fewest 15 = .ok (.iload_n 1, 1) := dk_27 (dk_at dksX3_fewest_0 15 rfl rfl)
theorem dX3_fewest_16 : decode cX3_fewest 16 = .ok (.invokevirtual 201, 3) := dk_182 0 201 (dk_at dksX3_fewest_0 16 rfl rfl)
theorem dX3_fewest_19 : decode cX3_fewest 19 = .ok (.istore_n 2, 1) := dk_61 (dk_at dksX3_fewest_0 19 rfl rfl)
theorem dX3_fewest_20 : decode cX3_fewest 20 = .ok (.aload_n 0, 1) := dk_42 (dk_at dksX3_fewest_0 20 rfl rfl)
theorem dX3_fewest_21 : decode cX3_fewest 21 = .ok (.iload_n 2, 1) := dk_28 (dk_at dksX3_fewest_0 21 rfl rfl)
theorem dX3_fewest_22 : decode cX3_fewest 22 = .ok (.sipush 1000, 3) := dk_17 3 232 (dk_at dksX3_fewest_1 0 rfl rfl)
theorem dX3_fewest_25 : decode cX3_fewest 25 = .ok (.if_icmp .ne 7, 3) := dk_160 0 7 (dk_at dksX3_fewest_1 3 rfl rfl)
theorem dX3_fewest_28 : decode cX3_fewest 28 = .ok (.iconst 2, 1) := dk_5 (dk_at dksX3_fewest_1 6 rfl rfl)
theorem dX3_fewest_29 : decode cX3_fewest 29 = .ok (.goto 4, 3) := dk_167 0 4 (dk_at dksX3_fewest_1 7 rfl rfl)
theorem dX3_fewest_32 : decode cX3_fewest 32 = .ok (.iconst 0, 1) := dk_3 (dk_at dksX3_fewest_1 10 rfl rfl)
theorem dX3_fewest_33 : decode cX3_fewest 33 = .ok (.putfield 49, 3) := dk_181 0 49 (dk_at dksX3_fewest_1 11 rfl rfl)
theorem dX3_fewest_36 : decode cX3_fewest 36 = .ok (.aload_n 0, 1) := dk_42 (dk_at dksX3_fewest_1 14 rfl rfl)
theorem dX3_fewest_37 : decode cX3_fewest 37 = .ok (.getfield 49, 3) := dk_180 0 49 (dk_at dksX3_fewest_1 15 rfl rfl)
theorem dX3_fewest_40 : decode cX3_fewest 40 = .ok (.ifCond .le 7, 3) := dk_158 0 7 (dk_at dksX3_fewest_1 18 rfl rfl)
theorem dX3_fewest_43 : decode cX3_fewest 43 = .ok (.iconst 0, 1) := dk_3 (dk_at dksX3_fewest_1 21 rfl rfl)
theorem dX3_fewest_44 : decode cX3_fewest 44 = .ok (.goto 4, 3) := dk_167 0 4 (dk_at dksX3_fewest_2 0 rfl rfl)
theorem dX3_fewest_47 : decode cX3_fewest 47 = .ok (.iload_n 2, 1) := dk_28 (dk_at dksX3_fewest_2 3 rfl rfl)
theorem dX3_fewest_48 : decode cX3_fewest 48 = .ok (.ireturn, 1) := dk_172 (dk_at dksX3_fewest_2 4 rfl rfl)
def dkwX3_fewestOf_1 : List UInt8 := [182, 0, 198, 167, 0, 6, 17, 3, 232, 172]
abbrev dktX3_fewestOf_1 : List UInt8 := dkwX3_fewestOf_1 ++ []
def dkwX3_fewestOf_0 : List UInt8 := [42, 27, 182, 0, 143, 153, 0, 25, 42, 42, 27, 182, 0, 120, 42, 42, 27, 8, 182, 0, 76, 182, 0, 146]
abbrev dktX3_fewestOf_0 : List UInt8 := dkwX3_fewestOf_0 ++ dktX3_fewestOf_1
theorem dksX3_fewestOf_0 : cX3_fewestOf.data.toList.drop 0 = dktX3_fewestOf_0 := by decide +kernel
theorem dksX3_fewestOf_1 : cX3_fewestOf.data.toList.drop 24 = dktX3_fewestOf_1 := dk_seg dksX3_fewestOf_0 24 rfl rfl
theorem dX3_fewestOf_0 : decode cX3_fewestOf 0 = .ok (.aload_n 0, 1) := dk_42 (dk_at dksX3_fewestOf_0 0 rfl rfl)
theorem dX3_fewestOf_1 : decode cX3_fewestOf 1 = .ok (.iload_n 1, 1) := dk_27 (dk_at dksX3_fewestOf_0 1 rfl rfl)
theorem dX3_fewestOf_2 : decode cX3_fewestOf 2 = .ok (.invokevirtual 143, 3) := dk_182 0 143 (dk_at dksX3_fewestOf_0 2 rfl rfl)
theorem dX3_fewestOf_5 : decode cX3_fewestOf 5 = .ok (.ifCond .eq 25, 3) := dk_153 0 25 (dk_at dksX3_fewestOf_0 5 rfl rfl)
theorem dX3_fewestOf_8 : decode cX3_fewestOf 8 = .ok (.aload_n 0, 1) := dk_42 (dk_at dksX3_fewestOf_0 8 rfl rfl)
theorem dX3_fewestOf_9 : decode cX3_fewestOf 9 = .ok (.aload_n 0, 1) := dk_42 (dk_at dksX3_fewestOf_0 9 rfl rfl)
theorem dX3_fewestOf_10 : decode cX3_fewestOf 10 = .ok (.iload_n 1, 1) := dk_27 (dk_at dksX3_fewestOf_0 10 rfl rfl)
theorem dX3_fewestOf_11 : decode cX3_fewestOf 11 = .ok (.invokevirtual 120, 3) := dk_182 0 120 (dk_at dksX3_fewestOf_0 11 rfl rfl)
theorem dX3_fewestOf_14 : decode cX3_fewestOf 14 = .ok (.aload_n 0, 1) := dk_42 (dk_at dksX3_fewestOf_0 14 rfl rfl)
theorem dX3_fewestOf_15 : decode cX3_fewestOf 15 = .ok (.aload_n 0, 1) := dk_42 (dk_at dksX3_fewestOf_0 15 rfl rfl)
theorem dX3_fewestOf_16 : decode cX3_fewestOf 16 = .ok (.iload_n 1, 1) := dk_27 (dk_at dksX3_fewestOf_0 16 rfl rfl)
theorem dX3_fewestOf_17 : decode cX3_fewestOf 17 = .ok (.iconst 5, 1) := dk_8 (dk_at dksX3_fewestOf_0 17 rfl rfl)
theorem dX3_fewestOf_18 : decode cX3_fewestOf 18 = .ok (.invokevirtual 76, 3) := dk_182 0 76 (dk_at dksX3_fewestOf_0 18 rfl rfl)
theorem dX3_fewestOf_21 : decode cX3_fewestOf 21 = .ok (.invokevirtual 146, 3) := dk_182 0 146 (dk_at dksX3_fewestOf_0 21 rfl rfl)
theorem dX3_fewestOf_24 : decode cX3_fewestOf 24 = .ok (.invokevirtual 198, 3) := dk_182 0 198 (dk_at dksX3_fewestOf_1 0 rfl rfl)
theorem dX3_fewestOf_27 : decode cX3_fewestOf 27 = .ok (.goto 6, 3) := dk_167 0 6 (dk_at dksX3_fewestOf_1 3 rfl rfl)
theorem dX3_fewestOf_30 : decode cX3_fewestOf 30 = .ok (.sipush 1000, 3) := dk_17 3 232 (dk_at dksX3_fewestOf_1 6 rfl rfl)
theorem dX3_fewestOf_33 : decode cX3_fewestOf 33 = .ok (.ireturn, 1) := dk_172 (dk_at dksX3_fewestOf_1 9 rfl rfl)
def dkwX3_hoursTo_1 : List UInt8 := [153, 0, 5, 29, 172, 132, 3, 1, 167, 255, 232, 17, 3, 232, 172]
abbrev dktX3_hoursTo_1 : List UInt8 := dkwX3_hoursTo_1 ++ []
def dkwX3_hoursTo_0 : List UInt8 := [42, 27, 182, 0, 192, 4, 62, 29, 16, 100, 163, 0, 24, 42, 182, 0, 195, 42, 180, 0, 28, 28, 51]
abbrev dktX3_hoursTo_0 : List UInt8 := dkwX3_hoursTo_0 ++ dktX3_hoursTo_1
theorem dksX3_hoursTo_0 : cX3_hoursTo.data.toList.drop 0 = dktX3_hoursTo_0 := by decide +kernel
theorem dksX3_hoursTo_1 : cX3_hoursTo.data.toList.drop 23 = dktX3_hoursTo_1 := dk_seg dksX3_hoursTo_0 23 rfl rfl
theorem dX3_hoursTo_0 : decode cX3_hoursTo 0 = .ok (.aload_n 0, 1) := dk_42 (dk_at dksX3_hoursTo_0 0 rfl rfl)
theorem dX3_hoursTo_1 : decode cX3_hoursTo 1 = .ok (.iload_n 1, 1) := dk_27 (dk_at dksX3_hoursTo_0 1 rfl rfl)
theorem dX3_hoursTo_2 : decode cX3_hoursTo 2 = .ok (.invokevirtual 192, 3) := dk_182 0 192 (dk_at dksX3_hoursTo_0 2 rfl rfl)
theorem dX3_hoursTo_5 : decode cX3_hoursTo 5 = .ok (.iconst 1, 1) := dk_4 (dk_at dksX3_hoursTo_0 5 rfl rfl)
theorem dX3_hoursTo_6 : decode cX3_hoursTo 6 = .ok (.istore_n 3, 1) := dk_62 (dk_at dksX3_hoursTo_0 6 rfl rfl)
theorem dX3_hoursTo_7 : decode cX3_hoursTo 7 = .ok (.iload_n 3, 1) := dk_29 (dk_at dksX3_hoursTo_0 7 rfl rfl)
theorem dX3_hoursTo_8 : decode cX3_hoursTo 8 = .ok (.bipush 100, 2) := dk_16 100 (dk_at dksX3_hoursTo_0 8 rfl rfl)
theorem dX3_hoursTo_10 : decode cX3_hoursTo 10 = .ok (.if_icmp .gt 24, 3) := dk_163 0 24 (dk_at dksX3_hoursTo_0 10 rfl rfl)
theorem dX3_hoursTo_13 : decode cX3_hoursTo 13 = .ok (.aload_n 0, 1) := dk_42 (dk_at dksX3_hoursTo_0 13 rfl rfl)
theorem dX3_hoursTo_14 : decode cX3_hoursTo 14 = .ok (.invokevirtual 195, 3) := dk_182 0 195 (dk_at dksX3_hoursTo_0 14 rfl rfl)
theorem dX3_hoursTo_17 : decode cX3_hoursTo 17 = .ok (.aload_n 0, 1) := dk_42 (dk_at dksX3_hoursTo_0 17 rfl rfl)
theorem dX3_hoursTo_18 : decode cX3_hoursTo 18 = .ok (.getfield 28, 3) := dk_180 0 28 (dk_at dksX3_hoursTo_0 18 rfl rfl)
theorem dX3_hoursTo_21 : decode cX3_hoursTo 21 = .ok (.iload_n 2, 1) := dk_28 (dk_at dksX3_hoursTo_0 21 rfl rfl)
theorem dX3_hoursTo_22 : decode cX3_hoursTo 22 = .ok (.baload, 1) := dk_51 (dk_at dksX3_hoursTo_0 22 rfl rfl)
theorem dX3_hoursTo_23 : decode cX3_hoursTo 23 = .ok (.ifCond .eq 5, 3) := dk_153 0 5 (dk_at dksX3_hoursTo_1 0 rfl rfl)
theorem dX3_hoursTo_26 : decode cX3_hoursTo 26 = .ok (.iload_n 3, 1) := dk_29 (dk_at dksX3_hoursTo_1 3 rfl rfl)
theorem dX3_hoursTo_27 : decode cX3_hoursTo 27 = .ok (.ireturn, 1) := dk_172 (dk_at dksX3_hoursTo_1 4 rfl rfl)
theorem dX3_hoursTo_28 : decode cX3_hoursTo 28 = .ok (.iinc 3 1, 3) := dk_132 3 1 (dk_at dksX3_hoursTo_1 5 rfl rfl)
theorem dX3_hoursTo_31 : decode cX3_hoursTo 31 = .ok (.goto (-24), 3) := dk_167 255 232 (dk_at dksX3_hoursTo_1 8 rfl rfl)
theorem dX3_hoursTo_34 : decode cX3_hoursTo 34 = .ok (.sipush 1000, 3) := dk_17 3 232 (dk_at dksX3_hoursTo_1 11 rfl rfl)
theorem dX3_hoursTo_37 : decode cX3_hoursTo 37 = .ok (.ireturn, 1) := dk_172 (dk_at dksX3_hoursTo_1 14 rfl rfl)
def dkwX3_begins_1 : List UInt8 := [132, 2, 1, 167, 255, 231, 177]
abbrev dktX3_begins_1 : List UInt8 := dkwX3_begins_1 ++ []
def dkwX3_begins_0 : List UInt8 := [3, 61, 28, 16, 100, 162, 0, 25, 42, 180, 0, 28, 28, 28, 27, 160, 0, 7, 4, 167, 0, 4, 3, 84]
abbrev dktX3_begins_0 : List UInt8 := dkwX3_begins_0 ++ dktX3_begins_1
theorem dksX3_begins_0 : cX3_begins.data.toList.drop 0 = dktX3_begins_0 := by decide +kernel
theorem dksX3_begins_1 : cX3_begins.data.toList.drop 24 = dktX3_begins_1 := dk_seg dksX3_begins_0 24 rfl rfl
theorem dX3_begins_0 : decode cX3_begins 0 = .ok (.iconst 0, 1) := dk_3 (dk_at dksX3_begins_0 0 rfl rfl)
theorem dX3_begins_1 : decode cX3_begins 1 = .ok (.istore_n 2, 1) := dk_61 (dk_at dksX3_begins_0 1 rfl rfl)
theorem dX3_begins_2 : decode cX3_begins 2 = .ok (.iload_n 2, 1) := dk_28 (dk_at dksX3_begins_0 2 rfl rfl)
theorem dX3_begins_3 : decode cX3_begins 3 = .ok (.bipush 100, 2) := dk_16 100 (dk_at dksX3_begins_0 3 rfl rfl)
theorem dX3_begins_5 : decode cX3_begins 5 = .ok (.if_icmp .ge 25, 3) := dk_162 0 25 (dk_at dksX3_begins_0 5 rfl rfl)
theorem dX3_begins_8 : decode cX3_begins 8 = .ok (.aload_n 0, 1) := dk_42 (dk_at dksX3_begins_0 8 rfl rfl)
theorem dX3_begins_9 : decode cX3_begins 9 = .ok (.getfield 28, 3) := dk_180 0 28 (dk_at dksX3_begins_0 9 rfl rfl)
theorem dX3_begins_12 : decode cX3_begins 12 = .ok (.iload_n 2, 1) := dk_28 (dk_at dksX3_begins_0 12 rfl rfl)
theorem dX3_begins_13 : decode cX3_begins 13 = .ok (.iload_n 2, 1) := dk_28 (dk_at dksX3_begins_0 13 rfl rfl)
theorem dX3_begins_14 : decode cX3_begins 14 = .ok (.iload_n 1, 1) := dk_27 (dk_at dksX3_begins_0 14 rfl rfl)
theorem dX3_begins_15 : decode cX3_begins 15 = .ok (.if_icmp .ne 7, 3) := dk_160 0 7 (dk_at dksX3_begins_0 15 rfl rfl)
theorem dX3_begins_18 : decode cX3_begins 18 = .ok (.iconst 1, 1) := dk_4 (dk_at dksX3_begins_0 18 rfl rfl)
theorem dX3_begins_19 : decode cX3_begins 19 = .ok (.goto 4, 3) := dk_167 0 4 (dk_at dksX3_begins_0 19 rfl rfl)
theorem dX3_begins_22 : decode cX3_begins 22 = .ok (.iconst 0, 1) := dk_3 (dk_at dksX3_begins_0 22 rfl rfl)
theorem dX3_begins_23 : decode cX3_begins 23 = .ok (.bastore, 1) := dk_84 (dk_at dksX3_begins_0 23 rfl rfl)
theorem dX3_begins_24 : decode cX3_begins 24 = .ok (.iinc 2 1, 3) := dk_132 2 1 (dk_at dksX3_begins_1 0 rfl rfl)
theorem dX3_begins_27 : decode cX3_begins 27 = .ok (.goto (-25), 3) := dk_167 255 231 (dk_at dksX3_begins_1 3 rfl rfl)
theorem dX3_begins_30 : decode cX3_begins 30 = .ok (.return_, 1) := dk_177 (dk_at dksX3_begins_1 6 rfl rfl)
def dkwX3_goesOn_2 : List UInt8 := [180, 0, 28, 42, 27, 28, 182, 0, 149, 4, 84, 132, 2, 1, 167, 255, 227, 132, 1, 1, 167, 255, 213, 177]
abbrev dktX3_goesOn_2 : List UInt8 := dkwX3_goesOn_2 ++ []
def dkwX3_goesOn_1 : List UInt8 := [16, 100, 162, 0, 43, 4, 61, 28, 8, 163, 0, 30, 42, 180, 0, 32, 27, 51, 153, 0, 21, 42]
abbrev dktX3_goesOn_1 : List UInt8 := dkwX3_goesOn_1 ++ dktX3_goesOn_2
def dkwX3_goesOn_0 : List UInt8 := [42, 180, 0, 28, 3, 42, 180, 0, 32, 3, 16, 100, 184, 0, 52, 42, 2, 182, 0, 192, 3, 60, 27]
abbrev dktX3_goesOn_0 : List UInt8 := dkwX3_goesOn_0 ++ dktX3_goesOn_1
theorem dksX3_goesOn_0 : cX3_goesOn.data.toList.drop 0 = dktX3_goesOn_0 := by decide +kernel
theorem dksX3_goesOn_1 : cX3_goesOn.data.toList.drop 23 = dktX3_goesOn_1 := dk_seg dksX3_goesOn_0 23 rfl rfl
theorem dksX3_goesOn_2 : cX3_goesOn.data.toList.drop 45 = dktX3_goesOn_2 := dk_seg dksX3_goesOn_1 22 rfl rfl
theorem dX3_goesOn_0 : decode cX3_goesOn 0 = .ok (.aload_n 0, 1) := dk_42 (dk_at dksX3_goesOn_0 0 rfl rfl)
theorem dX3_goesOn_1 : decode cX3_goesOn 1 = .ok (.getfield 28, 3) := dk_180 0 28 (dk_at dksX3_goesOn_0 1 rfl rfl)
theorem dX3_goesOn_4 : decode cX3_goesOn 4 = .ok (.iconst 0, 1) := dk_3 (dk_at dksX3_goesOn_0 4 rfl rfl)
theorem dX3_goesOn_5 : decode cX3_goesOn 5 = .ok (.aload_n 0, 1) := dk_42 (dk_at dksX3_goesOn_0 5 rfl rfl)
theorem dX3_goesOn_6 : decode cX3_goesOn 6 = .ok (.getfield 32, 3) := dk_180 0 32 (dk_at dksX3_goesOn_0 6 rfl rfl)
theorem dX3_goesOn_9 : decode cX3_goesOn 9 = .ok (.iconst 0, 1) := dk_3 (dk_at dksX3_goesOn_0 9 rfl rfl)
theorem dX3_goesOn_10 : decode cX3_goesOn 10 = .ok (.bipush 100, 2) := dk_16 100 (dk_at dksX3_goesOn_0 10 rfl rfl)
theorem dX3_goesOn_12 : decode cX3_goesOn 12 = .ok (.invokestatic 52, 3) := dk_184 0 52 (dk_at dksX3_goesOn_0 12 rfl rfl)
theorem dX3_goesOn_15 : decode cX3_goesOn 15 = .ok (.aload_n 0, 1) := dk_42 (dk_at dksX3_goesOn_0 15 rfl rfl)
theorem dX3_goesOn_16 : decode cX3_goesOn 16 = .ok (.iconst (-1), 1) := dk_2 (dk_at dksX3_goesOn_0 16 rfl rfl)
theorem dX3_goesOn_17 : decode cX3_goesOn 17 = .ok (.invokevirtual 192, 3) := dk_182 0 192 (dk_at dksX3_goesOn_0 17 rfl rfl)
theorem dX3_goesOn_20 : decode cX3_goesOn 20 = .ok (.iconst 0, 1) := dk_3 (dk_at dksX3_goesOn_0 20 rfl rfl)
theorem dX3_goesOn_21 : decode cX3_goesOn 21 = .ok (.istore_n 1, 1) := dk_60 (dk_at dksX3_goesOn_0 21 rfl rfl)
theorem dX3_goesOn_22 : decode cX3_goesOn 22 = .ok (.iload_n 1, 1) := dk_27 (dk_at dksX3_goesOn_0 22 rfl rfl)
theorem dX3_goesOn_23 : decode cX3_goesOn 23 = .ok (.bipush 100, 2) := dk_16 100 (dk_at dksX3_goesOn_1 0 rfl rfl)
theorem dX3_goesOn_25 : decode cX3_goesOn 25 = .ok (.if_icmp .ge 43, 3) := dk_162 0 43 (dk_at dksX3_goesOn_1 2 rfl rfl)
theorem dX3_goesOn_28 : decode cX3_goesOn 28 = .ok (.iconst 1, 1) := dk_4 (dk_at dksX3_goesOn_1 5 rfl rfl)
theorem dX3_goesOn_29 : decode cX3_goesOn 29 = .ok (.istore_n 2, 1) := dk_61 (dk_at dksX3_goesOn_1 6 rfl rfl)
theorem dX3_goesOn_30 : decode cX3_goesOn 30 = .ok (.iload_n 2, 1) := dk_28 (dk_at dksX3_goesOn_1 7 rfl rfl)
theorem dX3_goesOn_31 : decode cX3_goesOn 31 = .ok (.iconst 5, 1) := dk_8 (dk_at dksX3_goesOn_1 8 rfl rfl)
theorem dX3_goesOn_32 : decode cX3_goesOn 32 = .ok (.if_icmp .gt 30, 3) := dk_163 0 30 (dk_at dksX3_goesOn_1 9 rfl rfl)
theorem dX3_goesOn_35 : decode cX3_goesOn 35 = .ok (.aload_n 0, 1) := dk_42 (dk_at dksX3_goesOn_1 12 rfl rfl)
theorem dX3_goesOn_36 : decode cX3_goesOn 36 = .ok (.getfield 32, 3) := dk_180 0 32 (dk_at dksX3_goesOn_1 13 rfl rfl)
theorem dX3_goesOn_39 : decode cX3_goesOn 39 = .ok (.iload_n 1, 1) := dk_27 (dk_at dksX3_goesOn_1 16 rfl rfl)
theorem dX3_goesOn_40 : decode cX3_goesOn 40 = .ok (.baload, 1) := dk_51 (dk_at dksX3_goesOn_1 17 rfl rfl)
theorem dX3_goesOn_41 : decode cX3_goesOn 41 = .ok (.ifCond .eq 21, 3) := dk_153 0 21 (dk_at dksX3_goesOn_1 18 rfl rfl)
theorem dX3_goesOn_44 : decode cX3_goesOn 44 = .ok (.aload_n 0, 1) := dk_42 (dk_at dksX3_goesOn_1 21 rfl rfl)
theorem dX3_goesOn_45 : decode cX3_goesOn 45 = .ok (.getfield 28, 3) := dk_180 0 28 (dk_at dksX3_goesOn_2 0 rfl rfl)
theorem dX3_goesOn_48 : decode cX3_goesOn 48 = .ok (.aload_n 0, 1) := dk_42 (dk_at dksX3_goesOn_2 3 rfl rfl)
theorem dX3_goesOn_49 : decode cX3_goesOn 49 = .ok (.iload_n 1, 1) := dk_27 (dk_at dksX3_goesOn_2 4 rfl rfl)
theorem dX3_goesOn_50 : decode cX3_goesOn 50 = .ok (.iload_n 2, 1) := dk_28 (dk_at dksX3_goesOn_2 5 rfl rfl)
theorem dX3_goesOn_51 : decode cX3_goesOn 51 = .ok (.invokevirtual 149, 3) := dk_182 0 149 (dk_at dksX3_goesOn_2 6 rfl rfl)
theorem dX3_goesOn_54 : decode cX3_goesOn 54 = .ok (.iconst 1, 1) := dk_4 (dk_at dksX3_goesOn_2 9 rfl rfl)
theorem dX3_goesOn_55 : decode cX3_goesOn 55 = .ok (.bastore, 1) := dk_84 (dk_at dksX3_goesOn_2 10 rfl rfl)
theorem dX3_goesOn_56 : decode cX3_goesOn 56 = .ok (.iinc 2 1, 3) := dk_132 2 1 (dk_at dksX3_goesOn_2 11 rfl rfl)
theorem dX3_goesOn_59 : decode cX3_goesOn 59 = .ok (.goto (-29), 3) := dk_167 255 227 (dk_at dksX3_goesOn_2 14 rfl rfl)
theorem dX3_goesOn_62 : decode cX3_goesOn 62 = .ok (.iinc 1 1, 3) := dk_132 1 1 (dk_at dksX3_goesOn_2 17 rfl rfl)
theorem dX3_goesOn_65 : decode cX3_goesOn 65 = .ok (.goto (-43), 3) := dk_167 255 213 (dk_at dksX3_goesOn_2 20 rfl rfl)
theorem dX3_goesOn_68 : decode cX3_goesOn 68 = .ok (.return_, 1) := dk_177 (dk_at dksX3_goesOn_2 23 rfl rfl)
def dkwX3_fewestAgain_0 : List UInt8 := [42, 27, 182, 0, 204, 172]
abbrev dktX3_fewestAgain_0 : List UInt8 := dkwX3_fewestAgain_0 ++ []
theorem dksX3_fewestAgain_0 : cX3_fewestAgain.data.toList.drop 0 = dktX3_fewestAgain_0 := by decide +kernel
theorem dX3_fewestAgain_0 : decode cX3_fewestAgain 0 = .ok (.aload_n 0, 1) := dk_42 (dk_at dksX3_fewestAgain_0 0 rfl rfl)
theorem dX3_fewestAgain_1 : decode cX3_fewestAgain 1 = .ok (.iload_n 1, 1) := dk_27 (dk_at dksX3_fewestAgain_0 1 rfl rfl)
theorem dX3_fewestAgain_2 : decode cX3_fewestAgain 2 = .ok (.invokevirtual 204, 3) := dk_182 0 204 (dk_at dksX3_fewestAgain_0 2 rfl rfl)
theorem dX3_fewestAgain_5 : decode cX3_fewestAgain 5 = .ok (.ireturn, 1) := dk_172 (dk_at dksX3_fewestAgain_0 5 rfl rfl)
def dkwX3_bestHeight_3 : List UInt8 := [160, 0, 5, 29, 172, 132, 3, 1, 167, 255, 186, 3, 172]
abbrev dktX3_bestHeight_3 : List UInt8 := dkwX3_bestHeight_3 ++ []
def dkwX3_bestHeight_2 : List UInt8 := [160, 0, 13, 21, 4, 21, 5, 160, 0, 22, 167, 0, 17, 42, 21, 4, 21, 5, 182, 0, 198, 28, 4, 100]
abbrev dktX3_bestHeight_2 : List UInt8 := dkwX3_bestHeight_2 ++ dktX3_bestHeight_3
def dkwX3_bestHeight_1 : List UInt8 := [182, 0, 120, 29, 182, 0, 149, 54, 4, 42, 42, 27, 8, 182, 0, 76, 182, 0, 146, 54, 5, 28, 4]
abbrev dktX3_bestHeight_1 : List UInt8 := dkwX3_bestHeight_1 ++ dktX3_bestHeight_2
def dkwX3_bestHeight_0 : List UInt8 := [42, 27, 182, 0, 204, 61, 4, 62, 29, 8, 163, 0, 71, 42, 180, 0, 49, 154, 0, 64, 42, 42, 27]
abbrev dktX3_bestHeight_0 : List UInt8 := dkwX3_bestHeight_0 ++ dktX3_bestHeight_1
theorem dksX3_bestHeight_0 : cX3_bestHeight.data.toList.drop 0 = dktX3_bestHeight_0 := by decide +kernel
theorem dksX3_bestHeight_1 : cX3_bestHeight.data.toList.drop 23 = dktX3_bestHeight_1 := dk_seg dksX3_bestHeight_0 23 rfl rfl
theorem dksX3_bestHeight_2 : cX3_bestHeight.data.toList.drop 46 = dktX3_bestHeight_2 := dk_seg dksX3_bestHeight_1 23 rfl rfl
theorem dksX3_bestHeight_3 : cX3_bestHeight.data.toList.drop 70 = dktX3_bestHeight_3 := dk_seg dksX3_bestHeight_2 24 rfl rfl
theorem dX3_bestHeight_0 : decode cX3_bestHeight 0 = .ok (.aload_n 0, 1) := dk_42 (dk_at dksX3_bestHeight_0 0 rfl rfl)
theorem dX3_bestHeight_1 : decode cX3_bestHeight 1 = .ok (.iload_n 1, 1) := dk_27 (dk_at dksX3_bestHeight_0 1 rfl rfl)
theorem dX3_bestHeight_2 : decode cX3_bestHeight 2 = .ok (.invokevirtual 204, 3) := dk_182 0 204 (dk_at dksX3_bestHeight_0 2 rfl rfl)
theorem dX3_bestHeight_5 : decode cX3_bestHeight 5 = .ok (.istore_n 2, 1) := dk_61 (dk_at dksX3_bestHeight_0 5 rfl rfl)
theorem dX3_bestHeight_6 : decode cX3_bestHeight 6 = .ok (.iconst 1, 1) := dk_4 (dk_at dksX3_bestHeight_0 6 rfl rfl)
theorem dX3_bestHeight_7 : decode cX3_bestHeight 7 = .ok (.istore_n 3, 1) := dk_62 (dk_at dksX3_bestHeight_0 7 rfl rfl)
theorem dX3_bestHeight_8 : decode cX3_bestHeight 8 = .ok (.iload_n 3, 1) := dk_29 (dk_at dksX3_bestHeight_0 8 rfl rfl)
theorem dX3_bestHeight_9 : decode cX3_bestHeight 9 = .ok (.iconst 5, 1) := dk_8 (dk_at dksX3_bestHeight_0 9 rfl rfl)
theorem dX3_bestHeight_10 : decode cX3_bestHeight 10 = .ok (.if_icmp .gt 71, 3) := dk_163 0 71 (dk_at dksX3_bestHeight_0 10 rfl rfl)
theorem dX3_bestHeight_13 : decode cX3_bestHeight 13 = .ok (.aload_n 0, 1) := dk_42 (dk_at dksX3_bestHeight_0 13 rfl rfl)
theorem dX3_bestHeight_14 : decode cX3_bestHeight 14 = .ok (.getfield 49, 3) := dk_180 0 49 (dk_at dksX3_bestHeight_0 14 rfl rfl)
theorem dX3_bestHeight_17 : decode cX3_bestHeight 17 = .ok (.ifCond .ne 64, 3) := dk_154 0 64 (dk_at dksX3_bestHeight_0 17 rfl rfl)
theorem dX3_bestHeight_20 : decode cX3_bestHeight 20 = .ok (.aload_n 0, 1) := dk_42 (dk_at dksX3_bestHeight_0 20 rfl rfl)
theorem dX3_bestHeight_21 : decode cX3_bestHeight 21 = .ok (.aload_n 0, 1) := dk_42 (dk_at dksX3_bestHeight_0 21 rfl rfl)
theorem dX3_bestHeight_22 : decode cX3_bestHeight 22 = .ok (.iload_n 1, 1) := dk_27 (dk_at dksX3_bestHeight_0 22 rfl rfl)
theorem dX3_bestHeight_23 : decode cX3_bestHeight 23 = .ok (.invokevirtual 120, 3) := dk_182 0 120 (dk_at dksX3_bestHeight_1 0 rfl rfl)
theorem dX3_bestHeight_26 : decode cX3_bestHeight 26 = .ok (.iload_n 3, 1) := dk_29 (dk_at dksX3_bestHeight_1 3 rfl rfl)
theorem dX3_bestHeight_27 : decode cX3_bestHeight 27 = .ok (.invokevirtual 149, 3) := dk_182 0 149 (dk_at dksX3_bestHeight_1 4 rfl rfl)
theorem dX3_bestHeight_30 : decode cX3_bestHeight 30 = .ok (.istore 4, 2) := dk_54 4 (dk_at dksX3_bestHeight_1 7 rfl rfl)
theorem dX3_bestHeight_32 : decode cX3_bestHeight 32 = .ok (.aload_n 0, 1) := dk_42 (dk_at dksX3_bestHeight_1 9 rfl rfl)
theorem dX3_bestHeight_33 : decode cX3_bestHeight 33 = .ok (.aload_n 0, 1) := dk_42 (dk_at dksX3_bestHeight_1 10 rfl rfl)
theorem dX3_bestHeight_34 : decode cX3_bestHeight 34 = .ok (.iload_n 1, 1) := dk_27 (dk_at dksX3_bestHeight_1 11 rfl rfl)
theorem dX3_bestHeight_35 : decode cX3_bestHeight 35 = .ok (.iconst 5, 1) := dk_8 (dk_at dksX3_bestHeight_1 12 rfl rfl)
theorem dX3_bestHeight_36 : decode cX3_bestHeight 36 = .ok (.invokevirtual 76, 3) := dk_182 0 76 (dk_at dksX3_bestHeight_1 13 rfl rfl)
theorem dX3_bestHeight_39 : decode cX3_bestHeight 39 = .ok (.invokevirtual 146, 3) := dk_182 0 146 (dk_at dksX3_bestHeight_1 16 rfl rfl)
theorem dX3_bestHeight_42 : decode cX3_bestHeight 42 = .ok (.istore 5, 2) := dk_54 5 (dk_at dksX3_bestHeight_1 19 rfl rfl)
theorem dX3_bestHeight_44 : decode cX3_bestHeight 44 = .ok (.iload_n 2, 1) := dk_28 (dk_at dksX3_bestHeight_1 21 rfl rfl)
theorem dX3_bestHeight_45 : decode cX3_bestHeight 45 = .ok (.iconst 1, 1) := dk_4 (dk_at dksX3_bestHeight_1 22 rfl rfl)
theorem dX3_bestHeight_46 : decode cX3_bestHeight 46 = .ok (.if_icmp .ne 13, 3) := dk_160 0 13 (dk_at dksX3_bestHeight_2 0 rfl rfl)
theorem dX3_bestHeight_49 : decode cX3_bestHeight 49 = .ok (.iload 4, 2) := dk_21 4 (dk_at dksX3_bestHeight_2 3 rfl rfl)
theorem dX3_bestHeight_51 : decode cX3_bestHeight 51 = .ok (.iload 5, 2) := dk_21 5 (dk_at dksX3_bestHeight_2 5 rfl rfl)
theorem dX3_bestHeight_53 : decode cX3_bestHeight 53 = .ok (.if_icmp .ne 22, 3) := dk_160 0 22 (dk_at dksX3_bestHeight_2 7 rfl rfl)
theorem dX3_bestHeight_56 : decode cX3_bestHeight 56 = .ok (.goto 17, 3) := dk_167 0 17 (dk_at dksX3_bestHeight_2 10 rfl rfl)
theorem dX3_bestHeight_59 : decode cX3_bestHeight 59 = .ok (.aload_n 0, 1) := dk_42 (dk_at dksX3_bestHeight_2 13 rfl rfl)
theorem dX3_bestHeight_60 : decode cX3_bestHeight 60 = .ok (.iload 4, 2) := dk_21 4 (dk_at dksX3_bestHeight_2 14 rfl rfl)
theorem dX3_bestHeight_62 : decode cX3_bestHeight 62 = .ok (.iload 5, 2) := dk_21 5 (dk_at dksX3_bestHeight_2 16 rfl rfl)
theorem dX3_bestHeight_64 : decode cX3_bestHeight 64 = .ok (.invokevirtual 198, 3) := dk_182 0 198 (dk_at dksX3_bestHeight_2 18 rfl rfl)
theorem dX3_bestHeight_67 : decode cX3_bestHeight 67 = .ok (.iload_n 2, 1) := dk_28 (dk_at dksX3_bestHeight_2 21 rfl rfl)
theorem dX3_bestHeight_68 : decode cX3_bestHeight 68 = .ok (.iconst 1, 1) := dk_4 (dk_at dksX3_bestHeight_2 22 rfl rfl)
theorem dX3_bestHeight_69 : decode cX3_bestHeight 69 = .ok (.isub, 1) := dk_100 (dk_at dksX3_bestHeight_2 23 rfl rfl)
theorem dX3_bestHeight_70 : decode cX3_bestHeight 70 = .ok (.if_icmp .ne 5, 3) := dk_160 0 5 (dk_at dksX3_bestHeight_3 0 rfl rfl)
theorem dX3_bestHeight_73 : decode cX3_bestHeight 73 = .ok (.iload_n 3, 1) := dk_29 (dk_at dksX3_bestHeight_3 3 rfl rfl)
theorem dX3_bestHeight_74 : decode cX3_bestHeight 74 = .ok (.ireturn, 1) := dk_172 (dk_at dksX3_bestHeight_3 4 rfl rfl)
theorem dX3_bestHeight_75 : decode cX3_bestHeight 75 = .ok (.iinc 3 1, 3) := dk_132 3 1 (dk_at dksX3_bestHeight_3 5 rfl rfl)
theorem dX3_bestHeight_78 : decode cX3_bestHeight 78 = .ok (.goto (-70), 3) := dk_167 255 186 (dk_at dksX3_bestHeight_3 8 rfl rfl)
theorem dX3_bestHeight_81 : decode cX3_bestHeight 81 = .ok (.iconst 0, 1) := dk_3 (dk_at dksX3_bestHeight_3 11 rfl rfl)
theorem dX3_bestHeight_82 : decode cX3_bestHeight 82 = .ok (.ireturn, 1) := dk_172 (dk_at dksX3_bestHeight_3 12 rfl rfl)
def dkwX3_reach_3 : List UInt8 := [167, 0, 4, 3, 96, 62, 132, 4, 1, 167, 255, 228, 29, 172]
abbrev dktX3_reach_3 : List UInt8 := dkwX3_reach_3 ++ []
def dkwX3_reach_2 : List UInt8 := [62, 3, 54, 4, 21, 4, 16, 100, 162, 0, 27, 29, 42, 180, 0, 28, 21, 4, 51, 153, 0, 7, 4]
abbrev dktX3_reach_2 : List UInt8 := dkwX3_reach_2 ++ dktX3_reach_3
def dkwX3_reach_1 : List UInt8 := [182, 0, 120, 182, 0, 192, 3, 62, 29, 28, 162, 0, 13, 42, 182, 0, 195, 132, 3, 1, 167, 255, 244, 3]
abbrev dktX3_reach_1 : List UInt8 := dkwX3_reach_1 ++ dktX3_reach_2
def dkwX3_reach_0 : List UInt8 := [42, 42, 27, 28, 16, 20, 182, 0, 180, 181, 0, 49, 42, 180, 0, 49, 158, 0, 5, 3, 172, 42, 42, 27]
abbrev dktX3_reach_0 : List UInt8 := dkwX3_reach_0 ++ dktX3_reach_1
theorem dksX3_reach_0 : cX3_reach.data.toList.drop 0 = dktX3_reach_0 := by decide +kernel
theorem dksX3_reach_1 : cX3_reach.data.toList.drop 24 = dktX3_reach_1 := dk_seg dksX3_reach_0 24 rfl rfl
theorem dksX3_reach_2 : cX3_reach.data.toList.drop 48 = dktX3_reach_2 := dk_seg dksX3_reach_1 24 rfl rfl
theorem dksX3_reach_3 : cX3_reach.data.toList.drop 71 = dktX3_reach_3 := dk_seg dksX3_reach_2 23 rfl rfl
theorem dX3_reach_0 : decode cX3_reach 0 = .ok (.aload_n 0, 1) := dk_42 (dk_at dksX3_reach_0 0 rfl rfl)
theorem dX3_reach_1 : decode cX3_reach 1 = .ok (.aload_n 0, 1) := dk_42 (dk_at dksX3_reach_0 1 rfl rfl)
theorem dX3_reach_2 : decode cX3_reach 2 = .ok (.iload_n 1, 1) := dk_27 (dk_at dksX3_reach_0 2 rfl rfl)
theorem dX3_reach_3 : decode cX3_reach 3 = .ok (.iload_n 2, 1) := dk_28 (dk_at dksX3_reach_0 3 rfl rfl)
theorem dX3_reach_4 : decode cX3_reach 4 = .ok (.bipush 20, 2) := dk_16 20 (dk_at dksX3_reach_0 4 rfl rfl)
theorem dX3_reach_6 : decode cX3_reach 6 = .ok (.invokevirtual 180, 3) := dk_182 0 180 (dk_at dksX3_reach_0 6 rfl rfl)
theorem dX3_reach_9 : decode cX3_reach 9 = .ok (.putfield 49, 3) := dk_181 0 49 (dk_at dksX3_reach_0 9 rfl rfl)
theorem dX3_reach_12 : decode cX3_reach 12 = .ok (.aload_n 0, 1) := dk_42 (dk_at dksX3_reach_0 12 rfl rfl)
theorem dX3_reach_13 : decode cX3_reach 13 = .ok (.getfield 49, 3) := dk_180 0 49 (dk_at dksX3_reach_0 13 rfl rfl)
theorem dX3_reach_16 : decode cX3_reach 16 = .ok (.ifCond .le 5, 3) := dk_158 0 5 (dk_at dksX3_reach_0 16 rfl rfl)
theorem dX3_reach_19 : decode cX3_reach 19 = .ok (.iconst 0, 1) := dk_3 (dk_at dksX3_reach_0 19 rfl rfl)
theorem dX3_reach_20 : decode cX3_reach 20 = .ok (.ireturn, 1) := dk_172 (dk_at dksX3_reach_0 20 rfl rfl)
theorem dX3_reach_21 : decode cX3_reach 21 = .ok (.aload_n 0, 1) := dk_42 (dk_at dksX3_reach_0 21 rfl rfl)
theorem dX3_reach_22 : decode cX3_reach 22 = .ok (.aload_n 0, 1) := dk_42 (dk_at dksX3_reach_0 22 rfl rfl)
theorem dX3_reach_23 : decode cX3_reach 23 = .ok (.iload_n 1, 1) := dk_27 (dk_at dksX3_reach_0 23 rfl rfl)
theorem dX3_reach_24 : decode cX3_reach 24 = .ok (.invokevirtual 120, 3) := dk_182 0 120 (dk_at dksX3_reach_1 0 rfl rfl)
theorem dX3_reach_27 : decode cX3_reach 27 = .ok (.invokevirtual 192, 3) := dk_182 0 192 (dk_at dksX3_reach_1 3 rfl rfl)
theorem dX3_reach_30 : decode cX3_reach 30 = .ok (.iconst 0, 1) := dk_3 (dk_at dksX3_reach_1 6 rfl rfl)
theorem dX3_reach_31 : decode cX3_reach 31 = .ok (.istore_n 3, 1) := dk_62 (dk_at dksX3_reach_1 7 rfl rfl)
theorem dX3_reach_32 : decode cX3_reach 32 = .ok (.iload_n 3, 1) := dk_29 (dk_at dksX3_reach_1 8 rfl rfl)
theorem dX3_reach_33 : decode cX3_reach 33 = .ok (.iload_n 2, 1) := dk_28 (dk_at dksX3_reach_1 9 rfl rfl)
theorem dX3_reach_34 : decode cX3_reach 34 = .ok (.if_icmp .ge 13, 3) := dk_162 0 13 (dk_at dksX3_reach_1 10 rfl rfl)
theorem dX3_reach_37 : decode cX3_reach 37 = .ok (.aload_n 0, 1) := dk_42 (dk_at dksX3_reach_1 13 rfl rfl)
theorem dX3_reach_38 : decode cX3_reach 38 = .ok (.invokevirtual 195, 3) := dk_182 0 195 (dk_at dksX3_reach_1 14 rfl rfl)
theorem dX3_reach_41 : decode cX3_reach 41 = .ok (.iinc 3 1, 3) := dk_132 3 1 (dk_at dksX3_reach_1 17 rfl rfl)
theorem dX3_reach_44 : decode cX3_reach 44 = .ok (.goto (-12), 3) := dk_167 255 244 (dk_at dksX3_reach_1 20 rfl rfl)
theorem dX3_reach_47 : decode cX3_reach 47 = .ok (.iconst 0, 1) := dk_3 (dk_at dksX3_reach_1 23 rfl rfl)
theorem dX3_reach_48 : decode cX3_reach 48 = .ok (.istore_n 3, 1) := dk_62 (dk_at dksX3_reach_2 0 rfl rfl)
theorem dX3_reach_49 : decode cX3_reach 49 = .ok (.iconst 0, 1) := dk_3 (dk_at dksX3_reach_2 1 rfl rfl)
theorem dX3_reach_50 : decode cX3_reach 50 = .ok (.istore 4, 2) := dk_54 4 (dk_at dksX3_reach_2 2 rfl rfl)
theorem dX3_reach_52 : decode cX3_reach 52 = .ok (.iload 4, 2) := dk_21 4 (dk_at dksX3_reach_2 4 rfl rfl)
theorem dX3_reach_54 : decode cX3_reach 54 = .ok (.bipush 100, 2) := dk_16 100 (dk_at dksX3_reach_2 6 rfl rfl)
theorem dX3_reach_56 : decode cX3_reach 56 = .ok (.if_icmp .ge 27, 3) := dk_162 0 27 (dk_at dksX3_reach_2 8 rfl rfl)
theorem dX3_reach_59 : decode cX3_reach 59 = .ok (.iload_n 3, 1) := dk_29 (dk_at dksX3_reach_2 11 rfl rfl)
theorem dX3_reach_60 : decode cX3_reach 60 = .ok (.aload_n 0, 1) := dk_42 (dk_at dksX3_reach_2 12 rfl rfl)
theorem dX3_reach_61 : decode cX3_reach 61 = .ok (.getfield 28, 3) := dk_180 0 28 (dk_at dksX3_reach_2 13 rfl rfl)
theorem dX3_reach_64 : decode cX3_reach 64 = .ok (.iload 4, 2) := dk_21 4 (dk_at dksX3_reach_2 16 rfl rfl)
theorem dX3_reach_66 : decode cX3_reach 66 = .ok (.baload, 1) := dk_51 (dk_at dksX3_reach_2 18 rfl rfl)
theorem dX3_reach_67 : decode cX3_reach 67 = .ok (.ifCond .eq 7, 3) := dk_153 0 7 (dk_at dksX3_reach_2 19 rfl rfl)
theorem dX3_reach_70 : decode cX3_reach 70 = .ok (.iconst 1, 1) := dk_4 (dk_at dksX3_reach_2 22 rfl rfl)
theorem dX3_reach_71 : decode cX3_reach 71 = .ok (.goto 4, 3) := dk_167 0 4 (dk_at dksX3_reach_3 0 rfl rfl)
theorem dX3_reach_74 : decode cX3_reach 74 = .ok (.iconst 0, 1) := dk_3 (dk_at dksX3_reach_3 3 rfl rfl)
theorem dX3_reach_75 : decode cX3_reach 75 = .ok (.iadd, 1) := dk_96 (dk_at dksX3_reach_3 4 rfl rfl)
theorem dX3_reach_76 : decode cX3_reach 76 = .ok (.istore_n 3, 1) := dk_62 (dk_at dksX3_reach_3 5 rfl rfl)
theorem dX3_reach_77 : decode cX3_reach 77 = .ok (.iinc 4 1, 3) := dk_132 4 1 (dk_at dksX3_reach_3 6 rfl rfl)
theorem dX3_reach_80 : decode cX3_reach 80 = .ok (.goto (-28), 3) := dk_167 255 228 (dk_at dksX3_reach_3 9 rfl rfl)
theorem dX3_reach_83 : decode cX3_reach 83 = .ok (.iload_n 3, 1) := dk_29 (dk_at dksX3_reach_3 12 rfl rfl)
theorem dX3_reach_84 : decode cX3_reach 84 = .ok (.ireturn, 1) := dk_172 (dk_at dksX3_reach_3 13 rfl rfl)
def dkwX3_ranked_4 : List UInt8 := [132, 3, 1, 167, 255, 181, 28, 172]
abbrev dktX3_ranked_4 : List UInt8 := dkwX3_ranked_4 ++ []
def dkwX3_ranked_3 : List UInt8 := [3, 96, 54, 4, 132, 5, 1, 167, 255, 222, 21, 4, 27, 160, 0, 7, 29, 167, 0, 4, 28, 61]
abbrev dktX3_ranked_3 : List UInt8 := dkwX3_ranked_3 ++ dktX3_ranked_4
def dkwX3_ranked_2 : List UInt8 := [180, 0, 9, 3, 46, 162, 0, 29, 21, 4, 42, 21, 5, 29, 182, 0, 207, 153, 0, 7, 4, 167, 0, 4]
abbrev dktX3_ranked_2 : List UInt8 := dkwX3_ranked_2 ++ dktX3_ranked_3
def dkwX3_ranked_1 : List UInt8 := [180, 0, 9, 3, 46, 162, 0, 71, 42, 180, 0, 49, 154, 0, 64, 3, 54, 4, 3, 54, 5, 21, 5, 42]
abbrev dktX3_ranked_1 : List UInt8 := dkwX3_ranked_1 ++ dktX3_ranked_2
def dkwX3_ranked_0 : List UInt8 := [42, 42, 27, 182, 0, 113, 153, 0, 7, 3, 167, 0, 4, 4, 181, 0, 49, 3, 61, 3, 62, 29, 42]
abbrev dktX3_ranked_0 : List UInt8 := dkwX3_ranked_0 ++ dktX3_ranked_1
theorem dksX3_ranked_0 : cX3_ranked.data.toList.drop 0 = dktX3_ranked_0 := by decide +kernel
theorem dksX3_ranked_1 : cX3_ranked.data.toList.drop 23 = dktX3_ranked_1 := dk_seg dksX3_ranked_0 23 rfl rfl
theorem dksX3_ranked_2 : cX3_ranked.data.toList.drop 47 = dktX3_ranked_2 := dk_seg dksX3_ranked_1 24 rfl rfl
theorem dksX3_ranked_3 : cX3_ranked.data.toList.drop 71 = dktX3_ranked_3 := dk_seg dksX3_ranked_2 24 rfl rfl
theorem dksX3_ranked_4 : cX3_ranked.data.toList.drop 93 = dktX3_ranked_4 := dk_seg dksX3_ranked_3 22 rfl rfl
theorem dX3_ranked_0 : decode cX3_ranked 0 = .ok (.aload_n 0, 1) := dk_42 (dk_at dksX3_ranked_0 0 rfl rfl)
theorem dX3_ranked_1 : decode cX3_ranked 1 = .ok (.aload_n 0, 1) := dk_42 (dk_at dksX3_ranked_0 1 rfl rfl)
theorem dX3_ranked_2 : decode cX3_ranked 2 = .ok (.iload_n 1, 1) := dk_27 (dk_at dksX3_ranked_0 2 rfl rfl)
theorem dX3_ranked_3 : decode cX3_ranked 3 = .ok (.invokevirtual 113, 3) := dk_182 0 113 (dk_at dksX3_ranked_0 3 rfl rfl)
theorem dX3_ranked_6 : decode cX3_ranked 6 = .ok (.ifCond .eq 7, 3) := dk_153 0 7 (dk_at dksX3_ranked_0 6 rfl rfl)
theorem dX3_ranked_9 : decode cX3_ranked 9 = .ok (.iconst 0, 1) := dk_3 (dk_at dksX3_ranked_0 9 rfl rfl)
theorem dX3_ranked_10 : decode cX3_ranked 10 = .ok (.goto 4, 3) := dk_167 0 4 (dk_at dksX3_ranked_0 10 rfl rfl)
theorem dX3_ranked_13 : decode cX3_ranked 13 = .ok (.iconst 1, 1) := dk_4 (dk_at dksX3_ranked_0 13 rfl rfl)
theorem dX3_ranked_14 : decode cX3_ranked 14 = .ok (.putfield 49, 3) := dk_181 0 49 (dk_at dksX3_ranked_0 14 rfl rfl)
theorem dX3_ranked_17 : decode cX3_ranked 17 = .ok (.iconst 0, 1) := dk_3 (dk_at dksX3_ranked_0 17 rfl rfl)
theorem dX3_ranked_18 : decode cX3_ranked 18 = .ok (.istore_n 2, 1) := dk_61 (dk_at dksX3_ranked_0 18 rfl rfl)
theorem dX3_ranked_19 : decode cX3_ranked 19 = .ok (.iconst 0, 1) := dk_3 (dk_at dksX3_ranked_0 19 rfl rfl)
theorem dX3_ranked_20 : decode cX3_ranked 20 = .ok (.istore_n 3, 1) := dk_62 (dk_at dksX3_ranked_0 20 rfl rfl)
theorem dX3_ranked_21 : decode cX3_ranked 21 = .ok (.iload_n 3, 1) := dk_29 (dk_at dksX3_ranked_0 21 rfl rfl)
theorem dX3_ranked_22 : decode cX3_ranked 22 = .ok (.aload_n 0, 1) := dk_42 (dk_at dksX3_ranked_0 22 rfl rfl)
theorem dX3_ranked_23 : decode cX3_ranked 23 = .ok (.getfield 9, 3) := dk_180 0 9 (dk_at dksX3_ranked_1 0 rfl rfl)
theorem dX3_ranked_26 : decode cX3_ranked 26 = .ok (.iconst 0, 1) := dk_3 (dk_at dksX3_ranked_1 3 rfl rfl)
theorem dX3_ranked_27 : decode cX3_ranked 27 = .ok (.iaload, 1) := dk_46 (dk_at dksX3_ranked_1 4 rfl rfl)
theorem dX3_ranked_28 : decode cX3_ranked 28 = .ok (.if_icmp .ge 71, 3) := dk_162 0 71 (dk_at dksX3_ranked_1 5 rfl rfl)
theorem dX3_ranked_31 : decode cX3_ranked 31 = .ok (.aload_n 0, 1) := dk_42 (dk_at dksX3_ranked_1 8 rfl rfl)
theorem dX3_ranked_32 : decode cX3_ranked 32 = .ok (.getfield 49, 3) := dk_180 0 49 (dk_at dksX3_ranked_1 9 rfl rfl)
theorem dX3_ranked_35 : decode cX3_ranked 35 = .ok (.ifCond .ne 64, 3) := dk_154 0 64 (dk_at dksX3_ranked_1 12 rfl rfl)
theorem dX3_ranked_38 : decode cX3_ranked 38 = .ok (.iconst 0, 1) := dk_3 (dk_at dksX3_ranked_1 15 rfl rfl)
theorem dX3_ranked_39 : decode cX3_ranked 39 = .ok (.istore 4, 2) := dk_54 4 (dk_at dksX3_ranked_1 16 rfl rfl)
theorem dX3_ranked_41 : decode cX3_ranked 41 = .ok (.iconst 0, 1) := dk_3 (dk_at dksX3_ranked_1 18 rfl rfl)
theorem dX3_ranked_42 : decode cX3_ranked 42 = .ok (.istore 5, 2) := dk_54 5 (dk_at dksX3_ranked_1 19 rfl rfl)
theorem dX3_ranked_44 : decode cX3_ranked 44 = .ok (.iload 5, 2) := dk_21 5 (dk_at dksX3_ranked_1 21 rfl rfl)
theorem dX3_ranked_46 : decode cX3_ranked 46 = .ok (.aload_n 0, 1) := dk_42 (dk_at dksX3_ranked_1 23 rfl rfl)
theorem dX3_ranked_47 : decode cX3_ranked 47 = .ok (.getfield 9, 3) := dk_180 0 9 (dk_at dksX3_ranked_2 0 rfl rfl)
theorem dX3_ranked_50 : decode cX3_ranked 50 = .ok (.iconst 0, 1) := dk_3 (dk_at dksX3_ranked_2 3 rfl rfl)
theorem dX3_ranked_51 : decode cX3_ranked 51 = .ok (.iaload, 1) := dk_46 (dk_at dksX3_ranked_2 4 rfl rfl)
theorem dX3_ranked_52 : decode cX3_ranked 52 = .ok (.if_icmp .ge 29, 3) := dk_162 0 29 (dk_at dksX3_ranked_2 5 rfl rfl)
theorem dX3_ranked_55 : decode cX3_ranked 55 = .ok (.iload 4, 2) := dk_21 4 (dk_at dksX3_ranked_2 8 rfl rfl)
theorem dX3_ranked_57 : decode cX3_ranked 57 = .ok (.aload_n 0, 1) := dk_42 (dk_at dksX3_ranked_2 10 rfl rfl)
theorem dX3_ranked_58 : decode cX3_ranked 58 = .ok (.iload 5, 2) := dk_21 5 (dk_at dksX3_ranked_2 11 rfl rfl)
theorem dX3_ranked_60 : decode cX3_ranked 60 = .ok (.iload_n 3, 1) := dk_29 (dk_at dksX3_ranked_2 13 rfl rfl)
theorem dX3_ranked_61 : decode cX3_ranked 61 = .ok (.invokevirtual 207, 3) := dk_182 0 207 (dk_at dksX3_ranked_2 14 rfl rfl)
theorem dX3_ranked_64 : decode cX3_ranked 64 = .ok (.ifCond .eq 7, 3) := dk_153 0 7 (dk_at dksX3_ranked_2 17 rfl rfl)
theorem dX3_ranked_67 : decode cX3_ranked 67 = .ok (.iconst 1, 1) := dk_4 (dk_at dksX3_ranked_2 20 rfl rfl)
theorem dX3_ranked_68 : decode cX3_ranked 68 = .ok (.goto 4, 3) := dk_167 0 4 (dk_at dksX3_ranked_2 21 rfl rfl)
theorem dX3_ranked_71 : decode cX3_ranked 71 = .ok (.iconst 0, 1) := dk_3 (dk_at dksX3_ranked_3 0 rfl rfl)
theorem dX3_ranked_72 : decode cX3_ranked 72 = .ok (.iadd, 1) := dk_96 (dk_at dksX3_ranked_3 1 rfl rfl)
theorem dX3_ranked_73 : decode cX3_ranked 73 = .ok (.istore 4, 2) := dk_54 4 (dk_at dksX3_ranked_3 2 rfl rfl)
theorem dX3_ranked_75 : decode cX3_ranked 75 = .ok (.iinc 5 1, 3) := dk_132 5 1 (dk_at dksX3_ranked_3 4 rfl rfl)
theorem dX3_ranked_78 : decode cX3_ranked 78 = .ok (.goto (-34), 3) := dk_167 255 222 (dk_at dksX3_ranked_3 7 rfl rfl)
theorem dX3_ranked_81 : decode cX3_ranked 81 = .ok (.iload 4, 2) := dk_21 4 (dk_at dksX3_ranked_3 10 rfl rfl)
theorem dX3_ranked_83 : decode cX3_ranked 83 = .ok (.iload_n 1, 1) := dk_27 (dk_at dksX3_ranked_3 12 rfl rfl)
theorem dX3_ranked_84 : decode cX3_ranked 84 = .ok (.if_icmp .ne 7, 3) := dk_160 0 7 (dk_at dksX3_ranked_3 13 rfl rfl)
theorem dX3_ranked_87 : decode cX3_ranked 87 = .ok (.iload_n 3, 1) := dk_29 (dk_at dksX3_ranked_3 16 rfl rfl)
theorem dX3_ranked_88 : decode cX3_ranked 88 = .ok (.goto 4, 3) := dk_167 0 4 (dk_at dksX3_ranked_3 17 rfl rfl)
theorem dX3_ranked_91 : decode cX3_ranked 91 = .ok (.iload_n 2, 1) := dk_28 (dk_at dksX3_ranked_3 20 rfl rfl)
theorem dX3_ranked_92 : decode cX3_ranked 92 = .ok (.istore_n 2, 1) := dk_61 (dk_at dksX3_ranked_3 21 rfl rfl)
theorem dX3_ranked_93 : decode cX3_ranked 93 = .ok (.iinc 3 1, 3) := dk_132 3 1 (dk_at dksX3_ranked_4 0 rfl rfl)
theorem dX3_ranked_96 : decode cX3_ranked 96 = .ok (.goto (-75), 3) := dk_167 255 181 (dk_at dksX3_ranked_4 3 rfl rfl)
theorem dX3_ranked_99 : decode cX3_ranked 99 = .ok (.iload_n 2, 1) := dk_28 (dk_at dksX3_ranked_4 6 rfl rfl)
theorem dX3_ranked_100 : decode cX3_ranked 100 = .ok (.ireturn, 1) := dk_172 (dk_at dksX3_ranked_4 7 rfl rfl)
def dkwX3_isAhead_3 : List UInt8 := [162, 0, 7, 4, 167, 0, 4, 3, 172]
abbrev dktX3_isAhead_3 : List UInt8 := dkwX3_isAhead_3 ++ []
def dkwX3_isAhead_2 : List UInt8 := [16, 7, 182, 0, 76, 42, 27, 16, 7, 182, 0, 76, 100, 62, 29, 157, 0, 12, 29, 154, 0, 12, 27, 28]
abbrev dktX3_isAhead_2 : List UInt8 := dkwX3_isAhead_2 ++ dktX3_isAhead_3
def dkwX3_isAhead_1 : List UInt8 := [42, 27, 8, 182, 0, 76, 42, 28, 8, 182, 0, 76, 100, 62, 29, 153, 0, 7, 29, 167, 0, 18, 42, 28]
abbrev dktX3_isAhead_1 : List UInt8 := dkwX3_isAhead_1 ++ dktX3_isAhead_2
def dkwX3_isAhead_0 : List UInt8 := [42, 27, 16, 6, 182, 0, 76, 42, 28, 16, 6, 182, 0, 76, 100, 62, 29, 153, 0, 7, 29, 167, 0, 16]
abbrev dktX3_isAhead_0 : List UInt8 := dkwX3_isAhead_0 ++ dktX3_isAhead_1
theorem dksX3_isAhead_0 : cX3_isAhead.data.toList.drop 0 = dktX3_isAhead_0 := by decide +kernel
theorem dksX3_isAhead_1 : cX3_isAhead.data.toList.drop 24 = dktX3_isAhead_1 := dk_seg dksX3_isAhead_0 24 rfl rfl
theorem dksX3_isAhead_2 : cX3_isAhead.data.toList.drop 48 = dktX3_isAhead_2 := dk_seg dksX3_isAhead_1 24 rfl rfl
theorem dksX3_isAhead_3 : cX3_isAhead.data.toList.drop 72 = dktX3_isAhead_3 := dk_seg dksX3_isAhead_2 24 rfl rfl
theorem dX3_isAhead_0 : decode cX3_isAhead 0 = .ok (.aload_n 0, 1) := dk_42 (dk_at dksX3_isAhead_0 0 rfl rfl)
theorem dX3_isAhead_1 : decode cX3_isAhead 1 = .ok (.iload_n 1, 1) := dk_27 (dk_at dksX3_isAhead_0 1 rfl rfl)
theorem dX3_isAhead_2 : decode cX3_isAhead 2 = .ok (.bipush 6, 2) := dk_16 6 (dk_at dksX3_isAhead_0 2 rfl rfl)
theorem dX3_isAhead_4 : decode cX3_isAhead 4 = .ok (.invokevirtual 76, 3) := dk_182 0 76 (dk_at dksX3_isAhead_0 4 rfl rfl)
theorem dX3_isAhead_7 : decode cX3_isAhead 7 = .ok (.aload_n 0, 1) := dk_42 (dk_at dksX3_isAhead_0 7 rfl rfl)
theorem dX3_isAhead_8 : decode cX3_isAhead 8 = .ok (.iload_n 2, 1) := dk_28 (dk_at dksX3_isAhead_0 8 rfl rfl)
theorem dX3_isAhead_9 : decode cX3_isAhead 9 = .ok (.bipush 6, 2) := dk_16 6 (dk_at dksX3_isAhead_0 9 rfl rfl)
theorem dX3_isAhead_11 : decode cX3_isAhead 11 = .ok (.invokevirtual 76, 3) := dk_182 0 76 (dk_at dksX3_isAhead_0 11 rfl rfl)
theorem dX3_isAhead_14 : decode cX3_isAhead 14 = .ok (.isub, 1) := dk_100 (dk_at dksX3_isAhead_0 14 rfl rfl)
theorem dX3_isAhead_15 : decode cX3_isAhead 15 = .ok (.istore_n 3, 1) := dk_62 (dk_at dksX3_isAhead_0 15 rfl rfl)
theorem dX3_isAhead_16 : decode cX3_isAhead 16 = .ok (.iload_n 3, 1) := dk_29 (dk_at dksX3_isAhead_0 16 rfl rfl)
theorem dX3_isAhead_17 : decode cX3_isAhead 17 = .ok (.ifCond .eq 7, 3) := dk_153 0 7 (dk_at dksX3_isAhead_0 17 rfl rfl)
theorem dX3_isAhead_20 : decode cX3_isAhead 20 = .ok (.iload_n 3, 1) := dk_29 (dk_at dksX3_isAhead_0 20 rfl rfl)
theorem dX3_isAhead_21 : decode cX3_isAhead 21 = .ok (.goto 16, 3) := dk_167 0 16 (dk_at dksX3_isAhead_0 21 rfl rfl)
theorem dX3_isAhead_24 : decode cX3_isAhead 24 = .ok (.aload_n 0, 1) := dk_42 (dk_at dksX3_isAhead_1 0 rfl rfl)
theorem dX3_isAhead_25 : decode cX3_isAhead 25 = .ok (.iload_n 1, 1) := dk_27 (dk_at dksX3_isAhead_1 1 rfl rfl)
theorem dX3_isAhead_26 : decode cX3_isAhead 26 = .ok (.iconst 5, 1) := dk_8 (dk_at dksX3_isAhead_1 2 rfl rfl)
theorem dX3_isAhead_27 : decode cX3_isAhead 27 = .ok (.invokevirtual 76, 3) := dk_182 0 76 (dk_at dksX3_isAhead_1 3 rfl rfl)
theorem dX3_isAhead_30 : decode cX3_isAhead 30 = .ok (.aload_n 0, 1) := dk_42 (dk_at dksX3_isAhead_1 6 rfl rfl)
theorem dX3_isAhead_31 : decode cX3_isAhead 31 = .ok (.iload_n 2, 1) := dk_28 (dk_at dksX3_isAhead_1 7 rfl rfl)
theorem dX3_isAhead_32 : decode cX3_isAhead 32 = .ok (.iconst 5, 1) := dk_8 (dk_at dksX3_isAhead_1 8 rfl rfl)
theorem dX3_isAhead_33 : decode cX3_isAhead 33 = .ok (.invokevirtual 76, 3) := dk_182 0 76 (dk_at dksX3_isAhead_1 9 rfl rfl)
theorem dX3_isAhead_36 : decode cX3_isAhead 36 = .ok (.isub, 1) := dk_100 (dk_at dksX3_isAhead_1 12 rfl rfl)
theorem dX3_isAhead_37 : decode cX3_isAhead 37 = .ok (.istore_n 3, 1) := dk_62 (dk_at dksX3_isAhead_1 13 rfl rfl)
theorem dX3_isAhead_38 : decode cX3_isAhead 38 = .ok (.iload_n 3, 1) := dk_29 (dk_at dksX3_isAhead_1 14 rfl rfl)
theorem dX3_isAhead_39 : decode cX3_isAhead 39 = .ok (.ifCond .eq 7, 3) := dk_153 0 7 (dk_at dksX3_isAhead_1 15 rfl rfl)
theorem dX3_isAhead_42 : decode cX3_isAhead 42 = .ok (.iload_n 3, 1) := dk_29 (dk_at dksX3_isAhead_1 18 rfl rfl)
theorem dX3_isAhead_43 : decode cX3_isAhead 43 = .ok (.goto 18, 3) := dk_167 0 18 (dk_at dksX3_isAhead_1 19 rfl rfl)
theorem dX3_isAhead_46 : decode cX3_isAhead 46 = .ok (.aload_n 0, 1) := dk_42 (dk_at dksX3_isAhead_1 22 rfl rfl)
theorem dX3_isAhead_47 : decode cX3_isAhead 47 = .ok (.iload_n 2, 1) := dk_28 (dk_at dksX3_isAhead_1 23 rfl rfl)
theorem dX3_isAhead_48 : decode cX3_isAhead 48 = .ok (.bipush 7, 2) := dk_16 7 (dk_at dksX3_isAhead_2 0 rfl rfl)
theorem dX3_isAhead_50 : decode cX3_isAhead 50 = .ok (.invokevirtual 76, 3) := dk_182 0 76 (dk_at dksX3_isAhead_2 2 rfl rfl)
theorem dX3_isAhead_53 : decode cX3_isAhead 53 = .ok (.aload_n 0, 1) := dk_42 (dk_at dksX3_isAhead_2 5 rfl rfl)
theorem dX3_isAhead_54 : decode cX3_isAhead 54 = .ok (.iload_n 1, 1) := dk_27 (dk_at dksX3_isAhead_2 6 rfl rfl)
theorem dX3_isAhead_55 : decode cX3_isAhead 55 = .ok (.bipush 7, 2) := dk_16 7 (dk_at dksX3_isAhead_2 7 rfl rfl)
theorem dX3_isAhead_57 : decode cX3_isAhead 57 = .ok (.invokevirtual 76, 3) := dk_182 0 76 (dk_at dksX3_isAhead_2 9 rfl rfl)
theorem dX3_isAhead_60 : decode cX3_isAhead 60 = .ok (.isub, 1) := dk_100 (dk_at dksX3_isAhead_2 12 rfl rfl)
theorem dX3_isAhead_61 : decode cX3_isAhead 61 = .ok (.istore_n 3, 1) := dk_62 (dk_at dksX3_isAhead_2 13 rfl rfl)
theorem dX3_isAhead_62 : decode cX3_isAhead 62 = .ok (.iload_n 3, 1) := dk_29 (dk_at dksX3_isAhead_2 14 rfl rfl)
theorem dX3_isAhead_63 : decode cX3_isAhead 63 = .ok (.ifCond .gt 12, 3) := dk_157 0 12 (dk_at dksX3_isAhead_2 15 rfl rfl)
theorem dX3_isAhead_66 : decode cX3_isAhead 66 = .ok (.iload_n 3, 1) := dk_29 (dk_at dksX3_isAhead_2 18 rfl rfl)
theorem dX3_isAhead_67 : decode cX3_isAhead 67 = .ok (.ifCond .ne 12, 3) := dk_154 0 12 (dk_at dksX3_isAhead_2 19 rfl rfl)
theorem dX3_isAhead_70 : decode cX3_isAhead 70 = .ok (.iload_n 1, 1) := dk_27 (dk_at dksX3_isAhead_2 22 rfl rfl)
theorem dX3_isAhead_71 : decode cX3_isAhead 71 = .ok (.iload_n 2, 1) := dk_28 (dk_at dksX3_isAhead_2 23 rfl rfl)
theorem dX3_isAhead_72 : decode cX3_isAhead 72 = .ok (.if_icmp .ge 7, 3) := dk_162 0 7 (dk_at dksX3_isAhead_3 0 rfl rfl)
theorem dX3_isAhead_75 : decode cX3_isAhead 75 = .ok (.iconst 1, 1) := dk_4 (dk_at dksX3_isAhead_3 3 rfl rfl)
theorem dX3_isAhead_76 : decode cX3_isAhead 76 = .ok (.goto 4, 3) := dk_167 0 4 (dk_at dksX3_isAhead_3 4 rfl rfl)
theorem dX3_isAhead_79 : decode cX3_isAhead 79 = .ok (.iconst 0, 1) := dk_3 (dk_at dksX3_isAhead_3 7 rfl rfl)
theorem dX3_isAhead_80 : decode cX3_isAhead 80 = .ok (.ireturn, 1) := dk_172 (dk_at dksX3_isAhead_3 8 rfl rfl)
def dkwX3_dearest_3 : List UInt8 := [158, 0, 7, 3, 167, 0, 4, 27, 172]
abbrev dktX3_dearest_3 : List UInt8 := dkwX3_dearest_3 ++ []
def dkwX3_dearest_2 : List UInt8 := [180, 0, 9, 17, 0, 187, 27, 96, 46, 154, 0, 7, 4, 167, 0, 4, 3, 181, 0, 49, 42, 180, 0, 49]
abbrev dktX3_dearest_2 : List UInt8 := dkwX3_dearest_2 ++ dktX3_dearest_3
def dkwX3_dearest_1 : List UInt8 := [17, 0, 187, 27, 96, 46, 164, 0, 7, 28, 167, 0, 4, 27, 60, 132, 2, 1, 167, 255, 218, 42, 42]
abbrev dktX3_dearest_1 : List UInt8 := dkwX3_dearest_1 ++ dktX3_dearest_2
def dkwX3_dearest_0 : List UInt8 := [3, 60, 4, 61, 28, 16, 100, 162, 0, 38, 42, 180, 0, 9, 17, 0, 187, 28, 96, 46, 42, 180, 0, 9]
abbrev dktX3_dearest_0 : List UInt8 := dkwX3_dearest_0 ++ dktX3_dearest_1
theorem dksX3_dearest_0 : cX3_dearest.data.toList.drop 0 = dktX3_dearest_0 := by decide +kernel
theorem dksX3_dearest_1 : cX3_dearest.data.toList.drop 24 = dktX3_dearest_1 := dk_seg dksX3_dearest_0 24 rfl rfl
theorem dksX3_dearest_2 : cX3_dearest.data.toList.drop 47 = dktX3_dearest_2 := dk_seg dksX3_dearest_1 23 rfl rfl
theorem dksX3_dearest_3 : cX3_dearest.data.toList.drop 71 = dktX3_dearest_3 := dk_seg dksX3_dearest_2 24 rfl rfl
theorem dX3_dearest_0 : decode cX3_dearest 0 = .ok (.iconst 0, 1) := dk_3 (dk_at dksX3_dearest_0 0 rfl rfl)
theorem dX3_dearest_1 : decode cX3_dearest 1 = .ok (.istore_n 1, 1) := dk_60 (dk_at dksX3_dearest_0 1 rfl rfl)
theorem dX3_dearest_2 : decode cX3_dearest 2 = .ok (.iconst 1, 1) := dk_4 (dk_at dksX3_dearest_0 2 rfl rfl)
theorem dX3_dearest_3 : decode cX3_dearest 3 = .ok (.istore_n 2, 1) := dk_61 (dk_at dksX3_dearest_0 3 rfl rfl)
theorem dX3_dearest_4 : decode cX3_dearest 4 = .ok (.iload_n 2, 1) := dk_28 (dk_at dksX3_dearest_0 4 rfl rfl)
theorem dX3_dearest_5 : decode cX3_dearest 5 = .ok (.bipush 100, 2) := dk_16 100 (dk_at dksX3_dearest_0 5 rfl rfl)
theorem dX3_dearest_7 : decode cX3_dearest 7 = .ok (.if_icmp .ge 38, 3) := dk_162 0 38 (dk_at dksX3_dearest_0 7 rfl rfl)
theorem dX3_dearest_10 : decode cX3_dearest 10 = .ok (.aload_n 0, 1) := dk_42 (dk_at dksX3_dearest_0 10 rfl rfl)
theorem dX3_dearest_11 : decode cX3_dearest 11 = .ok (.getfield 9, 3) := dk_180 0 9 (dk_at dksX3_dearest_0 11 rfl rfl)
theorem dX3_dearest_14 : decode cX3_dearest 14 = .ok (.sipush 187, 3) := dk_17 0 187 (dk_at dksX3_dearest_0 14 rfl rfl)
theorem dX3_dearest_17 : decode cX3_dearest 17 = .ok (.iload_n 2, 1) := dk_28 (dk_at dksX3_dearest_0 17 rfl rfl)
theorem dX3_dearest_18 : decode cX3_dearest 18 = .ok (.iadd, 1) := dk_96 (dk_at dksX3_dearest_0 18 rfl rfl)
theorem dX3_dearest_19 : decode cX3_dearest 19 = .ok (.iaload, 1) := dk_46 (dk_at dksX3_dearest_0 19 rfl rfl)
theorem dX3_dearest_20 : decode cX3_dearest 20 = .ok (.aload_n 0, 1) := dk_42 (dk_at dksX3_dearest_0 20 rfl rfl)
theorem dX3_dearest_21 : decode cX3_dearest 21 = .ok (.getfield 9, 3) := dk_180 0 9 (dk_at dksX3_dearest_0 21 rfl rfl)
theorem dX3_dearest_24 : decode cX3_dearest 24 = .ok (.sipush 187, 3) := dk_17 0 187 (dk_at dksX3_dearest_1 0 rfl rfl)
theorem dX3_dearest_27 : decode cX3_dearest 27 = .ok (.iload_n 1, 1) := dk_27 (dk_at dksX3_dearest_1 3 rfl rfl)
theorem dX3_dearest_28 : decode cX3_dearest 28 = .ok (.iadd, 1) := dk_96 (dk_at dksX3_dearest_1 4 rfl rfl)
theorem dX3_dearest_29 : decode cX3_dearest 29 = .ok (.iaload, 1) := dk_46 (dk_at dksX3_dearest_1 5 rfl rfl)
theorem dX3_dearest_30 : decode cX3_dearest 30 = .ok (.if_icmp .le 7, 3) := dk_164 0 7 (dk_at dksX3_dearest_1 6 rfl rfl)
theorem dX3_dearest_33 : decode cX3_dearest 33 = .ok (.iload_n 2, 1) := dk_28 (dk_at dksX3_dearest_1 9 rfl rfl)
theorem dX3_dearest_34 : decode cX3_dearest 34 = .ok (.goto 4, 3) := dk_167 0 4 (dk_at dksX3_dearest_1 10 rfl rfl)
theorem dX3_dearest_37 : decode cX3_dearest 37 = .ok (.iload_n 1, 1) := dk_27 (dk_at dksX3_dearest_1 13 rfl rfl)
theorem dX3_dearest_38 : decode cX3_dearest 38 = .ok (.istore_n 1, 1) := dk_60 (dk_at dksX3_dearest_1 14 rfl rfl)
theorem dX3_dearest_39 : decode cX3_dearest 39 = .ok (.iinc 2 1, 3) := dk_132 2 1 (dk_at dksX3_dearest_1 15 rfl rfl)
theorem dX3_dearest_42 : decode cX3_dearest 42 = .ok (.goto (-38), 3) := dk_167 255 218 (dk_at dksX3_dearest_1 18 rfl rfl)
theorem dX3_dearest_45 : decode cX3_dearest 45 = .ok (.aload_n 0, 1) := dk_42 (dk_at dksX3_dearest_1 21 rfl rfl)
theorem dX3_dearest_46 : decode cX3_dearest 46 = .ok (.aload_n 0, 1) := dk_42 (dk_at dksX3_dearest_1 22 rfl rfl)
theorem dX3_dearest_47 : decode cX3_dearest 47 = .ok (.getfield 9, 3) := dk_180 0 9 (dk_at dksX3_dearest_2 0 rfl rfl)
theorem dX3_dearest_50 : decode cX3_dearest 50 = .ok (.sipush 187, 3) := dk_17 0 187 (dk_at dksX3_dearest_2 3 rfl rfl)
theorem dX3_dearest_53 : decode cX3_dearest 53 = .ok (.iload_n 1, 1) := dk_27 (dk_at dksX3_dearest_2 6 rfl rfl)
theorem dX3_dearest_54 : decode cX3_dearest 54 = .ok (.iadd, 1) := dk_96 (dk_at dksX3_dearest_2 7 rfl rfl)
theorem dX3_dearest_55 : decode cX3_dearest 55 = .ok (.iaload, 1) := dk_46 (dk_at dksX3_dearest_2 8 rfl rfl)
theorem dX3_dearest_56 : decode cX3_dearest 56 = .ok (.ifCond .ne 7, 3) := dk_154 0 7 (dk_at dksX3_dearest_2 9 rfl rfl)
theorem dX3_dearest_59 : decode cX3_dearest 59 = .ok (.iconst 1, 1) := dk_4 (dk_at dksX3_dearest_2 12 rfl rfl)
theorem dX3_dearest_60 : decode cX3_dearest 60 = .ok (.goto 4, 3) := dk_167 0 4 (dk_at dksX3_dearest_2 13 rfl rfl)
theorem dX3_dearest_63 : decode cX3_dearest 63 = .ok (.iconst 0, 1) := dk_3 (dk_at dksX3_dearest_2 16 rfl rfl)
theorem dX3_dearest_64 : decode cX3_dearest 64 = .ok (.putfield 49, 3) := dk_181 0 49 (dk_at dksX3_dearest_2 17 rfl rfl)
theorem dX3_dearest_67 : decode cX3_dearest 67 = .ok (.aload_n 0, 1) := dk_42 (dk_at dksX3_dearest_2 20 rfl rfl)
theorem dX3_dearest_68 : decode cX3_dearest 68 = .ok (.getfield 49, 3) := dk_180 0 49 (dk_at dksX3_dearest_2 21 rfl rfl)
theorem dX3_dearest_71 : decode cX3_dearest 71 = .ok (.ifCond .le 7, 3) := dk_158 0 7 (dk_at dksX3_dearest_3 0 rfl rfl)
theorem dX3_dearest_74 : decode cX3_dearest 74 = .ok (.iconst 0, 1) := dk_3 (dk_at dksX3_dearest_3 3 rfl rfl)
theorem dX3_dearest_75 : decode cX3_dearest 75 = .ok (.goto 4, 3) := dk_167 0 4 (dk_at dksX3_dearest_3 4 rfl rfl)
theorem dX3_dearest_78 : decode cX3_dearest 78 = .ok (.iload_n 1, 1) := dk_27 (dk_at dksX3_dearest_3 7 rfl rfl)
theorem dX3_dearest_79 : decode cX3_dearest 79 = .ok (.ireturn, 1) := dk_172 (dk_at dksX3_dearest_3 8 rfl rfl)
def dkwX3_isTold_0 : List UInt8 := [42, 3, 181, 0, 49, 4, 172]
abbrev dktX3_isTold_0 : List UInt8 := dkwX3_isTold_0 ++ []
theorem dksX3_isTold_0 : cX3_isTold.data.toList.drop 0 = dktX3_isTold_0 := by decide +kernel
theorem dX3_isTold_0 : decode cX3_isTold 0 = .ok (.aload_n 0, 1) := dk_42 (dk_at dksX3_isTold_0 0 rfl rfl)
theorem dX3_isTold_1 : decode cX3_isTold 1 = .ok (.iconst 0, 1) := dk_3 (dk_at dksX3_isTold_0 1 rfl rfl)
theorem dX3_isTold_2 : decode cX3_isTold 2 = .ok (.putfield 49, 3) := dk_181 0 49 (dk_at dksX3_isTold_0 2 rfl rfl)
theorem dX3_isTold_5 : decode cX3_isTold 5 = .ok (.iconst 1, 1) := dk_4 (dk_at dksX3_isTold_0 5 rfl rfl)
theorem dX3_isTold_6 : decode cX3_isTold 6 = .ok (.ireturn, 1) := dk_172 (dk_at dksX3_isTold_0 6 rfl rfl)
def dkwX3_append_2 : List UInt8 := [42, 180, 0, 210, 27, 85, 42, 89, 180, 0, 210, 4, 96, 181, 0, 210, 42, 180, 0, 210, 172]
abbrev dktX3_append_2 : List UInt8 := dkwX3_append_2 ++ []
def dkwX3_append_1 : List UInt8 := [160, 0, 7, 5, 167, 0, 4, 3, 181, 0, 49, 42, 180, 0, 49, 158, 0, 5, 3, 172, 42, 180, 0, 35]
abbrev dktX3_append_1 : List UInt8 := dkwX3_append_1 ++ dktX3_append_2
def dkwX3_append_0 : List UInt8 := [42, 27, 16, 32, 16, 126, 184, 0, 61, 154, 0, 7, 4, 167, 0, 17, 42, 180, 0, 210, 16, 60]
abbrev dktX3_append_0 : List UInt8 := dkwX3_append_0 ++ dktX3_append_1
theorem dksX3_append_0 : cX3_append.data.toList.drop 0 = dktX3_append_0 := by decide +kernel
theorem dksX3_append_1 : cX3_append.data.toList.drop 22 = dktX3_append_1 := dk_seg dksX3_append_0 22 rfl rfl
theorem dksX3_append_2 : cX3_append.data.toList.drop 46 = dktX3_append_2 := dk_seg dksX3_append_1 24 rfl rfl
theorem dX3_append_0 : decode cX3_append 0 = .ok (.aload_n 0, 1) := dk_42 (dk_at dksX3_append_0 0 rfl rfl)
theorem dX3_append_1 : decode cX3_append 1 = .ok (.iload_n 1, 1) := dk_27 (dk_at dksX3_append_0 1 rfl rfl)
theorem dX3_append_2 : decode cX3_append 2 = .ok (.bipush 32, 2) := dk_16 32 (dk_at dksX3_append_0 2 rfl rfl)
theorem dX3_append_4 : decode cX3_append 4 = .ok (.bipush 126, 2) := dk_16 126 (dk_at dksX3_append_0 4 rfl rfl)
theorem dX3_append_6 : decode cX3_append 6 = .ok (.invokestatic 61, 3) := dk_184 0 61 (dk_at dksX3_append_0 6 rfl rfl)
theorem dX3_append_9 : decode cX3_append 9 = .ok (.ifCond .ne 7, 3) := dk_154 0 7 (dk_at dksX3_append_0 9 rfl rfl)
theorem dX3_append_12 : decode cX3_append 12 = .ok (.iconst 1, 1) := dk_4 (dk_at dksX3_append_0 12 rfl rfl)
theorem dX3_append_13 : decode cX3_append 13 = .ok (.goto 17, 3) := dk_167 0 17 (dk_at dksX3_append_0 13 rfl rfl)
theorem dX3_append_16 : decode cX3_append 16 = .ok (.aload_n 0, 1) := dk_42 (dk_at dksX3_append_0 16 rfl rfl)
theorem dX3_append_17 : decode cX3_append 17 = .ok (.getfield 210, 3) := dk_180 0 210 (dk_at dksX3_append_0 17 rfl rfl)
theorem dX3_append_20 : decode cX3_append 20 = .ok (.bipush 60, 2) := dk_16 60 (dk_at dksX3_append_0 20 rfl rfl)
theorem dX3_append_22 : decode cX3_append 22 = .ok (.if_icmp .ne 7, 3) := dk_160 0 7 (dk_at dksX3_append_1 0 rfl rfl)
theorem dX3_append_25 : decode cX3_append 25 = .ok (.iconst 2, 1) := dk_5 (dk_at dksX3_append_1 3 rfl rfl)
theorem dX3_append_26 : decode cX3_append 26 = .ok (.goto 4, 3) := dk_167 0 4 (dk_at dksX3_append_1 4 rfl rfl)
theorem dX3_append_29 : decode cX3_append 29 = .ok (.iconst 0, 1) := dk_3 (dk_at dksX3_append_1 7 rfl rfl)
theorem dX3_append_30 : decode cX3_append 30 = .ok (.putfield 49, 3) := dk_181 0 49 (dk_at dksX3_append_1 8 rfl rfl)
theorem dX3_append_33 : decode cX3_append 33 = .ok (.aload_n 0, 1) := dk_42 (dk_at dksX3_append_1 11 rfl rfl)
theorem dX3_append_34 : decode cX3_append 34 = .ok (.getfield 49, 3) := dk_180 0 49 (dk_at dksX3_append_1 12 rfl rfl)
theorem dX3_append_37 : decode cX3_append 37 = .ok (.ifCond .le 5, 3) := dk_158 0 5 (dk_at dksX3_append_1 15 rfl rfl)
theorem dX3_append_40 : decode cX3_append 40 = .ok (.iconst 0, 1) := dk_3 (dk_at dksX3_append_1 18 rfl rfl)
theorem dX3_append_41 : decode cX3_append 41 = .ok (.ireturn, 1) := dk_172 (dk_at dksX3_append_1 19 rfl rfl)
theorem dX3_append_42 : decode cX3_append 42 = .ok (.aload_n 0, 1) := dk_42 (dk_at dksX3_append_1 20 rfl rfl)
theorem dX3_append_43 : decode cX3_append 43 = .ok (.getfield 35, 3) := dk_180 0 35 (dk_at dksX3_append_1 21 rfl rfl)
theorem dX3_append_46 : decode cX3_append 46 = .ok (.aload_n 0, 1) := dk_42 (dk_at dksX3_append_2 0 rfl rfl)
theorem dX3_append_47 : decode cX3_append 47 = .ok (.getfield 210, 3) := dk_180 0 210 (dk_at dksX3_append_2 1 rfl rfl)
theorem dX3_append_50 : decode cX3_append 50 = .ok (.iload_n 1, 1) := dk_27 (dk_at dksX3_append_2 4 rfl rfl)
theorem dX3_append_51 : decode cX3_append 51 = .ok (.castore, 1) := dk_85 (dk_at dksX3_append_2 5 rfl rfl)
theorem dX3_append_52 : decode cX3_append 52 = .ok (.aload_n 0, 1) := dk_42 (dk_at dksX3_append_2 6 rfl rfl)
theorem dX3_append_53 : decode cX3_append 53 = .ok (.dup, 1) := dk_89 (dk_at dksX3_append_2 7 rfl rfl)
theorem dX3_append_54 : decode cX3_append 54 = .ok (.getfield 210, 3) := dk_180 0 210 (dk_at dksX3_append_2 8 rfl rfl)
theorem dX3_append_57 : decode cX3_append 57 = .ok (.iconst 1, 1) := dk_4 (dk_at dksX3_append_2 11 rfl rfl)
theorem dX3_append_58 : decode cX3_append 58 = .ok (.iadd, 1) := dk_96 (dk_at dksX3_append_2 12 rfl rfl)
theorem dX3_append_59 : decode cX3_append 59 = .ok (.putfield 210, 3) := dk_181 0 210 (dk_at dksX3_append_2 13 rfl rfl)
theorem dX3_append_62 : decode cX3_append 62 = .ok (.aload_n 0, 1) := dk_42 (dk_at dksX3_append_2 16 rfl rfl)
theorem dX3_append_63 : decode cX3_append 63 = .ok (.getfield 210, 3) := dk_180 0 210 (dk_at dksX3_append_2 17 rfl rfl)
theorem dX3_append_66 : decode cX3_append 66 = .ok (.ireturn, 1) := dk_172 (dk_at dksX3_append_2 20 rfl rfl)
def dkwX3_run_8 : List UInt8 := [42, 180, 0, 251, 182, 0, 96, 172]
abbrev dktX3_run_8 : List UInt8 := dkwX3_run_8 ++ []
def dkwX3_run_7 : List UInt8 := [42, 180, 0, 25, 6, 29, 79, 42, 42, 5, 182, 0, 186, 182, 0, 96, 172, 132, 1, 1, 167, 255, 186, 42]
abbrev dktX3_run_7 : List UInt8 := dkwX3_run_7 ++ dktX3_run_8
def dkwX3_run_6 : List UInt8 := [61, 42, 180, 0, 25, 4, 46, 62, 42, 16, 12, 27, 182, 0, 83, 54, 4, 42, 180, 0, 25, 5, 28, 79]
abbrev dktX3_run_6 : List UInt8 := dkwX3_run_6 ++ dktX3_run_7
def dkwX3_run_5 : List UInt8 := [180, 0, 251, 162, 0, 68, 42, 27, 182, 1, 43, 42, 180, 0, 49, 158, 0, 50, 42, 180, 0, 25, 3, 46]
abbrev dktX3_run_5 : List UInt8 := dkwX3_run_5 ++ dktX3_run_6
def dkwX3_run_4 : List UInt8 := [181, 0, 210, 42, 180, 0, 213, 153, 0, 9, 42, 4, 182, 0, 186, 172, 42, 182, 0, 90, 3, 60, 27, 42]
abbrev dktX3_run_4 : List UInt8 := dkwX3_run_4 ++ dktX3_run_5
def dkwX3_run_3 : List UInt8 := [181, 0, 213, 42, 42, 180, 0, 213, 153, 0, 10, 42, 180, 0, 217, 167, 0, 4, 2, 181, 0, 39, 42, 3]
abbrev dktX3_run_3 : List UInt8 := dkwX3_run_3 ++ dktX3_run_4
def dkwX3_run_2 : List UInt8 := [42, 180, 0, 213, 154, 0, 14, 42, 180, 0, 217, 42, 180, 0, 210, 162, 0, 7, 4, 167, 0, 4, 3]
abbrev dktX3_run_2 : List UInt8 := dkwX3_run_2 ++ dktX3_run_3
def dkwX3_run_1 : List UInt8 := [182, 0, 220, 153, 0, 20, 42, 89, 180, 0, 217, 4, 96, 181, 0, 217, 42, 182, 1, 40, 167, 255, 231, 42]
abbrev dktX3_run_1 : List UInt8 := dkwX3_run_1 ++ dktX3_run_2
def dkwX3_run_0 : List UInt8 := [42, 3, 181, 0, 217, 42, 3, 181, 0, 213, 42, 3, 181, 0, 251, 42, 182, 1, 40, 42, 16, 59, 16, 59]
abbrev dktX3_run_0 : List UInt8 := dkwX3_run_0 ++ dktX3_run_1
theorem dksX3_run_0 : cX3_run.data.toList.drop 0 = dktX3_run_0 := by decide +kernel
theorem dksX3_run_1 : cX3_run.data.toList.drop 24 = dktX3_run_1 := dk_seg dksX3_run_0 24 rfl rfl
theorem dksX3_run_2 : cX3_run.data.toList.drop 48 = dktX3_run_2 := dk_seg dksX3_run_1 24 rfl rfl
theorem dksX3_run_3 : cX3_run.data.toList.drop 71 = dktX3_run_3 := dk_seg dksX3_run_2 23 rfl rfl
theorem dksX3_run_4 : cX3_run.data.toList.drop 95 = dktX3_run_4 := dk_seg dksX3_run_3 24 rfl rfl
theorem dksX3_run_5 : cX3_run.data.toList.drop 119 = dktX3_run_5 := dk_seg dksX3_run_4 24 rfl rfl
theorem dksX3_run_6 : cX3_run.data.toList.drop 143 = dktX3_run_6 := dk_seg dksX3_run_5 24 rfl rfl
theorem dksX3_run_7 : cX3_run.data.toList.drop 167 = dktX3_run_7 := dk_seg dksX3_run_6 24 rfl rfl
theorem dksX3_run_8 : cX3_run.data.toList.drop 191 = dktX3_run_8 := dk_seg dksX3_run_7 24 rfl rfl
theorem dX3_run_0 : decode cX3_run 0 = .ok (.aload_n 0, 1) := dk_42 (dk_at dksX3_run_0 0 rfl rfl)
theorem dX3_run_1 : decode cX3_run 1 = .ok (.iconst 0, 1) := dk_3 (dk_at dksX3_run_0 1 rfl rfl)
theorem dX3_run_2 : decode cX3_run 2 = .ok (.putfield 217, 3) := dk_181 0 217 (dk_at dksX3_run_0 2 rfl rfl)
theorem dX3_run_5 : decode cX3_run 5 = .ok (.aload_n 0, 1) := dk_42 (dk_at dksX3_run_0 5 rfl rfl)
theorem dX3_run_6 : decode cX3_run 6 = .ok (.iconst 0, 1) := dk_3 (dk_at dksX3_run_0 6 rfl rfl)
theorem dX3_run_7 : decode cX3_run 7 = .ok (.putfield 213, 3) := dk_181 0 213 (dk_at dksX3_run_0 7 rfl rfl)
theorem dX3_run_10 : decode cX3_run 10 = .ok (.aload_n 0, 1) := dk_42 (dk_at dksX3_run_0 10 rfl rfl)
theorem dX3_run_11 : decode cX3_run 11 = .ok (.iconst 0, 1) := dk_3 (dk_at dksX3_run_0 11 rfl rfl)
theorem dX3_run_12 : decode cX3_run 12 = .ok (.putfield 251, 3) := dk_181 0 251 (dk_at dksX3_run_0 12 rfl rfl)
theorem dX3_run_15 : decode cX3_run 15 = .ok (.aload_n 0, 1) := dk_42 (dk_at dksX3_run_0 15 rfl rfl)
theorem dX3_run_16 : decode cX3_run 16 = .ok (.invokevirtual 296, 3) := dk_182 1 40 (dk_at dksX3_run_0 16 rfl rfl)
theorem dX3_run_19 : decode cX3_run 19 = .ok (.aload_n 0, 1) := dk_42 (dk_at dksX3_run_0 19 rfl rfl)
theorem dX3_run_20 : decode cX3_run 20 = .ok (.bipush 59, 2) := dk_16 59 (dk_at dksX3_run_0 20 rfl rfl)
theorem dX3_run_22 : decode cX3_run 22 = .ok (.bipush 59, 2) := dk_16 59 (dk_at dksX3_run_0 22 rfl rfl)
theorem dX3_run_24 : decode cX3_run 24 = .ok (.invokevirtual 220, 3) := dk_182 0 220 (dk_at dksX3_run_1 0 rfl rfl)
theorem dX3_run_27 : decode cX3_run 27 = .ok (.ifCond .eq 20, 3) := dk_153 0 20 (dk_at dksX3_run_1 3 rfl rfl)
theorem dX3_run_30 : decode cX3_run 30 = .ok (.aload_n 0, 1) := dk_42 (dk_at dksX3_run_1 6 rfl rfl)
theorem dX3_run_31 : decode cX3_run 31 = .ok (.dup, 1) := dk_89 (dk_at dksX3_run_1 7 rfl rfl)
theorem dX3_run_32 : decode cX3_run 32 = .ok (.getfield 217, 3) := dk_180 0 217 (dk_at dksX3_run_1 8 rfl rfl)
theorem dX3_run_35 : decode cX3_run 35 = .ok (.iconst 1, 1) := dk_4 (dk_at dksX3_run_1 11 rfl rfl)
theorem dX3_run_36 : decode cX3_run 36 = .ok (.iadd, 1) := dk_96 (dk_at dksX3_run_1 12 rfl rfl)
theorem dX3_run_37 : decode cX3_run 37 = .ok (.putfield 217, 3) := dk_181 0 217 (dk_at dksX3_run_1 13 rfl rfl)
theorem dX3_run_40 : decode cX3_run 40 = .ok (.aload_n 0, 1) := dk_42 (dk_at dksX3_run_1 16 rfl rfl)
theorem dX3_run_41 : decode cX3_run 41 = .ok (.invokevirtual 296, 3) := dk_182 1 40 (dk_at dksX3_run_1 17 rfl rfl)
theorem dX3_run_44 : decode cX3_run 44 = .ok (.goto (-25), 3) := dk_167 255 231 (dk_at dksX3_run_1 20 rfl rfl)
theorem dX3_run_47 : decode cX3_run 47 = .ok (.aload_n 0, 1) := dk_42 (dk_at dksX3_run_1 23 rfl rfl)
theorem dX3_run_48 : decode cX3_run 48 = .ok (.aload_n 0, 1) := dk_42 (dk_at dksX3_run_2 0 rfl rfl)
theorem dX3_run_49 : decode cX3_run 49 = .ok (.getfield 213, 3) := dk_180 0 213 (dk_at dksX3_run_2 1 rfl rfl)
theorem dX3_run_52 : decode cX3_run 52 = .ok (.ifCond .ne 14, 3) := dk_154 0 14 (dk_at dksX3_run_2 4 rfl rfl)
theorem dX3_run_55 : decode cX3_run 55 = .ok (.aload_n 0, 1) := dk_42 (dk_at dksX3_run_2 7 rfl rfl)
theorem dX3_run_56 : decode cX3_run 56 = .ok (.getfield 217, 3) := dk_180 0 217 (dk_at dksX3_run_2 8 rfl rfl)
theorem dX3_run_59 : decode cX3_run 59 = .ok (.aload_n 0, 1) := dk_42 (dk_at dksX3_run_2 11 rfl rfl)
theorem dX3_run_60 : decode cX3_run 60 = .ok (.getfield 210, 3) := dk_180 0 210 (dk_at dksX3_run_2 12 rfl rfl)
theorem dX3_run_63 : decode cX3_run 63 = .ok (.if_icmp .ge 7, 3) := dk_162 0 7 (dk_at dksX3_run_2 15 rfl rfl)
theorem dX3_run_66 : decode cX3_run 66 = .ok (.iconst 1, 1) := dk_4 (dk_at dksX3_run_2 18 rfl rfl)
theorem dX3_run_67 : decode cX3_run 67 = .ok (.goto 4, 3) := dk_167 0 4 (dk_at dksX3_run_2 19 rfl rfl)
theorem dX3_run_70 : decode cX3_run 70 = .ok (.iconst 0, 1) := dk_3 (dk_at dksX3_run_2 22 rfl rfl)
theorem dX3_run_71 : decode cX3_run 71 = .ok (.putfield 213, 3) := dk_181 0 213 (dk_at dksX3_run_3 0 rfl rfl)
theorem dX3_run_74 : decode cX3_run 74 = .ok (.aload_n 0, 1) := dk_42 (dk_at dksX3_run_3 3 rfl rfl)
theorem dX3_run_75 : decode cX3_run 75 = .ok (.aload_n 0, 1) := dk_42 (dk_at dksX3_run_3 4 rfl rfl)
theorem dX3_run_76 : decode cX3_run 76 = .ok (.getfield 213, 3) := dk_180 0 213 (dk_at dksX3_run_3 5 rfl rfl)
theorem dX3_run_79 : decode cX3_run 79 = .ok (.ifCond .eq 10, 3) := dk_153 0 10 (dk_at dksX3_run_3 8 rfl rfl)
theorem dX3_run_82 : decode cX3_run 82 = .ok (.aload_n 0, 1) := dk_42 (dk_at dksX3_run_3 11 rfl rfl)
theorem dX3_run_83 : decode cX3_run 83 = .ok (.getfield 217, 3) := dk_180 0 217 (dk_at dksX3_run_3 12 rfl rfl)
theorem dX3_run_86 : decode cX3_run 86 = .ok (.goto 4, 3) := dk_167 0 4 (dk_at dksX3_run_3 15 rfl rfl)
theorem dX3_run_89 : decode cX3_run 89 = .ok (.iconst (-1), 1) := dk_2 (dk_at dksX3_run_3 18 rfl rfl)
theorem dX3_run_90 : decode cX3_run 90 = .ok (.putfield 39, 3) := dk_181 0 39 (dk_at dksX3_run_3 19 rfl rfl)
theorem dX3_run_93 : decode cX3_run 93 = .ok (.aload_n 0, 1) := dk_42 (dk_at dksX3_run_3 22 rfl rfl)
theorem dX3_run_94 : decode cX3_run 94 = .ok (.iconst 0, 1) := dk_3 (dk_at dksX3_run_3 23 rfl rfl)
theorem dX3_run_95 : decode cX3_run 95 = .ok (.putfield 210, 3) := dk_181 0 210 (dk_at dksX3_run_4 0 rfl rfl)
theorem dX3_run_98 : decode cX3_run 98 = .ok (.aload_n 0, 1) := dk_42 (dk_at dksX3_run_4 3 rfl rfl)
theorem dX3_run_99 : decode cX3_run 99 = .ok (.getfield 213, 3) := dk_180 0 213 (dk_at dksX3_run_4 4 rfl rfl)
theorem dX3_run_102 : decode cX3_run 102 = .ok (.ifCond .eq 9, 3) := dk_153 0 9 (dk_at dksX3_run_4 7 rfl rfl)
theorem dX3_run_105 : decode cX3_run 105 = .ok (.aload_n 0, 1) := dk_42 (dk_at dksX3_run_4 10 rfl rfl)
theorem dX3_run_106 : decode cX3_run 106 = .ok (.iconst 1, 1) := dk_4 (dk_at dksX3_run_4 11 rfl rfl)
theorem dX3_run_107 : decode cX3_run 107 = .ok (.invokevirtual 186, 3) := dk_182 0 186 (dk_at dksX3_run_4 12 rfl rfl)
theorem dX3_run_110 : decode cX3_run 110 = .ok (.ireturn, 1) := dk_172 (dk_at dksX3_run_4 15 rfl rfl)
theorem dX3_run_111 : decode cX3_run 111 = .ok (.aload_n 0, 1) := dk_42 (dk_at dksX3_run_4 16 rfl rfl)
theorem dX3_run_112 : decode cX3_run 112 = .ok (.invokevirtual 90, 3) := dk_182 0 90 (dk_at dksX3_run_4 17 rfl rfl)
theorem dX3_run_115 : decode cX3_run 115 = .ok (.iconst 0, 1) := dk_3 (dk_at dksX3_run_4 20 rfl rfl)
theorem dX3_run_116 : decode cX3_run 116 = .ok (.istore_n 1, 1) := dk_60 (dk_at dksX3_run_4 21 rfl rfl)
theorem dX3_run_117 : decode cX3_run 117 = .ok (.iload_n 1, 1) := dk_27 (dk_at dksX3_run_4 22 rfl rfl)
theorem dX3_run_118 : decode cX3_run 118 = .ok (.aload_n 0, 1) := dk_42 (dk_at dksX3_run_4 23 rfl rfl)
theorem dX3_run_119 : decode cX3_run 119 = .ok (.getfield 251, 3) := dk_180 0 251 (dk_at dksX3_run_5 0 rfl rfl)
theorem dX3_run_122 : decode cX3_run 122 = .ok (.if_icmp .ge 68, 3) := dk_162 0 68 (dk_at dksX3_run_5 3 rfl rfl)
theorem dX3_run_125 : decode cX3_run 125 = .ok (.aload_n 0, 1) := dk_42 (dk_at dksX3_run_5 6 rfl rfl)
theorem dX3_run_126 : decode cX3_run 126 = .ok (.iload_n 1, 1) := dk_27 (dk_at dksX3_run_5 7 rfl rfl)
theorem dX3_run_127 : decode cX3_run 127 = .ok (.invokevirtual 299, 3) := dk_182 1 43 (dk_at dksX3_run_5 8 rfl rfl)
theorem dX3_run_130 : decode cX3_run 130 = .ok (.aload_n 0, 1) := dk_42 (dk_at dksX3_run_5 11 rfl rfl)
theorem dX3_run_131 : decode cX3_run 131 = .ok (.getfield 49, 3) := dk_180 0 49 (dk_at dksX3_run_5 12 rfl rfl)
theorem dX3_run_134 : decode cX3_run 134 = .ok (.ifCond .le 50, 3) := dk_158 0 50 (dk_at dksX3_run_5 15 rfl rfl)
theorem dX3_run_137 : decode cX3_run 137 = .ok (.aload_n 0, 1) := dk_42 (dk_at dksX3_run_5 18 rfl rfl)
theorem dX3_run_138 : decode cX3_run 138 = .ok (.getfield 25, 3) := dk_180 0 25 (dk_at dksX3_run_5 19 rfl rfl)
theorem dX3_run_141 : decode cX3_run 141 = .ok (.iconst 0, 1) := dk_3 (dk_at dksX3_run_5 22 rfl rfl)
theorem dX3_run_142 : decode cX3_run 142 = .ok (.iaload, 1) := dk_46 (dk_at dksX3_run_5 23 rfl rfl)
theorem dX3_run_143 : decode cX3_run 143 = .ok (.istore_n 2, 1) := dk_61 (dk_at dksX3_run_6 0 rfl rfl)
theorem dX3_run_144 : decode cX3_run 144 = .ok (.aload_n 0, 1) := dk_42 (dk_at dksX3_run_6 1 rfl rfl)
theorem dX3_run_145 : decode cX3_run 145 = .ok (.getfield 25, 3) := dk_180 0 25 (dk_at dksX3_run_6 2 rfl rfl)
theorem dX3_run_148 : decode cX3_run 148 = .ok (.iconst 1, 1) := dk_4 (dk_at dksX3_run_6 5 rfl rfl)
theorem dX3_run_149 : decode cX3_run 149 = .ok (.iaload, 1) := dk_46 (dk_at dksX3_run_6 6 rfl rfl)
theorem dX3_run_150 : decode cX3_run 150 = .ok (.istore_n 3, 1) := dk_62 (dk_at dksX3_run_6 7 rfl rfl)
theorem dX3_run_151 : decode cX3_run 151 = .ok (.aload_n 0, 1) := dk_42 (dk_at dksX3_run_6 8 rfl rfl)
theorem dX3_run_152 : decode cX3_run 152 = .ok (.bipush 12, 2) := dk_16 12 (dk_at dksX3_run_6 9 rfl rfl)
theorem dX3_run_154 : decode cX3_run 154 = .ok (.iload_n 1, 1) := dk_27 (dk_at dksX3_run_6 11 rfl rfl)
theorem dX3_run_155 : decode cX3_run 155 = .ok (.invokevirtual 83, 3) := dk_182 0 83 (dk_at dksX3_run_6 12 rfl rfl)
theorem dX3_run_158 : decode cX3_run 158 = .ok (.istore 4, 2) := dk_54 4 (dk_at dksX3_run_6 15 rfl rfl)
theorem dX3_run_160 : decode cX3_run 160 = .ok (.aload_n 0, 1) := dk_42 (dk_at dksX3_run_6 17 rfl rfl)
theorem dX3_run_161 : decode cX3_run 161 = .ok (.getfield 25, 3) := dk_180 0 25 (dk_at dksX3_run_6 18 rfl rfl)
theorem dX3_run_164 : decode cX3_run 164 = .ok (.iconst 2, 1) := dk_5 (dk_at dksX3_run_6 21 rfl rfl)
theorem dX3_run_165 : decode cX3_run 165 = .ok (.iload_n 2, 1) := dk_28 (dk_at dksX3_run_6 22 rfl rfl)
theorem dX3_run_166 : decode cX3_run 166 = .ok (.iastore, 1) := dk_79 (dk_at dksX3_run_6 23 rfl rfl)
theorem dX3_run_167 : decode cX3_run 167 = .ok (.aload_n 0, 1) := dk_42 (dk_at dksX3_run_7 0 rfl rfl)
theorem dX3_run_168 : decode cX3_run 168 = .ok (.getfield 25, 3) := dk_180 0 25 (dk_at dksX3_run_7 1 rfl rfl)
theorem dX3_run_171 : decode cX3_run 171 = .ok (.iconst 3, 1) := dk_6 (dk_at dksX3_run_7 4 rfl rfl)
theorem dX3_run_172 : decode cX3_run 172 = .ok (.iload_n 3, 1) := dk_29 (dk_at dksX3_run_7 5 rfl rfl)
theorem dX3_run_173 : decode cX3_run 173 = .ok (.iastore, 1) := dk_79 (dk_at dksX3_run_7 6 rfl rfl)
theorem dX3_run_174 : decode cX3_run 174 = .ok (.aload_n 0, 1) := dk_42 (dk_at dksX3_run_7 7 rfl rfl)
theorem dX3_run_175 : decode cX3_run 175 = .ok (.aload_n 0, 1) := dk_42 (dk_at dksX3_run_7 8 rfl rfl)
theorem dX3_run_176 : decode cX3_run 176 = .ok (.iconst 2, 1) := dk_5 (dk_at dksX3_run_7 9 rfl rfl)
theorem dX3_run_177 : decode cX3_run 177 = .ok (.invokevirtual 186, 3) := dk_182 0 186 (dk_at dksX3_run_7 10 rfl rfl)
theorem dX3_run_180 : decode cX3_run 180 = .ok (.invokevirtual 96, 3) := dk_182 0 96 (dk_at dksX3_run_7 13 rfl rfl)
theorem dX3_run_183 : decode cX3_run 183 = .ok (.ireturn, 1) := dk_172 (dk_at dksX3_run_7 16 rfl rfl)
theorem dX3_run_184 : decode cX3_run 184 = .ok (.iinc 1 1, 3) := dk_132 1 1 (dk_at dksX3_run_7 17 rfl rfl)
theorem dX3_run_187 : decode cX3_run 187 = .ok (.goto (-70), 3) := dk_167 255 186 (dk_at dksX3_run_7 20 rfl rfl)
theorem dX3_run_190 : decode cX3_run 190 = .ok (.aload_n 0, 1) := dk_42 (dk_at dksX3_run_7 23 rfl rfl)
theorem dX3_run_191 : decode cX3_run 191 = .ok (.aload_n 0, 1) := dk_42 (dk_at dksX3_run_8 0 rfl rfl)
theorem dX3_run_192 : decode cX3_run 192 = .ok (.getfield 251, 3) := dk_180 0 251 (dk_at dksX3_run_8 1 rfl rfl)
theorem dX3_run_195 : decode cX3_run 195 = .ok (.invokevirtual 96, 3) := dk_182 0 96 (dk_at dksX3_run_8 4 rfl rfl)
theorem dX3_run_198 : decode cX3_run 198 = .ok (.ireturn, 1) := dk_172 (dk_at dksX3_run_8 7 rfl rfl)
def dkwX3_readOrder_12 : List UInt8 := [19, 1, 31, 182, 0, 247, 42, 27, 4, 182, 1, 21, 177]
abbrev dktX3_readOrder_12 : List UInt8 := dkwX3_readOrder_12 ++ []
def dkwX3_readOrder_11 : List UInt8 := [19, 1, 29, 182, 0, 247, 42, 180, 0, 43, 27, 4, 96, 42, 182, 1, 3, 79, 167, 0, 16, 42]
abbrev dktX3_readOrder_11 : List UInt8 := dkwX3_readOrder_11 ++ dktX3_readOrder_12
def dkwX3_readOrder_10 : List UInt8 := [5, 182, 1, 21, 167, 0, 54, 42, 19, 1, 27, 182, 0, 247, 42, 27, 6, 182, 1, 21, 167, 0, 38, 42]
abbrev dktX3_readOrder_10 : List UInt8 := dkwX3_readOrder_10 ++ dktX3_readOrder_11
def dkwX3_readOrder_9 : List UInt8 := [19, 1, 19, 182, 0, 247, 42, 27, 5, 182, 1, 21, 167, 0, 70, 42, 19, 1, 25, 182, 0, 247, 42, 27]
abbrev dktX3_readOrder_9 : List UInt8 := dkwX3_readOrder_9 ++ dktX3_readOrder_10
def dkwX3_readOrder_8 : List UInt8 := [182, 0, 237, 79, 42, 180, 0, 43, 27, 5, 96, 42, 19, 1, 13, 182, 1, 15, 79, 167, 0, 86, 42]
abbrev dktX3_readOrder_8 : List UInt8 := dkwX3_readOrder_8 ++ dktX3_readOrder_9
def dkwX3_readOrder_7 : List UInt8 := [96, 42, 182, 0, 237, 79, 167, 0, 123, 42, 19, 1, 11, 182, 0, 247, 42, 180, 0, 43, 27, 4, 96, 42]
abbrev dktX3_readOrder_7 : List UInt8 := dkwX3_readOrder_7 ++ dktX3_readOrder_8
def dkwX3_readOrder_6 : List UInt8 := [182, 1, 6, 167, 0, 150, 42, 19, 1, 9, 182, 0, 247, 42, 27, 182, 1, 0, 42, 180, 0, 43, 27, 6]
abbrev dktX3_readOrder_6 : List UInt8 := dkwX3_readOrder_6 ++ dktX3_readOrder_7
def dkwX3_readOrder_5 : List UInt8 := [18, 243, 182, 0, 247, 42, 180, 0, 43, 27, 7, 96, 42, 182, 1, 3, 79, 167, 0, 158, 42, 27]
abbrev dktX3_readOrder_5 : List UInt8 := dkwX3_readOrder_5 ++ dktX3_readOrder_6
def dkwX3_readOrder_4 : List UInt8 := [42, 18, 254, 182, 0, 247, 42, 27, 182, 1, 0, 42, 180, 0, 43, 27, 6, 96, 42, 182, 1, 3, 79, 42]
abbrev dktX3_readOrder_4 : List UInt8 := dkwX3_readOrder_4 ++ dktX3_readOrder_5
def dkwX3_readOrder_3 : List UInt8 := [170, 0, 0, 0, 1, 24, 0, 0, 0, 100, 0, 0, 0, 119, 0, 0, 0, 210, 0, 0, 0, 94, 0, 0, 0, 146, 0, 0, 1, 24, 0, 0, 1, 2, 0, 0, 1, 24, 0, 0, 1, 24, 0, 0, 1, 24, 0, 0, 1, 24, 0, 0, 1, 24, 0, 0, 1, 24, 0, 0, 1, 24, 0, 0, 1, 24, 0, 0, 1, 24, 0, 0, 1, 24, 0, 0, 0, 138, 0, 0, 0, 242, 0, 0, 1, 24, 0, 0, 0, 226, 0, 0, 0, 173]
abbrev dktX3_readOrder_3 : List UInt8 := dkwX3_readOrder_3 ++ dktX3_readOrder_4
def dkwX3_readOrder_2 : List UInt8 := [167, 0, 4, 3, 61, 42, 180, 0, 43, 27, 28, 79, 28]
abbrev dktX3_readOrder_2 : List UInt8 := dkwX3_readOrder_2 ++ dktX3_readOrder_3
def dkwX3_readOrder_1 : List UInt8 := [181, 0, 251, 42, 180, 0, 217, 42, 180, 0, 210, 162, 0, 15, 42, 180, 0, 35, 42, 180, 0, 217, 52]
abbrev dktX3_readOrder_1 : List UInt8 := dkwX3_readOrder_1 ++ dktX3_readOrder_2
def dkwX3_readOrder_0 : List UInt8 := [42, 180, 0, 213, 153, 0, 4, 177, 8, 42, 180, 0, 251, 104, 60, 42, 89, 180, 0, 251, 4, 96]
abbrev dktX3_readOrder_0 : List UInt8 := dkwX3_readOrder_0 ++ dktX3_readOrder_1
theorem dksX3_readOrder_0 : cX3_readOrder.data.toList.drop 0 = dktX3_readOrder_0 := by decide +kernel
theorem dksX3_readOrder_1 : cX3_readOrder.data.toList.drop 22 = dktX3_readOrder_1 := dk_seg dksX3_readOrder_0 22 rfl rfl
theorem dksX3_readOrder_2 : cX3_readOrder.data.toList.drop 45 = dktX3_readOrder_2 := dk_seg dksX3_readOrder_1 23 rfl rfl
theorem dksX3_readOrder_3 : cX3_readOrder.data.toList.drop 58 = dktX3_readOrder_3 := dk_seg dksX3_readOrder_2 13 rfl rfl
theorem dksX3_readOrder_4 : cX3_readOrder.data.toList.drop 152 = dktX3_readOrder_4 := dk_seg dksX3_readOrder_3 94 rfl rfl
theorem dksX3_readOrder_5 : cX3_readOrder.data.toList.drop 176 = dktX3_readOrder_5 := dk_seg dksX3_readOrder_4 24 rfl rfl
theorem dksX3_readOrder_6 : cX3_readOrder.data.toList.drop 198 = dktX3_readOrder_6 := dk_seg dksX3_readOrder_5 22 rfl rfl
theorem dksX3_readOrder_7 : cX3_readOrder.data.toList.drop 222 = dktX3_readOrder_7 := dk_seg dksX3_readOrder_6 24 rfl rfl
theorem dksX3_readOrder_8 : cX3_readOrder.data.toList.drop 246 = dktX3_readOrder_8 := dk_seg dksX3_readOrder_7 24 rfl rfl
theorem dksX3_readOrder_9 : cX3_readOrder.data.toList.drop 269 = dktX3_readOrder_9 := dk_seg dksX3_readOrder_8 23 rfl rfl
theorem dksX3_readOrder_10 : cX3_readOrder.data.toList.drop 293 = dktX3_readOrder_10 := dk_seg dksX3_readOrder_9 24 rfl rfl
theorem dksX3_readOrder_11 : cX3_readOrder.data.toList.drop 317 = dktX3_readOrder_11 := dk_seg dksX3_readOrder_10 24 rfl rfl
theorem dksX3_readOrder_12 : cX3_readOrder.data.toList.drop 339 = dktX3_readOrder_12 := dk_seg dksX3_readOrder_11 22 rfl rfl
theorem dX3_readOrder_0 : decode cX3_readOrder 0 = .ok (.aload_n 0, 1) := dk_42 (dk_at dksX3_readOrder_0 0 rfl rfl)
theorem dX3_readOrder_1 : decode cX3_readOrder 1 = .ok (.getfield 213, 3) := dk_180 0 213 (dk_at dksX3_readOrder_0 1 rfl rfl)
theorem dX3_readOrder_4 : decode cX3_readOrder 4 = .ok (.ifCond .eq 4, 3) := dk_153 0 4 (dk_at dksX3_readOrder_0 4 rfl rfl)
theorem dX3_readOrder_7 : decode cX3_readOrder 7 = .ok (.return_, 1) := dk_177 (dk_at dksX3_readOrder_0 7 rfl rfl)
theorem dX3_readOrder_8 : decode cX3_readOrder 8 = .ok (.iconst 5, 1) := dk_8 (dk_at dksX3_readOrder_0 8 rfl rfl)
theorem dX3_readOrder_9 : decode cX3_readOrder 9 = .ok (.aload_n 0, 1) := dk_42 (dk_at dksX3_readOrder_0 9 rfl rfl)
theorem dX3_readOrder_10 : decode cX3_readOrder 10 = .ok (.getfield 251, 3) := dk_180 0 251 (dk_at dksX3_readOrder_0 10 rfl rfl)
theorem dX3_readOrder_13 : decode cX3_readOrder 13 = .ok (.imul, 1) := dk_104 (dk_at dksX3_readOrder_0 13 rfl rfl)
theorem dX3_readOrder_14 : decode cX3_readOrder 14 = .ok (.istore_n 1, 1) := dk_60 (dk_at dksX3_readOrder_0 14 rfl rfl)
theorem dX3_readOrder_15 : decode cX3_readOrder 15 = .ok (.aload_n 0, 1) := dk_42 (dk_at dksX3_readOrder_0 15 rfl rfl)
theorem dX3_readOrder_16 : decode cX3_readOrder 16 = .ok (.dup, 1) := dk_89 (dk_at dksX3_readOrder_0 16 rfl rfl)
theorem dX3_readOrder_17 : decode cX3_readOrder 17 = .ok (.getfield 251, 3) := dk_180 0 251 (dk_at dksX3_readOrder_0 17 rfl rfl)
theorem dX3_readOrder_20 : decode cX3_readOrder 20 = .ok (.iconst 1, 1) := dk_4 (dk_at dksX3_readOrder_0 20 rfl rfl)
theorem dX3_readOrder_21 : decode cX3_readOrder 21 = .ok (.iadd, 1) := dk_96 (dk_at dksX3_readOrder_0 21 rfl rfl)
theorem dX3_readOrder_22 : decode cX3_readOrder 22 = .ok (.putfield 251, 3) := dk_181 0 251 (dk_at dksX3_readOrder_1 0 rfl rfl)
theorem dX3_readOrder_25 : decode cX3_readOrder 25 = .ok (.aload_n 0, 1) := dk_42 (dk_at dksX3_readOrder_1 3 rfl rfl)
theorem dX3_readOrder_26 : decode cX3_readOrder 26 = .ok (.getfield 217, 3) := dk_180 0 217 (dk_at dksX3_readOrder_1 4 rfl rfl)
theorem dX3_readOrder_29 : decode cX3_readOrder 29 = .ok (.aload_n 0, 1) := dk_42 (dk_at dksX3_readOrder_1 7 rfl rfl)
theorem dX3_readOrder_30 : decode cX3_readOrder 30 = .ok (.getfield 210, 3) := dk_180 0 210 (dk_at dksX3_readOrder_1 8 rfl rfl)
theorem dX3_readOrder_33 : decode cX3_readOrder 33 = .ok (.if_icmp .ge 15, 3) := dk_162 0 15 (dk_at dksX3_readOrder_1 11 rfl rfl)
theorem dX3_readOrder_36 : decode cX3_readOrder 36 = .ok (.aload_n 0, 1) := dk_42 (dk_at dksX3_readOrder_1 14 rfl rfl)
theorem dX3_readOrder_37 : decode cX3_readOrder 37 = .ok (.getfield 35, 3) := dk_180 0 35 (dk_at dksX3_readOrder_1 15 rfl rfl)
theorem dX3_readOrder_40 : decode cX3_readOrder 40 = .ok (.aload_n 0, 1) := dk_42 (dk_at dksX3_readOrder_1 18 rfl rfl)
theorem dX3_readOrder_41 : decode cX3_readOrder 41 = .ok (.getfield 217, 3) := dk_180 0 217 (dk_at dksX3_readOrder_1 19 rfl rfl)
theorem dX3_readOrder_44 : decode cX3_readOrder 44 = .ok (.caload, 1) := dk_52 (dk_at dksX3_readOrder_1 22 rfl rfl)
theorem dX3_readOrder_45 : decode cX3_readOrder 45 = .ok (.goto 4, 3) := dk_167 0 4 (dk_at dksX3_readOrder_2 0 rfl rfl)
theorem dX3_readOrder_48 : decode cX3_readOrder 48 = .ok (.iconst 0, 1) := dk_3 (dk_at dksX3_readOrder_2 3 rfl rfl)
theorem dX3_readOrder_49 : decode cX3_readOrder 49 = .ok (.istore_n 2, 1) := dk_61 (dk_at dksX3_readOrder_2 4 rfl rfl)
theorem dX3_readOrder_50 : decode cX3_readOrder 50 = .ok (.aload_n 0, 1) := dk_42 (dk_at dksX3_readOrder_2 5 rfl rfl)
theorem dX3_readOrder_51 : decode cX3_readOrder 51 = .ok (.getfield 43, 3) := dk_180 0 43 (dk_at dksX3_readOrder_2 6 rfl rfl)
theorem dX3_readOrder_54 : decode cX3_readOrder 54 = .ok (.iload_n 1, 1) := dk_27 (dk_at dksX3_readOrder_2 9 rfl rfl)
theorem dX3_readOrder_55 : decode cX3_readOrder 55 = .ok (.iload_n 2, 1) := dk_28 (dk_at dksX3_readOrder_2 10 rfl rfl)
theorem dX3_readOrder_56 : decode cX3_readOrder 56 = .ok (.iastore, 1) := dk_79 (dk_at dksX3_readOrder_2 11 rfl rfl)
theorem dX3_readOrder_57 : decode cX3_readOrder 57 = .ok (.iload_n 2, 1) := dk_28 (dk_at dksX3_readOrder_2 12 rfl rfl)
theorem dX3_readOrder_58 : decode cX3_readOrder 58 = .ok (.tableswitch 280 100 119 #[210, 94, 146, 280, 258, 280, 280, 280, 280, 280, 280, 280, 280, 280, 280, 138, 242, 280, 226, 173], 94) := by decide +kernel
theorem dX3_readOrder_152 : decode cX3_readOrder 152 = .ok (.aload_n 0, 1) := dk_42 (dk_at dksX3_readOrder_4 0 rfl rfl)
theorem dX3_readOrder_153 : decode cX3_readOrder 153 = .ok (.ldc 254, 2) := dk_18 254 (dk_at dksX3_readOrder_4 1 rfl rfl)
theorem dX3_readOrder_155 : decode cX3_readOrder 155 = .ok (.invokevirtual 247, 3) := dk_182 0 247 (dk_at dksX3_readOrder_4 3 rfl rfl)
theorem dX3_readOrder_158 : decode cX3_readOrder 158 = .ok (.aload_n 0, 1) := dk_42 (dk_at dksX3_readOrder_4 6 rfl rfl)
theorem dX3_readOrder_159 : decode cX3_readOrder 159 = .ok (.iload_n 1, 1) := dk_27 (dk_at dksX3_readOrder_4 7 rfl rfl)
theorem dX3_readOrder_160 : decode cX3_readOrder 160 = .ok (.invokevirtual 256, 3) := dk_182 1 0 (dk_at dksX3_readOrder_4 8 rfl rfl)
theorem dX3_readOrder_163 : decode cX3_readOrder 163 = .ok (.aload_n 0, 1) := dk_42 (dk_at dksX3_readOrder_4 11 rfl rfl)
theorem dX3_readOrder_164 : decode cX3_readOrder 164 = .ok (.getfield 43, 3) := dk_180 0 43 (dk_at dksX3_readOrder_4 12 rfl rfl)
theorem dX3_readOrder_167 : decode cX3_readOrder 167 = .ok (.iload_n 1, 1) := dk_27 (dk_at dksX3_readOrder_4 15 rfl rfl)
theorem dX3_readOrder_168 : decode cX3_readOrder 168 = .ok (.iconst 3, 1) := dk_6 (dk_at dksX3_readOrder_4 16 rfl rfl)
theorem dX3_readOrder_169 : decode cX3_readOrder 169 = .ok (.iadd, 1) := dk_96 (dk_at dksX3_readOrder_4 17 rfl rfl)
theorem dX3_readOrder_170 : decode cX3_readOrder 170 = .ok (.aload_n 0, 1) := dk_42 (dk_at dksX3_readOrder_4 18 rfl rfl)
theorem dX3_readOrder_171 : decode cX3_readOrder 171 = .ok (.invokevirtual 259, 3) := dk_182 1 3 (dk_at dksX3_readOrder_4 19 rfl rfl)
theorem dX3_readOrder_174 : decode cX3_readOrder 174 = .ok (.iastore, 1) := dk_79 (dk_at dksX3_readOrder_4 22 rfl rfl)
theorem dX3_readOrder_175 : decode cX3_readOrder 175 = .ok (.aload_n 0, 1) := dk_42 (dk_at dksX3_readOrder_4 23 rfl rfl)
theorem dX3_readOrder_176 : decode cX3_readOrder 176 = .ok (.ldc 243, 2) := dk_18 243 (dk_at dksX3_readOrder_5 0 rfl rfl)
theorem dX3_readOrder_178 : decode cX3_readOrder 178 = .ok (.invokevirtual 247, 3) := dk_182 0 247 (dk_at dksX3_readOrder_5 2 rfl rfl)
theorem dX3_readOrder_181 : decode cX3_readOrder 181 = .ok (.aload_n 0, 1) := dk_42 (dk_at dksX3_readOrder_5 5 rfl rfl)
theorem dX3_readOrder_182 : decode cX3_readOrder 182 = .ok (.getfield 43, 3) := dk_180 0 43 (dk_at dksX3_readOrder_5 6 rfl rfl)
theorem dX3_readOrder_185 : decode cX3_readOrder 185 = .ok (.iload_n 1, 1) := dk_27 (dk_at dksX3_readOrder_5 9 rfl rfl)
theorem dX3_readOrder_186 : decode cX3_readOrder 186 = .ok (.iconst 4, 1) := dk_7 (dk_at dksX3_readOrder_5 10 rfl rfl)
theorem dX3_readOrder_187 : decode cX3_readOrder 187 = .ok (.iadd, 1) := dk_96 (dk_at dksX3_readOrder_5 11 rfl rfl)
theorem dX3_readOrder_188 : decode cX3_readOrder 188 = .ok (.aload_n 0, 1) := dk_42 (dk_at dksX3_readOrder_5 12 rfl rfl)
theorem dX3_readOrder_189 : decode cX3_readOrder 189 = .ok (.invokevirtual 259, 3) := dk_182 1 3 (dk_at dksX3_readOrder_5 13 rfl rfl)
theorem dX3_readOrder_192 : decode cX3_readOrder 192 = .ok (.iastore, 1) := dk_79 (dk_at dksX3_readOrder_5 16 rfl rfl)
theorem dX3_readOrder_193 : decode cX3_readOrder 193 = .ok (.goto 158, 3) := dk_167 0 158 (dk_at dksX3_readOrder_5 17 rfl rfl)
theorem dX3_readOrder_196 : decode cX3_readOrder 196 = .ok (.aload_n 0, 1) := dk_42 (dk_at dksX3_readOrder_5 20 rfl rfl)
theorem dX3_readOrder_197 : decode cX3_readOrder 197 = .ok (.iload_n 1, 1) := dk_27 (dk_at dksX3_readOrder_5 21 rfl rfl)
theorem dX3_readOrder_198 : decode cX3_readOrder 198 = .ok (.invokevirtual 262, 3) := dk_182 1 6 (dk_at dksX3_readOrder_6 0 rfl rfl)
theorem dX3_readOrder_201 : decode cX3_readOrder 201 = .ok (.goto 150, 3) := dk_167 0 150 (dk_at dksX3_readOrder_6 3 rfl rfl)
theorem dX3_readOrder_204 : decode cX3_readOrder 204 = .ok (.aload_n 0, 1) := dk_42 (dk_at dksX3_readOrder_6 6 rfl rfl)
theorem dX3_readOrder_205 : decode cX3_readOrder 205 = .ok (.ldc_w 265, 3) := dk_19 1 9 (dk_at dksX3_readOrder_6 7 rfl rfl)
theorem dX3_readOrder_208 : decode cX3_readOrder 208 = .ok (.invokevirtual 247, 3) := dk_182 0 247 (dk_at dksX3_readOrder_6 10 rfl rfl)
theorem dX3_readOrder_211 : decode cX3_readOrder 211 = .ok (.aload_n 0, 1) := dk_42 (dk_at dksX3_readOrder_6 13 rfl rfl)
theorem dX3_readOrder_212 : decode cX3_readOrder 212 = .ok (.iload_n 1, 1) := dk_27 (dk_at dksX3_readOrder_6 14 rfl rfl)
theorem dX3_readOrder_213 : decode cX3_readOrder 213 = .ok (.invokevirtual 256, 3) := dk_182 1 0 (dk_at dksX3_readOrder_6 15 rfl rfl)
theorem dX3_readOrder_216 : decode cX3_readOrder 216 = .ok (.aload_n 0, 1) := dk_42 (dk_at dksX3_readOrder_6 18 rfl rfl)
theorem dX3_readOrder_217 : decode cX3_readOrder 217 = .ok (.getfield 43, 3) := dk_180 0 43 (dk_at dksX3_readOrder_6 19 rfl rfl)
theorem dX3_readOrder_220 : decode cX3_readOrder 220 = .ok (.iload_n 1, 1) := dk_27 (dk_at dksX3_readOrder_6 22 rfl rfl)
theorem dX3_readOrder_221 : decode cX3_readOrder 221 = .ok (.iconst 3, 1) := dk_6 (dk_at dksX3_readOrder_6 23 rfl rfl)
theorem dX3_readOrder_222 : decode cX3_readOrder 222 = .ok (.iadd, 1) := dk_96 (dk_at dksX3_readOrder_7 0 rfl rfl)
theorem dX3_readOrder_223 : decode cX3_readOrder 223 = .ok (.aload_n 0, 1) := dk_42 (dk_at dksX3_readOrder_7 1 rfl rfl)
theorem dX3_readOrder_224 : decode cX3_readOrder 224 = .ok (.invokevirtual 237, 3) := dk_182 0 237 (dk_at dksX3_readOrder_7 2 rfl rfl)
theorem dX3_readOrder_227 : decode cX3_readOrder 227 = .ok (.iastore, 1) := dk_79 (dk_at dksX3_readOrder_7 5 rfl rfl)
theorem dX3_readOrder_228 : decode cX3_readOrder 228 = .ok (.goto 123, 3) := dk_167 0 123 (dk_at dksX3_readOrder_7 6 rfl rfl)
theorem dX3_readOrder_231 : decode cX3_readOrder 231 = .ok (.aload_n 0, 1) := dk_42 (dk_at dksX3_readOrder_7 9 rfl rfl)
theorem dX3_readOrder_232 : decode cX3_readOrder 232 = .ok (.ldc_w 267, 3) := dk_19 1 11 (dk_at dksX3_readOrder_7 10 rfl rfl)
theorem dX3_readOrder_235 : decode cX3_readOrder 235 = .ok (.invokevirtual 247, 3) := dk_182 0 247 (dk_at dksX3_readOrder_7 13 rfl rfl)
theorem dX3_readOrder_238 : decode cX3_readOrder 238 = .ok (.aload_n 0, 1) := dk_42 (dk_at dksX3_readOrder_7 16 rfl rfl)
theorem dX3_readOrder_239 : decode cX3_readOrder 239 = .ok (.getfield 43, 3) := dk_180 0 43 (dk_at dksX3_readOrder_7 17 rfl rfl)
theorem dX3_readOrder_242 : decode cX3_readOrder 242 = .ok (.iload_n 1, 1) := dk_27 (dk_at dksX3_readOrder_7 20 rfl rfl)
theorem dX3_readOrder_243 : decode cX3_readOrder 243 = .ok (.iconst 1, 1) := dk_4 (dk_at dksX3_readOrder_7 21 rfl rfl)
theorem dX3_readOrder_244 : decode cX3_readOrder 244 = .ok (.iadd, 1) := dk_96 (dk_at dksX3_readOrder_7 22 rfl rfl)
theorem dX3_readOrder_245 : decode cX3_readOrder 245 = .ok (.aload_n 0, 1) := dk_42 (dk_at dksX3_readOrder_7 23 rfl rfl)
theorem dX3_readOrder_246 : decode cX3_readOrder 246 = .ok (.invokevirtual 237, 3) := dk_182 0 237 (dk_at dksX3_readOrder_8 0 rfl rfl)
theorem dX3_readOrder_249 : decode cX3_readOrder 249 = .ok (.iastore, 1) := dk_79 (dk_at dksX3_readOrder_8 3 rfl rfl)
theorem dX3_readOrder_250 : decode cX3_readOrder 250 = .ok (.aload_n 0, 1) := dk_42 (dk_at dksX3_readOrder_8 4 rfl rfl)
theorem dX3_readOrder_251 : decode cX3_readOrder 251 = .ok (.getfield 43, 3) := dk_180 0 43 (dk_at dksX3_readOrder_8 5 rfl rfl)
theorem dX3_readOrder_254 : decode cX3_readOrder 254 = .ok (.iload_n 1, 1) := dk_27 (dk_at dksX3_readOrder_8 8 rfl rfl)
theorem dX3_readOrder_255 : decode cX3_readOrder 255 = .ok (.iconst 2, 1) := dk_5 (dk_at dksX3_readOrder_8 9 rfl rfl)
theorem dX3_readOrder_256 : decode cX3_readOrder 256 = .ok (.iadd, 1) := dk_96 (dk_at dksX3_readOrder_8 10 rfl rfl)
theorem dX3_readOrder_257 : decode cX3_readOrder 257 = .ok (.aload_n 0, 1) := dk_42 (dk_at dksX3_readOrder_8 11 rfl rfl)
theorem dX3_readOrder_258 : decode cX3_readOrder 258 = .ok (.ldc_w 269, 3) := dk_19 1 13 (dk_at dksX3_readOrder_8 12 rfl rfl)
theorem dX3_readOrder_261 : decode cX3_readOrder 261 = .ok (.invokevirtual 271, 3) := dk_182 1 15 (dk_at dksX3_readOrder_8 15 rfl rfl)
theorem dX3_readOrder_264 : decode cX3_readOrder 264 = .ok (.iastore, 1) := dk_79 (dk_at dksX3_readOrder_8 18 rfl rfl)
theorem dX3_readOrder_265 : decode cX3_readOrder 265 = .ok (.goto 86, 3) := dk_167 0 86 (dk_at dksX3_readOrder_8 19 rfl rfl)
theorem dX3_readOrder_268 : decode cX3_readOrder 268 = .ok (.aload_n 0, 1) := dk_42 (dk_at dksX3_readOrder_8 22 rfl rfl)
theorem dX3_readOrder_269 : decode cX3_readOrder 269 = .ok (.ldc_w 275, 3) := dk_19 1 19 (dk_at dksX3_readOrder_9 0 rfl rfl)
theorem dX3_readOrder_272 : decode cX3_readOrder 272 = .ok (.invokevirtual 247, 3) := dk_182 0 247 (dk_at dksX3_readOrder_9 3 rfl rfl)
theorem dX3_readOrder_275 : decode cX3_readOrder 275 = .ok (.aload_n 0, 1) := dk_42 (dk_at dksX3_readOrder_9 6 rfl rfl)
theorem dX3_readOrder_276 : decode cX3_readOrder 276 = .ok (.iload_n 1, 1) := dk_27 (dk_at dksX3_readOrder_9 7 rfl rfl)
theorem dX3_readOrder_277 : decode cX3_readOrder 277 = .ok (.iconst 2, 1) := dk_5 (dk_at dksX3_readOrder_9 8 rfl rfl)
theorem dX3_readOrder_278 : decode cX3_readOrder 278 = .ok (.invokevirtual 277, 3) := dk_182 1 21 (dk_at dksX3_readOrder_9 9 rfl rfl)
theorem dX3_readOrder_281 : decode cX3_readOrder 281 = .ok (.goto 70, 3) := dk_167 0 70 (dk_at dksX3_readOrder_9 12 rfl rfl)
theorem dX3_readOrder_284 : decode cX3_readOrder 284 = .ok (.aload_n 0, 1) := dk_42 (dk_at dksX3_readOrder_9 15 rfl rfl)
theorem dX3_readOrder_285 : decode cX3_readOrder 285 = .ok (.ldc_w 281, 3) := dk_19 1 25 (dk_at dksX3_readOrder_9 16 rfl rfl)
theorem dX3_readOrder_288 : decode cX3_readOrder 288 = .ok (.invokevirtual 247, 3) := dk_182 0 247 (dk_at dksX3_readOrder_9 19 rfl rfl)
theorem dX3_readOrder_291 : decode cX3_readOrder 291 = .ok (.aload_n 0, 1) := dk_42 (dk_at dksX3_readOrder_9 22 rfl rfl)
theorem dX3_readOrder_292 : decode cX3_readOrder 292 = .ok (.iload_n 1, 1) := dk_27 (dk_at dksX3_readOrder_9 23 rfl rfl)
theorem dX3_readOrder_293 : decode cX3_readOrder 293 = .ok (.iconst 2, 1) := dk_5 (dk_at dksX3_readOrder_10 0 rfl rfl)
theorem dX3_readOrder_294 : decode cX3_readOrder 294 = .ok (.invokevirtual 277, 3) := dk_182 1 21 (dk_at dksX3_readOrder_10 1 rfl rfl)
theorem dX3_readOrder_297 : decode cX3_readOrder 297 = .ok (.goto 54, 3) := dk_167 0 54 (dk_at dksX3_readOrder_10 4 rfl rfl)
theorem dX3_readOrder_300 : decode cX3_readOrder 300 = .ok (.aload_n 0, 1) := dk_42 (dk_at dksX3_readOrder_10 7 rfl rfl)
theorem dX3_readOrder_301 : decode cX3_readOrder 301 = .ok (.ldc_w 283, 3) := dk_19 1 27 (dk_at dksX3_readOrder_10 8 rfl rfl)
theorem dX3_readOrder_304 : decode cX3_readOrder 304 = .ok (.invokevirtual 247, 3) := dk_182 0 247 (dk_at dksX3_readOrder_10 11 rfl rfl)
theorem dX3_readOrder_307 : decode cX3_readOrder 307 = .ok (.aload_n 0, 1) := dk_42 (dk_at dksX3_readOrder_10 14 rfl rfl)
theorem dX3_readOrder_308 : decode cX3_readOrder 308 = .ok (.iload_n 1, 1) := dk_27 (dk_at dksX3_readOrder_10 15 rfl rfl)
theorem dX3_readOrder_309 : decode cX3_readOrder 309 = .ok (.iconst 3, 1) := dk_6 (dk_at dksX3_readOrder_10 16 rfl rfl)
theorem dX3_readOrder_310 : decode cX3_readOrder 310 = .ok (.invokevirtual 277, 3) := dk_182 1 21 (dk_at dksX3_readOrder_10 17 rfl rfl)
theorem dX3_readOrder_313 : decode cX3_readOrder 313 = .ok (.goto 38, 3) := dk_167 0 38 (dk_at dksX3_readOrder_10 20 rfl rfl)
theorem dX3_readOrder_316 : decode cX3_readOrder 316 = .ok (.aload_n 0, 1) := dk_42 (dk_at dksX3_readOrder_10 23 rfl rfl)
theorem dX3_readOrder_317 : decode cX3_readOrder 317 = .ok (.ldc_w 285, 3) := dk_19 1 29 (dk_at dksX3_readOrder_11 0 rfl rfl)
theorem dX3_readOrder_320 : decode cX3_readOrder 320 = .ok (.invokevirtual 247, 3) := dk_182 0 247 (dk_at dksX3_readOrder_11 3 rfl rfl)
theorem dX3_readOrder_323 : decode cX3_readOrder 323 = .ok (.aload_n 0, 1) := dk_42 (dk_at dksX3_readOrder_11 6 rfl rfl)
theorem dX3_readOrder_324 : decode cX3_readOrder 324 = .ok (.getfield 43, 3) := dk_180 0 43 (dk_at dksX3_readOrder_11 7 rfl rfl)
theorem dX3_readOrder_327 : decode cX3_readOrder 327 = .ok (.iload_n 1, 1) := dk_27 (dk_at dksX3_readOrder_11 10 rfl rfl)
theorem dX3_readOrder_328 : decode cX3_readOrder 328 = .ok (.iconst 1, 1) := dk_4 (dk_at dksX3_readOrder_11 11 rfl rfl)
theorem dX3_readOrder_329 : decode cX3_readOrder 329 = .ok (.iadd, 1) := dk_96 (dk_at dksX3_readOrder_11 12 rfl rfl)
theorem dX3_readOrder_330 : decode cX3_readOrder 330 = .ok (.aload_n 0, 1) := dk_42 (dk_at dksX3_readOrder_11 13 rfl rfl)
theorem dX3_readOrder_331 : decode cX3_readOrder 331 = .ok (.invokevirtual 259, 3) := dk_182 1 3 (dk_at dksX3_readOrder_11 14 rfl rfl)
theorem dX3_readOrder_334 : decode cX3_readOrder 334 = .ok (.iastore, 1) := dk_79 (dk_at dksX3_readOrder_11 17 rfl rfl)
theorem dX3_readOrder_335 : decode cX3_readOrder 335 = .ok (.goto 16, 3) := dk_167 0 16 (dk_at dksX3_readOrder_11 18 rfl rfl)
theorem dX3_readOrder_338 : decode cX3_readOrder 338 = .ok (.aload_n 0, 1) := dk_42 (dk_at dksX3_readOrder_11 21 rfl rfl)
theorem dX3_readOrder_339 : decode cX3_readOrder 339 = .ok (.ldc_w 287, 3) := dk_19 1 31 (dk_at dksX3_readOrder_12 0 rfl rfl)
theorem dX3_readOrder_342 : decode cX3_readOrder 342 = .ok (.invokevirtual 247, 3) := dk_182 0 247 (dk_at dksX3_readOrder_12 3 rfl rfl)
theorem dX3_readOrder_345 : decode cX3_readOrder 345 = .ok (.aload_n 0, 1) := dk_42 (dk_at dksX3_readOrder_12 6 rfl rfl)
theorem dX3_readOrder_346 : decode cX3_readOrder 346 = .ok (.iload_n 1, 1) := dk_27 (dk_at dksX3_readOrder_12 7 rfl rfl)
theorem dX3_readOrder_347 : decode cX3_readOrder 347 = .ok (.iconst 1, 1) := dk_4 (dk_at dksX3_readOrder_12 8 rfl rfl)
theorem dX3_readOrder_348 : decode cX3_readOrder 348 = .ok (.invokevirtual 277, 3) := dk_182 1 21 (dk_at dksX3_readOrder_12 9 rfl rfl)
theorem dX3_readOrder_351 : decode cX3_readOrder 351 = .ok (.return_, 1) := dk_177 (dk_at dksX3_readOrder_12 12 rfl rfl)
def dkwX3_skip_1 : List UInt8 := [28, 182, 0, 229, 182, 0, 233, 62, 132, 2, 1, 167, 255, 223, 177]
abbrev dktX3_skip_1 : List UInt8 := dkwX3_skip_1 ++ []
def dkwX3_skip_0 : List UInt8 := [3, 61, 28, 43, 182, 0, 224, 162, 0, 31, 42, 180, 0, 213, 154, 0, 24, 42, 43, 28, 182, 0, 229, 43]
abbrev dktX3_skip_0 : List UInt8 := dkwX3_skip_0 ++ dktX3_skip_1
theorem dksX3_skip_0 : cX3_skip.data.toList.drop 0 = dktX3_skip_0 := by decide +kernel
theorem dksX3_skip_1 : cX3_skip.data.toList.drop 24 = dktX3_skip_1 := dk_seg dksX3_skip_0 24 rfl rfl
theorem dX3_skip_0 : decode cX3_skip 0 = .ok (.iconst 0, 1) := dk_3 (dk_at dksX3_skip_0 0 rfl rfl)
theorem dX3_skip_1 : decode cX3_skip 1 = .ok (.istore_n 2, 1) := dk_61 (dk_at dksX3_skip_0 1 rfl rfl)
theorem dX3_skip_2 : decode cX3_skip 2 = .ok (.iload_n 2, 1) := dk_28 (dk_at dksX3_skip_0 2 rfl rfl)
theorem dX3_skip_3 : decode cX3_skip 3 = .ok (.aload_n 1, 1) := dk_43 (dk_at dksX3_skip_0 3 rfl rfl)
theorem dX3_skip_4 : decode cX3_skip 4 = .ok (.invokevirtual 224, 3) := dk_182 0 224 (dk_at dksX3_skip_0 4 rfl rfl)
theorem dX3_skip_7 : decode cX3_skip 7 = .ok (.if_icmp .ge 31, 3) := dk_162 0 31 (dk_at dksX3_skip_0 7 rfl rfl)
theorem dX3_skip_10 : decode cX3_skip 10 = .ok (.aload_n 0, 1) := dk_42 (dk_at dksX3_skip_0 10 rfl rfl)
theorem dX3_skip_11 : decode cX3_skip 11 = .ok (.getfield 213, 3) := dk_180 0 213 (dk_at dksX3_skip_0 11 rfl rfl)
theorem dX3_skip_14 : decode cX3_skip 14 = .ok (.ifCond .ne 24, 3) := dk_154 0 24 (dk_at dksX3_skip_0 14 rfl rfl)
theorem dX3_skip_17 : decode cX3_skip 17 = .ok (.aload_n 0, 1) := dk_42 (dk_at dksX3_skip_0 17 rfl rfl)
theorem dX3_skip_18 : decode cX3_skip 18 = .ok (.aload_n 1, 1) := dk_43 (dk_at dksX3_skip_0 18 rfl rfl)
theorem dX3_skip_19 : decode cX3_skip 19 = .ok (.iload_n 2, 1) := dk_28 (dk_at dksX3_skip_0 19 rfl rfl)
theorem dX3_skip_20 : decode cX3_skip 20 = .ok (.invokevirtual 229, 3) := dk_182 0 229 (dk_at dksX3_skip_0 20 rfl rfl)
theorem dX3_skip_23 : decode cX3_skip 23 = .ok (.aload_n 1, 1) := dk_43 (dk_at dksX3_skip_0 23 rfl rfl)
theorem dX3_skip_24 : decode cX3_skip 24 = .ok (.iload_n 2, 1) := dk_28 (dk_at dksX3_skip_1 0 rfl rfl)
theorem dX3_skip_25 : decode cX3_skip 25 = .ok (.invokevirtual 229, 3) := dk_182 0 229 (dk_at dksX3_skip_1 1 rfl rfl)
theorem dX3_skip_28 : decode cX3_skip 28 = .ok (.invokevirtual 233, 3) := dk_182 0 233 (dk_at dksX3_skip_1 4 rfl rfl)
theorem dX3_skip_31 : decode cX3_skip 31 = .ok (.istore_n 3, 1) := dk_62 (dk_at dksX3_skip_1 7 rfl rfl)
theorem dX3_skip_32 : decode cX3_skip 32 = .ok (.iinc 2 1, 3) := dk_132 2 1 (dk_at dksX3_skip_1 8 rfl rfl)
theorem dX3_skip_35 : decode cX3_skip 35 = .ok (.goto (-33), 3) := dk_167 255 223 (dk_at dksX3_skip_1 11 rfl rfl)
theorem dX3_skip_38 : decode cX3_skip 38 = .ok (.return_, 1) := dk_177 (dk_at dksX3_skip_1 14 rfl rfl)
def dkwX3_sign_2 : List UInt8 := [180, 0, 35, 42, 180, 0, 217, 4, 100, 52, 27, 100, 172]
abbrev dktX3_sign_2 : List UInt8 := dkwX3_sign_2 ++ []
def dkwX3_sign_1 : List UInt8 := [181, 0, 213, 42, 180, 0, 213, 153, 0, 5, 3, 172, 42, 89, 180, 0, 217, 4, 96, 181, 0, 217, 42]
abbrev dktX3_sign_1 : List UInt8 := dkwX3_sign_1 ++ dktX3_sign_2
def dkwX3_sign_0 : List UInt8 := [42, 42, 180, 0, 213, 154, 0, 12, 42, 27, 28, 182, 0, 220, 154, 0, 7, 4, 167, 0, 4, 3]
abbrev dktX3_sign_0 : List UInt8 := dkwX3_sign_0 ++ dktX3_sign_1
theorem dksX3_sign_0 : cX3_sign.data.toList.drop 0 = dktX3_sign_0 := by decide +kernel
theorem dksX3_sign_1 : cX3_sign.data.toList.drop 22 = dktX3_sign_1 := dk_seg dksX3_sign_0 22 rfl rfl
theorem dksX3_sign_2 : cX3_sign.data.toList.drop 45 = dktX3_sign_2 := dk_seg dksX3_sign_1 23 rfl rfl
theorem dX3_sign_0 : decode cX3_sign 0 = .ok (.aload_n 0, 1) := dk_42 (dk_at dksX3_sign_0 0 rfl rfl)
theorem dX3_sign_1 : decode cX3_sign 1 = .ok (.aload_n 0, 1) := dk_42 (dk_at dksX3_sign_0 1 rfl rfl)
theorem dX3_sign_2 : decode cX3_sign 2 = .ok (.getfield 213, 3) := dk_180 0 213 (dk_at dksX3_sign_0 2 rfl rfl)
theorem dX3_sign_5 : decode cX3_sign 5 = .ok (.ifCond .ne 12, 3) := dk_154 0 12 (dk_at dksX3_sign_0 5 rfl rfl)
theorem dX3_sign_8 : decode cX3_sign 8 = .ok (.aload_n 0, 1) := dk_42 (dk_at dksX3_sign_0 8 rfl rfl)
theorem dX3_sign_9 : decode cX3_sign 9 = .ok (.iload_n 1, 1) := dk_27 (dk_at dksX3_sign_0 9 rfl rfl)
theorem dX3_sign_10 : decode cX3_sign 10 = .ok (.iload_n 2, 1) := dk_28 (dk_at dksX3_sign_0 10 rfl rfl)
theorem dX3_sign_11 : decode cX3_sign 11 = .ok (.invokevirtual 220, 3) := dk_182 0 220 (dk_at dksX3_sign_0 11 rfl rfl)
theorem dX3_sign_14 : decode cX3_sign 14 = .ok (.ifCond .ne 7, 3) := dk_154 0 7 (dk_at dksX3_sign_0 14 rfl rfl)
theorem dX3_sign_17 : decode cX3_sign 17 = .ok (.iconst 1, 1) := dk_4 (dk_at dksX3_sign_0 17 rfl rfl)
theorem dX3_sign_18 : decode cX3_sign 18 = .ok (.goto 4, 3) := dk_167 0 4 (dk_at dksX3_sign_0 18 rfl rfl)
theorem dX3_sign_21 : decode cX3_sign 21 = .ok (.iconst 0, 1) := dk_3 (dk_at dksX3_sign_0 21 rfl rfl)
theorem dX3_sign_22 : decode cX3_sign 22 = .ok (.putfield 213, 3) := dk_181 0 213 (dk_at dksX3_sign_1 0 rfl rfl)
theorem dX3_sign_25 : decode cX3_sign 25 = .ok (.aload_n 0, 1) := dk_42 (dk_at dksX3_sign_1 3 rfl rfl)
theorem dX3_sign_26 : decode cX3_sign 26 = .ok (.getfield 213, 3) := dk_180 0 213 (dk_at dksX3_sign_1 4 rfl rfl)
theorem dX3_sign_29 : decode cX3_sign 29 = .ok (.ifCond .eq 5, 3) := dk_153 0 5 (dk_at dksX3_sign_1 7 rfl rfl)
theorem dX3_sign_32 : decode cX3_sign 32 = .ok (.iconst 0, 1) := dk_3 (dk_at dksX3_sign_1 10 rfl rfl)
theorem dX3_sign_33 : decode cX3_sign 33 = .ok (.ireturn, 1) := dk_172 (dk_at dksX3_sign_1 11 rfl rfl)
theorem dX3_sign_34 : decode cX3_sign 34 = .ok (.aload_n 0, 1) := dk_42 (dk_at dksX3_sign_1 12 rfl rfl)
theorem dX3_sign_35 : decode cX3_sign 35 = .ok (.dup, 1) := dk_89 (dk_at dksX3_sign_1 13 rfl rfl)
theorem dX3_sign_36 : decode cX3_sign 36 = .ok (.getfield 217, 3) := dk_180 0 217 (dk_at dksX3_sign_1 14 rfl rfl)
theorem dX3_sign_39 : decode cX3_sign 39 = .ok (.iconst 1, 1) := dk_4 (dk_at dksX3_sign_1 17 rfl rfl)
theorem dX3_sign_40 : decode cX3_sign 40 = .ok (.iadd, 1) := dk_96 (dk_at dksX3_sign_1 18 rfl rfl)
theorem dX3_sign_41 : decode cX3_sign 41 = .ok (.putfield 217, 3) := dk_181 0 217 (dk_at dksX3_sign_1 19 rfl rfl)
theorem dX3_sign_44 : decode cX3_sign 44 = .ok (.aload_n 0, 1) := dk_42 (dk_at dksX3_sign_1 22 rfl rfl)
theorem dX3_sign_45 : decode cX3_sign 45 = .ok (.getfield 35, 3) := dk_180 0 35 (dk_at dksX3_sign_2 0 rfl rfl)
theorem dX3_sign_48 : decode cX3_sign 48 = .ok (.aload_n 0, 1) := dk_42 (dk_at dksX3_sign_2 3 rfl rfl)
theorem dX3_sign_49 : decode cX3_sign 49 = .ok (.getfield 217, 3) := dk_180 0 217 (dk_at dksX3_sign_2 4 rfl rfl)
theorem dX3_sign_52 : decode cX3_sign 52 = .ok (.iconst 1, 1) := dk_4 (dk_at dksX3_sign_2 7 rfl rfl)
theorem dX3_sign_53 : decode cX3_sign 53 = .ok (.isub, 1) := dk_100 (dk_at dksX3_sign_2 8 rfl rfl)
theorem dX3_sign_54 : decode cX3_sign 54 = .ok (.caload, 1) := dk_52 (dk_at dksX3_sign_2 9 rfl rfl)
theorem dX3_sign_55 : decode cX3_sign 55 = .ok (.iload_n 1, 1) := dk_27 (dk_at dksX3_sign_2 10 rfl rfl)
theorem dX3_sign_56 : decode cX3_sign 56 = .ok (.isub, 1) := dk_100 (dk_at dksX3_sign_2 11 rfl rfl)
theorem dX3_sign_57 : decode cX3_sign 57 = .ok (.ireturn, 1) := dk_172 (dk_at dksX3_sign_2 12 rfl rfl)
def dkwX3_isHere_1 : List UInt8 := [180, 0, 217, 52, 27, 28, 184, 0, 61, 153, 0, 7, 4, 167, 0, 4, 3, 172]
abbrev dktX3_isHere_1 : List UInt8 := dkwX3_isHere_1 ++ []
def dkwX3_isHere_0 : List UInt8 := [42, 180, 0, 213, 154, 0, 35, 42, 180, 0, 217, 42, 180, 0, 210, 162, 0, 24, 42, 180, 0, 35, 42]
abbrev dktX3_isHere_0 : List UInt8 := dkwX3_isHere_0 ++ dktX3_isHere_1
theorem dksX3_isHere_0 : cX3_isHere.data.toList.drop 0 = dktX3_isHere_0 := by decide +kernel
theorem dksX3_isHere_1 : cX3_isHere.data.toList.drop 23 = dktX3_isHere_1 := dk_seg dksX3_isHere_0 23 rfl rfl
theorem dX3_isHere_0 : decode cX3_isHere 0 = .ok (.aload_n 0, 1) := dk_42 (dk_at dksX3_isHere_0 0 rfl rfl)
theorem dX3_isHere_1 : decode cX3_isHere 1 = .ok (.getfield 213, 3) := dk_180 0 213 (dk_at dksX3_isHere_0 1 rfl rfl)
theorem dX3_isHere_4 : decode cX3_isHere 4 = .ok (.ifCond .ne 35, 3) := dk_154 0 35 (dk_at dksX3_isHere_0 4 rfl rfl)
theorem dX3_isHere_7 : decode cX3_isHere 7 = .ok (.aload_n 0, 1) := dk_42 (dk_at dksX3_isHere_0 7 rfl rfl)
theorem dX3_isHere_8 : decode cX3_isHere 8 = .ok (.getfield 217, 3) := dk_180 0 217 (dk_at dksX3_isHere_0 8 rfl rfl)
theorem dX3_isHere_11 : decode cX3_isHere 11 = .ok (.aload_n 0, 1) := dk_42 (dk_at dksX3_isHere_0 11 rfl rfl)
theorem dX3_isHere_12 : decode cX3_isHere 12 = .ok (.getfield 210, 3) := dk_180 0 210 (dk_at dksX3_isHere_0 12 rfl rfl)
theorem dX3_isHere_15 : decode cX3_isHere 15 = .ok (.if_icmp .ge 24, 3) := dk_162 0 24 (dk_at dksX3_isHere_0 15 rfl rfl)
theorem dX3_isHere_18 : decode cX3_isHere 18 = .ok (.aload_n 0, 1) := dk_42 (dk_at dksX3_isHere_0 18 rfl rfl)
theorem dX3_isHere_19 : decode cX3_isHere 19 = .ok (.getfield 35, 3) := dk_180 0 35 (dk_at dksX3_isHere_0 19 rfl rfl)
theorem dX3_isHere_22 : decode cX3_isHere 22 = .ok (.aload_n 0, 1) := dk_42 (dk_at dksX3_isHere_0 22 rfl rfl)
theorem dX3_isHere_23 : decode cX3_isHere 23 = .ok (.getfield 217, 3) := dk_180 0 217 (dk_at dksX3_isHere_1 0 rfl rfl)
theorem dX3_isHere_26 : decode cX3_isHere 26 = .ok (.caload, 1) := dk_52 (dk_at dksX3_isHere_1 3 rfl rfl)
theorem dX3_isHere_27 : decode cX3_isHere 27 = .ok (.iload_n 1, 1) := dk_27 (dk_at dksX3_isHere_1 4 rfl rfl)
theorem dX3_isHere_28 : decode cX3_isHere 28 = .ok (.iload_n 2, 1) := dk_28 (dk_at dksX3_isHere_1 5 rfl rfl)
theorem dX3_isHere_29 : decode cX3_isHere 29 = .ok (.invokestatic 61, 3) := dk_184 0 61 (dk_at dksX3_isHere_1 6 rfl rfl)
theorem dX3_isHere_32 : decode cX3_isHere 32 = .ok (.ifCond .eq 7, 3) := dk_153 0 7 (dk_at dksX3_isHere_1 9 rfl rfl)
theorem dX3_isHere_35 : decode cX3_isHere 35 = .ok (.iconst 1, 1) := dk_4 (dk_at dksX3_isHere_1 12 rfl rfl)
theorem dX3_isHere_36 : decode cX3_isHere 36 = .ok (.goto 4, 3) := dk_167 0 4 (dk_at dksX3_isHere_1 13 rfl rfl)
theorem dX3_isHere_39 : decode cX3_isHere 39 = .ok (.iconst 0, 1) := dk_3 (dk_at dksX3_isHere_1 16 rfl rfl)
theorem dX3_isHere_40 : decode cX3_isHere 40 = .ok (.ireturn, 1) := dk_172 (dk_at dksX3_isHere_1 17 rfl rfl)
def dkwX3_point_1 : List UInt8 := [42, 18, 243, 182, 0, 247, 177]
abbrev dktX3_point_1 : List UInt8 := dkwX3_point_1 ++ []
def dkwX3_point_0 : List UInt8 := [42, 180, 0, 43, 27, 4, 96, 42, 182, 0, 237, 79, 42, 180, 0, 43, 27, 5, 96, 42, 182, 0, 237, 79]
abbrev dktX3_point_0 : List UInt8 := dkwX3_point_0 ++ dktX3_point_1
theorem dksX3_point_0 : cX3_point.data.toList.drop 0 = dktX3_point_0 := by decide +kernel
theorem dksX3_point_1 : cX3_point.data.toList.drop 24 = dktX3_point_1 := dk_seg dksX3_point_0 24 rfl rfl
theorem dX3_point_0 : decode cX3_point 0 = .ok (.aload_n 0, 1) := dk_42 (dk_at dksX3_point_0 0 rfl rfl)
theorem dX3_point_1 : decode cX3_point 1 = .ok (.getfield 43, 3) := dk_180 0 43 (dk_at dksX3_point_0 1 rfl rfl)
theorem dX3_point_4 : decode cX3_point 4 = .ok (.iload_n 1, 1) := dk_27 (dk_at dksX3_point_0 4 rfl rfl)
theorem dX3_point_5 : decode cX3_point 5 = .ok (.iconst 1, 1) := dk_4 (dk_at dksX3_point_0 5 rfl rfl)
theorem dX3_point_6 : decode cX3_point 6 = .ok (.iadd, 1) := dk_96 (dk_at dksX3_point_0 6 rfl rfl)
theorem dX3_point_7 : decode cX3_point 7 = .ok (.aload_n 0, 1) := dk_42 (dk_at dksX3_point_0 7 rfl rfl)
theorem dX3_point_8 : decode cX3_point 8 = .ok (.invokevirtual 237, 3) := dk_182 0 237 (dk_at dksX3_point_0 8 rfl rfl)
theorem dX3_point_11 : decode cX3_point 11 = .ok (.iastore, 1) := dk_79 (dk_at dksX3_point_0 11 rfl rfl)
theorem dX3_point_12 : decode cX3_point 12 = .ok (.aload_n 0, 1) := dk_42 (dk_at dksX3_point_0 12 rfl rfl)
theorem dX3_point_13 : decode cX3_point 13 = .ok (.getfield 43, 3) := dk_180 0 43 (dk_at dksX3_point_0 13 rfl rfl)
theorem dX3_point_16 : decode cX3_point 16 = .ok (.iload_n 1, 1) := dk_27 (dk_at dksX3_point_0 16 rfl rfl)
theorem dX3_point_17 : decode cX3_point 17 = .ok (.iconst 2, 1) := dk_5 (dk_at dksX3_point_0 17 rfl rfl)
theorem dX3_point_18 : decode cX3_point 18 = .ok (.iadd, 1) := dk_96 (dk_at dksX3_point_0 18 rfl rfl)
theorem dX3_point_19 : decode cX3_point 19 = .ok (.aload_n 0, 1) := dk_42 (dk_at dksX3_point_0 19 rfl rfl)
theorem dX3_point_20 : decode cX3_point 20 = .ok (.invokevirtual 237, 3) := dk_182 0 237 (dk_at dksX3_point_0 20 rfl rfl)
theorem dX3_point_23 : decode cX3_point 23 = .ok (.iastore, 1) := dk_79 (dk_at dksX3_point_0 23 rfl rfl)
theorem dX3_point_24 : decode cX3_point 24 = .ok (.aload_n 0, 1) := dk_42 (dk_at dksX3_point_1 0 rfl rfl)
theorem dX3_point_25 : decode cX3_point 25 = .ok (.ldc 243, 2) := dk_18 243 (dk_at dksX3_point_1 1 rfl rfl)
theorem dX3_point_27 : decode cX3_point 27 = .ok (.invokevirtual 247, 3) := dk_182 0 247 (dk_at dksX3_point_1 3 rfl rfl)
theorem dX3_point_30 : decode cX3_point 30 = .ok (.return_, 1) := dk_177 (dk_at dksX3_point_1 6 rfl rfl)
def dkwX3_digit_0 : List UInt8 := [42, 16, 48, 16, 57, 182, 0, 233, 172]
abbrev dktX3_digit_0 : List UInt8 := dkwX3_digit_0 ++ []
theorem dksX3_digit_0 : cX3_digit.data.toList.drop 0 = dktX3_digit_0 := by decide +kernel
theorem dX3_digit_0 : decode cX3_digit 0 = .ok (.aload_n 0, 1) := dk_42 (dk_at dksX3_digit_0 0 rfl rfl)
theorem dX3_digit_1 : decode cX3_digit 1 = .ok (.bipush 48, 2) := dk_16 48 (dk_at dksX3_digit_0 1 rfl rfl)
theorem dX3_digit_3 : decode cX3_digit 3 = .ok (.bipush 57, 2) := dk_16 57 (dk_at dksX3_digit_0 3 rfl rfl)
theorem dX3_digit_5 : decode cX3_digit 5 = .ok (.invokevirtual 233, 3) := dk_182 0 233 (dk_at dksX3_digit_0 5 rfl rfl)
theorem dX3_digit_8 : decode cX3_digit 8 = .ok (.ireturn, 1) := dk_172 (dk_at dksX3_digit_0 8 rfl rfl)
def dkwX3_number_1 : List UInt8 := [96, 167, 0, 4, 27, 172]
abbrev dktX3_number_1 : List UInt8 := dkwX3_number_1 ++ []
def dkwX3_number_0 : List UInt8 := [42, 182, 0, 237, 60, 42, 16, 48, 16, 57, 182, 0, 220, 153, 0, 15, 16, 10, 27, 104, 42, 182, 0, 237]
abbrev dktX3_number_0 : List UInt8 := dkwX3_number_0 ++ dktX3_number_1
theorem dksX3_number_0 : cX3_number.data.toList.drop 0 = dktX3_number_0 := by decide +kernel
theorem dksX3_number_1 : cX3_number.data.toList.drop 24 = dktX3_number_1 := dk_seg dksX3_number_0 24 rfl rfl
theorem dX3_number_0 : decode cX3_number 0 = .ok (.aload_n 0, 1) := dk_42 (dk_at dksX3_number_0 0 rfl rfl)
theorem dX3_number_1 : decode cX3_number 1 = .ok (.invokevirtual 237, 3) := dk_182 0 237 (dk_at dksX3_number_0 1 rfl rfl)
theorem dX3_number_4 : decode cX3_number 4 = .ok (.istore_n 1, 1) := dk_60 (dk_at dksX3_number_0 4 rfl rfl)
theorem dX3_number_5 : decode cX3_number 5 = .ok (.aload_n 0, 1) := dk_42 (dk_at dksX3_number_0 5 rfl rfl)
theorem dX3_number_6 : decode cX3_number 6 = .ok (.bipush 48, 2) := dk_16 48 (dk_at dksX3_number_0 6 rfl rfl)
theorem dX3_number_8 : decode cX3_number 8 = .ok (.bipush 57, 2) := dk_16 57 (dk_at dksX3_number_0 8 rfl rfl)
theorem dX3_number_10 : decode cX3_number 10 = .ok (.invokevirtual 220, 3) := dk_182 0 220 (dk_at dksX3_number_0 10 rfl rfl)
theorem dX3_number_13 : decode cX3_number 13 = .ok (.ifCond .eq 15, 3) := dk_153 0 15 (dk_at dksX3_number_0 13 rfl rfl)
theorem dX3_number_16 : decode cX3_number 16 = .ok (.bipush 10, 2) := dk_16 10 (dk_at dksX3_number_0 16 rfl rfl)
theorem dX3_number_18 : decode cX3_number 18 = .ok (.iload_n 1, 1) := dk_27 (dk_at dksX3_number_0 18 rfl rfl)
theorem dX3_number_19 : decode cX3_number 19 = .ok (.imul, 1) := dk_104 (dk_at dksX3_number_0 19 rfl rfl)
theorem dX3_number_20 : decode cX3_number 20 = .ok (.aload_n 0, 1) := dk_42 (dk_at dksX3_number_0 20 rfl rfl)
theorem dX3_number_21 : decode cX3_number 21 = .ok (.invokevirtual 237, 3) := dk_182 0 237 (dk_at dksX3_number_0 21 rfl rfl)
theorem dX3_number_24 : decode cX3_number 24 = .ok (.iadd, 1) := dk_96 (dk_at dksX3_number_1 0 rfl rfl)
theorem dX3_number_25 : decode cX3_number 25 = .ok (.goto 4, 3) := dk_167 0 4 (dk_at dksX3_number_1 1 rfl rfl)
theorem dX3_number_28 : decode cX3_number 28 = .ok (.iload_n 1, 1) := dk_27 (dk_at dksX3_number_1 4 rfl rfl)
theorem dX3_number_29 : decode cX3_number 29 = .ok (.ireturn, 1) := dk_172 (dk_at dksX3_number_1 5 rfl rfl)
def dkwX3_readSpireOrSeal_3 : List UInt8 := [182, 1, 21, 177]
abbrev dktX3_readSpireOrSeal_3 : List UInt8 := dkwX3_readSpireOrSeal_3 ++ []
def dkwX3_readSpireOrSeal_2 : List UInt8 := [79, 167, 0, 24, 42, 180, 0, 43, 27, 16, 108, 79, 42, 19, 1, 38, 182, 0, 247, 42, 27, 5]
abbrev dktX3_readSpireOrSeal_2 : List UInt8 := dkwX3_readSpireOrSeal_2 ++ dktX3_readSpireOrSeal_3
def dkwX3_readSpireOrSeal_1 : List UInt8 := [182, 0, 247, 42, 27, 182, 1, 0, 42, 180, 0, 43, 27, 6, 96, 42, 19, 1, 36, 182, 1, 15, 4, 96]
abbrev dktX3_readSpireOrSeal_1 : List UInt8 := dkwX3_readSpireOrSeal_1 ++ dktX3_readSpireOrSeal_2
def dkwX3_readSpireOrSeal_0 : List UInt8 := [42, 19, 1, 33, 182, 0, 247, 42, 16, 112, 16, 112, 182, 0, 220, 153, 0, 35, 42, 19, 1, 34]
abbrev dktX3_readSpireOrSeal_0 : List UInt8 := dkwX3_readSpireOrSeal_0 ++ dktX3_readSpireOrSeal_1
theorem dksX3_readSpireOrSeal_0 : cX3_readSpireOrSeal.data.toList.drop 0 = dktX3_readSpireOrSeal_0 := by decide +kernel
theorem dksX3_readSpireOrSeal_1 : cX3_readSpireOrSeal.data.toList.drop 22 = dktX3_readSpireOrSeal_1 := dk_seg dksX3_readSpireOrSeal_0 22 rfl rfl
theorem dksX3_readSpireOrSeal_2 : cX3_readSpireOrSeal.data.toList.drop 46 = dktX3_readSpireOrSeal_2 := dk_seg dksX3_readSpireOrSeal_1 24 rfl rfl
theorem dksX3_readSpireOrSeal_3 : cX3_readSpireOrSeal.data.toList.drop 68 = dktX3_readSpireOrSeal_3 := dk_seg dksX3_readSpireOrSeal_2 22 rfl rfl
theorem dX3_readSpireOrSeal_0 : decode cX3_readSpireOrSeal 0 = .ok (.aload_n 0, 1) := dk_42 (dk_at dksX3_readSpireOrSeal_0 0 rfl rfl)
theorem dX3_readSpireOrSeal_1 : decode cX3_readSpireOrSeal 1 = .ok (.ldc_w 289, 3) := dk_19 1 33 (dk_at dksX3_readSpireOrSeal_0 1 rfl rfl)
theorem dX3_readSpireOrSeal_4 : decode cX3_readSpireOrSeal 4 = .ok (.invokevirtual 247, 3) := dk_182 0 247 (dk_at dksX3_readSpireOrSeal_0 4 rfl rfl)
theorem dX3_readSpireOrSeal_7 : decode cX3_readSpireOrSeal 7 = .ok (.aload_n 0, 1) := dk_42 (dk_at dksX3_readSpireOrSeal_0 7 rfl rfl)
theorem dX3_readSpireOrSeal_8 : decode cX3_readSpireOrSeal 8 = .ok (.bipush 112, 2) := dk_16 112 (dk_at dksX3_readSpireOrSeal_0 8 rfl rfl)
theorem dX3_readSpireOrSeal_10 : decode cX3_readSpireOrSeal 10 = .ok (.bipush 112, 2) := dk_16 112 (dk_at dksX3_readSpireOrSeal_0 10 rfl rfl)
theorem dX3_readSpireOrSeal_12 : decode cX3_readSpireOrSeal 12 = .ok (.invokevirtual 220, 3) := dk_182 0 220 (dk_at dksX3_readSpireOrSeal_0 12 rfl rfl)
theorem dX3_readSpireOrSeal_15 : decode cX3_readSpireOrSeal 15 = .ok (.ifCond .eq 35, 3) := dk_153 0 35 (dk_at dksX3_readSpireOrSeal_0 15 rfl rfl)
theorem dX3_readSpireOrSeal_18 : decode cX3_readSpireOrSeal 18 = .ok (.aload_n 0, 1) := dk_42 (dk_at dksX3_readSpireOrSeal_0 18 rfl rfl)
theorem dX3_readSpireOrSeal_19 : decode cX3_readSpireOrSeal 19 = .ok (.ldc_w 290, 3) := dk_19 1 34 (dk_at dksX3_readSpireOrSeal_0 19 rfl rfl)
theorem dX3_readSpireOrSeal_22 : decode cX3_readSpireOrSeal 22 = .ok (.invokevirtual 247, 3) := dk_182 0 247 (dk_at dksX3_readSpireOrSeal_1 0 rfl rfl)
theorem dX3_readSpireOrSeal_25 : decode cX3_readSpireOrSeal 25 = .ok (.aload_n 0, 1) := dk_42 (dk_at dksX3_readSpireOrSeal_1 3 rfl rfl)
theorem dX3_readSpireOrSeal_26 : decode cX3_readSpireOrSeal 26 = .ok (.iload_n 1, 1) := dk_27 (dk_at dksX3_readSpireOrSeal_1 4 rfl rfl)
theorem dX3_readSpireOrSeal_27 : decode cX3_readSpireOrSeal 27 = .ok (.invokevirtual 256, 3) := dk_182 1 0 (dk_at dksX3_readSpireOrSeal_1 5 rfl rfl)
theorem dX3_readSpireOrSeal_30 : decode cX3_readSpireOrSeal 30 = .ok (.aload_n 0, 1) := dk_42 (dk_at dksX3_readSpireOrSeal_1 8 rfl rfl)
theorem dX3_readSpireOrSeal_31 : decode cX3_readSpireOrSeal 31 = .ok (.getfield 43, 3) := dk_180 0 43 (dk_at dksX3_readSpireOrSeal_1 9 rfl rfl)
theorem dX3_readSpireOrSeal_34 : decode cX3_readSpireOrSeal 34 = .ok (.iload_n 1, 1) := dk_27 (dk_at dksX3_readSpireOrSeal_1 12 rfl rfl)
theorem dX3_readSpireOrSeal_35 : decode cX3_readSpireOrSeal 35 = .ok (.iconst 3, 1) := dk_6 (dk_at dksX3_readSpireOrSeal_1 13 rfl rfl)
theorem dX3_readSpireOrSeal_36 : decode cX3_readSpireOrSeal 36 = .ok (.iadd, 1) := dk_96 (dk_at dksX3_readSpireOrSeal_1 14 rfl rfl)
theorem dX3_readSpireOrSeal_37 : decode cX3_readSpireOrSeal 37 = .ok (.aload_n 0, 1) := dk_42 (dk_at dksX3_readSpireOrSeal_1 15 rfl rfl)
theorem dX3_readSpireOrSeal_38 : decode cX3_readSpireOrSeal 38 = .ok (.ldc_w 292, 3) := dk_19 1 36 (dk_at dksX3_readSpireOrSeal_1 16 rfl rfl)
theorem dX3_readSpireOrSeal_41 : decode cX3_readSpireOrSeal 41 = .ok (.invokevirtual 271, 3) := dk_182 1 15 (dk_at dksX3_readSpireOrSeal_1 19 rfl rfl)
theorem dX3_readSpireOrSeal_44 : decode cX3_readSpireOrSeal 44 = .ok (.iconst 1, 1) := dk_4 (dk_at dksX3_readSpireOrSeal_1 22 rfl rfl)
theorem dX3_readSpireOrSeal_45 : decode cX3_readSpireOrSeal 45 = .ok (.iadd, 1) := dk_96 (dk_at dksX3_readSpireOrSeal_1 23 rfl rfl)
theorem dX3_readSpireOrSeal_46 : decode cX3_readSpireOrSeal 46 = .ok (.iastore, 1) := dk_79 (dk_at dksX3_readSpireOrSeal_2 0 rfl rfl)
theorem dX3_readSpireOrSeal_47 : decode cX3_readSpireOrSeal 47 = .ok (.goto 24, 3) := dk_167 0 24 (dk_at dksX3_readSpireOrSeal_2 1 rfl rfl)
theorem dX3_readSpireOrSeal_50 : decode cX3_readSpireOrSeal 50 = .ok (.aload_n 0, 1) := dk_42 (dk_at dksX3_readSpireOrSeal_2 4 rfl rfl)
theorem dX3_readSpireOrSeal_51 : decode cX3_readSpireOrSeal 51 = .ok (.getfield 43, 3) := dk_180 0 43 (dk_at dksX3_readSpireOrSeal_2 5 rfl rfl)
theorem dX3_readSpireOrSeal_54 : decode cX3_readSpireOrSeal 54 = .ok (.iload_n 1, 1) := dk_27 (dk_at dksX3_readSpireOrSeal_2 8 rfl rfl)
theorem dX3_readSpireOrSeal_55 : decode cX3_readSpireOrSeal 55 = .ok (.bipush 108, 2) := dk_16 108 (dk_at dksX3_readSpireOrSeal_2 9 rfl rfl)
theorem dX3_readSpireOrSeal_57 : decode cX3_readSpireOrSeal 57 = .ok (.iastore, 1) := dk_79 (dk_at dksX3_readSpireOrSeal_2 11 rfl rfl)
theorem dX3_readSpireOrSeal_58 : decode cX3_readSpireOrSeal 58 = .ok (.aload_n 0, 1) := dk_42 (dk_at dksX3_readSpireOrSeal_2 12 rfl rfl)
theorem dX3_readSpireOrSeal_59 : decode cX3_readSpireOrSeal 59 = .ok (.ldc_w 294, 3) := dk_19 1 38 (dk_at dksX3_readSpireOrSeal_2 13 rfl rfl)
theorem dX3_readSpireOrSeal_62 : decode cX3_readSpireOrSeal 62 = .ok (.invokevirtual 247, 3) := dk_182 0 247 (dk_at dksX3_readSpireOrSeal_2 16 rfl rfl)
theorem dX3_readSpireOrSeal_65 : decode cX3_readSpireOrSeal 65 = .ok (.aload_n 0, 1) := dk_42 (dk_at dksX3_readSpireOrSeal_2 19 rfl rfl)
theorem dX3_readSpireOrSeal_66 : decode cX3_readSpireOrSeal 66 = .ok (.iload_n 1, 1) := dk_27 (dk_at dksX3_readSpireOrSeal_2 20 rfl rfl)
theorem dX3_readSpireOrSeal_67 : decode cX3_readSpireOrSeal 67 = .ok (.iconst 2, 1) := dk_5 (dk_at dksX3_readSpireOrSeal_2 21 rfl rfl)
theorem dX3_readSpireOrSeal_68 : decode cX3_readSpireOrSeal 68 = .ok (.invokevirtual 277, 3) := dk_182 1 21 (dk_at dksX3_readSpireOrSeal_3 0 rfl rfl)
theorem dX3_readSpireOrSeal_71 : decode cX3_readSpireOrSeal 71 = .ok (.return_, 1) := dk_177 (dk_at dksX3_readSpireOrSeal_3 3 rfl rfl)
def dkwX3_side_3 : List UInt8 := [28, 172]
abbrev dktX3_side_3 : List UInt8 := dkwX3_side_3 ++ []
def dkwX3_side_2 : List UInt8 := [181, 0, 213, 42, 89, 180, 0, 217, 42, 180, 0, 213, 153, 0, 7, 3, 167, 0, 4, 4, 96, 181, 0, 217]
abbrev dktX3_side_2 : List UInt8 := dkwX3_side_2 ++ dktX3_side_3
def dkwX3_side_1 : List UInt8 := [167, 0, 4, 2, 61, 42, 42, 180, 0, 213, 154, 0, 7, 28, 156, 0, 7, 4, 167, 0, 4, 3]
abbrev dktX3_side_1 : List UInt8 := dkwX3_side_1 ++ dktX3_side_2
def dkwX3_side_0 : List UInt8 := [42, 180, 0, 217, 42, 180, 0, 210, 162, 0, 19, 43, 42, 180, 0, 35, 42, 180, 0, 217, 52, 182, 0, 240]
abbrev dktX3_side_0 : List UInt8 := dkwX3_side_0 ++ dktX3_side_1
theorem dksX3_side_0 : cX3_side.data.toList.drop 0 = dktX3_side_0 := by decide +kernel
theorem dksX3_side_1 : cX3_side.data.toList.drop 24 = dktX3_side_1 := dk_seg dksX3_side_0 24 rfl rfl
theorem dksX3_side_2 : cX3_side.data.toList.drop 46 = dktX3_side_2 := dk_seg dksX3_side_1 22 rfl rfl
theorem dksX3_side_3 : cX3_side.data.toList.drop 70 = dktX3_side_3 := dk_seg dksX3_side_2 24 rfl rfl
theorem dX3_side_0 : decode cX3_side 0 = .ok (.aload_n 0, 1) := dk_42 (dk_at dksX3_side_0 0 rfl rfl)
theorem dX3_side_1 : decode cX3_side 1 = .ok (.getfield 217, 3) := dk_180 0 217 (dk_at dksX3_side_0 1 rfl rfl)
theorem dX3_side_4 : decode cX3_side 4 = .ok (.aload_n 0, 1) := dk_42 (dk_at dksX3_side_0 4 rfl rfl)
theorem dX3_side_5 : decode cX3_side 5 = .ok (.getfield 210, 3) := dk_180 0 210 (dk_at dksX3_side_0 5 rfl rfl)
theorem dX3_side_8 : decode cX3_side 8 = .ok (.if_icmp .ge 19, 3) := dk_162 0 19 (dk_at dksX3_side_0 8 rfl rfl)
theorem dX3_side_11 : decode cX3_side 11 = .ok (.aload_n 1, 1) := dk_43 (dk_at dksX3_side_0 11 rfl rfl)
theorem dX3_side_12 : decode cX3_side 12 = .ok (.aload_n 0, 1) := dk_42 (dk_at dksX3_side_0 12 rfl rfl)
theorem dX3_side_13 : decode cX3_side 13 = .ok (.getfield 35, 3) := dk_180 0 35 (dk_at dksX3_side_0 13 rfl rfl)
theorem dX3_side_16 : decode cX3_side 16 = .ok (.aload_n 0, 1) := dk_42 (dk_at dksX3_side_0 16 rfl rfl)
theorem dX3_side_17 : decode cX3_side 17 = .ok (.getfield 217, 3) := dk_180 0 217 (dk_at dksX3_side_0 17 rfl rfl)
theorem dX3_side_20 : decode cX3_side 20 = .ok (.caload, 1) := dk_52 (dk_at dksX3_side_0 20 rfl rfl)
theorem dX3_side_21 : decode cX3_side 21 = .ok (.invokevirtual 240, 3) := dk_182 0 240 (dk_at dksX3_side_0 21 rfl rfl)
theorem dX3_side_24 : decode cX3_side 24 = .ok (.goto 4, 3) := dk_167 0 4 (dk_at dksX3_side_1 0 rfl rfl)
theorem dX3_side_27 : decode cX3_side 27 = .ok (.iconst (-1), 1) := dk_2 (dk_at dksX3_side_1 3 rfl rfl)
theorem dX3_side_28 : decode cX3_side 28 = .ok (.istore_n 2, 1) := dk_61 (dk_at dksX3_side_1 4 rfl rfl)
theorem dX3_side_29 : decode cX3_side 29 = .ok (.aload_n 0, 1) := dk_42 (dk_at dksX3_side_1 5 rfl rfl)
theorem dX3_side_30 : decode cX3_side 30 = .ok (.aload_n 0, 1) := dk_42 (dk_at dksX3_side_1 6 rfl rfl)
theorem dX3_side_31 : decode cX3_side 31 = .ok (.getfield 213, 3) := dk_180 0 213 (dk_at dksX3_side_1 7 rfl rfl)
theorem dX3_side_34 : decode cX3_side 34 = .ok (.ifCond .ne 7, 3) := dk_154 0 7 (dk_at dksX3_side_1 10 rfl rfl)
theorem dX3_side_37 : decode cX3_side 37 = .ok (.iload_n 2, 1) := dk_28 (dk_at dksX3_side_1 13 rfl rfl)
theorem dX3_side_38 : decode cX3_side 38 = .ok (.ifCond .ge 7, 3) := dk_156 0 7 (dk_at dksX3_side_1 14 rfl rfl)
theorem dX3_side_41 : decode cX3_side 41 = .ok (.iconst 1, 1) := dk_4 (dk_at dksX3_side_1 17 rfl rfl)
theorem dX3_side_42 : decode cX3_side 42 = .ok (.goto 4, 3) := dk_167 0 4 (dk_at dksX3_side_1 18 rfl rfl)
theorem dX3_side_45 : decode cX3_side 45 = .ok (.iconst 0, 1) := dk_3 (dk_at dksX3_side_1 21 rfl rfl)
theorem dX3_side_46 : decode cX3_side 46 = .ok (.putfield 213, 3) := dk_181 0 213 (dk_at dksX3_side_2 0 rfl rfl)
theorem dX3_side_49 : decode cX3_side 49 = .ok (.aload_n 0, 1) := dk_42 (dk_at dksX3_side_2 3 rfl rfl)
theorem dX3_side_50 : decode cX3_side 50 = .ok (.dup, 1) := dk_89 (dk_at dksX3_side_2 4 rfl rfl)
theorem dX3_side_51 : decode cX3_side 51 = .ok (.getfield 217, 3) := dk_180 0 217 (dk_at dksX3_side_2 5 rfl rfl)
theorem dX3_side_54 : decode cX3_side 54 = .ok (.aload_n 0, 1) := dk_42 (dk_at dksX3_side_2 8 rfl rfl)
theorem dX3_side_55 : decode cX3_side 55 = .ok (.getfield 213, 3) := dk_180 0 213 (dk_at dksX3_side_2 9 rfl rfl)
theorem dX3_side_58 : decode cX3_side 58 = .ok (.ifCond .eq 7, 3) := dk_153 0 7 (dk_at dksX3_side_2 12 rfl rfl)
theorem dX3_side_61 : decode cX3_side 61 = .ok (.iconst 0, 1) := dk_3 (dk_at dksX3_side_2 15 rfl rfl)
theorem dX3_side_62 : decode cX3_side 62 = .ok (.goto 4, 3) := dk_167 0 4 (dk_at dksX3_side_2 16 rfl rfl)
theorem dX3_side_65 : decode cX3_side 65 = .ok (.iconst 1, 1) := dk_4 (dk_at dksX3_side_2 19 rfl rfl)
theorem dX3_side_66 : decode cX3_side 66 = .ok (.iadd, 1) := dk_96 (dk_at dksX3_side_2 20 rfl rfl)
theorem dX3_side_67 : decode cX3_side 67 = .ok (.putfield 217, 3) := dk_181 0 217 (dk_at dksX3_side_2 21 rfl rfl)
theorem dX3_side_70 : decode cX3_side 70 = .ok (.iload_n 2, 1) := dk_28 (dk_at dksX3_side_3 0 rfl rfl)
theorem dX3_side_71 : decode cX3_side 71 = .ok (.ireturn, 1) := dk_172 (dk_at dksX3_side_3 1 rfl rfl)
def dkwX3_digits_1 : List UInt8 := [180, 0, 43, 27, 4, 96, 29, 96, 42, 182, 0, 237, 79, 132, 3, 1, 167, 255, 219, 177]
abbrev dktX3_digits_1 : List UInt8 := dkwX3_digits_1 ++ []
def dkwX3_digits_0 : List UInt8 := [3, 62, 29, 28, 162, 0, 38, 42, 29, 158, 0, 8, 18, 243, 167, 0, 5, 18, 245, 182, 0, 247, 42]
abbrev dktX3_digits_0 : List UInt8 := dkwX3_digits_0 ++ dktX3_digits_1
theorem dksX3_digits_0 : cX3_digits.data.toList.drop 0 = dktX3_digits_0 := by decide +kernel
theorem dksX3_digits_1 : cX3_digits.data.toList.drop 23 = dktX3_digits_1 := dk_seg dksX3_digits_0 23 rfl rfl
theorem dX3_digits_0 : decode cX3_digits 0 = .ok (.iconst 0, 1) := dk_3 (dk_at dksX3_digits_0 0 rfl rfl)
theorem dX3_digits_1 : decode cX3_digits 1 = .ok (.istore_n 3, 1) := dk_62 (dk_at dksX3_digits_0 1 rfl rfl)
theorem dX3_digits_2 : decode cX3_digits 2 = .ok (.iload_n 3, 1) := dk_29 (dk_at dksX3_digits_0 2 rfl rfl)
theorem dX3_digits_3 : decode cX3_digits 3 = .ok (.iload_n 2, 1) := dk_28 (dk_at dksX3_digits_0 3 rfl rfl)
theorem dX3_digits_4 : decode cX3_digits 4 = .ok (.if_icmp .ge 38, 3) := dk_162 0 38 (dk_at dksX3_digits_0 4 rfl rfl)
theorem dX3_digits_7 : decode cX3_digits 7 = .ok (.aload_n 0, 1) := dk_42 (dk_at dksX3_digits_0 7 rfl rfl)
theorem dX3_digits_8 : decode cX3_digits 8 = .ok (.iload_n 3, 1) := dk_29 (dk_at dksX3_digits_0 8 rfl rfl)
theorem dX3_digits_9 : decode cX3_digits 9 = .ok (.ifCond .le 8, 3) := dk_158 0 8 (dk_at dksX3_digits_0 9 rfl rfl)
theorem dX3_digits_12 : decode cX3_digits 12 = .ok (.ldc 243, 2) := dk_18 243 (dk_at dksX3_digits_0 12 rfl rfl)
theorem dX3_digits_14 : decode cX3_digits 14 = .ok (.goto 5, 3) := dk_167 0 5 (dk_at dksX3_digits_0 14 rfl rfl)
theorem dX3_digits_17 : decode cX3_digits 17 = .ok (.ldc 245, 2) := dk_18 245 (dk_at dksX3_digits_0 17 rfl rfl)
theorem dX3_digits_19 : decode cX3_digits 19 = .ok (.invokevirtual 247, 3) := dk_182 0 247 (dk_at dksX3_digits_0 19 rfl rfl)
theorem dX3_digits_22 : decode cX3_digits 22 = .ok (.aload_n 0, 1) := dk_42 (dk_at dksX3_digits_0 22 rfl rfl)
theorem dX3_digits_23 : decode cX3_digits 23 = .ok (.getfield 43, 3) := dk_180 0 43 (dk_at dksX3_digits_1 0 rfl rfl)
theorem dX3_digits_26 : decode cX3_digits 26 = .ok (.iload_n 1, 1) := dk_27 (dk_at dksX3_digits_1 3 rfl rfl)
theorem dX3_digits_27 : decode cX3_digits 27 = .ok (.iconst 1, 1) := dk_4 (dk_at dksX3_digits_1 4 rfl rfl)
theorem dX3_digits_28 : decode cX3_digits 28 = .ok (.iadd, 1) := dk_96 (dk_at dksX3_digits_1 5 rfl rfl)
theorem dX3_digits_29 : decode cX3_digits 29 = .ok (.iload_n 3, 1) := dk_29 (dk_at dksX3_digits_1 6 rfl rfl)
theorem dX3_digits_30 : decode cX3_digits 30 = .ok (.iadd, 1) := dk_96 (dk_at dksX3_digits_1 7 rfl rfl)
theorem dX3_digits_31 : decode cX3_digits 31 = .ok (.aload_n 0, 1) := dk_42 (dk_at dksX3_digits_1 8 rfl rfl)
theorem dX3_digits_32 : decode cX3_digits 32 = .ok (.invokevirtual 237, 3) := dk_182 0 237 (dk_at dksX3_digits_1 9 rfl rfl)
theorem dX3_digits_35 : decode cX3_digits 35 = .ok (.iastore, 1) := dk_79 (dk_at dksX3_digits_1 12 rfl rfl)
theorem dX3_digits_36 : decode cX3_digits 36 = .ok (.iinc 3 1, 3) := dk_132 3 1 (dk_at dksX3_digits_1 13 rfl rfl)
theorem dX3_digits_39 : decode cX3_digits 39 = .ok (.goto (-37), 3) := dk_167 255 219 (dk_at dksX3_digits_1 16 rfl rfl)
theorem dX3_digits_42 : decode cX3_digits 42 = .ok (.return_, 1) := dk_177 (dk_at dksX3_digits_1 19 rfl rfl)
def dkwX3_does_8 : List UInt8 := [42, 28, 182, 0, 168, 54, 5, 177]
abbrev dktX3_does_8 : List UInt8 := dkwX3_does_8 ++ []
def dkwX3_does_7 : List UInt8 := [167, 0, 31, 42, 28, 29, 182, 0, 140, 54, 5, 167, 0, 20, 42, 28, 182, 0, 165, 54, 5, 167, 0, 10]
abbrev dktX3_does_7 : List UInt8 := dkwX3_does_7 ++ dktX3_does_8
def dkwX3_does_6 : List UInt8 := [167, 0, 55, 42, 28, 29, 182, 0, 131, 54, 5, 167, 0, 44, 42, 28, 29, 21, 4, 182, 0, 137, 54, 5]
abbrev dktX3_does_6 : List UInt8 := dkwX3_does_6 ++ dktX3_does_7
def dkwX3_does_5 : List UInt8 := [167, 0, 77, 42, 28, 29, 182, 0, 110, 54, 5, 167, 0, 66, 42, 28, 29, 182, 0, 117, 54, 5]
abbrev dktX3_does_5 : List UInt8 := dkwX3_does_5 ++ dktX3_does_6
def dkwX3_does_4 : List UInt8 := [28, 29, 21, 4, 182, 0, 103, 54, 5, 167, 0, 90, 42, 28, 29, 21, 4, 182, 0, 107, 54, 5]
abbrev dktX3_does_4 : List UInt8 := dkwX3_does_4 ++ dktX3_does_5
def dkwX3_does_3 : List UInt8 := [42, 28, 29, 21, 4, 42, 180, 0, 43, 8, 27, 104, 7, 96, 46, 182, 0, 93, 54, 5, 167, 0, 103, 42]
abbrev dktX3_does_3 : List UInt8 := dkwX3_does_3 ++ dktX3_does_4
def dkwX3_does_2 : List UInt8 := [170, 0, 0, 0, 0, 210, 0, 0, 0, 100, 0, 0, 0, 119, 0, 0, 0, 154, 0, 0, 0, 94, 0, 0, 0, 130, 0, 0, 0, 210, 0, 0, 0, 200, 0, 0, 0, 210, 0, 0, 0, 210, 0, 0, 0, 210, 0, 0, 0, 189, 0, 0, 0, 210, 0, 0, 0, 210, 0, 0, 0, 210, 0, 0, 0, 210, 0, 0, 0, 210, 0, 0, 0, 210, 0, 0, 0, 117, 0, 0, 0, 176, 0, 0, 0, 210, 0, 0, 0, 165, 0, 0, 0, 143]
abbrev dktX3_does_2 : List UInt8 := dkwX3_does_2 ++ dktX3_does_3
def dkwX3_does_1 : List UInt8 := [180, 0, 43, 8, 27, 104, 6, 96, 46, 54, 4, 42, 180, 0, 43, 8, 27, 104, 46]
abbrev dktX3_does_1 : List UInt8 := dkwX3_does_1 ++ dktX3_does_2
def dkwX3_does_0 : List UInt8 := [42, 180, 0, 43, 8, 27, 104, 4, 96, 46, 61, 42, 180, 0, 43, 8, 27, 104, 5, 96, 46, 62, 42]
abbrev dktX3_does_0 : List UInt8 := dkwX3_does_0 ++ dktX3_does_1
theorem dksX3_does_0 : cX3_does.data.toList.drop 0 = dktX3_does_0 := by decide +kernel
theorem dksX3_does_1 : cX3_does.data.toList.drop 23 = dktX3_does_1 := dk_seg dksX3_does_0 23 rfl rfl
theorem dksX3_does_2 : cX3_does.data.toList.drop 42 = dktX3_does_2 := dk_seg dksX3_does_1 19 rfl rfl
theorem dksX3_does_3 : cX3_does.data.toList.drop 136 = dktX3_does_3 := dk_seg dksX3_does_2 94 rfl rfl
theorem dksX3_does_4 : cX3_does.data.toList.drop 160 = dktX3_does_4 := dk_seg dksX3_does_3 24 rfl rfl
theorem dksX3_does_5 : cX3_does.data.toList.drop 182 = dktX3_does_5 := dk_seg dksX3_does_4 22 rfl rfl
theorem dksX3_does_6 : cX3_does.data.toList.drop 204 = dktX3_does_6 := dk_seg dksX3_does_5 22 rfl rfl
theorem dksX3_does_7 : cX3_does.data.toList.drop 228 = dktX3_does_7 := dk_seg dksX3_does_6 24 rfl rfl
theorem dksX3_does_8 : cX3_does.data.toList.drop 252 = dktX3_does_8 := dk_seg dksX3_does_7 24 rfl rfl
theorem dX3_does_0 : decode cX3_does 0 = .ok (.aload_n 0, 1) := dk_42 (dk_at dksX3_does_0 0 rfl rfl)
theorem dX3_does_1 : decode cX3_does 1 = .ok (.getfield 43, 3) := dk_180 0 43 (dk_at dksX3_does_0 1 rfl rfl)
theorem dX3_does_4 : decode cX3_does 4 = .ok (.iconst 5, 1) := dk_8 (dk_at dksX3_does_0 4 rfl rfl)
theorem dX3_does_5 : decode cX3_does 5 = .ok (.iload_n 1, 1) := dk_27 (dk_at dksX3_does_0 5 rfl rfl)
theorem dX3_does_6 : decode cX3_does 6 = .ok (.imul, 1) := dk_104 (dk_at dksX3_does_0 6 rfl rfl)
theorem dX3_does_7 : decode cX3_does 7 = .ok (.iconst 1, 1) := dk_4 (dk_at dksX3_does_0 7 rfl rfl)
theorem dX3_does_8 : decode cX3_does 8 = .ok (.iadd, 1) := dk_96 (dk_at dksX3_does_0 8 rfl rfl)
theorem dX3_does_9 : decode cX3_does 9 = .ok (.iaload, 1) := dk_46 (dk_at dksX3_does_0 9 rfl rfl)
theorem dX3_does_10 : decode cX3_does 10 = .ok (.istore_n 2, 1) := dk_61 (dk_at dksX3_does_0 10 rfl rfl)
theorem dX3_does_11 : decode cX3_does 11 = .ok (.aload_n 0, 1) := dk_42 (dk_at dksX3_does_0 11 rfl rfl)
theorem dX3_does_12 : decode cX3_does 12 = .ok (.getfield 43, 3) := dk_180 0 43 (dk_at dksX3_does_0 12 rfl rfl)
theorem dX3_does_15 : decode cX3_does 15 = .ok (.iconst 5, 1) := dk_8 (dk_at dksX3_does_0 15 rfl rfl)
theorem dX3_does_16 : decode cX3_does 16 = .ok (.iload_n 1, 1) := dk_27 (dk_at dksX3_does_0 16 rfl rfl)
theorem dX3_does_17 : decode cX3_does 17 = .ok (.imul, 1) := dk_104 (dk_at dksX3_does_0 17 rfl rfl)
theorem dX3_does_18 : decode cX3_does 18 = .ok (.iconst 2, 1) := dk_5 (dk_at dksX3_does_0 18 rfl rfl)
theorem dX3_does_19 : decode cX3_does 19 = .ok (.iadd, 1) := dk_96 (dk_at dksX3_does_0 19 rfl rfl)
theorem dX3_does_20 : decode cX3_does 20 = .ok (.iaload, 1) := dk_46 (dk_at dksX3_does_0 20 rfl rfl)
theorem dX3_does_21 : decode cX3_does 21 = .ok (.istore_n 3, 1) := dk_62 (dk_at dksX3_does_0 21 rfl rfl)
theorem dX3_does_22 : decode cX3_does 22 = .ok (.aload_n 0, 1) := dk_42 (dk_at dksX3_does_0 22 rfl rfl)
theorem dX3_does_23 : decode cX3_does 23 = .ok (.getfield 43, 3) := dk_180 0 43 (dk_at dksX3_does_1 0 rfl rfl)
theorem dX3_does_26 : decode cX3_does 26 = .ok (.iconst 5, 1) := dk_8 (dk_at dksX3_does_1 3 rfl rfl)
theorem dX3_does_27 : decode cX3_does 27 = .ok (.iload_n 1, 1) := dk_27 (dk_at dksX3_does_1 4 rfl rfl)
theorem dX3_does_28 : decode cX3_does 28 = .ok (.imul, 1) := dk_104 (dk_at dksX3_does_1 5 rfl rfl)
theorem dX3_does_29 : decode cX3_does 29 = .ok (.iconst 3, 1) := dk_6 (dk_at dksX3_does_1 6 rfl rfl)
theorem dX3_does_30 : decode cX3_does 30 = .ok (.iadd, 1) := dk_96 (dk_at dksX3_does_1 7 rfl rfl)
theorem dX3_does_31 : decode cX3_does 31 = .ok (.iaload, 1) := dk_46 (dk_at dksX3_does_1 8 rfl rfl)
theorem dX3_does_32 : decode cX3_does 32 = .ok (.istore 4, 2) := dk_54 4 (dk_at dksX3_does_1 9 rfl rfl)
theorem dX3_does_34 : decode cX3_does 34 = .ok (.aload_n 0, 1) := dk_42 (dk_at dksX3_does_1 11 rfl rfl)
theorem dX3_does_35 : decode cX3_does 35 = .ok (.getfield 43, 3) := dk_180 0 43 (dk_at dksX3_does_1 12 rfl rfl)
theorem dX3_does_38 : decode cX3_does 38 = .ok (.iconst 5, 1) := dk_8 (dk_at dksX3_does_1 15 rfl rfl)
theorem dX3_does_39 : decode cX3_does 39 = .ok (.iload_n 1, 1) := dk_27 (dk_at dksX3_does_1 16 rfl rfl)
theorem dX3_does_40 : decode cX3_does 40 = .ok (.imul, 1) := dk_104 (dk_at dksX3_does_1 17 rfl rfl)
theorem dX3_does_41 : decode cX3_does 41 = .ok (.iaload, 1) := dk_46 (dk_at dksX3_does_1 18 rfl rfl)
theorem dX3_does_42 : decode cX3_does 42 = .ok (.tableswitch 210 100 119 #[154, 94, 130, 210, 200, 210, 210, 210, 189, 210, 210, 210, 210, 210, 210, 117, 176, 210, 165, 143], 94) := by decide +kernel
theorem dX3_does_136 : decode cX3_does 136 = .ok (.aload_n 0, 1) := dk_42 (dk_at dksX3_does_3 0 rfl rfl)
theorem dX3_does_137 : decode cX3_does 137 = .ok (.iload_n 2, 1) := dk_28 (dk_at dksX3_does_3 1 rfl rfl)
theorem dX3_does_138 : decode cX3_does 138 = .ok (.iload_n 3, 1) := dk_29 (dk_at dksX3_does_3 2 rfl rfl)
theorem dX3_does_139 : decode cX3_does 139 = .ok (.iload 4, 2) := dk_21 4 (dk_at dksX3_does_3 3 rfl rfl)
theorem dX3_does_141 : decode cX3_does 141 = .ok (.aload_n 0, 1) := dk_42 (dk_at dksX3_does_3 5 rfl rfl)
theorem dX3_does_142 : decode cX3_does 142 = .ok (.getfield 43, 3) := dk_180 0 43 (dk_at dksX3_does_3 6 rfl rfl)
theorem dX3_does_145 : decode cX3_does 145 = .ok (.iconst 5, 1) := dk_8 (dk_at dksX3_does_3 9 rfl rfl)
theorem dX3_does_146 : decode cX3_does 146 = .ok (.iload_n 1, 1) := dk_27 (dk_at dksX3_does_3 10 rfl rfl)
theorem dX3_does_147 : decode cX3_does 147 = .ok (.imul, 1) := dk_104 (dk_at dksX3_does_3 11 rfl rfl)
theorem dX3_does_148 : decode cX3_does 148 = .ok (.iconst 4, 1) := dk_7 (dk_at dksX3_does_3 12 rfl rfl)
theorem dX3_does_149 : decode cX3_does 149 = .ok (.iadd, 1) := dk_96 (dk_at dksX3_does_3 13 rfl rfl)
theorem dX3_does_150 : decode cX3_does 150 = .ok (.iaload, 1) := dk_46 (dk_at dksX3_does_3 14 rfl rfl)
theorem dX3_does_151 : decode cX3_does 151 = .ok (.invokevirtual 93, 3) := dk_182 0 93 (dk_at dksX3_does_3 15 rfl rfl)
theorem dX3_does_154 : decode cX3_does 154 = .ok (.istore 5, 2) := dk_54 5 (dk_at dksX3_does_3 18 rfl rfl)
theorem dX3_does_156 : decode cX3_does 156 = .ok (.goto 103, 3) := dk_167 0 103 (dk_at dksX3_does_3 20 rfl rfl)
theorem dX3_does_159 : decode cX3_does 159 = .ok (.aload_n 0, 1) := dk_42 (dk_at dksX3_does_3 23 rfl rfl)
theorem dX3_does_160 : decode cX3_does 160 = .ok (.iload_n 2, 1) := dk_28 (dk_at dksX3_does_4 0 rfl rfl)
theorem dX3_does_161 : decode cX3_does 161 = .ok (.iload_n 3, 1) := dk_29 (dk_at dksX3_does_4 1 rfl rfl)
theorem dX3_does_162 : decode cX3_does 162 = .ok (.iload 4, 2) := dk_21 4 (dk_at dksX3_does_4 2 rfl rfl)
theorem dX3_does_164 : decode cX3_does 164 = .ok (.invokevirtual 103, 3) := dk_182 0 103 (dk_at dksX3_does_4 4 rfl rfl)
theorem dX3_does_167 : decode cX3_does 167 = .ok (.istore 5, 2) := dk_54 5 (dk_at dksX3_does_4 7 rfl rfl)
theorem dX3_does_169 : decode cX3_does 169 = .ok (.goto 90, 3) := dk_167 0 90 (dk_at dksX3_does_4 9 rfl rfl)
theorem dX3_does_172 : decode cX3_does 172 = .ok (.aload_n 0, 1) := dk_42 (dk_at dksX3_does_4 12 rfl rfl)
theorem dX3_does_173 : decode cX3_does 173 = .ok (.iload_n 2, 1) := dk_28 (dk_at dksX3_does_4 13 rfl rfl)
theorem dX3_does_174 : decode cX3_does 174 = .ok (.iload_n 3, 1) := dk_29 (dk_at dksX3_does_4 14 rfl rfl)
theorem dX3_does_175 : decode cX3_does 175 = .ok (.iload 4, 2) := dk_21 4 (dk_at dksX3_does_4 15 rfl rfl)
theorem dX3_does_177 : decode cX3_does 177 = .ok (.invokevirtual 107, 3) := dk_182 0 107 (dk_at dksX3_does_4 17 rfl rfl)
theorem dX3_does_180 : decode cX3_does 180 = .ok (.istore 5, 2) := dk_54 5 (dk_at dksX3_does_4 20 rfl rfl)
theorem dX3_does_182 : decode cX3_does 182 = .ok (.goto 77, 3) := dk_167 0 77 (dk_at dksX3_does_5 0 rfl rfl)
theorem dX3_does_185 : decode cX3_does 185 = .ok (.aload_n 0, 1) := dk_42 (dk_at dksX3_does_5 3 rfl rfl)
theorem dX3_does_186 : decode cX3_does 186 = .ok (.iload_n 2, 1) := dk_28 (dk_at dksX3_does_5 4 rfl rfl)
theorem dX3_does_187 : decode cX3_does 187 = .ok (.iload_n 3, 1) := dk_29 (dk_at dksX3_does_5 5 rfl rfl)
theorem dX3_does_188 : decode cX3_does 188 = .ok (.invokevirtual 110, 3) := dk_182 0 110 (dk_at dksX3_does_5 6 rfl rfl)
theorem dX3_does_191 : decode cX3_does 191 = .ok (.istore 5, 2) := dk_54 5 (dk_at dksX3_does_5 9 rfl rfl)
theorem dX3_does_193 : decode cX3_does 193 = .ok (.goto 66, 3) := dk_167 0 66 (dk_at dksX3_does_5 11 rfl rfl)
theorem dX3_does_196 : decode cX3_does 196 = .ok (.aload_n 0, 1) := dk_42 (dk_at dksX3_does_5 14 rfl rfl)
theorem dX3_does_197 : decode cX3_does 197 = .ok (.iload_n 2, 1) := dk_28 (dk_at dksX3_does_5 15 rfl rfl)
theorem dX3_does_198 : decode cX3_does 198 = .ok (.iload_n 3, 1) := dk_29 (dk_at dksX3_does_5 16 rfl rfl)
theorem dX3_does_199 : decode cX3_does 199 = .ok (.invokevirtual 117, 3) := dk_182 0 117 (dk_at dksX3_does_5 17 rfl rfl)
theorem dX3_does_202 : decode cX3_does 202 = .ok (.istore 5, 2) := dk_54 5 (dk_at dksX3_does_5 20 rfl rfl)
theorem dX3_does_204 : decode cX3_does 204 = .ok (.goto 55, 3) := dk_167 0 55 (dk_at dksX3_does_6 0 rfl rfl)
theorem dX3_does_207 : decode cX3_does 207 = .ok (.aload_n 0, 1) := dk_42 (dk_at dksX3_does_6 3 rfl rfl)
theorem dX3_does_208 : decode cX3_does 208 = .ok (.iload_n 2, 1) := dk_28 (dk_at dksX3_does_6 4 rfl rfl)
theorem dX3_does_209 : decode cX3_does 209 = .ok (.iload_n 3, 1) := dk_29 (dk_at dksX3_does_6 5 rfl rfl)
theorem dX3_does_210 : decode cX3_does 210 = .ok (.invokevirtual 131, 3) := dk_182 0 131 (dk_at dksX3_does_6 6 rfl rfl)
theorem dX3_does_213 : decode cX3_does 213 = .ok (.istore 5, 2) := dk_54 5 (dk_at dksX3_does_6 9 rfl rfl)
theorem dX3_does_215 : decode cX3_does 215 = .ok (.goto 44, 3) := dk_167 0 44 (dk_at dksX3_does_6 11 rfl rfl)
theorem dX3_does_218 : decode cX3_does 218 = .ok (.aload_n 0, 1) := dk_42 (dk_at dksX3_does_6 14 rfl rfl)
theorem dX3_does_219 : decode cX3_does 219 = .ok (.iload_n 2, 1) := dk_28 (dk_at dksX3_does_6 15 rfl rfl)
theorem dX3_does_220 : decode cX3_does 220 = .ok (.iload_n 3, 1) := dk_29 (dk_at dksX3_does_6 16 rfl rfl)
theorem dX3_does_221 : decode cX3_does 221 = .ok (.iload 4, 2) := dk_21 4 (dk_at dksX3_does_6 17 rfl rfl)
theorem dX3_does_223 : decode cX3_does 223 = .ok (.invokevirtual 137, 3) := dk_182 0 137 (dk_at dksX3_does_6 19 rfl rfl)
theorem dX3_does_226 : decode cX3_does 226 = .ok (.istore 5, 2) := dk_54 5 (dk_at dksX3_does_6 22 rfl rfl)
theorem dX3_does_228 : decode cX3_does 228 = .ok (.goto 31, 3) := dk_167 0 31 (dk_at dksX3_does_7 0 rfl rfl)
theorem dX3_does_231 : decode cX3_does 231 = .ok (.aload_n 0, 1) := dk_42 (dk_at dksX3_does_7 3 rfl rfl)
theorem dX3_does_232 : decode cX3_does 232 = .ok (.iload_n 2, 1) := dk_28 (dk_at dksX3_does_7 4 rfl rfl)
theorem dX3_does_233 : decode cX3_does 233 = .ok (.iload_n 3, 1) := dk_29 (dk_at dksX3_does_7 5 rfl rfl)
theorem dX3_does_234 : decode cX3_does 234 = .ok (.invokevirtual 140, 3) := dk_182 0 140 (dk_at dksX3_does_7 6 rfl rfl)
theorem dX3_does_237 : decode cX3_does 237 = .ok (.istore 5, 2) := dk_54 5 (dk_at dksX3_does_7 9 rfl rfl)
theorem dX3_does_239 : decode cX3_does 239 = .ok (.goto 20, 3) := dk_167 0 20 (dk_at dksX3_does_7 11 rfl rfl)
theorem dX3_does_242 : decode cX3_does 242 = .ok (.aload_n 0, 1) := dk_42 (dk_at dksX3_does_7 14 rfl rfl)
theorem dX3_does_243 : decode cX3_does 243 = .ok (.iload_n 2, 1) := dk_28 (dk_at dksX3_does_7 15 rfl rfl)
theorem dX3_does_244 : decode cX3_does 244 = .ok (.invokevirtual 165, 3) := dk_182 0 165 (dk_at dksX3_does_7 16 rfl rfl)
theorem dX3_does_247 : decode cX3_does 247 = .ok (.istore 5, 2) := dk_54 5 (dk_at dksX3_does_7 19 rfl rfl)
theorem dX3_does_249 : decode cX3_does 249 = .ok (.goto 10, 3) := dk_167 0 10 (dk_at dksX3_does_7 21 rfl rfl)
theorem dX3_does_252 : decode cX3_does 252 = .ok (.aload_n 0, 1) := dk_42 (dk_at dksX3_does_8 0 rfl rfl)
theorem dX3_does_253 : decode cX3_does 253 = .ok (.iload_n 2, 1) := dk_28 (dk_at dksX3_does_8 1 rfl rfl)
theorem dX3_does_254 : decode cX3_does 254 = .ok (.invokevirtual 168, 3) := dk_182 0 168 (dk_at dksX3_does_8 2 rfl rfl)
theorem dX3_does_257 : decode cX3_does 257 = .ok (.istore 5, 2) := dk_54 5 (dk_at dksX3_does_8 5 rfl rfl)
theorem dX3_does_259 : decode cX3_does 259 = .ok (.return_, 1) := dk_177 (dk_at dksX3_does_8 7 rfl rfl)
def dkwX3_faultPosition_0 : List UInt8 := [42, 3, 181, 0, 49, 42, 180, 0, 39, 172]
abbrev dktX3_faultPosition_0 : List UInt8 := dkwX3_faultPosition_0 ++ []
theorem dksX3_faultPosition_0 : cX3_faultPosition.data.toList.drop 0 = dktX3_faultPosition_0 := by decide +kernel
theorem dX3_faultPosition_0 : decode cX3_faultPosition 0 = .ok (.aload_n 0, 1) := dk_42 (dk_at dksX3_faultPosition_0 0 rfl rfl)
theorem dX3_faultPosition_1 : decode cX3_faultPosition 1 = .ok (.iconst 0, 1) := dk_3 (dk_at dksX3_faultPosition_0 1 rfl rfl)
theorem dX3_faultPosition_2 : decode cX3_faultPosition 2 = .ok (.putfield 49, 3) := dk_181 0 49 (dk_at dksX3_faultPosition_0 2 rfl rfl)
theorem dX3_faultPosition_5 : decode cX3_faultPosition 5 = .ok (.aload_n 0, 1) := dk_42 (dk_at dksX3_faultPosition_0 5 rfl rfl)
theorem dX3_faultPosition_6 : decode cX3_faultPosition 6 = .ok (.getfield 39, 3) := dk_180 0 39 (dk_at dksX3_faultPosition_0 6 rfl rfl)
theorem dX3_faultPosition_9 : decode cX3_faultPosition 9 = .ok (.ireturn, 1) := dk_172 (dk_at dksX3_faultPosition_0 9 rfl rfl)
def dkwX3_tell_4 : List UInt8 := [42, 16, 43, 182, 1, 52, 42, 42, 27, 7, 182, 0, 76, 182, 1, 49, 42, 180, 1, 46, 172]
abbrev dktX3_tell_4 : List UInt8 := dkwX3_tell_4 ++ []
def dkwX3_tell_3 : List UInt8 := [27, 5, 182, 0, 76, 182, 1, 49, 42, 16, 42, 182, 1, 52, 42, 42, 27, 6, 182, 0, 76, 182, 1, 49]
abbrev dktX3_tell_3 : List UInt8 := dkwX3_tell_3 ++ dktX3_tell_4
def dkwX3_tell_2 : List UInt8 := [182, 0, 76, 182, 1, 49, 42, 42, 27, 4, 182, 0, 76, 182, 1, 49, 42, 16, 94, 182, 1, 52, 42, 42]
abbrev dktX3_tell_2 : List UInt8 := dkwX3_tell_2 ++ dktX3_tell_3
def dkwX3_tell_1 : List UInt8 := [3, 172, 42, 3, 181, 1, 46, 42, 27, 182, 1, 49, 42, 16, 64, 182, 1, 52, 42, 42, 27, 3]
abbrev dktX3_tell_1 : List UInt8 := dkwX3_tell_1 ++ dktX3_tell_2
def dkwX3_tell_0 : List UInt8 := [42, 42, 27, 182, 0, 113, 153, 0, 7, 3, 167, 0, 4, 4, 181, 0, 49, 42, 180, 0, 49, 158, 0, 5]
abbrev dktX3_tell_0 : List UInt8 := dkwX3_tell_0 ++ dktX3_tell_1
theorem dksX3_tell_0 : cX3_tell.data.toList.drop 0 = dktX3_tell_0 := by decide +kernel
theorem dksX3_tell_1 : cX3_tell.data.toList.drop 24 = dktX3_tell_1 := dk_seg dksX3_tell_0 24 rfl rfl
theorem dksX3_tell_2 : cX3_tell.data.toList.drop 46 = dktX3_tell_2 := dk_seg dksX3_tell_1 22 rfl rfl
theorem dksX3_tell_3 : cX3_tell.data.toList.drop 70 = dktX3_tell_3 := dk_seg dksX3_tell_2 24 rfl rfl
theorem dksX3_tell_4 : cX3_tell.data.toList.drop 94 = dktX3_tell_4 := dk_seg dksX3_tell_3 24 rfl rfl
theorem dX3_tell_0 : decode cX3_tell 0 = .ok (.aload_n 0, 1) := dk_42 (dk_at dksX3_tell_0 0 rfl rfl)
theorem dX3_tell_1 : decode cX3_tell 1 = .ok (.aload_n 0, 1) := dk_42 (dk_at dksX3_tell_0 1 rfl rfl)
theorem dX3_tell_2 : decode cX3_tell 2 = .ok (.iload_n 1, 1) := dk_27 (dk_at dksX3_tell_0 2 rfl rfl)
theorem dX3_tell_3 : decode cX3_tell 3 = .ok (.invokevirtual 113, 3) := dk_182 0 113 (dk_at dksX3_tell_0 3 rfl rfl)
theorem dX3_tell_6 : decode cX3_tell 6 = .ok (.ifCond .eq 7, 3) := dk_153 0 7 (dk_at dksX3_tell_0 6 rfl rfl)
theorem dX3_tell_9 : decode cX3_tell 9 = .ok (.iconst 0, 1) := dk_3 (dk_at dksX3_tell_0 9 rfl rfl)
theorem dX3_tell_10 : decode cX3_tell 10 = .ok (.goto 4, 3) := dk_167 0 4 (dk_at dksX3_tell_0 10 rfl rfl)
theorem dX3_tell_13 : decode cX3_tell 13 = .ok (.iconst 1, 1) := dk_4 (dk_at dksX3_tell_0 13 rfl rfl)
theorem dX3_tell_14 : decode cX3_tell 14 = .ok (.putfield 49, 3) := dk_181 0 49 (dk_at dksX3_tell_0 14 rfl rfl)
theorem dX3_tell_17 : decode cX3_tell 17 = .ok (.aload_n 0, 1) := dk_42 (dk_at dksX3_tell_0 17 rfl rfl)
theorem dX3_tell_18 : decode cX3_tell 18 = .ok (.getfield 49, 3) := dk_180 0 49 (dk_at dksX3_tell_0 18 rfl rfl)
theorem dX3_tell_21 : decode cX3_tell 21 = .ok (.ifCond .le 5, 3) := dk_158 0 5 (dk_at dksX3_tell_0 21 rfl rfl)
theorem dX3_tell_24 : decode cX3_tell 24 = .ok (.iconst 0, 1) := dk_3 (dk_at dksX3_tell_1 0 rfl rfl)
theorem dX3_tell_25 : decode cX3_tell 25 = .ok (.ireturn, 1) := dk_172 (dk_at dksX3_tell_1 1 rfl rfl)
theorem dX3_tell_26 : decode cX3_tell 26 = .ok (.aload_n 0, 1) := dk_42 (dk_at dksX3_tell_1 2 rfl rfl)
theorem dX3_tell_27 : decode cX3_tell 27 = .ok (.iconst 0, 1) := dk_3 (dk_at dksX3_tell_1 3 rfl rfl)
theorem dX3_tell_28 : decode cX3_tell 28 = .ok (.putfield 302, 3) := dk_181 1 46 (dk_at dksX3_tell_1 4 rfl rfl)
theorem dX3_tell_31 : decode cX3_tell 31 = .ok (.aload_n 0, 1) := dk_42 (dk_at dksX3_tell_1 7 rfl rfl)
theorem dX3_tell_32 : decode cX3_tell 32 = .ok (.iload_n 1, 1) := dk_27 (dk_at dksX3_tell_1 8 rfl rfl)
theorem dX3_tell_33 : decode cX3_tell 33 = .ok (.invokevirtual 305, 3) := dk_182 1 49 (dk_at dksX3_tell_1 9 rfl rfl)
theorem dX3_tell_36 : decode cX3_tell 36 = .ok (.aload_n 0, 1) := dk_42 (dk_at dksX3_tell_1 12 rfl rfl)
theorem dX3_tell_37 : decode cX3_tell 37 = .ok (.bipush 64, 2) := dk_16 64 (dk_at dksX3_tell_1 13 rfl rfl)
theorem dX3_tell_39 : decode cX3_tell 39 = .ok (.invokevirtual 308, 3) := dk_182 1 52 (dk_at dksX3_tell_1 15 rfl rfl)
theorem dX3_tell_42 : decode cX3_tell 42 = .ok (.aload_n 0, 1) := dk_42 (dk_at dksX3_tell_1 18 rfl rfl)
theorem dX3_tell_43 : decode cX3_tell 43 = .ok (.aload_n 0, 1) := dk_42 (dk_at dksX3_tell_1 19 rfl rfl)
theorem dX3_tell_44 : decode cX3_tell 44 = .ok (.iload_n 1, 1) := dk_27 (dk_at dksX3_tell_1 20 rfl rfl)
theorem dX3_tell_45 : decode cX3_tell 45 = .ok (.iconst 0, 1) := dk_3 (dk_at dksX3_tell_1 21 rfl rfl)
theorem dX3_tell_46 : decode cX3_tell 46 = .ok (.invokevirtual 76, 3) := dk_182 0 76 (dk_at dksX3_tell_2 0 rfl rfl)
theorem dX3_tell_49 : decode cX3_tell 49 = .ok (.invokevirtual 305, 3) := dk_182 1 49 (dk_at dksX3_tell_2 3 rfl rfl)
theorem dX3_tell_52 : decode cX3_tell 52 = .ok (.aload_n 0, 1) := dk_42 (dk_at dksX3_tell_2 6 rfl rfl)
theorem dX3_tell_53 : decode cX3_tell 53 = .ok (.aload_n 0, 1) := dk_42 (dk_at dksX3_tell_2 7 rfl rfl)
theorem dX3_tell_54 : decode cX3_tell 54 = .ok (.iload_n 1, 1) := dk_27 (dk_at dksX3_tell_2 8 rfl rfl)
theorem dX3_tell_55 : decode cX3_tell 55 = .ok (.iconst 1, 1) := dk_4 (dk_at dksX3_tell_2 9 rfl rfl)
theorem dX3_tell_56 : decode cX3_tell 56 = .ok (.invokevirtual 76, 3) := dk_182 0 76 (dk_at dksX3_tell_2 10 rfl rfl)
theorem dX3_tell_59 : decode cX3_tell 59 = .ok (.invokevirtual 305, 3) := dk_182 1 49 (dk_at dksX3_tell_2 13 rfl rfl)
theorem dX3_tell_62 : decode cX3_tell 62 = .ok (.aload_n 0, 1) := dk_42 (dk_at dksX3_tell_2 16 rfl rfl)
theorem dX3_tell_63 : decode cX3_tell 63 = .ok (.bipush 94, 2) := dk_16 94 (dk_at dksX3_tell_2 17 rfl rfl)
theorem dX3_tell_65 : decode cX3_tell 65 = .ok (.invokevirtual 308, 3) := dk_182 1 52 (dk_at dksX3_tell_2 19 rfl rfl)
theorem dX3_tell_68 : decode cX3_tell 68 = .ok (.aload_n 0, 1) := dk_42 (dk_at dksX3_tell_2 22 rfl rfl)
theorem dX3_tell_69 : decode cX3_tell 69 = .ok (.aload_n 0, 1) := dk_42 (dk_at dksX3_tell_2 23 rfl rfl)
theorem dX3_tell_70 : decode cX3_tell 70 = .ok (.iload_n 1, 1) := dk_27 (dk_at dksX3_tell_3 0 rfl rfl)
theorem dX3_tell_71 : decode cX3_tell 71 = .ok (.iconst 2, 1) := dk_5 (dk_at dksX3_tell_3 1 rfl rfl)
theorem dX3_tell_72 : decode cX3_tell 72 = .ok (.invokevirtual 76, 3) := dk_182 0 76 (dk_at dksX3_tell_3 2 rfl rfl)
theorem dX3_tell_75 : decode cX3_tell 75 = .ok (.invokevirtual 305, 3) := dk_182 1 49 (dk_at dksX3_tell_3 5 rfl rfl)
theorem dX3_tell_78 : decode cX3_tell 78 = .ok (.aload_n 0, 1) := dk_42 (dk_at dksX3_tell_3 8 rfl rfl)
theorem dX3_tell_79 : decode cX3_tell 79 = .ok (.bipush 42, 2) := dk_16 42 (dk_at dksX3_tell_3 9 rfl rfl)
theorem dX3_tell_81 : decode cX3_tell 81 = .ok (.invokevirtual 308, 3) := dk_182 1 52 (dk_at dksX3_tell_3 11 rfl rfl)
theorem dX3_tell_84 : decode cX3_tell 84 = .ok (.aload_n 0, 1) := dk_42 (dk_at dksX3_tell_3 14 rfl rfl)
theorem dX3_tell_85 : decode cX3_tell 85 = .ok (.aload_n 0, 1) := dk_42 (dk_at dksX3_tell_3 15 rfl rfl)
theorem dX3_tell_86 : decode cX3_tell 86 = .ok (.iload_n 1, 1) := dk_27 (dk_at dksX3_tell_3 16 rfl rfl)
theorem dX3_tell_87 : decode cX3_tell 87 = .ok (.iconst 3, 1) := dk_6 (dk_at dksX3_tell_3 17 rfl rfl)
theorem dX3_tell_88 : decode cX3_tell 88 = .ok (.invokevirtual 76, 3) := dk_182 0 76 (dk_at dksX3_tell_3 18 rfl rfl)
theorem dX3_tell_91 : decode cX3_tell 91 = .ok (.invokevirtual 305, 3) := dk_182 1 49 (dk_at dksX3_tell_3 21 rfl rfl)
theorem dX3_tell_94 : decode cX3_tell 94 = .ok (.aload_n 0, 1) := dk_42 (dk_at dksX3_tell_4 0 rfl rfl)
theorem dX3_tell_95 : decode cX3_tell 95 = .ok (.bipush 43, 2) := dk_16 43 (dk_at dksX3_tell_4 1 rfl rfl)
theorem dX3_tell_97 : decode cX3_tell 97 = .ok (.invokevirtual 308, 3) := dk_182 1 52 (dk_at dksX3_tell_4 3 rfl rfl)
theorem dX3_tell_100 : decode cX3_tell 100 = .ok (.aload_n 0, 1) := dk_42 (dk_at dksX3_tell_4 6 rfl rfl)
theorem dX3_tell_101 : decode cX3_tell 101 = .ok (.aload_n 0, 1) := dk_42 (dk_at dksX3_tell_4 7 rfl rfl)
theorem dX3_tell_102 : decode cX3_tell 102 = .ok (.iload_n 1, 1) := dk_27 (dk_at dksX3_tell_4 8 rfl rfl)
theorem dX3_tell_103 : decode cX3_tell 103 = .ok (.iconst 4, 1) := dk_7 (dk_at dksX3_tell_4 9 rfl rfl)
theorem dX3_tell_104 : decode cX3_tell 104 = .ok (.invokevirtual 76, 3) := dk_182 0 76 (dk_at dksX3_tell_4 10 rfl rfl)
theorem dX3_tell_107 : decode cX3_tell 107 = .ok (.invokevirtual 305, 3) := dk_182 1 49 (dk_at dksX3_tell_4 13 rfl rfl)
theorem dX3_tell_110 : decode cX3_tell 110 = .ok (.aload_n 0, 1) := dk_42 (dk_at dksX3_tell_4 16 rfl rfl)
theorem dX3_tell_111 : decode cX3_tell 111 = .ok (.getfield 302, 3) := dk_180 1 46 (dk_at dksX3_tell_4 17 rfl rfl)
theorem dX3_tell_114 : decode cX3_tell 114 = .ok (.ireturn, 1) := dk_172 (dk_at dksX3_tell_4 20 rfl rfl)
def dkwX3_saysNumber_1 : List UInt8 := [182, 1, 52, 177]
abbrev dktX3_saysNumber_1 : List UInt8 := dkwX3_saysNumber_1 ++ []
def dkwX3_saysNumber_0 : List UInt8 := [27, 16, 9, 164, 0, 11, 42, 27, 16, 10, 108, 182, 1, 49, 42, 16, 48, 27, 16, 10, 112, 96, 146]
abbrev dktX3_saysNumber_0 : List UInt8 := dkwX3_saysNumber_0 ++ dktX3_saysNumber_1
theorem dksX3_saysNumber_0 : cX3_saysNumber.data.toList.drop 0 = dktX3_saysNumber_0 := by decide +kernel
theorem dksX3_saysNumber_1 : cX3_saysNumber.data.toList.drop 23 = dktX3_saysNumber_1 := dk_seg dksX3_saysNumber_0 23 rfl rfl
theorem dX3_saysNumber_0 : decode cX3_saysNumber 0 = .ok (.iload_n 1, 1) := dk_27 (dk_at dksX3_saysNumber_0 0 rfl rfl)
theorem dX3_saysNumber_1 : decode cX3_saysNumber 1 = .ok (.bipush 9, 2) := dk_16 9 (dk_at dksX3_saysNumber_0 1 rfl rfl)
theorem dX3_saysNumber_3 : decode cX3_saysNumber 3 = .ok (.if_icmp .le 11, 3) := dk_164 0 11 (dk_at dksX3_saysNumber_0 3 rfl rfl)
theorem dX3_saysNumber_6 : decode cX3_saysNumber 6 = .ok (.aload_n 0, 1) := dk_42 (dk_at dksX3_saysNumber_0 6 rfl rfl)
theorem dX3_saysNumber_7 : decode cX3_saysNumber 7 = .ok (.iload_n 1, 1) := dk_27 (dk_at dksX3_saysNumber_0 7 rfl rfl)
theorem dX3_saysNumber_8 : decode cX3_saysNumber 8 = .ok (.bipush 10, 2) := dk_16 10 (dk_at dksX3_saysNumber_0 8 rfl rfl)
theorem dX3_saysNumber_10 : decode cX3_saysNumber 10 = .ok (.idiv, 1) := dk_108 (dk_at dksX3_saysNumber_0 10 rfl rfl)
theorem dX3_saysNumber_11 : decode cX3_saysNumber 11 = .ok (.invokevirtual 305, 3) := dk_182 1 49 (dk_at dksX3_saysNumber_0 11 rfl rfl)
theorem dX3_saysNumber_14 : decode cX3_saysNumber 14 = .ok (.aload_n 0, 1) := dk_42 (dk_at dksX3_saysNumber_0 14 rfl rfl)
theorem dX3_saysNumber_15 : decode cX3_saysNumber 15 = .ok (.bipush 48, 2) := dk_16 48 (dk_at dksX3_saysNumber_0 15 rfl rfl)
theorem dX3_saysNumber_17 : decode cX3_saysNumber 17 = .ok (.iload_n 1, 1) := dk_27 (dk_at dksX3_saysNumber_0 17 rfl rfl)
theorem dX3_saysNumber_18 : decode cX3_saysNumber 18 = .ok (.bipush 10, 2) := dk_16 10 (dk_at dksX3_saysNumber_0 18 rfl rfl)
theorem dX3_saysNumber_20 : decode cX3_saysNumber 20 = .ok (.irem, 1) := dk_112 (dk_at dksX3_saysNumber_0 20 rfl rfl)
theorem dX3_saysNumber_21 : decode cX3_saysNumber 21 = .ok (.iadd, 1) := dk_96 (dk_at dksX3_saysNumber_0 21 rfl rfl)
theorem dX3_saysNumber_22 : decode cX3_saysNumber 22 = .ok (.i2c, 1) := dk_146 (dk_at dksX3_saysNumber_0 22 rfl rfl)
theorem dX3_saysNumber_23 : decode cX3_saysNumber 23 = .ok (.invokevirtual 308, 3) := dk_182 1 52 (dk_at dksX3_saysNumber_1 0 rfl rfl)
theorem dX3_saysNumber_26 : decode cX3_saysNumber 26 = .ok (.return_, 1) := dk_177 (dk_at dksX3_saysNumber_1 3 rfl rfl)
def dkwX3_says_0 : List UInt8 := [42, 180, 0, 46, 42, 180, 1, 46, 27, 85, 42, 89, 180, 1, 46, 4, 96, 181, 1, 46, 177]
abbrev dktX3_says_0 : List UInt8 := dkwX3_says_0 ++ []
theorem dksX3_says_0 : cX3_says.data.toList.drop 0 = dktX3_says_0 := by decide +kernel
theorem dX3_says_0 : decode cX3_says 0 = .ok (.aload_n 0, 1) := dk_42 (dk_at dksX3_says_0 0 rfl rfl)
theorem dX3_says_1 : decode cX3_says 1 = .ok (.getfield 46, 3) := dk_180 0 46 (dk_at dksX3_says_0 1 rfl rfl)
theorem dX3_says_4 : decode cX3_says 4 = .ok (.aload_n 0, 1) := dk_42 (dk_at dksX3_says_0 4 rfl rfl)
theorem dX3_says_5 : decode cX3_says 5 = .ok (.getfield 302, 3) := dk_180 1 46 (dk_at dksX3_says_0 5 rfl rfl)
theorem dX3_says_8 : decode cX3_says 8 = .ok (.iload_n 1, 1) := dk_27 (dk_at dksX3_says_0 8 rfl rfl)
theorem dX3_says_9 : decode cX3_says 9 = .ok (.castore, 1) := dk_85 (dk_at dksX3_says_0 9 rfl rfl)
theorem dX3_says_10 : decode cX3_says 10 = .ok (.aload_n 0, 1) := dk_42 (dk_at dksX3_says_0 10 rfl rfl)
theorem dX3_says_11 : decode cX3_says 11 = .ok (.dup, 1) := dk_89 (dk_at dksX3_says_0 11 rfl rfl)
theorem dX3_says_12 : decode cX3_says 12 = .ok (.getfield 302, 3) := dk_180 1 46 (dk_at dksX3_says_0 12 rfl rfl)
theorem dX3_says_15 : decode cX3_says 15 = .ok (.iconst 1, 1) := dk_4 (dk_at dksX3_says_0 15 rfl rfl)
theorem dX3_says_16 : decode cX3_says 16 = .ok (.iadd, 1) := dk_96 (dk_at dksX3_says_0 16 rfl rfl)
theorem dX3_says_17 : decode cX3_says 17 = .ok (.putfield 302, 3) := dk_181 1 46 (dk_at dksX3_says_0 17 rfl rfl)
theorem dX3_says_20 : decode cX3_says 20 = .ok (.return_, 1) := dk_177 (dk_at dksX3_says_0 20 rfl rfl)
def dkwX3_tellRow_4 : List UInt8 := [167, 255, 199, 42, 180, 1, 46, 172]
abbrev dktX3_tellRow_4 : List UInt8 := dkwX3_tellRow_4 ++ []
def dkwX3_tellRow_3 : List UInt8 := [154, 0, 8, 16, 46, 167, 0, 11, 16, 48, 29, 184, 1, 56, 96, 146, 182, 1, 52, 132, 2, 1]
abbrev dktX3_tellRow_3 : List UInt8 := dkwX3_tellRow_3 ++ dktX3_tellRow_4
def dkwX3_tellRow_2 : List UInt8 := [182, 0, 171, 62, 42, 42, 28, 27, 184, 0, 69, 182, 0, 100, 155, 0, 8, 16, 35, 167, 0, 20, 29]
abbrev dktX3_tellRow_2 : List UInt8 := dkwX3_tellRow_2 ++ dktX3_tellRow_3
def dkwX3_tellRow_1 : List UInt8 := [158, 0, 5, 3, 172, 42, 3, 181, 1, 46, 3, 61, 28, 16, 10, 162, 0, 57, 42, 28, 27, 184, 0, 69]
abbrev dktX3_tellRow_1 : List UInt8 := dkwX3_tellRow_1 ++ dktX3_tellRow_2
def dkwX3_tellRow_0 : List UInt8 := [42, 27, 3, 16, 9, 184, 0, 61, 153, 0, 7, 3, 167, 0, 4, 4, 181, 0, 49, 42, 180, 0, 49]
abbrev dktX3_tellRow_0 : List UInt8 := dkwX3_tellRow_0 ++ dktX3_tellRow_1
theorem dksX3_tellRow_0 : cX3_tellRow.data.toList.drop 0 = dktX3_tellRow_0 := by decide +kernel
theorem dksX3_tellRow_1 : cX3_tellRow.data.toList.drop 23 = dktX3_tellRow_1 := dk_seg dksX3_tellRow_0 23 rfl rfl
theorem dksX3_tellRow_2 : cX3_tellRow.data.toList.drop 47 = dktX3_tellRow_2 := dk_seg dksX3_tellRow_1 24 rfl rfl
theorem dksX3_tellRow_3 : cX3_tellRow.data.toList.drop 70 = dktX3_tellRow_3 := dk_seg dksX3_tellRow_2 23 rfl rfl
theorem dksX3_tellRow_4 : cX3_tellRow.data.toList.drop 92 = dktX3_tellRow_4 := dk_seg dksX3_tellRow_3 22 rfl rfl
theorem dX3_tellRow_0 : decode cX3_tellRow 0 = .ok (.aload_n 0, 1) := dk_42 (dk_at dksX3_tellRow_0 0 rfl rfl)
theorem dX3_tellRow_1 : decode cX3_tellRow 1 = .ok (.iload_n 1, 1) := dk_27 (dk_at dksX3_tellRow_0 1 rfl rfl)
theorem dX3_tellRow_2 : decode cX3_tellRow 2 = .ok (.iconst 0, 1) := dk_3 (dk_at dksX3_tellRow_0 2 rfl rfl)
theorem dX3_tellRow_3 : decode cX3_tellRow 3 = .ok (.bipush 9, 2) := dk_16 9 (dk_at dksX3_tellRow_0 3 rfl rfl)
theorem dX3_tellRow_5 : decode cX3_tellRow 5 = .ok (.invokestatic 61, 3) := dk_184 0 61 (dk_at dksX3_tellRow_0 5 rfl rfl)
theorem dX3_tellRow_8 : decode cX3_tellRow 8 = .ok (.ifCond .eq 7, 3) := dk_153 0 7 (dk_at dksX3_tellRow_0 8 rfl rfl)
theorem dX3_tellRow_11 : decode cX3_tellRow 11 = .ok (.iconst 0, 1) := dk_3 (dk_at dksX3_tellRow_0 11 rfl rfl)
theorem dX3_tellRow_12 : decode cX3_tellRow 12 = .ok (.goto 4, 3) := dk_167 0 4 (dk_at dksX3_tellRow_0 12 rfl rfl)
theorem dX3_tellRow_15 : decode cX3_tellRow 15 = .ok (.iconst 1, 1) := dk_4 (dk_at dksX3_tellRow_0 15 rfl rfl)
theorem dX3_tellRow_16 : decode cX3_tellRow 16 = .ok (.putfield 49, 3) := dk_181 0 49 (dk_at dksX3_tellRow_0 16 rfl rfl)
theorem dX3_tellRow_19 : decode cX3_tellRow 19 = .ok (.aload_n 0, 1) := dk_42 (dk_at dksX3_tellRow_0 19 rfl rfl)
theorem dX3_tellRow_20 : decode cX3_tellRow 20 = .ok (.getfield 49, 3) := dk_180 0 49 (dk_at dksX3_tellRow_0 20 rfl rfl)
theorem dX3_tellRow_23 : decode cX3_tellRow 23 = .ok (.ifCond .le 5, 3) := dk_158 0 5 (dk_at dksX3_tellRow_1 0 rfl rfl)
theorem dX3_tellRow_26 : decode cX3_tellRow 26 = .ok (.iconst 0, 1) := dk_3 (dk_at dksX3_tellRow_1 3 rfl rfl)
theorem dX3_tellRow_27 : decode cX3_tellRow 27 = .ok (.ireturn, 1) := dk_172 (dk_at dksX3_tellRow_1 4 rfl rfl)
theorem dX3_tellRow_28 : decode cX3_tellRow 28 = .ok (.aload_n 0, 1) := dk_42 (dk_at dksX3_tellRow_1 5 rfl rfl)
theorem dX3_tellRow_29 : decode cX3_tellRow 29 = .ok (.iconst 0, 1) := dk_3 (dk_at dksX3_tellRow_1 6 rfl rfl)
theorem dX3_tellRow_30 : decode cX3_tellRow 30 = .ok (.putfield 302, 3) := dk_181 1 46 (dk_at dksX3_tellRow_1 7 rfl rfl)
theorem dX3_tellRow_33 : decode cX3_tellRow 33 = .ok (.iconst 0, 1) := dk_3 (dk_at dksX3_tellRow_1 10 rfl rfl)
theorem dX3_tellRow_34 : decode cX3_tellRow 34 = .ok (.istore_n 2, 1) := dk_61 (dk_at dksX3_tellRow_1 11 rfl rfl)
theorem dX3_tellRow_35 : decode cX3_tellRow 35 = .ok (.iload_n 2, 1) := dk_28 (dk_at dksX3_tellRow_1 12 rfl rfl)
theorem dX3_tellRow_36 : decode cX3_tellRow 36 = .ok (.bipush 10, 2) := dk_16 10 (dk_at dksX3_tellRow_1 13 rfl rfl)
theorem dX3_tellRow_38 : decode cX3_tellRow 38 = .ok (.if_icmp .ge 57, 3) := dk_162 0 57 (dk_at dksX3_tellRow_1 15 rfl rfl)
theorem dX3_tellRow_41 : decode cX3_tellRow 41 = .ok (.aload_n 0, 1) := dk_42 (dk_at dksX3_tellRow_1 18 rfl rfl)
theorem dX3_tellRow_42 : decode cX3_tellRow 42 = .ok (.iload_n 2, 1) := dk_28 (dk_at dksX3_tellRow_1 19 rfl rfl)
theorem dX3_tellRow_43 : decode cX3_tellRow 43 = .ok (.iload_n 1, 1) := dk_27 (dk_at dksX3_tellRow_1 20 rfl rfl)
theorem dX3_tellRow_44 : decode cX3_tellRow 44 = .ok (.invokestatic 69, 3) := dk_184 0 69 (dk_at dksX3_tellRow_1 21 rfl rfl)
theorem dX3_tellRow_47 : decode cX3_tellRow 47 = .ok (.invokevirtual 171, 3) := dk_182 0 171 (dk_at dksX3_tellRow_2 0 rfl rfl)
theorem dX3_tellRow_50 : decode cX3_tellRow 50 = .ok (.istore_n 3, 1) := dk_62 (dk_at dksX3_tellRow_2 3 rfl rfl)
theorem dX3_tellRow_51 : decode cX3_tellRow 51 = .ok (.aload_n 0, 1) := dk_42 (dk_at dksX3_tellRow_2 4 rfl rfl)
theorem dX3_tellRow_52 : decode cX3_tellRow 52 = .ok (.aload_n 0, 1) := dk_42 (dk_at dksX3_tellRow_2 5 rfl rfl)
theorem dX3_tellRow_53 : decode cX3_tellRow 53 = .ok (.iload_n 2, 1) := dk_28 (dk_at dksX3_tellRow_2 6 rfl rfl)
theorem dX3_tellRow_54 : decode cX3_tellRow 54 = .ok (.iload_n 1, 1) := dk_27 (dk_at dksX3_tellRow_2 7 rfl rfl)
theorem dX3_tellRow_55 : decode cX3_tellRow 55 = .ok (.invokestatic 69, 3) := dk_184 0 69 (dk_at dksX3_tellRow_2 8 rfl rfl)
theorem dX3_tellRow_58 : decode cX3_tellRow 58 = .ok (.invokevirtual 100, 3) := dk_182 0 100 (dk_at dksX3_tellRow_2 11 rfl rfl)
theorem dX3_tellRow_61 : decode cX3_tellRow 61 = .ok (.ifCond .lt 8, 3) := dk_155 0 8 (dk_at dksX3_tellRow_2 14 rfl rfl)
theorem dX3_tellRow_64 : decode cX3_tellRow 64 = .ok (.bipush 35, 2) := dk_16 35 (dk_at dksX3_tellRow_2 17 rfl rfl)
theorem dX3_tellRow_66 : decode cX3_tellRow 66 = .ok (.goto 20, 3) := dk_167 0 20 (dk_at dksX3_tellRow_2 19 rfl rfl)
theorem dX3_tellRow_69 : decode cX3_tellRow 69 = .ok (.iload_n 3, 1) := dk_29 (dk_at dksX3_tellRow_2 22 rfl rfl)
theorem dX3_tellRow_70 : decode cX3_tellRow 70 = .ok (.ifCond .ne 8, 3) := dk_154 0 8 (dk_at dksX3_tellRow_3 0 rfl rfl)
theorem dX3_tellRow_73 : decode cX3_tellRow 73 = .ok (.bipush 46, 2) := dk_16 46 (dk_at dksX3_tellRow_3 3 rfl rfl)
theorem dX3_tellRow_75 : decode cX3_tellRow 75 = .ok (.goto 11, 3) := dk_167 0 11 (dk_at dksX3_tellRow_3 5 rfl rfl)
theorem dX3_tellRow_78 : decode cX3_tellRow 78 = .ok (.bipush 48, 2) := dk_16 48 (dk_at dksX3_tellRow_3 8 rfl rfl)
theorem dX3_tellRow_80 : decode cX3_tellRow 80 = .ok (.iload_n 3, 1) := dk_29 (dk_at dksX3_tellRow_3 10 rfl rfl)
theorem dX3_tellRow_81 : decode cX3_tellRow 81 = .ok (.invokestatic 312, 3) := dk_184 1 56 (dk_at dksX3_tellRow_3 11 rfl rfl)
theorem dX3_tellRow_84 : decode cX3_tellRow 84 = .ok (.iadd, 1) := dk_96 (dk_at dksX3_tellRow_3 14 rfl rfl)
theorem dX3_tellRow_85 : decode cX3_tellRow 85 = .ok (.i2c, 1) := dk_146 (dk_at dksX3_tellRow_3 15 rfl rfl)
theorem dX3_tellRow_86 : decode cX3_tellRow 86 = .ok (.invokevirtual 308, 3) := dk_182 1 52 (dk_at dksX3_tellRow_3 16 rfl rfl)
theorem dX3_tellRow_89 : decode cX3_tellRow 89 = .ok (.iinc 2 1, 3) := dk_132 2 1 (dk_at dksX3_tellRow_3 19 rfl rfl)
theorem dX3_tellRow_92 : decode cX3_tellRow 92 = .ok (.goto (-57), 3) := dk_167 255 199 (dk_at dksX3_tellRow_4 0 rfl rfl)
theorem dX3_tellRow_95 : decode cX3_tellRow 95 = .ok (.aload_n 0, 1) := dk_42 (dk_at dksX3_tellRow_4 3 rfl rfl)
theorem dX3_tellRow_96 : decode cX3_tellRow 96 = .ok (.getfield 302, 3) := dk_180 1 46 (dk_at dksX3_tellRow_4 4 rfl rfl)
theorem dX3_tellRow_99 : decode cX3_tellRow 99 = .ok (.ireturn, 1) := dk_172 (dk_at dksX3_tellRow_4 7 rfl rfl)
def dkwX3_tellSpire_4 : List UInt8 := [16, 67, 7, 27, 104, 96, 5, 96, 46, 182, 0, 229, 182, 1, 52, 42, 180, 1, 46, 172]
abbrev dktX3_tellSpire_4 : List UInt8 := dkwX3_tellSpire_4 ++ []
def dkwX3_tellSpire_3 : List UInt8 := [180, 0, 9, 16, 67, 7, 27, 104, 96, 4, 96, 46, 182, 1, 49, 42, 19, 1, 13, 42, 180, 0, 9]
abbrev dktX3_tellSpire_3 : List UInt8 := dkwX3_tellSpire_3 ++ dktX3_tellSpire_4
def dkwX3_tellSpire_2 : List UInt8 := [16, 64, 182, 1, 52, 42, 42, 180, 0, 9, 16, 67, 7, 27, 104, 96, 46, 182, 1, 49, 42, 42]
abbrev dktX3_tellSpire_2 : List UInt8 := dkwX3_tellSpire_2 ++ dktX3_tellSpire_3
def dkwX3_tellSpire_1 : List UInt8 := [181, 0, 49, 42, 180, 0, 49, 158, 0, 5, 3, 172, 42, 3, 181, 1, 46, 42, 27, 182, 1, 49, 42]
abbrev dktX3_tellSpire_1 : List UInt8 := dkwX3_tellSpire_1 ++ dktX3_tellSpire_2
def dkwX3_tellSpire_0 : List UInt8 := [42, 27, 3, 42, 180, 0, 9, 4, 46, 4, 100, 184, 0, 61, 153, 0, 7, 3, 167, 0, 4, 4]
abbrev dktX3_tellSpire_0 : List UInt8 := dkwX3_tellSpire_0 ++ dktX3_tellSpire_1
theorem dksX3_tellSpire_0 : cX3_tellSpire.data.toList.drop 0 = dktX3_tellSpire_0 := by decide +kernel
theorem dksX3_tellSpire_1 : cX3_tellSpire.data.toList.drop 22 = dktX3_tellSpire_1 := dk_seg dksX3_tellSpire_0 22 rfl rfl
theorem dksX3_tellSpire_2 : cX3_tellSpire.data.toList.drop 45 = dktX3_tellSpire_2 := dk_seg dksX3_tellSpire_1 23 rfl rfl
theorem dksX3_tellSpire_3 : cX3_tellSpire.data.toList.drop 67 = dktX3_tellSpire_3 := dk_seg dksX3_tellSpire_2 22 rfl rfl
theorem dksX3_tellSpire_4 : cX3_tellSpire.data.toList.drop 90 = dktX3_tellSpire_4 := dk_seg dksX3_tellSpire_3 23 rfl rfl
theorem dX3_tellSpire_0 : decode cX3_tellSpire 0 = .ok (.aload_n 0, 1) := dk_42 (dk_at dksX3_tellSpire_0 0 rfl rfl)
theorem dX3_tellSpire_1 : decode cX3_tellSpire 1 = .ok (.iload_n 1, 1) := dk_27 (dk_at dksX3_tellSpire_0 1 rfl rfl)
theorem dX3_tellSpire_2 : decode cX3_tellSpire 2 = .ok (.iconst 0, 1) := dk_3 (dk_at dksX3_tellSpire_0 2 rfl rfl)
theorem dX3_tellSpire_3 : decode cX3_tellSpire 3 = .ok (.aload_n 0, 1) := dk_42 (dk_at dksX3_tellSpire_0 3 rfl rfl)
theorem dX3_tellSpire_4 : decode cX3_tellSpire 4 = .ok (.getfield 9, 3) := dk_180 0 9 (dk_at dksX3_tellSpire_0 4 rfl rfl)
theorem dX3_tellSpire_7 : decode cX3_tellSpire 7 = .ok (.iconst 1, 1) := dk_4 (dk_at dksX3_tellSpire_0 7 rfl rfl)
theorem dX3_tellSpire_8 : decode cX3_tellSpire 8 = .ok (.iaload, 1) := dk_46 (dk_at dksX3_tellSpire_0 8 rfl rfl)
theorem dX3_tellSpire_9 : decode cX3_tellSpire 9 = .ok (.iconst 1, 1) := dk_4 (dk_at dksX3_tellSpire_0 9 rfl rfl)
theorem dX3_tellSpire_10 : decode cX3_tellSpire 10 = .ok (.isub, 1) := dk_100 (dk_at dksX3_tellSpire_0 10 rfl rfl)
theorem dX3_tellSpire_11 : decode cX3_tellSpire 11 = .ok (.invokestatic 61, 3) := dk_184 0 61 (dk_at dksX3_tellSpire_0 11 rfl rfl)
theorem dX3_tellSpire_14 : decode cX3_tellSpire 14 = .ok (.ifCond .eq 7, 3) := dk_153 0 7 (dk_at dksX3_tellSpire_0 14 rfl rfl)
theorem dX3_tellSpire_17 : decode cX3_tellSpire 17 = .ok (.iconst 0, 1) := dk_3 (dk_at dksX3_tellSpire_0 17 rfl rfl)
theorem dX3_tellSpire_18 : decode cX3_tellSpire 18 = .ok (.goto 4, 3) := dk_167 0 4 (dk_at dksX3_tellSpire_0 18 rfl rfl)
theorem dX3_tellSpire_21 : decode cX3_tellSpire 21 = .ok (.iconst 1, 1) := dk_4 (dk_at dksX3_tellSpire_0 21 rfl rfl)
theorem dX3_tellSpire_22 : decode cX3_tellSpire 22 = .ok (.putfield 49, 3) := dk_181 0 49 (dk_at dksX3_tellSpire_1 0 rfl rfl)
theorem dX3_tellSpire_25 : decode cX3_tellSpire 25 = .ok (.aload_n 0, 1) := dk_42 (dk_at dksX3_tellSpire_1 3 rfl rfl)
theorem dX3_tellSpire_26 : decode cX3_tellSpire 26 = .ok (.getfield 49, 3) := dk_180 0 49 (dk_at dksX3_tellSpire_1 4 rfl rfl)
theorem dX3_tellSpire_29 : decode cX3_tellSpire 29 = .ok (.ifCond .le 5, 3) := dk_158 0 5 (dk_at dksX3_tellSpire_1 7 rfl rfl)
theorem dX3_tellSpire_32 : decode cX3_tellSpire 32 = .ok (.iconst 0, 1) := dk_3 (dk_at dksX3_tellSpire_1 10 rfl rfl)
theorem dX3_tellSpire_33 : decode cX3_tellSpire 33 = .ok (.ireturn, 1) := dk_172 (dk_at dksX3_tellSpire_1 11 rfl rfl)
theorem dX3_tellSpire_34 : decode cX3_tellSpire 34 = .ok (.aload_n 0, 1) := dk_42 (dk_at dksX3_tellSpire_1 12 rfl rfl)
theorem dX3_tellSpire_35 : decode cX3_tellSpire 35 = .ok (.iconst 0, 1) := dk_3 (dk_at dksX3_tellSpire_1 13 rfl rfl)
theorem dX3_tellSpire_36 : decode cX3_tellSpire 36 = .ok (.putfield 302, 3) := dk_181 1 46 (dk_at dksX3_tellSpire_1 14 rfl rfl)
theorem dX3_tellSpire_39 : decode cX3_tellSpire 39 = .ok (.aload_n 0, 1) := dk_42 (dk_at dksX3_tellSpire_1 17 rfl rfl)
theorem dX3_tellSpire_40 : decode cX3_tellSpire 40 = .ok (.iload_n 1, 1) := dk_27 (dk_at dksX3_tellSpire_1 18 rfl rfl)
theorem dX3_tellSpire_41 : decode cX3_tellSpire 41 = .ok (.invokevirtual 305, 3) := dk_182 1 49 (dk_at dksX3_tellSpire_1 19 rfl rfl)
theorem dX3_tellSpire_44 : decode cX3_tellSpire 44 = .ok (.aload_n 0, 1) := dk_42 (dk_at dksX3_tellSpire_1 22 rfl rfl)
theorem dX3_tellSpire_45 : decode cX3_tellSpire 45 = .ok (.bipush 64, 2) := dk_16 64 (dk_at dksX3_tellSpire_2 0 rfl rfl)
theorem dX3_tellSpire_47 : decode cX3_tellSpire 47 = .ok (.invokevirtual 308, 3) := dk_182 1 52 (dk_at dksX3_tellSpire_2 2 rfl rfl)
theorem dX3_tellSpire_50 : decode cX3_tellSpire 50 = .ok (.aload_n 0, 1) := dk_42 (dk_at dksX3_tellSpire_2 5 rfl rfl)
theorem dX3_tellSpire_51 : decode cX3_tellSpire 51 = .ok (.aload_n 0, 1) := dk_42 (dk_at dksX3_tellSpire_2 6 rfl rfl)
theorem dX3_tellSpire_52 : decode cX3_tellSpire 52 = .ok (.getfield 9, 3) := dk_180 0 9 (dk_at dksX3_tellSpire_2 7 rfl rfl)
theorem dX3_tellSpire_55 : decode cX3_tellSpire 55 = .ok (.bipush 67, 2) := dk_16 67 (dk_at dksX3_tellSpire_2 10 rfl rfl)
theorem dX3_tellSpire_57 : decode cX3_tellSpire 57 = .ok (.iconst 4, 1) := dk_7 (dk_at dksX3_tellSpire_2 12 rfl rfl)
theorem dX3_tellSpire_58 : decode cX3_tellSpire 58 = .ok (.iload_n 1, 1) := dk_27 (dk_at dksX3_tellSpire_2 13 rfl rfl)
theorem dX3_tellSpire_59 : decode cX3_tellSpire 59 = .ok (.imul, 1) := dk_104 (dk_at dksX3_tellSpire_2 14 rfl rfl)
theorem dX3_tellSpire_60 : decode cX3_tellSpire 60 = .ok (.iadd, 1) := dk_96 (dk_at dksX3_tellSpire_2 15 rfl rfl)
theorem dX3_tellSpire_61 : decode cX3_tellSpire 61 = .ok (.iaload, 1) := dk_46 (dk_at dksX3_tellSpire_2 16 rfl rfl)
theorem dX3_tellSpire_62 : decode cX3_tellSpire 62 = .ok (.invokevirtual 305, 3) := dk_182 1 49 (dk_at dksX3_tellSpire_2 17 rfl rfl)
theorem dX3_tellSpire_65 : decode cX3_tellSpire 65 = .ok (.aload_n 0, 1) := dk_42 (dk_at dksX3_tellSpire_2 20 rfl rfl)
theorem dX3_tellSpire_66 : decode cX3_tellSpire 66 = .ok (.aload_n 0, 1) := dk_42 (dk_at dksX3_tellSpire_2 21 rfl rfl)
theorem dX3_tellSpire_67 : decode cX3_tellSpire 67 = .ok (.getfield 9, 3) := dk_180 0 9 (dk_at dksX3_tellSpire_3 0 rfl rfl)
theorem dX3_tellSpire_70 : decode cX3_tellSpire 70 = .ok (.bipush 67, 2) := dk_16 67 (dk_at dksX3_tellSpire_3 3 rfl rfl)
theorem dX3_tellSpire_72 : decode cX3_tellSpire 72 = .ok (.iconst 4, 1) := dk_7 (dk_at dksX3_tellSpire_3 5 rfl rfl)
theorem dX3_tellSpire_73 : decode cX3_tellSpire 73 = .ok (.iload_n 1, 1) := dk_27 (dk_at dksX3_tellSpire_3 6 rfl rfl)
theorem dX3_tellSpire_74 : decode cX3_tellSpire 74 = .ok (.imul, 1) := dk_104 (dk_at dksX3_tellSpire_3 7 rfl rfl)
theorem dX3_tellSpire_75 : decode cX3_tellSpire 75 = .ok (.iadd, 1) := dk_96 (dk_at dksX3_tellSpire_3 8 rfl rfl)
theorem dX3_tellSpire_76 : decode cX3_tellSpire 76 = .ok (.iconst 1, 1) := dk_4 (dk_at dksX3_tellSpire_3 9 rfl rfl)
theorem dX3_tellSpire_77 : decode cX3_tellSpire 77 = .ok (.iadd, 1) := dk_96 (dk_at dksX3_tellSpire_3 10 rfl rfl)
theorem dX3_tellSpire_78 : decode cX3_tellSpire 78 = .ok (.iaload, 1) := dk_46 (dk_at dksX3_tellSpire_3 11 rfl rfl)
theorem dX3_tellSpire_79 : decode cX3_tellSpire 79 = .ok (.invokevirtual 305, 3) := dk_182 1 49 (dk_at dksX3_tellSpire_3 12 rfl rfl)
theorem dX3_tellSpire_82 : decode cX3_tellSpire 82 = .ok (.aload_n 0, 1) := dk_42 (dk_at dksX3_tellSpire_3 15 rfl rfl)
theorem dX3_tellSpire_83 : decode cX3_tellSpire 83 = .ok (.ldc_w 269, 3) := dk_19 1 13 (dk_at dksX3_tellSpire_3 16 rfl rfl)
theorem dX3_tellSpire_86 : decode cX3_tellSpire 86 = .ok (.aload_n 0, 1) := dk_42 (dk_at dksX3_tellSpire_3 19 rfl rfl)
theorem dX3_tellSpire_87 : decode cX3_tellSpire 87 = .ok (.getfield 9, 3) := dk_180 0 9 (dk_at dksX3_tellSpire_3 20 rfl rfl)
theorem dX3_tellSpire_90 : decode cX3_tellSpire 90 = .ok (.bipush 67, 2) := dk_16 67 (dk_at dksX3_tellSpire_4 0 rfl rfl)
theorem dX3_tellSpire_92 : decode cX3_tellSpire 92 = .ok (.iconst 4, 1) := dk_7 (dk_at dksX3_tellSpire_4 2 rfl rfl)
theorem dX3_tellSpire_93 : decode cX3_tellSpire 93 = .ok (.iload_n 1, 1) := dk_27 (dk_at dksX3_tellSpire_4 3 rfl rfl)
theorem dX3_tellSpire_94 : decode cX3_tellSpire 94 = .ok (.imul, 1) := dk_104 (dk_at dksX3_tellSpire_4 4 rfl rfl)
theorem dX3_tellSpire_95 : decode cX3_tellSpire 95 = .ok (.iadd, 1) := dk_96 (dk_at dksX3_tellSpire_4 5 rfl rfl)
theorem dX3_tellSpire_96 : decode cX3_tellSpire 96 = .ok (.iconst 2, 1) := dk_5 (dk_at dksX3_tellSpire_4 6 rfl rfl)
theorem dX3_tellSpire_97 : decode cX3_tellSpire 97 = .ok (.iadd, 1) := dk_96 (dk_at dksX3_tellSpire_4 7 rfl rfl)
theorem dX3_tellSpire_98 : decode cX3_tellSpire 98 = .ok (.iaload, 1) := dk_46 (dk_at dksX3_tellSpire_4 8 rfl rfl)
theorem dX3_tellSpire_99 : decode cX3_tellSpire 99 = .ok (.invokevirtual 229, 3) := dk_182 0 229 (dk_at dksX3_tellSpire_4 9 rfl rfl)
theorem dX3_tellSpire_102 : decode cX3_tellSpire 102 = .ok (.invokevirtual 308, 3) := dk_182 1 52 (dk_at dksX3_tellSpire_4 12 rfl rfl)
theorem dX3_tellSpire_105 : decode cX3_tellSpire 105 = .ok (.aload_n 0, 1) := dk_42 (dk_at dksX3_tellSpire_4 15 rfl rfl)
theorem dX3_tellSpire_106 : decode cX3_tellSpire 106 = .ok (.getfield 302, 3) := dk_180 1 46 (dk_at dksX3_tellSpire_4 16 rfl rfl)
theorem dX3_tellSpire_109 : decode cX3_tellSpire 109 = .ok (.ireturn, 1) := dk_172 (dk_at dksX3_tellSpire_4 19 rfl rfl)
def dkwX3_tellWinds_2 : List UInt8 := [172]
abbrev dktX3_tellWinds_2 : List UInt8 := dkwX3_tellWinds_2 ++ []
def dkwX3_tellWinds_1 : List UInt8 := [180, 0, 9, 16, 8, 27, 96, 46, 182, 0, 229, 182, 1, 52, 132, 1, 1, 167, 255, 229, 42, 180, 1, 46]
abbrev dktX3_tellWinds_1 : List UInt8 := dkwX3_tellWinds_1 ++ dktX3_tellWinds_2
def dkwX3_tellWinds_0 : List UInt8 := [42, 3, 181, 0, 49, 42, 3, 181, 1, 46, 3, 60, 27, 8, 162, 0, 28, 42, 19, 1, 13, 42]
abbrev dktX3_tellWinds_0 : List UInt8 := dkwX3_tellWinds_0 ++ dktX3_tellWinds_1
theorem dksX3_tellWinds_0 : cX3_tellWinds.data.toList.drop 0 = dktX3_tellWinds_0 := by decide +kernel
theorem dksX3_tellWinds_1 : cX3_tellWinds.data.toList.drop 22 = dktX3_tellWinds_1 := dk_seg dksX3_tellWinds_0 22 rfl rfl
theorem dksX3_tellWinds_2 : cX3_tellWinds.data.toList.drop 46 = dktX3_tellWinds_2 := dk_seg dksX3_tellWinds_1 24 rfl rfl
theorem dX3_tellWinds_0 : decode cX3_tellWinds 0 = .ok (.aload_n 0, 1) := dk_42 (dk_at dksX3_tellWinds_0 0 rfl rfl)
theorem dX3_tellWinds_1 : decode cX3_tellWinds 1 = .ok (.iconst 0, 1) := dk_3 (dk_at dksX3_tellWinds_0 1 rfl rfl)
theorem dX3_tellWinds_2 : decode cX3_tellWinds 2 = .ok (.putfield 49, 3) := dk_181 0 49 (dk_at dksX3_tellWinds_0 2 rfl rfl)
theorem dX3_tellWinds_5 : decode cX3_tellWinds 5 = .ok (.aload_n 0, 1) := dk_42 (dk_at dksX3_tellWinds_0 5 rfl rfl)
theorem dX3_tellWinds_6 : decode cX3_tellWinds 6 = .ok (.iconst 0, 1) := dk_3 (dk_at dksX3_tellWinds_0 6 rfl rfl)
theorem dX3_tellWinds_7 : decode cX3_tellWinds 7 = .ok (.putfield 302, 3) := dk_181 1 46 (dk_at dksX3_tellWinds_0 7 rfl rfl)
theorem dX3_tellWinds_10 : decode cX3_tellWinds 10 = .ok (.iconst 0, 1) := dk_3 (dk_at dksX3_tellWinds_0 10 rfl rfl)
theorem dX3_tellWinds_11 : decode cX3_tellWinds 11 = .ok (.istore_n 1, 1) := dk_60 (dk_at dksX3_tellWinds_0 11 rfl rfl)
theorem dX3_tellWinds_12 : decode cX3_tellWinds 12 = .ok (.iload_n 1, 1) := dk_27 (dk_at dksX3_tellWinds_0 12 rfl rfl)
theorem dX3_tellWinds_13 : decode cX3_tellWinds 13 = .ok (.iconst 5, 1) := dk_8 (dk_at dksX3_tellWinds_0 13 rfl rfl)
theorem dX3_tellWinds_14 : decode cX3_tellWinds 14 = .ok (.if_icmp .ge 28, 3) := dk_162 0 28 (dk_at dksX3_tellWinds_0 14 rfl rfl)
theorem dX3_tellWinds_17 : decode cX3_tellWinds 17 = .ok (.aload_n 0, 1) := dk_42 (dk_at dksX3_tellWinds_0 17 rfl rfl)
theorem dX3_tellWinds_18 : decode cX3_tellWinds 18 = .ok (.ldc_w 269, 3) := dk_19 1 13 (dk_at dksX3_tellWinds_0 18 rfl rfl)
theorem dX3_tellWinds_21 : decode cX3_tellWinds 21 = .ok (.aload_n 0, 1) := dk_42 (dk_at dksX3_tellWinds_0 21 rfl rfl)
theorem dX3_tellWinds_22 : decode cX3_tellWinds 22 = .ok (.getfield 9, 3) := dk_180 0 9 (dk_at dksX3_tellWinds_1 0 rfl rfl)
theorem dX3_tellWinds_25 : decode cX3_tellWinds 25 = .ok (.bipush 8, 2) := dk_16 8 (dk_at dksX3_tellWinds_1 3 rfl rfl)
theorem dX3_tellWinds_27 : decode cX3_tellWinds 27 = .ok (.iload_n 1, 1) := dk_27 (dk_at dksX3_tellWinds_1 5 rfl rfl)
theorem dX3_tellWinds_28 : decode cX3_tellWinds 28 = .ok (.iadd, 1) := dk_96 (dk_at dksX3_tellWinds_1 6 rfl rfl)
theorem dX3_tellWinds_29 : decode cX3_tellWinds 29 = .ok (.iaload, 1) := dk_46 (dk_at dksX3_tellWinds_1 7 rfl rfl)
theorem dX3_tellWinds_30 : decode cX3_tellWinds 30 = .ok (.invokevirtual 229, 3) := dk_182 0 229 (dk_at dksX3_tellWinds_1 8 rfl rfl)
theorem dX3_tellWinds_33 : decode cX3_tellWinds 33 = .ok (.invokevirtual 308, 3) := dk_182 1 52 (dk_at dksX3_tellWinds_1 11 rfl rfl)
theorem dX3_tellWinds_36 : decode cX3_tellWinds 36 = .ok (.iinc 1 1, 3) := dk_132 1 1 (dk_at dksX3_tellWinds_1 14 rfl rfl)
theorem dX3_tellWinds_39 : decode cX3_tellWinds 39 = .ok (.goto (-27), 3) := dk_167 255 229 (dk_at dksX3_tellWinds_1 17 rfl rfl)
theorem dX3_tellWinds_42 : decode cX3_tellWinds 42 = .ok (.aload_n 0, 1) := dk_42 (dk_at dksX3_tellWinds_1 20 rfl rfl)
theorem dX3_tellWinds_43 : decode cX3_tellWinds 43 = .ok (.getfield 302, 3) := dk_180 1 46 (dk_at dksX3_tellWinds_1 21 rfl rfl)
theorem dX3_tellWinds_46 : decode cX3_tellWinds 46 = .ok (.ireturn, 1) := dk_172 (dk_at dksX3_tellWinds_2 0 rfl rfl)
def dkwX3_character_1 : List UInt8 := [180, 0, 49, 158, 0, 8, 16, 32, 167, 0, 9, 42, 180, 0, 46, 27, 52, 172]
abbrev dktX3_character_1 : List UInt8 := dkwX3_character_1 ++ []
def dkwX3_character_0 : List UInt8 := [42, 27, 3, 42, 180, 1, 46, 4, 100, 184, 0, 61, 153, 0, 7, 3, 167, 0, 4, 4, 181, 0, 49, 42]
abbrev dktX3_character_0 : List UInt8 := dkwX3_character_0 ++ dktX3_character_1
theorem dksX3_character_0 : cX3_character.data.toList.drop 0 = dktX3_character_0 := by decide +kernel
theorem dksX3_character_1 : cX3_character.data.toList.drop 24 = dktX3_character_1 := dk_seg dksX3_character_0 24 rfl rfl
theorem dX3_character_0 : decode cX3_character 0 = .ok (.aload_n 0, 1) := dk_42 (dk_at dksX3_character_0 0 rfl rfl)
theorem dX3_character_1 : decode cX3_character 1 = .ok (.iload_n 1, 1) := dk_27 (dk_at dksX3_character_0 1 rfl rfl)
theorem dX3_character_2 : decode cX3_character 2 = .ok (.iconst 0, 1) := dk_3 (dk_at dksX3_character_0 2 rfl rfl)
theorem dX3_character_3 : decode cX3_character 3 = .ok (.aload_n 0, 1) := dk_42 (dk_at dksX3_character_0 3 rfl rfl)
theorem dX3_character_4 : decode cX3_character 4 = .ok (.getfield 302, 3) := dk_180 1 46 (dk_at dksX3_character_0 4 rfl rfl)
theorem dX3_character_7 : decode cX3_character 7 = .ok (.iconst 1, 1) := dk_4 (dk_at dksX3_character_0 7 rfl rfl)
theorem dX3_character_8 : decode cX3_character 8 = .ok (.isub, 1) := dk_100 (dk_at dksX3_character_0 8 rfl rfl)
theorem dX3_character_9 : decode cX3_character 9 = .ok (.invokestatic 61, 3) := dk_184 0 61 (dk_at dksX3_character_0 9 rfl rfl)
theorem dX3_character_12 : decode cX3_character 12 = .ok (.ifCond .eq 7, 3) := dk_153 0 7 (dk_at dksX3_character_0 12 rfl rfl)
theorem dX3_character_15 : decode cX3_character 15 = .ok (.iconst 0, 1) := dk_3 (dk_at dksX3_character_0 15 rfl rfl)
theorem dX3_character_16 : decode cX3_character 16 = .ok (.goto 4, 3) := dk_167 0 4 (dk_at dksX3_character_0 16 rfl rfl)
theorem dX3_character_19 : decode cX3_character 19 = .ok (.iconst 1, 1) := dk_4 (dk_at dksX3_character_0 19 rfl rfl)
theorem dX3_character_20 : decode cX3_character 20 = .ok (.putfield 49, 3) := dk_181 0 49 (dk_at dksX3_character_0 20 rfl rfl)
theorem dX3_character_23 : decode cX3_character 23 = .ok (.aload_n 0, 1) := dk_42 (dk_at dksX3_character_0 23 rfl rfl)
theorem dX3_character_24 : decode cX3_character 24 = .ok (.getfield 49, 3) := dk_180 0 49 (dk_at dksX3_character_1 0 rfl rfl)
theorem dX3_character_27 : decode cX3_character 27 = .ok (.ifCond .le 8, 3) := dk_158 0 8 (dk_at dksX3_character_1 3 rfl rfl)
theorem dX3_character_30 : decode cX3_character 30 = .ok (.bipush 32, 2) := dk_16 32 (dk_at dksX3_character_1 6 rfl rfl)
theorem dX3_character_32 : decode cX3_character 32 = .ok (.goto 9, 3) := dk_167 0 9 (dk_at dksX3_character_1 8 rfl rfl)
theorem dX3_character_35 : decode cX3_character 35 = .ok (.aload_n 0, 1) := dk_42 (dk_at dksX3_character_1 11 rfl rfl)
theorem dX3_character_36 : decode cX3_character 36 = .ok (.getfield 46, 3) := dk_180 0 46 (dk_at dksX3_character_1 12 rfl rfl)
theorem dX3_character_39 : decode cX3_character 39 = .ok (.iload_n 1, 1) := dk_27 (dk_at dksX3_character_1 15 rfl rfl)
theorem dX3_character_40 : decode cX3_character 40 = .ok (.caload, 1) := dk_52 (dk_at dksX3_character_1 16 rfl rfl)
theorem dX3_character_41 : decode cX3_character 41 = .ok (.ireturn, 1) := dk_172 (dk_at dksX3_character_1 17 rfl rfl)
def dkwX3_account_6 : List UInt8 := [27, 96, 6, 100, 46, 172]
abbrev dktX3_account_6 : List UInt8 := dkwX3_account_6 ++ []
def dkwX3_account_5 : List UInt8 := [182, 1, 61, 172, 42, 182, 1, 65, 172, 42, 180, 0, 210, 172, 42, 180, 0, 58, 172, 42, 180, 0, 9, 5]
abbrev dktX3_account_5 : List UInt8 := dkwX3_account_5 ++ dktX3_account_6
def dkwX3_account_4 : List UInt8 := [182, 1, 61, 172, 42, 180, 0, 9, 16, 6, 46, 172, 42, 180, 0, 9, 16, 7, 46, 172, 42, 16, 8, 3]
abbrev dktX3_account_4 : List UInt8 := dkwX3_account_4 ++ dktX3_account_5
def dkwX3_account_3 : List UInt8 := [42, 180, 0, 9, 3, 46, 172, 42, 5, 3, 182, 1, 61, 172, 42, 180, 0, 9, 4, 46, 172, 42, 6, 4]
abbrev dktX3_account_3 : List UInt8 := dkwX3_account_3 ++ dktX3_account_4
def dkwX3_account_2 : List UInt8 := [170, 0, 0, 0, 0, 0, 138, 0, 0, 0, 0, 0, 0, 0, 13, 0, 0, 0, 71, 0, 0, 0, 78, 0, 0, 0, 85, 0, 0, 0, 138, 0, 0, 0, 138, 0, 0, 0, 138, 0, 0, 0, 138, 0, 0, 0, 92, 0, 0, 0, 99, 0, 0, 0, 107, 0, 0, 0, 115, 0, 0, 0, 123, 0, 0, 0, 128, 0, 0, 0, 133]
abbrev dktX3_account_2 : List UInt8 := dkwX3_account_2 ++ dktX3_account_3
def dkwX3_account_1 : List UInt8 := [158, 0, 5, 3, 172, 27]
abbrev dktX3_account_1 : List UInt8 := dkwX3_account_1 ++ dktX3_account_2
def dkwX3_account_0 : List UInt8 := [42, 27, 3, 16, 13, 184, 0, 61, 153, 0, 7, 3, 167, 0, 4, 4, 181, 0, 49, 42, 180, 0, 49]
abbrev dktX3_account_0 : List UInt8 := dkwX3_account_0 ++ dktX3_account_1
theorem dksX3_account_0 : cX3_account.data.toList.drop 0 = dktX3_account_0 := by decide +kernel
theorem dksX3_account_1 : cX3_account.data.toList.drop 23 = dktX3_account_1 := dk_seg dksX3_account_0 23 rfl rfl
theorem dksX3_account_2 : cX3_account.data.toList.drop 29 = dktX3_account_2 := dk_seg dksX3_account_1 6 rfl rfl
theorem dksX3_account_3 : cX3_account.data.toList.drop 100 = dktX3_account_3 := dk_seg dksX3_account_2 71 rfl rfl
theorem dksX3_account_4 : cX3_account.data.toList.drop 124 = dktX3_account_4 := dk_seg dksX3_account_3 24 rfl rfl
theorem dksX3_account_5 : cX3_account.data.toList.drop 148 = dktX3_account_5 := dk_seg dksX3_account_4 24 rfl rfl
theorem dksX3_account_6 : cX3_account.data.toList.drop 172 = dktX3_account_6 := dk_seg dksX3_account_5 24 rfl rfl
theorem dX3_account_0 : decode cX3_account 0 = .ok (.aload_n 0, 1) := dk_42 (dk_at dksX3_account_0 0 rfl rfl)
theorem dX3_account_1 : decode cX3_account 1 = .ok (.iload_n 1, 1) := dk_27 (dk_at dksX3_account_0 1 rfl rfl)
theorem dX3_account_2 : decode cX3_account 2 = .ok (.iconst 0, 1) := dk_3 (dk_at dksX3_account_0 2 rfl rfl)
theorem dX3_account_3 : decode cX3_account 3 = .ok (.bipush 13, 2) := dk_16 13 (dk_at dksX3_account_0 3 rfl rfl)
theorem dX3_account_5 : decode cX3_account 5 = .ok (.invokestatic 61, 3) := dk_184 0 61 (dk_at dksX3_account_0 5 rfl rfl)
theorem dX3_account_8 : decode cX3_account 8 = .ok (.ifCond .eq 7, 3) := dk_153 0 7 (dk_at dksX3_account_0 8 rfl rfl)
theorem dX3_account_11 : decode cX3_account 11 = .ok (.iconst 0, 1) := dk_3 (dk_at dksX3_account_0 11 rfl rfl)
theorem dX3_account_12 : decode cX3_account 12 = .ok (.goto 4, 3) := dk_167 0 4 (dk_at dksX3_account_0 12 rfl rfl)
theorem dX3_account_15 : decode cX3_account 15 = .ok (.iconst 1, 1) := dk_4 (dk_at dksX3_account_0 15 rfl rfl)
theorem dX3_account_16 : decode cX3_account 16 = .ok (.putfield 49, 3) := dk_181 0 49 (dk_at dksX3_account_0 16 rfl rfl)
theorem dX3_account_19 : decode cX3_account 19 = .ok (.aload_n 0, 1) := dk_42 (dk_at dksX3_account_0 19 rfl rfl)
theorem dX3_account_20 : decode cX3_account 20 = .ok (.getfield 49, 3) := dk_180 0 49 (dk_at dksX3_account_0 20 rfl rfl)
theorem dX3_account_23 : decode cX3_account 23 = .ok (.ifCond .le 5, 3) := dk_158 0 5 (dk_at dksX3_account_1 0 rfl rfl)
theorem dX3_account_26 : decode cX3_account 26 = .ok (.iconst 0, 1) := dk_3 (dk_at dksX3_account_1 3 rfl rfl)
theorem dX3_account_27 : decode cX3_account 27 = .ok (.ireturn, 1) := dk_172 (dk_at dksX3_account_1 4 rfl rfl)
theorem dX3_account_28 : decode cX3_account 28 = .ok (.iload_n 1, 1) := dk_27 (dk_at dksX3_account_1 5 rfl rfl)
theorem dX3_account_29 : decode cX3_account 29 = .ok (.tableswitch 138 0 13 #[71, 78, 85, 138, 138, 138, 138, 92, 99, 107, 115, 123, 128, 133], 71) := by decide +kernel
theorem dX3_account_100 : decode cX3_account 100 = .ok (.aload_n 0, 1) := dk_42 (dk_at dksX3_account_3 0 rfl rfl)
theorem dX3_account_101 : decode cX3_account 101 = .ok (.getfield 9, 3) := dk_180 0 9 (dk_at dksX3_account_3 1 rfl rfl)
theorem dX3_account_104 : decode cX3_account 104 = .ok (.iconst 0, 1) := dk_3 (dk_at dksX3_account_3 4 rfl rfl)
theorem dX3_account_105 : decode cX3_account 105 = .ok (.iaload, 1) := dk_46 (dk_at dksX3_account_3 5 rfl rfl)
theorem dX3_account_106 : decode cX3_account 106 = .ok (.ireturn, 1) := dk_172 (dk_at dksX3_account_3 6 rfl rfl)
theorem dX3_account_107 : decode cX3_account 107 = .ok (.aload_n 0, 1) := dk_42 (dk_at dksX3_account_3 7 rfl rfl)
theorem dX3_account_108 : decode cX3_account 108 = .ok (.iconst 2, 1) := dk_5 (dk_at dksX3_account_3 8 rfl rfl)
theorem dX3_account_109 : decode cX3_account 109 = .ok (.iconst 0, 1) := dk_3 (dk_at dksX3_account_3 9 rfl rfl)
theorem dX3_account_110 : decode cX3_account 110 = .ok (.invokevirtual 317, 3) := dk_182 1 61 (dk_at dksX3_account_3 10 rfl rfl)
theorem dX3_account_113 : decode cX3_account 113 = .ok (.ireturn, 1) := dk_172 (dk_at dksX3_account_3 13 rfl rfl)
theorem dX3_account_114 : decode cX3_account 114 = .ok (.aload_n 0, 1) := dk_42 (dk_at dksX3_account_3 14 rfl rfl)
theorem dX3_account_115 : decode cX3_account 115 = .ok (.getfield 9, 3) := dk_180 0 9 (dk_at dksX3_account_3 15 rfl rfl)
theorem dX3_account_118 : decode cX3_account 118 = .ok (.iconst 1, 1) := dk_4 (dk_at dksX3_account_3 18 rfl rfl)
theorem dX3_account_119 : decode cX3_account 119 = .ok (.iaload, 1) := dk_46 (dk_at dksX3_account_3 19 rfl rfl)
theorem dX3_account_120 : decode cX3_account 120 = .ok (.ireturn, 1) := dk_172 (dk_at dksX3_account_3 20 rfl rfl)
theorem dX3_account_121 : decode cX3_account 121 = .ok (.aload_n 0, 1) := dk_42 (dk_at dksX3_account_3 21 rfl rfl)
theorem dX3_account_122 : decode cX3_account 122 = .ok (.iconst 3, 1) := dk_6 (dk_at dksX3_account_3 22 rfl rfl)
theorem dX3_account_123 : decode cX3_account 123 = .ok (.iconst 1, 1) := dk_4 (dk_at dksX3_account_3 23 rfl rfl)
theorem dX3_account_124 : decode cX3_account 124 = .ok (.invokevirtual 317, 3) := dk_182 1 61 (dk_at dksX3_account_4 0 rfl rfl)
theorem dX3_account_127 : decode cX3_account 127 = .ok (.ireturn, 1) := dk_172 (dk_at dksX3_account_4 3 rfl rfl)
theorem dX3_account_128 : decode cX3_account 128 = .ok (.aload_n 0, 1) := dk_42 (dk_at dksX3_account_4 4 rfl rfl)
theorem dX3_account_129 : decode cX3_account 129 = .ok (.getfield 9, 3) := dk_180 0 9 (dk_at dksX3_account_4 5 rfl rfl)
theorem dX3_account_132 : decode cX3_account 132 = .ok (.bipush 6, 2) := dk_16 6 (dk_at dksX3_account_4 8 rfl rfl)
theorem dX3_account_134 : decode cX3_account 134 = .ok (.iaload, 1) := dk_46 (dk_at dksX3_account_4 10 rfl rfl)
theorem dX3_account_135 : decode cX3_account 135 = .ok (.ireturn, 1) := dk_172 (dk_at dksX3_account_4 11 rfl rfl)
theorem dX3_account_136 : decode cX3_account 136 = .ok (.aload_n 0, 1) := dk_42 (dk_at dksX3_account_4 12 rfl rfl)
theorem dX3_account_137 : decode cX3_account 137 = .ok (.getfield 9, 3) := dk_180 0 9 (dk_at dksX3_account_4 13 rfl rfl)
theorem dX3_account_140 : decode cX3_account 140 = .ok (.bipush 7, 2) := dk_16 7 (dk_at dksX3_account_4 16 rfl rfl)
theorem dX3_account_142 : decode cX3_account 142 = .ok (.iaload, 1) := dk_46 (dk_at dksX3_account_4 18 rfl rfl)
theorem dX3_account_143 : decode cX3_account 143 = .ok (.ireturn, 1) := dk_172 (dk_at dksX3_account_4 19 rfl rfl)
theorem dX3_account_144 : decode cX3_account 144 = .ok (.aload_n 0, 1) := dk_42 (dk_at dksX3_account_4 20 rfl rfl)
theorem dX3_account_145 : decode cX3_account 145 = .ok (.bipush 8, 2) := dk_16 8 (dk_at dksX3_account_4 21 rfl rfl)
theorem dX3_account_147 : decode cX3_account 147 = .ok (.iconst 0, 1) := dk_3 (dk_at dksX3_account_4 23 rfl rfl)
theorem dX3_account_148 : decode cX3_account 148 = .ok (.invokevirtual 317, 3) := dk_182 1 61 (dk_at dksX3_account_5 0 rfl rfl)
theorem dX3_account_151 : decode cX3_account 151 = .ok (.ireturn, 1) := dk_172 (dk_at dksX3_account_5 3 rfl rfl)
theorem dX3_account_152 : decode cX3_account 152 = .ok (.aload_n 0, 1) := dk_42 (dk_at dksX3_account_5 4 rfl rfl)
theorem dX3_account_153 : decode cX3_account 153 = .ok (.invokevirtual 321, 3) := dk_182 1 65 (dk_at dksX3_account_5 5 rfl rfl)
theorem dX3_account_156 : decode cX3_account 156 = .ok (.ireturn, 1) := dk_172 (dk_at dksX3_account_5 8 rfl rfl)
theorem dX3_account_157 : decode cX3_account 157 = .ok (.aload_n 0, 1) := dk_42 (dk_at dksX3_account_5 9 rfl rfl)
theorem dX3_account_158 : decode cX3_account 158 = .ok (.getfield 210, 3) := dk_180 0 210 (dk_at dksX3_account_5 10 rfl rfl)
theorem dX3_account_161 : decode cX3_account 161 = .ok (.ireturn, 1) := dk_172 (dk_at dksX3_account_5 13 rfl rfl)
theorem dX3_account_162 : decode cX3_account 162 = .ok (.aload_n 0, 1) := dk_42 (dk_at dksX3_account_5 14 rfl rfl)
theorem dX3_account_163 : decode cX3_account 163 = .ok (.getfield 58, 3) := dk_180 0 58 (dk_at dksX3_account_5 15 rfl rfl)
theorem dX3_account_166 : decode cX3_account 166 = .ok (.ireturn, 1) := dk_172 (dk_at dksX3_account_5 18 rfl rfl)
theorem dX3_account_167 : decode cX3_account 167 = .ok (.aload_n 0, 1) := dk_42 (dk_at dksX3_account_5 19 rfl rfl)
theorem dX3_account_168 : decode cX3_account 168 = .ok (.getfield 9, 3) := dk_180 0 9 (dk_at dksX3_account_5 20 rfl rfl)
theorem dX3_account_171 : decode cX3_account 171 = .ok (.iconst 2, 1) := dk_5 (dk_at dksX3_account_5 23 rfl rfl)
theorem dX3_account_172 : decode cX3_account 172 = .ok (.iload_n 1, 1) := dk_27 (dk_at dksX3_account_6 0 rfl rfl)
theorem dX3_account_173 : decode cX3_account 173 = .ok (.iadd, 1) := dk_96 (dk_at dksX3_account_6 1 rfl rfl)
theorem dX3_account_174 : decode cX3_account 174 = .ok (.iconst 3, 1) := dk_6 (dk_at dksX3_account_6 2 rfl rfl)
theorem dX3_account_175 : decode cX3_account 175 = .ok (.isub, 1) := dk_100 (dk_at dksX3_account_6 3 rfl rfl)
theorem dX3_account_176 : decode cX3_account 176 = .ok (.iaload, 1) := dk_46 (dk_at dksX3_account_6 4 rfl rfl)
theorem dX3_account_177 : decode cX3_account 177 = .ok (.ireturn, 1) := dk_172 (dk_at dksX3_account_6 5 rfl rfl)
def dkwX3_all_2 : List UInt8 := [132, 4, 1, 167, 255, 210, 29, 172]
abbrev dktX3_all_2 : List UInt8 := dkwX3_all_2 ++ []
def dkwX3_all_1 : List UInt8 := [27, 182, 0, 76, 167, 0, 18, 42, 21, 4, 27, 182, 0, 76, 158, 0, 7, 4, 167, 0, 4, 3, 96, 62]
abbrev dktX3_all_1 : List UInt8 := dkwX3_all_1 ++ dktX3_all_2
def dkwX3_all_0 : List UInt8 := [3, 62, 3, 54, 4, 21, 4, 42, 180, 0, 9, 3, 46, 162, 0, 41, 29, 28, 153, 0, 13, 42, 21, 4]
abbrev dktX3_all_0 : List UInt8 := dkwX3_all_0 ++ dktX3_all_1
theorem dksX3_all_0 : cX3_all.data.toList.drop 0 = dktX3_all_0 := by decide +kernel
theorem dksX3_all_1 : cX3_all.data.toList.drop 24 = dktX3_all_1 := dk_seg dksX3_all_0 24 rfl rfl
theorem dksX3_all_2 : cX3_all.data.toList.drop 48 = dktX3_all_2 := dk_seg dksX3_all_1 24 rfl rfl
theorem dX3_all_0 : decode cX3_all 0 = .ok (.iconst 0, 1) := dk_3 (dk_at dksX3_all_0 0 rfl rfl)
theorem dX3_all_1 : decode cX3_all 1 = .ok (.istore_n 3, 1) := dk_62 (dk_at dksX3_all_0 1 rfl rfl)
theorem dX3_all_2 : decode cX3_all 2 = .ok (.iconst 0, 1) := dk_3 (dk_at dksX3_all_0 2 rfl rfl)
theorem dX3_all_3 : decode cX3_all 3 = .ok (.istore 4, 2) := dk_54 4 (dk_at dksX3_all_0 3 rfl rfl)
theorem dX3_all_5 : decode cX3_all 5 = .ok (.iload 4, 2) := dk_21 4 (dk_at dksX3_all_0 5 rfl rfl)
theorem dX3_all_7 : decode cX3_all 7 = .ok (.aload_n 0, 1) := dk_42 (dk_at dksX3_all_0 7 rfl rfl)
theorem dX3_all_8 : decode cX3_all 8 = .ok (.getfield 9, 3) := dk_180 0 9 (dk_at dksX3_all_0 8 rfl rfl)
theorem dX3_all_11 : decode cX3_all 11 = .ok (.iconst 0, 1) := dk_3 (dk_at dksX3_all_0 11 rfl rfl)
theorem dX3_all_12 : decode cX3_all 12 = .ok (.iaload, 1) := dk_46 (dk_at dksX3_all_0 12 rfl rfl)
theorem dX3_all_13 : decode cX3_all 13 = .ok (.if_icmp .ge 41, 3) := dk_162 0 41 (dk_at dksX3_all_0 13 rfl rfl)
theorem dX3_all_16 : decode cX3_all 16 = .ok (.iload_n 3, 1) := dk_29 (dk_at dksX3_all_0 16 rfl rfl)
theorem dX3_all_17 : decode cX3_all 17 = .ok (.iload_n 2, 1) := dk_28 (dk_at dksX3_all_0 17 rfl rfl)
theorem dX3_all_18 : decode cX3_all 18 = .ok (.ifCond .eq 13, 3) := dk_153 0 13 (dk_at dksX3_all_0 18 rfl rfl)
theorem dX3_all_21 : decode cX3_all 21 = .ok (.aload_n 0, 1) := dk_42 (dk_at dksX3_all_0 21 rfl rfl)
theorem dX3_all_22 : decode cX3_all 22 = .ok (.iload 4, 2) := dk_21 4 (dk_at dksX3_all_0 22 rfl rfl)
theorem dX3_all_24 : decode cX3_all 24 = .ok (.iload_n 1, 1) := dk_27 (dk_at dksX3_all_1 0 rfl rfl)
theorem dX3_all_25 : decode cX3_all 25 = .ok (.invokevirtual 76, 3) := dk_182 0 76 (dk_at dksX3_all_1 1 rfl rfl)
theorem dX3_all_28 : decode cX3_all 28 = .ok (.goto 18, 3) := dk_167 0 18 (dk_at dksX3_all_1 4 rfl rfl)
theorem dX3_all_31 : decode cX3_all 31 = .ok (.aload_n 0, 1) := dk_42 (dk_at dksX3_all_1 7 rfl rfl)
theorem dX3_all_32 : decode cX3_all 32 = .ok (.iload 4, 2) := dk_21 4 (dk_at dksX3_all_1 8 rfl rfl)
theorem dX3_all_34 : decode cX3_all 34 = .ok (.iload_n 1, 1) := dk_27 (dk_at dksX3_all_1 10 rfl rfl)
theorem dX3_all_35 : decode cX3_all 35 = .ok (.invokevirtual 76, 3) := dk_182 0 76 (dk_at dksX3_all_1 11 rfl rfl)
theorem dX3_all_38 : decode cX3_all 38 = .ok (.ifCond .le 7, 3) := dk_158 0 7 (dk_at dksX3_all_1 14 rfl rfl)
theorem dX3_all_41 : decode cX3_all 41 = .ok (.iconst 1, 1) := dk_4 (dk_at dksX3_all_1 17 rfl rfl)
theorem dX3_all_42 : decode cX3_all 42 = .ok (.goto 4, 3) := dk_167 0 4 (dk_at dksX3_all_1 18 rfl rfl)
theorem dX3_all_45 : decode cX3_all 45 = .ok (.iconst 0, 1) := dk_3 (dk_at dksX3_all_1 21 rfl rfl)
theorem dX3_all_46 : decode cX3_all 46 = .ok (.iadd, 1) := dk_96 (dk_at dksX3_all_1 22 rfl rfl)
theorem dX3_all_47 : decode cX3_all 47 = .ok (.istore_n 3, 1) := dk_62 (dk_at dksX3_all_1 23 rfl rfl)
theorem dX3_all_48 : decode cX3_all 48 = .ok (.iinc 4 1, 3) := dk_132 4 1 (dk_at dksX3_all_2 0 rfl rfl)
theorem dX3_all_51 : decode cX3_all 51 = .ok (.goto (-46), 3) := dk_167 255 210 (dk_at dksX3_all_2 3 rfl rfl)
theorem dX3_all_54 : decode cX3_all 54 = .ok (.iload_n 3, 1) := dk_29 (dk_at dksX3_all_2 6 rfl rfl)
theorem dX3_all_55 : decode cX3_all 55 = .ok (.ireturn, 1) := dk_172 (dk_at dksX3_all_2 7 rfl rfl)
def dkwX3_fees_1 : List UInt8 := [167, 0, 4, 3, 96, 60, 132, 2, 1, 167, 255, 227, 27, 172]
abbrev dktX3_fees_1 : List UInt8 := dkwX3_fees_1 ++ []
def dkwX3_fees_0 : List UInt8 := [3, 60, 3, 61, 28, 16, 100, 162, 0, 29, 27, 42, 180, 0, 9, 16, 87, 28, 96, 46, 158, 0, 7, 4]
abbrev dktX3_fees_0 : List UInt8 := dkwX3_fees_0 ++ dktX3_fees_1
theorem dksX3_fees_0 : cX3_fees.data.toList.drop 0 = dktX3_fees_0 := by decide +kernel
theorem dksX3_fees_1 : cX3_fees.data.toList.drop 24 = dktX3_fees_1 := dk_seg dksX3_fees_0 24 rfl rfl
theorem dX3_fees_0 : decode cX3_fees 0 = .ok (.iconst 0, 1) := dk_3 (dk_at dksX3_fees_0 0 rfl rfl)
theorem dX3_fees_1 : decode cX3_fees 1 = .ok (.istore_n 1, 1) := dk_60 (dk_at dksX3_fees_0 1 rfl rfl)
theorem dX3_fees_2 : decode cX3_fees 2 = .ok (.iconst 0, 1) := dk_3 (dk_at dksX3_fees_0 2 rfl rfl)
theorem dX3_fees_3 : decode cX3_fees 3 = .ok (.istore_n 2, 1) := dk_61 (dk_at dksX3_fees_0 3 rfl rfl)
theorem dX3_fees_4 : decode cX3_fees 4 = .ok (.iload_n 2, 1) := dk_28 (dk_at dksX3_fees_0 4 rfl rfl)
theorem dX3_fees_5 : decode cX3_fees 5 = .ok (.bipush 100, 2) := dk_16 100 (dk_at dksX3_fees_0 5 rfl rfl)
theorem dX3_fees_7 : decode cX3_fees 7 = .ok (.if_icmp .ge 29, 3) := dk_162 0 29 (dk_at dksX3_fees_0 7 rfl rfl)
theorem dX3_fees_10 : decode cX3_fees 10 = .ok (.iload_n 1, 1) := dk_27 (dk_at dksX3_fees_0 10 rfl rfl)
theorem dX3_fees_11 : decode cX3_fees 11 = .ok (.aload_n 0, 1) := dk_42 (dk_at dksX3_fees_0 11 rfl rfl)
theorem dX3_fees_12 : decode cX3_fees 12 = .ok (.getfield 9, 3) := dk_180 0 9 (dk_at dksX3_fees_0 12 rfl rfl)
theorem dX3_fees_15 : decode cX3_fees 15 = .ok (.bipush 87, 2) := dk_16 87 (dk_at dksX3_fees_0 15 rfl rfl)
theorem dX3_fees_17 : decode cX3_fees 17 = .ok (.iload_n 2, 1) := dk_28 (dk_at dksX3_fees_0 17 rfl rfl)
theorem dX3_fees_18 : decode cX3_fees 18 = .ok (.iadd, 1) := dk_96 (dk_at dksX3_fees_0 18 rfl rfl)
theorem dX3_fees_19 : decode cX3_fees 19 = .ok (.iaload, 1) := dk_46 (dk_at dksX3_fees_0 19 rfl rfl)
theorem dX3_fees_20 : decode cX3_fees 20 = .ok (.ifCond .le 7, 3) := dk_158 0 7 (dk_at dksX3_fees_0 20 rfl rfl)
theorem dX3_fees_23 : decode cX3_fees 23 = .ok (.iconst 1, 1) := dk_4 (dk_at dksX3_fees_0 23 rfl rfl)
theorem dX3_fees_24 : decode cX3_fees 24 = .ok (.goto 4, 3) := dk_167 0 4 (dk_at dksX3_fees_1 0 rfl rfl)
theorem dX3_fees_27 : decode cX3_fees 27 = .ok (.iconst 0, 1) := dk_3 (dk_at dksX3_fees_1 3 rfl rfl)
theorem dX3_fees_28 : decode cX3_fees 28 = .ok (.iadd, 1) := dk_96 (dk_at dksX3_fees_1 4 rfl rfl)
theorem dX3_fees_29 : decode cX3_fees 29 = .ok (.istore_n 1, 1) := dk_60 (dk_at dksX3_fees_1 5 rfl rfl)
theorem dX3_fees_30 : decode cX3_fees 30 = .ok (.iinc 2 1, 3) := dk_132 2 1 (dk_at dksX3_fees_1 6 rfl rfl)
theorem dX3_fees_33 : decode cX3_fees 33 = .ok (.goto (-29), 3) := dk_167 255 227 (dk_at dksX3_fees_1 9 rfl rfl)
theorem dX3_fees_36 : decode cX3_fees 36 = .ok (.iload_n 1, 1) := dk_27 (dk_at dksX3_fees_1 12 rfl rfl)
theorem dX3_fees_37 : decode cX3_fees 37 = .ok (.ireturn, 1) := dk_172 (dk_at dksX3_fees_1 13 rfl rfl)
def dkwX3_meanGas_1 : List UInt8 := [158, 0, 7, 14, 167, 0, 13, 42, 7, 4, 182, 1, 61, 135, 27, 135, 111, 175]
abbrev dktX3_meanGas_1 : List UInt8 := dkwX3_meanGas_1 ++ []
def dkwX3_meanGas_0 : List UInt8 := [42, 180, 0, 9, 3, 46, 60, 42, 27, 154, 0, 7, 4, 167, 0, 4, 3, 181, 0, 49, 42, 180, 0, 49]
abbrev dktX3_meanGas_0 : List UInt8 := dkwX3_meanGas_0 ++ dktX3_meanGas_1
theorem dksX3_meanGas_0 : cX3_meanGas.data.toList.drop 0 = dktX3_meanGas_0 := by decide +kernel
theorem dksX3_meanGas_1 : cX3_meanGas.data.toList.drop 24 = dktX3_meanGas_1 := dk_seg dksX3_meanGas_0 24 rfl rfl
theorem dX3_meanGas_0 : decode cX3_meanGas 0 = .ok (.aload_n 0, 1) := dk_42 (dk_at dksX3_meanGas_0 0 rfl rfl)
theorem dX3_meanGas_1 : decode cX3_meanGas 1 = .ok (.getfield 9, 3) := dk_180 0 9 (dk_at dksX3_meanGas_0 1 rfl rfl)
theorem dX3_meanGas_4 : decode cX3_meanGas 4 = .ok (.iconst 0, 1) := dk_3 (dk_at dksX3_meanGas_0 4 rfl rfl)
theorem dX3_meanGas_5 : decode cX3_meanGas 5 = .ok (.iaload, 1) := dk_46 (dk_at dksX3_meanGas_0 5 rfl rfl)
theorem dX3_meanGas_6 : decode cX3_meanGas 6 = .ok (.istore_n 1, 1) := dk_60 (dk_at dksX3_meanGas_0 6 rfl rfl)
theorem dX3_meanGas_7 : decode cX3_meanGas 7 = .ok (.aload_n 0, 1) := dk_42 (dk_at dksX3_meanGas_0 7 rfl rfl)
theorem dX3_meanGas_8 : decode cX3_meanGas 8 = .ok (.iload_n 1, 1) := dk_27 (dk_at dksX3_meanGas_0 8 rfl rfl)
theorem dX3_meanGas_9 : decode cX3_meanGas 9 = .ok (.ifCond .ne 7, 3) := dk_154 0 7 (dk_at dksX3_meanGas_0 9 rfl rfl)
theorem dX3_meanGas_12 : decode cX3_meanGas 12 = .ok (.iconst 1, 1) := dk_4 (dk_at dksX3_meanGas_0 12 rfl rfl)
theorem dX3_meanGas_13 : decode cX3_meanGas 13 = .ok (.goto 4, 3) := dk_167 0 4 (dk_at dksX3_meanGas_0 13 rfl rfl)
theorem dX3_meanGas_16 : decode cX3_meanGas 16 = .ok (.iconst 0, 1) := dk_3 (dk_at dksX3_meanGas_0 16 rfl rfl)
theorem dX3_meanGas_17 : decode cX3_meanGas 17 = .ok (.putfield 49, 3) := dk_181 0 49 (dk_at dksX3_meanGas_0 17 rfl rfl)
theorem dX3_meanGas_20 : decode cX3_meanGas 20 = .ok (.aload_n 0, 1) := dk_42 (dk_at dksX3_meanGas_0 20 rfl rfl)
theorem dX3_meanGas_21 : decode cX3_meanGas 21 = .ok (.getfield 49, 3) := dk_180 0 49 (dk_at dksX3_meanGas_0 21 rfl rfl)
theorem dX3_meanGas_24 : decode cX3_meanGas 24 = .ok (.ifCond .le 7, 3) := dk_158 0 7 (dk_at dksX3_meanGas_1 0 rfl rfl)
theorem dX3_meanGas_27 : decode cX3_meanGas 27 = .ok (.dconst 0, 1) := dk_14 (dk_at dksX3_meanGas_1 3 rfl rfl)
theorem dX3_meanGas_28 : decode cX3_meanGas 28 = .ok (.goto 13, 3) := dk_167 0 13 (dk_at dksX3_meanGas_1 4 rfl rfl)
theorem dX3_meanGas_31 : decode cX3_meanGas 31 = .ok (.aload_n 0, 1) := dk_42 (dk_at dksX3_meanGas_1 7 rfl rfl)
theorem dX3_meanGas_32 : decode cX3_meanGas 32 = .ok (.iconst 4, 1) := dk_7 (dk_at dksX3_meanGas_1 8 rfl rfl)
theorem dX3_meanGas_33 : decode cX3_meanGas 33 = .ok (.iconst 1, 1) := dk_4 (dk_at dksX3_meanGas_1 9 rfl rfl)
theorem dX3_meanGas_34 : decode cX3_meanGas 34 = .ok (.invokevirtual 317, 3) := dk_182 1 61 (dk_at dksX3_meanGas_1 10 rfl rfl)
theorem dX3_meanGas_37 : decode cX3_meanGas 37 = .ok (.i2d, 1) := dk_135 (dk_at dksX3_meanGas_1 13 rfl rfl)
theorem dX3_meanGas_38 : decode cX3_meanGas 38 = .ok (.iload_n 1, 1) := dk_27 (dk_at dksX3_meanGas_1 14 rfl rfl)
theorem dX3_meanGas_39 : decode cX3_meanGas 39 = .ok (.i2d, 1) := dk_135 (dk_at dksX3_meanGas_1 15 rfl rfl)
theorem dX3_meanGas_40 : decode cX3_meanGas 40 = .ok (.ddiv, 1) := dk_111 (dk_at dksX3_meanGas_1 16 rfl rfl)
theorem dX3_meanGas_41 : decode cX3_meanGas 41 = .ok (.dreturn, 1) := dk_175 (dk_at dksX3_meanGas_1 17 rfl rfl)
def dkwX3_flyingShare_1 : List UInt8 := [158, 0, 7, 11, 167, 0, 13, 42, 5, 3, 182, 1, 61, 134, 27, 134, 110, 174]
abbrev dktX3_flyingShare_1 : List UInt8 := dkwX3_flyingShare_1 ++ []
def dkwX3_flyingShare_0 : List UInt8 := [42, 180, 0, 9, 3, 46, 60, 42, 27, 154, 0, 7, 4, 167, 0, 4, 3, 181, 0, 49, 42, 180, 0, 49]
abbrev dktX3_flyingShare_0 : List UInt8 := dkwX3_flyingShare_0 ++ dktX3_flyingShare_1
theorem dksX3_flyingShare_0 : cX3_flyingShare.data.toList.drop 0 = dktX3_flyingShare_0 := by decide +kernel
theorem dksX3_flyingShare_1 : cX3_flyingShare.data.toList.drop 24 = dktX3_flyingShare_1 := dk_seg dksX3_flyingShare_0 24 rfl rfl
theorem dX3_flyingShare_0 : decode cX3_flyingShare 0 = .ok (.aload_n 0, 1) := dk_42 (dk_at dksX3_flyingShare_0 0 rfl rfl)
theorem dX3_flyingShare_1 : decode cX3_flyingShare 1 = .ok (.getfield 9, 3) := dk_180 0 9 (dk_at dksX3_flyingShare_0 1 rfl rfl)
theorem dX3_flyingShare_4 : decode cX3_flyingShare 4 = .ok (.iconst 0, 1) := dk_3 (dk_at dksX3_flyingShare_0 4 rfl rfl)
theorem dX3_flyingShare_5 : decode cX3_flyingShare 5 = .ok (.iaload, 1) := dk_46 (dk_at dksX3_flyingShare_0 5 rfl rfl)
theorem dX3_flyingShare_6 : decode cX3_flyingShare 6 = .ok (.istore_n 1, 1) := dk_60 (dk_at dksX3_flyingShare_0 6 rfl rfl)
theorem dX3_flyingShare_7 : decode cX3_flyingShare 7 = .ok (.aload_n 0, 1) := dk_42 (dk_at dksX3_flyingShare_0 7 rfl rfl)
theorem dX3_flyingShare_8 : decode cX3_flyingShare 8 = .ok (.iload_n 1, 1) := dk_27 (dk_at dksX3_flyingShare_0 8 rfl rfl)
theorem dX3_flyingShare_9 : decode cX3_flyingShare 9 = .ok (.ifCond .ne 7, 3) := dk_154 0 7 (dk_at dksX3_flyingShare_0 9 rfl rfl)
theorem dX3_flyingShare_12 : decode cX3_flyingShare 12 = .ok (.iconst 1, 1) := dk_4 (dk_at dksX3_flyingShare_0 12 rfl rfl)
theorem dX3_flyingShare_13 : decode cX3_flyingShare 13 = .ok (.goto 4, 3) := dk_167 0 4 (dk_at dksX3_flyingShare_0 13 rfl rfl)
theorem dX3_flyingShare_16 : decode cX3_flyingShare 16 = .ok (.iconst 0, 1) := dk_3 (dk_at dksX3_flyingShare_0 16 rfl rfl)
theorem dX3_flyingShare_17 : decode cX3_flyingShare 17 = .ok (.putfield 49, 3) := dk_181 0 49 (dk_at dksX3_flyingShare_0 17 rfl rfl)
theorem dX3_flyingShare_20 : decode cX3_flyingShare 20 = .ok (.aload_n 0, 1) := dk_42 (dk_at dksX3_flyingShare_0 20 rfl rfl)
theorem dX3_flyingShare_21 : decode cX3_flyingShare 21 = .ok (.getfield 49, 3) := dk_180 0 49 (dk_at dksX3_flyingShare_0 21 rfl rfl)
theorem dX3_flyingShare_24 : decode cX3_flyingShare 24 = .ok (.ifCond .le 7, 3) := dk_158 0 7 (dk_at dksX3_flyingShare_1 0 rfl rfl)
theorem dX3_flyingShare_27 : decode cX3_flyingShare 27 = .ok (.fconst 0, 1) := dk_11 (dk_at dksX3_flyingShare_1 3 rfl rfl)
theorem dX3_flyingShare_28 : decode cX3_flyingShare 28 = .ok (.goto 13, 3) := dk_167 0 13 (dk_at dksX3_flyingShare_1 4 rfl rfl)
theorem dX3_flyingShare_31 : decode cX3_flyingShare 31 = .ok (.aload_n 0, 1) := dk_42 (dk_at dksX3_flyingShare_1 7 rfl rfl)
theorem dX3_flyingShare_32 : decode cX3_flyingShare 32 = .ok (.iconst 2, 1) := dk_5 (dk_at dksX3_flyingShare_1 8 rfl rfl)
theorem dX3_flyingShare_33 : decode cX3_flyingShare 33 = .ok (.iconst 0, 1) := dk_3 (dk_at dksX3_flyingShare_1 9 rfl rfl)
theorem dX3_flyingShare_34 : decode cX3_flyingShare 34 = .ok (.invokevirtual 317, 3) := dk_182 1 61 (dk_at dksX3_flyingShare_1 10 rfl rfl)
theorem dX3_flyingShare_37 : decode cX3_flyingShare 37 = .ok (.i2f, 1) := dk_134 (dk_at dksX3_flyingShare_1 13 rfl rfl)
theorem dX3_flyingShare_38 : decode cX3_flyingShare 38 = .ok (.iload_n 1, 1) := dk_27 (dk_at dksX3_flyingShare_1 14 rfl rfl)
theorem dX3_flyingShare_39 : decode cX3_flyingShare 39 = .ok (.i2f, 1) := dk_134 (dk_at dksX3_flyingShare_1 15 rfl rfl)
theorem dX3_flyingShare_40 : decode cX3_flyingShare 40 = .ok (.fdiv, 1) := dk_110 (dk_at dksX3_flyingShare_1 16 rfl rfl)
theorem dX3_flyingShare_41 : decode cX3_flyingShare 41 = .ok (.freturn, 1) := dk_174 (dk_at dksX3_flyingShare_1 17 rfl rfl)
def dkwX3_undo_2 : List UInt8 := [180, 0, 9, 3, 17, 1, 31, 184, 0, 52, 42, 180, 0, 58, 172]
abbrev dktX3_undo_2 : List UInt8 := dkwX3_undo_2 ++ []
def dkwX3_undo_1 : List UInt8 := [172, 42, 89, 180, 0, 58, 4, 100, 181, 0, 58, 42, 180, 0, 22, 17, 1, 31, 42, 180, 0, 58, 104, 42]
abbrev dktX3_undo_1 : List UInt8 := dkwX3_undo_1 ++ dktX3_undo_2
def dkwX3_undo_0 : List UInt8 := [42, 42, 180, 0, 58, 154, 0, 7, 4, 167, 0, 4, 3, 181, 0, 49, 42, 180, 0, 49, 158, 0, 5, 3]
abbrev dktX3_undo_0 : List UInt8 := dkwX3_undo_0 ++ dktX3_undo_1
theorem dksX3_undo_0 : cX3_undo.data.toList.drop 0 = dktX3_undo_0 := by decide +kernel
theorem dksX3_undo_1 : cX3_undo.data.toList.drop 24 = dktX3_undo_1 := dk_seg dksX3_undo_0 24 rfl rfl
theorem dksX3_undo_2 : cX3_undo.data.toList.drop 48 = dktX3_undo_2 := dk_seg dksX3_undo_1 24 rfl rfl
theorem dX3_undo_0 : decode cX3_undo 0 = .ok (.aload_n 0, 1) := dk_42 (dk_at dksX3_undo_0 0 rfl rfl)
theorem dX3_undo_1 : decode cX3_undo 1 = .ok (.aload_n 0, 1) := dk_42 (dk_at dksX3_undo_0 1 rfl rfl)
theorem dX3_undo_2 : decode cX3_undo 2 = .ok (.getfield 58, 3) := dk_180 0 58 (dk_at dksX3_undo_0 2 rfl rfl)
theorem dX3_undo_5 : decode cX3_undo 5 = .ok (.ifCond .ne 7, 3) := dk_154 0 7 (dk_at dksX3_undo_0 5 rfl rfl)
theorem dX3_undo_8 : decode cX3_undo 8 = .ok (.iconst 1, 1) := dk_4 (dk_at dksX3_undo_0 8 rfl rfl)
theorem dX3_undo_9 : decode cX3_undo 9 = .ok (.goto 4, 3) := dk_167 0 4 (dk_at dksX3_undo_0 9 rfl rfl)
theorem dX3_undo_12 : decode cX3_undo 12 = .ok (.iconst 0, 1) := dk_3 (dk_at dksX3_undo_0 12 rfl rfl)
theorem dX3_undo_13 : decode cX3_undo 13 = .ok (.putfield 49, 3) := dk_181 0 49 (dk_at dksX3_undo_0 13 rfl rfl)
theorem dX3_undo_16 : decode cX3_undo 16 = .ok (.aload_n 0, 1) := dk_42 (dk_at dksX3_undo_0 16 rfl rfl)
theorem dX3_undo_17 : decode cX3_undo 17 = .ok (.getfield 49, 3) := dk_180 0 49 (dk_at dksX3_undo_0 17 rfl rfl)
theorem dX3_undo_20 : decode cX3_undo 20 = .ok (.ifCond .le 5, 3) := dk_158 0 5 (dk_at dksX3_undo_0 20 rfl rfl)
theorem dX3_undo_23 : decode cX3_undo 23 = .ok (.iconst 0, 1) := dk_3 (dk_at dksX3_undo_0 23 rfl rfl)
theorem dX3_undo_24 : decode cX3_undo 24 = .ok (.ireturn, 1) := dk_172 (dk_at dksX3_undo_1 0 rfl rfl)
theorem dX3_undo_25 : decode cX3_undo 25 = .ok (.aload_n 0, 1) := dk_42 (dk_at dksX3_undo_1 1 rfl rfl)
theorem dX3_undo_26 : decode cX3_undo 26 = .ok (.dup, 1) := dk_89 (dk_at dksX3_undo_1 2 rfl rfl)
theorem dX3_undo_27 : decode cX3_undo 27 = .ok (.getfield 58, 3) := dk_180 0 58 (dk_at dksX3_undo_1 3 rfl rfl)
theorem dX3_undo_30 : decode cX3_undo 30 = .ok (.iconst 1, 1) := dk_4 (dk_at dksX3_undo_1 6 rfl rfl)
theorem dX3_undo_31 : decode cX3_undo 31 = .ok (.isub, 1) := dk_100 (dk_at dksX3_undo_1 7 rfl rfl)
theorem dX3_undo_32 : decode cX3_undo 32 = .ok (.putfield 58, 3) := dk_181 0 58 (dk_at dksX3_undo_1 8 rfl rfl)
theorem dX3_undo_35 : decode cX3_undo 35 = .ok (.aload_n 0, 1) := dk_42 (dk_at dksX3_undo_1 11 rfl rfl)
theorem dX3_undo_36 : decode cX3_undo 36 = .ok (.getfield 22, 3) := dk_180 0 22 (dk_at dksX3_undo_1 12 rfl rfl)
theorem dX3_undo_39 : decode cX3_undo 39 = .ok (.sipush 287, 3) := dk_17 1 31 (dk_at dksX3_undo_1 15 rfl rfl)
theorem dX3_undo_42 : decode cX3_undo 42 = .ok (.aload_n 0, 1) := dk_42 (dk_at dksX3_undo_1 18 rfl rfl)
theorem dX3_undo_43 : decode cX3_undo 43 = .ok (.getfield 58, 3) := dk_180 0 58 (dk_at dksX3_undo_1 19 rfl rfl)
theorem dX3_undo_46 : decode cX3_undo 46 = .ok (.imul, 1) := dk_104 (dk_at dksX3_undo_1 22 rfl rfl)
theorem dX3_undo_47 : decode cX3_undo 47 = .ok (.aload_n 0, 1) := dk_42 (dk_at dksX3_undo_1 23 rfl rfl)
theorem dX3_undo_48 : decode cX3_undo 48 = .ok (.getfield 9, 3) := dk_180 0 9 (dk_at dksX3_undo_2 0 rfl rfl)
theorem dX3_undo_51 : decode cX3_undo 51 = .ok (.iconst 0, 1) := dk_3 (dk_at dksX3_undo_2 3 rfl rfl)
theorem dX3_undo_52 : decode cX3_undo 52 = .ok (.sipush 287, 3) := dk_17 1 31 (dk_at dksX3_undo_2 4 rfl rfl)
theorem dX3_undo_55 : decode cX3_undo 55 = .ok (.invokestatic 52, 3) := dk_184 0 52 (dk_at dksX3_undo_2 7 rfl rfl)
theorem dX3_undo_58 : decode cX3_undo 58 = .ok (.aload_n 0, 1) := dk_42 (dk_at dksX3_undo_2 10 rfl rfl)
theorem dX3_undo_59 : decode cX3_undo 59 = .ok (.getfield 58, 3) := dk_180 0 58 (dk_at dksX3_undo_2 11 rfl rfl)
theorem dX3_undo_62 : decode cX3_undo 62 = .ok (.ireturn, 1) := dk_172 (dk_at dksX3_undo_2 14 rfl rfl)
def dkwX3_save_1 : List UInt8 := [181, 1, 68, 42, 180, 0, 9, 3, 46, 172]
abbrev dktX3_save_1 : List UInt8 := dkwX3_save_1 ++ []
def dkwX3_save_0 : List UInt8 := [42, 3, 181, 0, 49, 42, 180, 0, 9, 3, 42, 180, 0, 19, 3, 17, 1, 31, 184, 0, 52, 42, 4]
abbrev dktX3_save_0 : List UInt8 := dkwX3_save_0 ++ dktX3_save_1
theorem dksX3_save_0 : cX3_save.data.toList.drop 0 = dktX3_save_0 := by decide +kernel
theorem dksX3_save_1 : cX3_save.data.toList.drop 23 = dktX3_save_1 := dk_seg dksX3_save_0 23 rfl rfl
theorem dX3_save_0 : decode cX3_save 0 = .ok (.aload_n 0, 1) := dk_42 (dk_at dksX3_save_0 0 rfl rfl)
theorem dX3_save_1 : decode cX3_save 1 = .ok (.iconst 0, 1) := dk_3 (dk_at dksX3_save_0 1 rfl rfl)
theorem dX3_save_2 : decode cX3_save 2 = .ok (.putfield 49, 3) := dk_181 0 49 (dk_at dksX3_save_0 2 rfl rfl)
theorem dX3_save_5 : decode cX3_save 5 = .ok (.aload_n 0, 1) := dk_42 (dk_at dksX3_save_0 5 rfl rfl)
theorem dX3_save_6 : decode cX3_save 6 = .ok (.getfield 9, 3) := dk_180 0 9 (dk_at dksX3_save_0 6 rfl rfl)
theorem dX3_save_9 : decode cX3_save 9 = .ok (.iconst 0, 1) := dk_3 (dk_at dksX3_save_0 9 rfl rfl)
theorem dX3_save_10 : decode cX3_save 10 = .ok (.aload_n 0, 1) := dk_42 (dk_at dksX3_save_0 10 rfl rfl)
theorem dX3_save_11 : decode cX3_save 11 = .ok (.getfield 19, 3) := dk_180 0 19 (dk_at dksX3_save_0 11 rfl rfl)
theorem dX3_save_14 : decode cX3_save 14 = .ok (.iconst 0, 1) := dk_3 (dk_at dksX3_save_0 14 rfl rfl)
theorem dX3_save_15 : decode cX3_save 15 = .ok (.sipush 287, 3) := dk_17 1 31 (dk_at dksX3_save_0 15 rfl rfl)
theorem dX3_save_18 : decode cX3_save 18 = .ok (.invokestatic 52, 3) := dk_184 0 52 (dk_at dksX3_save_0 18 rfl rfl)
theorem dX3_save_21 : decode cX3_save 21 = .ok (.aload_n 0, 1) := dk_42 (dk_at dksX3_save_0 21 rfl rfl)
theorem dX3_save_22 : decode cX3_save 22 = .ok (.iconst 1, 1) := dk_4 (dk_at dksX3_save_0 22 rfl rfl)
theorem dX3_save_23 : decode cX3_save 23 = .ok (.putfield 324, 3) := dk_181 1 68 (dk_at dksX3_save_1 0 rfl rfl)
theorem dX3_save_26 : decode cX3_save 26 = .ok (.aload_n 0, 1) := dk_42 (dk_at dksX3_save_1 3 rfl rfl)
theorem dX3_save_27 : decode cX3_save 27 = .ok (.getfield 9, 3) := dk_180 0 9 (dk_at dksX3_save_1 4 rfl rfl)
theorem dX3_save_30 : decode cX3_save 30 = .ok (.iconst 0, 1) := dk_3 (dk_at dksX3_save_1 7 rfl rfl)
theorem dX3_save_31 : decode cX3_save 31 = .ok (.iaload, 1) := dk_46 (dk_at dksX3_save_1 8 rfl rfl)
theorem dX3_save_32 : decode cX3_save 32 = .ok (.ireturn, 1) := dk_172 (dk_at dksX3_save_1 9 rfl rfl)
def dkwX3_restore_2 : List UInt8 := [180, 0, 9, 3, 46, 172]
abbrev dktX3_restore_2 : List UInt8 := dkwX3_restore_2 ++ []
def dkwX3_restore_1 : List UInt8 := [172, 42, 180, 0, 19, 3, 42, 180, 0, 9, 3, 17, 1, 31, 184, 0, 52, 42, 3, 181, 0, 58, 42]
abbrev dktX3_restore_1 : List UInt8 := dkwX3_restore_1 ++ dktX3_restore_2
def dkwX3_restore_0 : List UInt8 := [42, 42, 180, 1, 68, 153, 0, 7, 3, 167, 0, 4, 4, 181, 0, 49, 42, 180, 0, 49, 158, 0, 5, 3]
abbrev dktX3_restore_0 : List UInt8 := dkwX3_restore_0 ++ dktX3_restore_1
theorem dksX3_restore_0 : cX3_restore.data.toList.drop 0 = dktX3_restore_0 := by decide +kernel
theorem dksX3_restore_1 : cX3_restore.data.toList.drop 24 = dktX3_restore_1 := dk_seg dksX3_restore_0 24 rfl rfl
theorem dksX3_restore_2 : cX3_restore.data.toList.drop 47 = dktX3_restore_2 := dk_seg dksX3_restore_1 23 rfl rfl
theorem dX3_restore_0 : decode cX3_restore 0 = .ok (.aload_n 0, 1) := dk_42 (dk_at dksX3_restore_0 0 rfl rfl)
theorem dX3_restore_1 : decode cX3_restore 1 = .ok (.aload_n 0, 1) := dk_42 (dk_at dksX3_restore_0 1 rfl rfl)
theorem dX3_restore_2 : decode cX3_restore 2 = .ok (.getfield 324, 3) := dk_180 1 68 (dk_at dksX3_restore_0 2 rfl rfl)
theorem dX3_restore_5 : decode cX3_restore 5 = .ok (.ifCond .eq 7, 3) := dk_153 0 7 (dk_at dksX3_restore_0 5 rfl rfl)
theorem dX3_restore_8 : decode cX3_restore 8 = .ok (.iconst 0, 1) := dk_3 (dk_at dksX3_restore_0 8 rfl rfl)
theorem dX3_restore_9 : decode cX3_restore 9 = .ok (.goto 4, 3) := dk_167 0 4 (dk_at dksX3_restore_0 9 rfl rfl)
theorem dX3_restore_12 : decode cX3_restore 12 = .ok (.iconst 1, 1) := dk_4 (dk_at dksX3_restore_0 12 rfl rfl)
theorem dX3_restore_13 : decode cX3_restore 13 = .ok (.putfield 49, 3) := dk_181 0 49 (dk_at dksX3_restore_0 13 rfl rfl)
theorem dX3_restore_16 : decode cX3_restore 16 = .ok (.aload_n 0, 1) := dk_42 (dk_at dksX3_restore_0 16 rfl rfl)
theorem dX3_restore_17 : decode cX3_restore 17 = .ok (.getfield 49, 3) := dk_180 0 49 (dk_at dksX3_restore_0 17 rfl rfl)
theorem dX3_restore_20 : decode cX3_restore 20 = .ok (.ifCond .le 5, 3) := dk_158 0 5 (dk_at dksX3_restore_0 20 rfl rfl)
theorem dX3_restore_23 : decode cX3_restore 23 = .ok (.iconst 0, 1) := dk_3 (dk_at dksX3_restore_0 23 rfl rfl)
theorem dX3_restore_24 : decode cX3_restore 24 = .ok (.ireturn, 1) := dk_172 (dk_at dksX3_restore_1 0 rfl rfl)
theorem dX3_restore_25 : decode cX3_restore 25 = .ok (.aload_n 0, 1) := dk_42 (dk_at dksX3_restore_1 1 rfl rfl)
theorem dX3_restore_26 : decode cX3_restore 26 = .ok (.getfield 19, 3) := dk_180 0 19 (dk_at dksX3_restore_1 2 rfl rfl)
theorem dX3_restore_29 : decode cX3_restore 29 = .ok (.iconst 0, 1) := dk_3 (dk_at dksX3_restore_1 5 rfl rfl)
theorem dX3_restore_30 : decode cX3_restore 30 = .ok (.aload_n 0, 1) := dk_42 (dk_at dksX3_restore_1 6 rfl rfl)
theorem dX3_restore_31 : decode cX3_restore 31 = .ok (.getfield 9, 3) := dk_180 0 9 (dk_at dksX3_restore_1 7 rfl rfl)
theorem dX3_restore_34 : decode cX3_restore 34 = .ok (.iconst 0, 1) := dk_3 (dk_at dksX3_restore_1 10 rfl rfl)
theorem dX3_restore_35 : decode cX3_restore 35 = .ok (.sipush 287, 3) := dk_17 1 31 (dk_at dksX3_restore_1 11 rfl rfl)
theorem dX3_restore_38 : decode cX3_restore 38 = .ok (.invokestatic 52, 3) := dk_184 0 52 (dk_at dksX3_restore_1 14 rfl rfl)
theorem dX3_restore_41 : decode cX3_restore 41 = .ok (.aload_n 0, 1) := dk_42 (dk_at dksX3_restore_1 17 rfl rfl)
theorem dX3_restore_42 : decode cX3_restore 42 = .ok (.iconst 0, 1) := dk_3 (dk_at dksX3_restore_1 18 rfl rfl)
theorem dX3_restore_43 : decode cX3_restore 43 = .ok (.putfield 58, 3) := dk_181 0 58 (dk_at dksX3_restore_1 19 rfl rfl)
theorem dX3_restore_46 : decode cX3_restore 46 = .ok (.aload_n 0, 1) := dk_42 (dk_at dksX3_restore_1 22 rfl rfl)
theorem dX3_restore_47 : decode cX3_restore 47 = .ok (.getfield 9, 3) := dk_180 0 9 (dk_at dksX3_restore_2 0 rfl rfl)
theorem dX3_restore_50 : decode cX3_restore 50 = .ok (.iconst 0, 1) := dk_3 (dk_at dksX3_restore_2 3 rfl rfl)
theorem dX3_restore_51 : decode cX3_restore 51 = .ok (.iaload, 1) := dk_46 (dk_at dksX3_restore_2 4 rfl rfl)
theorem dX3_restore_52 : decode cX3_restore 52 = .ok (.ireturn, 1) := dk_172 (dk_at dksX3_restore_2 5 rfl rfl)
