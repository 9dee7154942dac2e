set_option maxRecDepth 100000
set_option maxRecDepth 100000
abbrev cX26_read : ByteArray := prog_28_method_25_code
def yX26_read : MethodName := ⟨RX26, "read", "([BII)Z"⟩
def dkwX26_read_3 : List UInt8 := [181, 0, 17, 42, 182, 0, 39, 42, 182, 0, 57, 154, 0, 7, 4, 167, 0, 4, 3, 172]
abbrev dktX26_read_3 : List UInt8 := dkwX26_read_3 ++ []
def dkwX26_read_2 : List UInt8 := [182, 0, 53, 42, 180, 0, 13, 16, 66, 164, 0, 5, 3, 172, 132, 5, 1, 167, 255, 225, 42, 21, 4]
abbrev dktX26_read_2 : List UInt8 := dkwX26_read_2 ++ dktX26_read_3
def dkwX26_read_1 : List UInt8 := [28, 4, 96, 167, 0, 4, 28, 54, 5, 21, 5, 29, 162, 0, 31, 42, 43, 21, 5, 51, 16, 48, 100]
abbrev dktX26_read_1 : List UInt8 := dkwX26_read_1 ++ dktX26_read_2
def dkwX26_read_0 : List UInt8 := [42, 182, 0, 21, 43, 28, 51, 16, 45, 160, 0, 7, 4, 167, 0, 4, 3, 54, 4, 21, 4, 153, 0, 9]
abbrev dktX26_read_0 : List UInt8 := dkwX26_read_0 ++ dktX26_read_1
theorem dksX26_read_0 : cX26_read.data.toList.drop 0 = dktX26_read_0 := by decide +kernel
theorem dksX26_read_1 : cX26_read.data.toList.drop 24 = dktX26_read_1 := dk_seg dksX26_read_0 24 rfl rfl
theorem dksX26_read_2 : cX26_read.data.toList.drop 47 = dktX26_read_2 := dk_seg dksX26_read_1 23 rfl rfl
theorem dksX26_read_3 : cX26_read.data.toList.drop 70 = dktX26_read_3 := dk_seg dksX26_read_2 23 rfl rfl
theorem dX26_read_0 : decode cX26_read 0 = .ok (.aload_n 0, 1) := dk_42 (dk_at dksX26_read_0 0 rfl rfl)
theorem dX26_read_1 : decode cX26_read 1 = .ok (.invokevirtual 21, 3) := dk_182 0 21 (dk_at dksX26_read_0 1 rfl rfl)
theorem dX26_read_4 : decode cX26_read 4 = .ok (.aload_n 1, 1) := dk_43 (dk_at dksX26_read_0 4 rfl rfl)
theorem dX26_read_5 : decode cX26_read 5 = .ok (.iload_n 2, 1) := dk_28 (dk_at dksX26_read_0 5 rfl rfl)
theorem dX26_read_6 : decode cX26_read 6 = .ok (.baload, 1) := dk_51 (dk_at dksX26_read_0 6 rfl rfl)
theorem dX26_read_7 : decode cX26_read 7 = .ok (.bipush 45, 2) := dk_16 45 (dk_at dksX26_read_0 7 rfl rfl)
theorem dX26_read_9 : decode cX26_read 9 = .ok (.if_icmp .ne 7, 3) := dk_160 0 7 (dk_at dksX26_read_0 9 rfl rfl)
theorem dX26_read_12 : decode cX26_read 12 = .ok (.iconst 1, 1) := dk_4 (dk_at dksX26_read_0 12 rfl rfl)
theorem dX26_read_13 : decode cX26_read 13 = .ok (.goto 4, 3) := dk_167 0 4 (dk_at dksX26_read_0 13 rfl rfl)
theorem dX26_read_16 : decode cX26_read 16 = .ok (.iconst 0, 1) := dk_3 (dk_at dksX26_read_0 16 rfl rfl)
theorem dX26_read_17 : decode cX26_read 17 = .ok (.istore 4, 2) := dk_54 4 (dk_at dksX26_read_0 17 rfl rfl)
theorem dX26_read_19 : decode cX26_read 19 = .ok (.iload 4, 2) := dk_21 4 (dk_at dksX26_read_0 19 rfl rfl)
theorem dX26_read_21 : decode cX26_read 21 = .ok (.ifCond .eq 9, 3) := dk_153 0 9 (dk_at dksX26_read_0 21 rfl rfl)
theorem dX26_read_24 : decode cX26_read 24 = .ok (.iload_n 2, 1) := dk_28 (dk_at dksX26_read_1 0 rfl rfl)
theorem dX26_read_25 : decode cX26_read 25 = .ok (.iconst 1, 1) := dk_4 (dk_at dksX26_read_1 1 rfl rfl)
theorem dX26_read_26 : decode cX26_read 26 = .ok (.iadd, 1) := dk_96 (dk_at dksX26_read_1 2 rfl rfl)
theorem dX26_read_27 : decode cX26_read 27 = .ok (.goto 4, 3) := dk_167 0 4 (dk_at dksX26_read_1 3 rfl rfl)
theorem dX26_read_30 : decode cX26_read 30 = .ok (.iload_n 2, 1) := dk_28 (dk_at dksX26_read_1 6 rfl rfl)
theorem dX26_read_31 : decode cX26_read 31 = .ok (.istore 5, 2) := dk_54 5 (dk_at dksX26_read_1 7 rfl rfl)
theorem dX26_read_33 : decode cX26_read 33 = .ok (.iload 5, 2) := dk_21 5 (dk_at dksX26_read_1 9 rfl rfl)
theorem dX26_read_35 : decode cX26_read 35 = .ok (.iload_n 3, 1) := dk_29 (dk_at dksX26_read_1 11 rfl rfl)
theorem dX26_read_36 : decode cX26_read 36 = .ok (.if_icmp .ge 31, 3) := dk_162 0 31 (dk_at dksX26_read_1 12 rfl rfl)
theorem dX26_read_39 : decode cX26_read 39 = .ok (.aload_n 0, 1) := dk_42 (dk_at dksX26_read_1 15 rfl rfl)
theorem dX26_read_40 : decode cX26_read 40 = .ok (.aload_n 1, 1) := dk_43 (dk_at dksX26_read_1 16 rfl rfl)
theorem dX26_read_41 : decode cX26_read 41 = .ok (.iload 5, 2) := dk_21 5 (dk_at dksX26_read_1 17 rfl rfl)
theorem dX26_read_43 : decode cX26_read 43 = .ok (.baload, 1) := dk_51 (dk_at dksX26_read_1 19 rfl rfl)
theorem dX26_read_44 : decode cX26_read 44 = .ok (.bipush 48, 2) := dk_16 48 (dk_at dksX26_read_1 20 rfl rfl)
theorem dX26_read_46 : decode cX26_read 46 = .ok (.isub, 1) := dk_100 (dk_at dksX26_read_1 22 rfl rfl)
theorem dX26_read_47 : decode cX26_read 47 = .ok (.invokevirtual 53, 3) := dk_182 0 53 (dk_at dksX26_read_2 0 rfl rfl)
theorem dX26_read_50 : decode cX26_read 50 = .ok (.aload_n 0, 1) := dk_42 (dk_at dksX26_read_2 3 rfl rfl)
theorem dX26_read_51 : decode cX26_read 51 = .ok (.getfield 13, 3) := dk_180 0 13 (dk_at dksX26_read_2 4 rfl rfl)
theorem dX26_read_54 : decode cX26_read 54 = .ok (.bipush 66, 2) := dk_16 66 (dk_at dksX26_read_2 7 rfl rfl)
theorem dX26_read_56 : decode cX26_read 56 = .ok (.if_icmp .le 5, 3) := dk_164 0 5 (dk_at dksX26_read_2 9 rfl rfl)
theorem dX26_read_59 : decode cX26_read 59 = .ok (.iconst 0, 1) := dk_3 (dk_at dksX26_read_2 12 rfl rfl)
theorem dX26_read_60 : decode cX26_read 60 = .ok (.ireturn, 1) := dk_172 (dk_at dksX26_read_2 13 rfl rfl)
theorem dX26_read_61 : decode cX26_read 61 = .ok (.iinc 5 1, 3) := dk_132 5 1 (dk_at dksX26_read_2 14 rfl rfl)
theorem dX26_read_64 : decode cX26_read 64 = .ok (.goto (-31), 3) := dk_167 255 225 (dk_at dksX26_read_2 17 rfl rfl)
theorem dX26_read_67 : decode cX26_read 67 = .ok (.aload_n 0, 1) := dk_42 (dk_at dksX26_read_2 20 rfl rfl)
theorem dX26_read_68 : decode cX26_read 68 = .ok (.iload 4, 2) := dk_21 4 (dk_at dksX26_read_2 21 rfl rfl)
theorem dX26_read_70 : decode cX26_read 70 = .ok (.putfield 17, 3) := dk_181 0 17 (dk_at dksX26_read_3 0 rfl rfl)
theorem dX26_read_73 : decode cX26_read 73 = .ok (.aload_n 0, 1) := dk_42 (dk_at dksX26_read_3 3 rfl rfl)
theorem dX26_read_74 : decode cX26_read 74 = .ok (.invokevirtual 39, 3) := dk_182 0 39 (dk_at dksX26_read_3 4 rfl rfl)
theorem dX26_read_77 : decode cX26_read 77 = .ok (.aload_n 0, 1) := dk_42 (dk_at dksX26_read_3 7 rfl rfl)
theorem dX26_read_78 : decode cX26_read 78 = .ok (.invokevirtual 57, 3) := dk_182 0 57 (dk_at dksX26_read_3 8 rfl rfl)
theorem dX26_read_81 : decode cX26_read 81 = .ok (.ifCond .ne 7, 3) := dk_154 0 7 (dk_at dksX26_read_3 11 rfl rfl)
theorem dX26_read_84 : decode cX26_read 84 = .ok (.iconst 1, 1) := dk_4 (dk_at dksX26_read_3 14 rfl rfl)
theorem dX26_read_85 : decode cX26_read 85 = .ok (.goto 4, 3) := dk_167 0 4 (dk_at dksX26_read_3 15 rfl rfl)
theorem dX26_read_88 : decode cX26_read 88 = .ok (.iconst 0, 1) := dk_3 (dk_at dksX26_read_3 18 rfl rfl)
theorem dX26_read_89 : decode cX26_read 89 = .ok (.ireturn, 1) := dk_172 (dk_at dksX26_read_3 19 rfl rfl)
abbrev cX26_zero : ByteArray := prog_28_method_2_code
def yX26_zero : MethodName := ⟨RX26, "zero", "()V"⟩
def dkwX26_zero_0 : List UInt8 := [42, 3, 181, 0, 13, 42, 3, 181, 0, 17, 177]
abbrev dktX26_zero_0 : List UInt8 := dkwX26_zero_0 ++ []
theorem dksX26_zero_0 : cX26_zero.data.toList.drop 0 = dktX26_zero_0 := by decide +kernel
theorem dX26_zero_0 : decode cX26_zero 0 = .ok (.aload_n 0, 1) := dk_42 (dk_at dksX26_zero_0 0 rfl rfl)
theorem dX26_zero_1 : decode cX26_zero 1 = .ok (.iconst 0, 1) := dk_3 (dk_at dksX26_zero_0 1 rfl rfl)
theorem dX26_zero_2 : decode cX26_zero 2 = .ok (.putfield 13, 3) := dk_181 0 13 (dk_at dksX26_zero_0 2 rfl rfl)
theorem dX26_zero_5 : decode cX26_zero 5 = .ok (.aload_n 0, 1) := dk_42 (dk_at dksX26_zero_0 5 rfl rfl)
theorem dX26_zero_6 : decode cX26_zero 6 = .ok (.iconst 0, 1) := dk_3 (dk_at dksX26_zero_0 6 rfl rfl)
theorem dX26_zero_7 : decode cX26_zero 7 = .ok (.putfield 17, 3) := dk_181 0 17 (dk_at dksX26_zero_0 7 rfl rfl)
theorem dX26_zero_10 : decode cX26_zero 10 = .ok (.return_, 1) := dk_177 (dk_at dksX26_zero_0 10 rfl rfl)
abbrev cX26_tenth : ByteArray := prog_28_method_15_code
def yX26_tenth : MethodName := ⟨RX26, "tenth", "(I)V"⟩
def dkwX26_tenth_3 : List UInt8 := [181, 0, 13, 177]
abbrev dktX26_tenth_3 : List UInt8 := dkwX26_tenth_3 ++ []
def dkwX26_tenth_2 : List UInt8 := [167, 255, 215, 28, 158, 0, 23, 42, 180, 0, 7, 42, 180, 0, 13, 28, 79, 42, 89, 180, 0, 13, 4, 96]
abbrev dktX26_tenth_2 : List UInt8 := dkwX26_tenth_2 ++ dktX26_tenth_3
def dkwX26_tenth_1 : List UInt8 := [54, 4, 42, 180, 0, 7, 29, 21, 4, 18, 38, 112, 79, 21, 4, 18, 38, 108, 61, 132, 3, 1]
abbrev dktX26_tenth_1 : List UInt8 := dkwX26_tenth_1 ++ dktX26_tenth_2
def dkwX26_tenth_0 : List UInt8 := [27, 61, 3, 62, 29, 42, 180, 0, 13, 162, 0, 39, 16, 10, 42, 180, 0, 7, 29, 46, 104, 28, 96]
abbrev dktX26_tenth_0 : List UInt8 := dkwX26_tenth_0 ++ dktX26_tenth_1
theorem dksX26_tenth_0 : cX26_tenth.data.toList.drop 0 = dktX26_tenth_0 := by decide +kernel
theorem dksX26_tenth_1 : cX26_tenth.data.toList.drop 23 = dktX26_tenth_1 := dk_seg dksX26_tenth_0 23 rfl rfl
theorem dksX26_tenth_2 : cX26_tenth.data.toList.drop 45 = dktX26_tenth_2 := dk_seg dksX26_tenth_1 22 rfl rfl
theorem dksX26_tenth_3 : cX26_tenth.data.toList.drop 69 = dktX26_tenth_3 := dk_seg dksX26_tenth_2 24 rfl rfl
theorem dX26_tenth_0 : decode cX26_tenth 0 = .ok (.iload_n 1, 1) := dk_27 (dk_at dksX26_tenth_0 0 rfl rfl)
theorem dX26_tenth_1 : decode cX26_tenth 1 = .ok (.istore_n 2, 1) := dk_61 (dk_at dksX26_tenth_0 1 rfl rfl)
theorem dX26_tenth_2 : decode cX26_tenth 2 = .ok (.iconst 0, 1) := dk_3 (dk_at dksX26_tenth_0 2 rfl rfl)
theorem dX26_tenth_3 : decode cX26_tenth 3 = .ok (.istore_n 3, 1) := dk_62 (dk_at dksX26_tenth_0 3 rfl rfl)
theorem dX26_tenth_4 : decode cX26_tenth 4 = .ok (.iload_n 3, 1) := dk_29 (dk_at dksX26_tenth_0 4 rfl rfl)
theorem dX26_tenth_5 : decode cX26_tenth 5 = .ok (.aload_n 0, 1) := dk_42 (dk_at dksX26_tenth_0 5 rfl rfl)
theorem dX26_tenth_6 : decode cX26_tenth 6 = .ok (.getfield 13, 3) := dk_180 0 13 (dk_at dksX26_tenth_0 6 rfl rfl)
theorem dX26_tenth_9 : decode cX26_tenth 9 = .ok (.if_icmp .ge 39, 3) := dk_162 0 39 (dk_at dksX26_tenth_0 9 rfl rfl)
theorem dX26_tenth_12 : decode cX26_tenth 12 = .ok (.bipush 10, 2) := dk_16 10 (dk_at dksX26_tenth_0 12 rfl rfl)
theorem dX26_tenth_14 : decode cX26_tenth 14 = .ok (.aload_n 0, 1) := dk_42 (dk_at dksX26_tenth_0 14 rfl rfl)
theorem dX26_tenth_15 : decode cX26_tenth 15 = .ok (.getfield 7, 3) := dk_180 0 7 (dk_at dksX26_tenth_0 15 rfl rfl)
theorem dX26_tenth_18 : decode cX26_tenth 18 = .ok (.iload_n 3, 1) := dk_29 (dk_at dksX26_tenth_0 18 rfl rfl)
theorem dX26_tenth_19 : decode cX26_tenth 19 = .ok (.iaload, 1) := dk_46 (dk_at dksX26_tenth_0 19 rfl rfl)
theorem dX26_tenth_20 : decode cX26_tenth 20 = .ok (.imul, 1) := dk_104 (dk_at dksX26_tenth_0 20 rfl rfl)
theorem dX26_tenth_21 : decode cX26_tenth 21 = .ok (.iload_n 2, 1) := dk_28 (dk_at dksX26_tenth_0 21 rfl rfl)
theorem dX26_tenth_22 : decode cX26_tenth 22 = .ok (.iadd, 1) := dk_96 (dk_at dksX26_tenth_0 22 rfl rfl)
theorem dX26_tenth_23 : decode cX26_tenth 23 = .ok (.istore 4, 2) := dk_54 4 (dk_at dksX26_tenth_1 0 rfl rfl)
theorem dX26_tenth_25 : decode cX26_tenth 25 = .ok (.aload_n 0, 1) := dk_42 (dk_at dksX26_tenth_1 2 rfl rfl)
theorem dX26_tenth_26 : decode cX26_tenth 26 = .ok (.getfield 7, 3) := dk_180 0 7 (dk_at dksX26_tenth_1 3 rfl rfl)
theorem dX26_tenth_29 : decode cX26_tenth 29 = .ok (.iload_n 3, 1) := dk_29 (dk_at dksX26_tenth_1 6 rfl rfl)
theorem dX26_tenth_30 : decode cX26_tenth 30 = .ok (.iload 4, 2) := dk_21 4 (dk_at dksX26_tenth_1 7 rfl rfl)
theorem dX26_tenth_32 : decode cX26_tenth 32 = .ok (.ldc 38, 2) := dk_18 38 (dk_at dksX26_tenth_1 9 rfl rfl)
theorem dX26_tenth_34 : decode cX26_tenth 34 = .ok (.irem, 1) := dk_112 (dk_at dksX26_tenth_1 11 rfl rfl)
theorem dX26_tenth_35 : decode cX26_tenth 35 = .ok (.iastore, 1) := dk_79 (dk_at dksX26_tenth_1 12 rfl rfl)
theorem dX26_tenth_36 : decode cX26_tenth 36 = .ok (.iload 4, 2) := dk_21 4 (dk_at dksX26_tenth_1 13 rfl rfl)
theorem dX26_tenth_38 : decode cX26_tenth 38 = .ok (.ldc 38, 2) := dk_18 38 (dk_at dksX26_tenth_1 15 rfl rfl)
theorem dX26_tenth_40 : decode cX26_tenth 40 = .ok (.idiv, 1) := dk_108 (dk_at dksX26_tenth_1 17 rfl rfl)
theorem dX26_tenth_41 : decode cX26_tenth 41 = .ok (.istore_n 2, 1) := dk_61 (dk_at dksX26_tenth_1 18 rfl rfl)
theorem dX26_tenth_42 : decode cX26_tenth 42 = .ok (.iinc 3 1, 3) := dk_132 3 1 (dk_at dksX26_tenth_1 19 rfl rfl)
theorem dX26_tenth_45 : decode cX26_tenth 45 = .ok (.goto (-41), 3) := dk_167 255 215 (dk_at dksX26_tenth_2 0 rfl rfl)
theorem dX26_tenth_48 : decode cX26_tenth 48 = .ok (.iload_n 2, 1) := dk_28 (dk_at dksX26_tenth_2 3 rfl rfl)
theorem dX26_tenth_49 : decode cX26_tenth 49 = .ok (.ifCond .le 23, 3) := dk_158 0 23 (dk_at dksX26_tenth_2 4 rfl rfl)
theorem dX26_tenth_52 : decode cX26_tenth 52 = .ok (.aload_n 0, 1) := dk_42 (dk_at dksX26_tenth_2 7 rfl rfl)
theorem dX26_tenth_53 : decode cX26_tenth 53 = .ok (.getfield 7, 3) := dk_180 0 7 (dk_at dksX26_tenth_2 8 rfl rfl)
theorem dX26_tenth_56 : decode cX26_tenth 56 = .ok (.aload_n 0, 1) := dk_42 (dk_at dksX26_tenth_2 11 rfl rfl)
theorem dX26_tenth_57 : decode cX26_tenth 57 = .ok (.getfield 13, 3) := dk_180 0 13 (dk_at dksX26_tenth_2 12 rfl rfl)
theorem dX26_tenth_60 : decode cX26_tenth 60 = .ok (.iload_n 2, 1) := dk_28 (dk_at dksX26_tenth_2 15 rfl rfl)
theorem dX26_tenth_61 : decode cX26_tenth 61 = .ok (.iastore, 1) := dk_79 (dk_at dksX26_tenth_2 16 rfl rfl)
theorem dX26_tenth_62 : decode cX26_tenth 62 = .ok (.aload_n 0, 1) := dk_42 (dk_at dksX26_tenth_2 17 rfl rfl)
theorem dX26_tenth_63 : decode cX26_tenth 63 = .ok (.dup, 1) := dk_89 (dk_at dksX26_tenth_2 18 rfl rfl)
theorem dX26_tenth_64 : decode cX26_tenth 64 = .ok (.getfield 13, 3) := dk_180 0 13 (dk_at dksX26_tenth_2 19 rfl rfl)
theorem dX26_tenth_67 : decode cX26_tenth 67 = .ok (.iconst 1, 1) := dk_4 (dk_at dksX26_tenth_2 22 rfl rfl)
theorem dX26_tenth_68 : decode cX26_tenth 68 = .ok (.iadd, 1) := dk_96 (dk_at dksX26_tenth_2 23 rfl rfl)
theorem dX26_tenth_69 : decode cX26_tenth 69 = .ok (.putfield 13, 3) := dk_181 0 13 (dk_at dksX26_tenth_3 0 rfl rfl)
theorem dX26_tenth_72 : decode cX26_tenth 72 = .ok (.return_, 1) := dk_177 (dk_at dksX26_tenth_3 3 rfl rfl)
abbrev cX26_trim : ByteArray := prog_28_method_5_code
def yX26_trim : MethodName := ⟨RX26, "trim", "()V"⟩
def dkwX26_trim_2 : List UInt8 := [158, 0, 7, 4, 167, 0, 4, 3, 181, 0, 17, 177]
abbrev dktX26_trim_2 : List UInt8 := dkwX26_trim_2 ++ []
def dkwX26_trim_1 : List UInt8 := [180, 0, 13, 4, 100, 181, 0, 13, 167, 255, 225, 42, 42, 180, 0, 17, 153, 0, 14, 42, 180, 0, 13]
abbrev dktX26_trim_1 : List UInt8 := dkwX26_trim_1 ++ dktX26_trim_2
def dkwX26_trim_0 : List UInt8 := [42, 180, 0, 13, 158, 0, 30, 42, 180, 0, 7, 42, 180, 0, 13, 4, 100, 46, 154, 0, 16, 42, 89]
abbrev dktX26_trim_0 : List UInt8 := dkwX26_trim_0 ++ dktX26_trim_1
theorem dksX26_trim_0 : cX26_trim.data.toList.drop 0 = dktX26_trim_0 := by decide +kernel
theorem dksX26_trim_1 : cX26_trim.data.toList.drop 23 = dktX26_trim_1 := dk_seg dksX26_trim_0 23 rfl rfl
theorem dksX26_trim_2 : cX26_trim.data.toList.drop 46 = dktX26_trim_2 := dk_seg dksX26_trim_1 23 rfl rfl
theorem dX26_trim_0 : decode cX26_trim 0 = .ok (.aload_n 0, 1) := dk_42 (dk_at dksX26_trim_0 0 rfl rfl)
theorem dX26_trim_1 : decode cX26_trim 1 = .ok (.getfield 13, 3) := dk_180 0 13 (dk_at dksX26_trim_0 1 rfl rfl)
theorem dX26_trim_4 : decode cX26_trim 4 = .ok (.ifCond .le 30, 3) := dk_158 0 30 (dk_at dksX26_trim_0 4 rfl rfl)
theorem dX26_trim_7 : decode cX26_trim 7 = .ok (.aload_n 0, 1) := dk_42 (dk_at dksX26_trim_0 7 rfl rfl)
theorem dX26_trim_8 : decode cX26_trim 8 = .ok (.getfield 7, 3) := dk_180 0 7 (dk_at dksX26_trim_0 8 rfl rfl)
theorem dX26_trim_11 : decode cX26_trim 11 = .ok (.aload_n 0, 1) := dk_42 (dk_at dksX26_trim_0 11 rfl rfl)
theorem dX26_trim_12 : decode cX26_trim 12 = .ok (.getfield 13, 3) := dk_180 0 13 (dk_at dksX26_trim_0 12 rfl rfl)
theorem dX26_trim_15 : decode cX26_trim 15 = .ok (.iconst 1, 1) := dk_4 (dk_at dksX26_trim_0 15 rfl rfl)
theorem dX26_trim_16 : decode cX26_trim 16 = .ok (.isub, 1) := dk_100 (dk_at dksX26_trim_0 16 rfl rfl)
theorem dX26_trim_17 : decode cX26_trim 17 = .ok (.iaload, 1) := dk_46 (dk_at dksX26_trim_0 17 rfl rfl)
theorem dX26_trim_18 : decode cX26_trim 18 = .ok (.ifCond .ne 16, 3) := dk_154 0 16 (dk_at dksX26_trim_0 18 rfl rfl)
theorem dX26_trim_21 : decode cX26_trim 21 = .ok (.aload_n 0, 1) := dk_42 (dk_at dksX26_trim_0 21 rfl rfl)
theorem dX26_trim_22 : decode cX26_trim 22 = .ok (.dup, 1) := dk_89 (dk_at dksX26_trim_0 22 rfl rfl)
theorem dX26_trim_23 : decode cX26_trim 23 = .ok (.getfield 13, 3) := dk_180 0 13 (dk_at dksX26_trim_1 0 rfl rfl)
theorem dX26_trim_26 : decode cX26_trim 26 = .ok (.iconst 1, 1) := dk_4 (dk_at dksX26_trim_1 3 rfl rfl)
theorem dX26_trim_27 : decode cX26_trim 27 = .ok (.isub, 1) := dk_100 (dk_at dksX26_trim_1 4 rfl rfl)
theorem dX26_trim_28 : decode cX26_trim 28 = .ok (.putfield 13, 3) := dk_181 0 13 (dk_at dksX26_trim_1 5 rfl rfl)
theorem dX26_trim_31 : decode cX26_trim 31 = .ok (.goto (-31), 3) := dk_167 255 225 (dk_at dksX26_trim_1 8 rfl rfl)
theorem dX26_trim_34 : decode cX26_trim 34 = .ok (.aload_n 0, 1) := dk_42 (dk_at dksX26_trim_1 11 rfl rfl)
theorem dX26_trim_35 : decode cX26_trim 35 = .ok (.aload_n 0, 1) := dk_42 (dk_at dksX26_trim_1 12 rfl rfl)
theorem dX26_trim_36 : decode cX26_trim 36 = .ok (.getfield 17, 3) := dk_180 0 17 (dk_at dksX26_trim_1 13 rfl rfl)
theorem dX26_trim_39 : decode cX26_trim 39 = .ok (.ifCond .eq 14, 3) := dk_153 0 14 (dk_at dksX26_trim_1 16 rfl rfl)
theorem dX26_trim_42 : decode cX26_trim 42 = .ok (.aload_n 0, 1) := dk_42 (dk_at dksX26_trim_1 19 rfl rfl)
theorem dX26_trim_43 : decode cX26_trim 43 = .ok (.getfield 13, 3) := dk_180 0 13 (dk_at dksX26_trim_1 20 rfl rfl)
theorem dX26_trim_46 : decode cX26_trim 46 = .ok (.ifCond .le 7, 3) := dk_158 0 7 (dk_at dksX26_trim_2 0 rfl rfl)
theorem dX26_trim_49 : decode cX26_trim 49 = .ok (.iconst 1, 1) := dk_4 (dk_at dksX26_trim_2 3 rfl rfl)
theorem dX26_trim_50 : decode cX26_trim 50 = .ok (.goto 4, 3) := dk_167 0 4 (dk_at dksX26_trim_2 4 rfl rfl)
theorem dX26_trim_53 : decode cX26_trim 53 = .ok (.iconst 0, 1) := dk_3 (dk_at dksX26_trim_2 7 rfl rfl)
theorem dX26_trim_54 : decode cX26_trim 54 = .ok (.putfield 17, 3) := dk_181 0 17 (dk_at dksX26_trim_2 8 rfl rfl)
theorem dX26_trim_57 : decode cX26_trim 57 = .ok (.return_, 1) := dk_177 (dk_at dksX26_trim_2 11 rfl rfl)
abbrev cX26_isLarge : ByteArray := prog_28_method_8_code
def yX26_isLarge : MethodName := ⟨RX26, "isLarge", "()Z"⟩
def dkwX26_isLarge_0 : List UInt8 := [42, 182, 0, 26, 17, 4, 0, 164, 0, 7, 4, 167, 0, 4, 3, 172]
abbrev dktX26_isLarge_0 : List UInt8 := dkwX26_isLarge_0 ++ []
theorem dksX26_isLarge_0 : cX26_isLarge.data.toList.drop 0 = dktX26_isLarge_0 := by decide +kernel
theorem dX26_isLarge_0 : decode cX26_isLarge 0 = .ok (.aload_n 0, 1) := dk_42 (dk_at dksX26_isLarge_0 0 rfl rfl)
theorem dX26_isLarge_1 : decode cX26_isLarge 1 = .ok (.invokevirtual 26, 3) := dk_182 0 26 (dk_at dksX26_isLarge_0 1 rfl rfl)
theorem dX26_isLarge_4 : decode cX26_isLarge 4 = .ok (.sipush 1024, 3) := dk_17 4 0 (dk_at dksX26_isLarge_0 4 rfl rfl)
theorem dX26_isLarge_7 : decode cX26_isLarge 7 = .ok (.if_icmp .le 7, 3) := dk_164 0 7 (dk_at dksX26_isLarge_0 7 rfl rfl)
theorem dX26_isLarge_10 : decode cX26_isLarge 10 = .ok (.iconst 1, 1) := dk_4 (dk_at dksX26_isLarge_0 10 rfl rfl)
theorem dX26_isLarge_11 : decode cX26_isLarge 11 = .ok (.goto 4, 3) := dk_167 0 4 (dk_at dksX26_isLarge_0 11 rfl rfl)
theorem dX26_isLarge_14 : decode cX26_isLarge 14 = .ok (.iconst 0, 1) := dk_3 (dk_at dksX26_isLarge_0 14 rfl rfl)
theorem dX26_isLarge_15 : decode cX26_isLarge 15 = .ok (.ireturn, 1) := dk_172 (dk_at dksX26_isLarge_0 15 rfl rfl)
abbrev cX26_bits : ByteArray := prog_28_method_7_code
def yX26_bits : MethodName := ⟨RX26, "bits", "()I"⟩
def dkwX26_bits_1 : List UInt8 := [180, 0, 13, 4, 100, 46, 61, 28, 158, 0, 13, 132, 1, 1, 28, 5, 108, 61, 167, 255, 245, 27, 172]
abbrev dktX26_bits_1 : List UInt8 := dkwX26_bits_1 ++ []
def dkwX26_bits_0 : List UInt8 := [42, 180, 0, 13, 154, 0, 5, 3, 172, 16, 16, 42, 180, 0, 13, 4, 100, 104, 60, 42, 180, 0, 7, 42]
abbrev dktX26_bits_0 : List UInt8 := dkwX26_bits_0 ++ dktX26_bits_1
theorem dksX26_bits_0 : cX26_bits.data.toList.drop 0 = dktX26_bits_0 := by decide +kernel
theorem dksX26_bits_1 : cX26_bits.data.toList.drop 24 = dktX26_bits_1 := dk_seg dksX26_bits_0 24 rfl rfl
theorem dX26_bits_0 : decode cX26_bits 0 = .ok (.aload_n 0, 1) := dk_42 (dk_at dksX26_bits_0 0 rfl rfl)
theorem dX26_bits_1 : decode cX26_bits 1 = .ok (.getfield 13, 3) := dk_180 0 13 (dk_at dksX26_bits_0 1 rfl rfl)
theorem dX26_bits_4 : decode cX26_bits 4 = .ok (.ifCond .ne 5, 3) := dk_154 0 5 (dk_at dksX26_bits_0 4 rfl rfl)
theorem dX26_bits_7 : decode cX26_bits 7 = .ok (.iconst 0, 1) := dk_3 (dk_at dksX26_bits_0 7 rfl rfl)
theorem dX26_bits_8 : decode cX26_bits 8 = .ok (.ireturn, 1) := dk_172 (dk_at dksX26_bits_0 8 rfl rfl)
theorem dX26_bits_9 : decode cX26_bits 9 = .ok (.bipush 16, 2) := dk_16 16 (dk_at dksX26_bits_0 9 rfl rfl)
theorem dX26_bits_11 : decode cX26_bits 11 = .ok (.aload_n 0, 1) := dk_42 (dk_at dksX26_bits_0 11 rfl rfl)
theorem dX26_bits_12 : decode cX26_bits 12 = .ok (.getfield 13, 3) := dk_180 0 13 (dk_at dksX26_bits_0 12 rfl rfl)
theorem dX26_bits_15 : decode cX26_bits 15 = .ok (.iconst 1, 1) := dk_4 (dk_at dksX26_bits_0 15 rfl rfl)
theorem dX26_bits_16 : decode cX26_bits 16 = .ok (.isub, 1) := dk_100 (dk_at dksX26_bits_0 16 rfl rfl)
theorem dX26_bits_17 : decode cX26_bits 17 = .ok (.imul, 1) := dk_104 (dk_at dksX26_bits_0 17 rfl rfl)
theorem dX26_bits_18 : decode cX26_bits 18 = .ok (.istore_n 1, 1) := dk_60 (dk_at dksX26_bits_0 18 rfl rfl)
theorem dX26_bits_19 : decode cX26_bits 19 = .ok (.aload_n 0, 1) := dk_42 (dk_at dksX26_bits_0 19 rfl rfl)
theorem dX26_bits_20 : decode cX26_bits 20 = .ok (.getfield 7, 3) := dk_180 0 7 (dk_at dksX26_bits_0 20 rfl rfl)
theorem dX26_bits_23 : decode cX26_bits 23 = .ok (.aload_n 0, 1) := dk_42 (dk_at dksX26_bits_0 23 rfl rfl)
theorem dX26_bits_24 : decode cX26_bits 24 = .ok (.getfield 13, 3) := dk_180 0 13 (dk_at dksX26_bits_1 0 rfl rfl)
theorem dX26_bits_27 : decode cX26_bits 27 = .ok (.iconst 1, 1) := dk_4 (dk_at dksX26_bits_1 3 rfl rfl)
theorem dX26_bits_28 : decode cX26_bits 28 = .ok (.isub, 1) := dk_100 (dk_at dksX26_bits_1 4 rfl rfl)
theorem dX26_bits_29 : decode cX26_bits 29 = .ok (.iaload, 1) := dk_46 (dk_at dksX26_bits_1 5 rfl rfl)
theorem dX26_bits_30 : decode cX26_bits 30 = .ok (.istore_n 2, 1) := dk_61 (dk_at dksX26_bits_1 6 rfl rfl)
theorem dX26_bits_31 : decode cX26_bits 31 = .ok (.iload_n 2, 1) := dk_28 (dk_at dksX26_bits_1 7 rfl rfl)
theorem dX26_bits_32 : decode cX26_bits 32 = .ok (.ifCond .le 13, 3) := dk_158 0 13 (dk_at dksX26_bits_1 8 rfl rfl)
theorem dX26_bits_35 : decode cX26_bits 35 = .ok (.iinc 1 1, 3) := dk_132 1 1 (dk_at dksX26_bits_1 11 rfl rfl)
theorem dX26_bits_38 : decode cX26_bits 38 = .ok (.iload_n 2, 1) := dk_28 (dk_at dksX26_bits_1 14 rfl rfl)
theorem dX26_bits_39 : decode cX26_bits 39 = .ok (.iconst 2, 1) := dk_5 (dk_at dksX26_bits_1 15 rfl rfl)
theorem dX26_bits_40 : decode cX26_bits 40 = .ok (.idiv, 1) := dk_108 (dk_at dksX26_bits_1 16 rfl rfl)
theorem dX26_bits_41 : decode cX26_bits 41 = .ok (.istore_n 2, 1) := dk_61 (dk_at dksX26_bits_1 17 rfl rfl)
theorem dX26_bits_42 : decode cX26_bits 42 = .ok (.goto (-11), 3) := dk_167 255 245 (dk_at dksX26_bits_1 18 rfl rfl)
theorem dX26_bits_45 : decode cX26_bits 45 = .ok (.iload_n 1, 1) := dk_27 (dk_at dksX26_bits_1 21 rfl rfl)
theorem dX26_bits_46 : decode cX26_bits 46 = .ok (.ireturn, 1) := dk_172 (dk_at dksX26_bits_1 22 rfl rfl)
abbrev cX26_value : ByteArray := prog_28_method_10_code
def yX26_value : MethodName := ⟨RX26, "value", "()J"⟩
def dkwX26_value_1 : List UInt8 := [133, 97, 64, 132, 3, 255, 167, 255, 235, 42, 180, 0, 17, 153, 0, 8, 31, 117, 167, 0, 4, 31, 173]
abbrev dktX26_value_1 : List UInt8 := dkwX26_value_1 ++ []
def dkwX26_value_0 : List UInt8 := [9, 64, 42, 180, 0, 13, 4, 100, 62, 29, 155, 0, 23, 31, 20, 0, 24, 105, 42, 180, 0, 7, 29, 46]
abbrev dktX26_value_0 : List UInt8 := dkwX26_value_0 ++ dktX26_value_1
theorem dksX26_value_0 : cX26_value.data.toList.drop 0 = dktX26_value_0 := by decide +kernel
theorem dksX26_value_1 : cX26_value.data.toList.drop 24 = dktX26_value_1 := dk_seg dksX26_value_0 24 rfl rfl
theorem dX26_value_0 : decode cX26_value 0 = .ok (.lconst 0, 1) := dk_9 (dk_at dksX26_value_0 0 rfl rfl)
theorem dX26_value_1 : decode cX26_value 1 = .ok (.lstore_n 1, 1) := dk_64 (dk_at dksX26_value_0 1 rfl rfl)
theorem dX26_value_2 : decode cX26_value 2 = .ok (.aload_n 0, 1) := dk_42 (dk_at dksX26_value_0 2 rfl rfl)
theorem dX26_value_3 : decode cX26_value 3 = .ok (.getfield 13, 3) := dk_180 0 13 (dk_at dksX26_value_0 3 rfl rfl)
theorem dX26_value_6 : decode cX26_value 6 = .ok (.iconst 1, 1) := dk_4 (dk_at dksX26_value_0 6 rfl rfl)
theorem dX26_value_7 : decode cX26_value 7 = .ok (.isub, 1) := dk_100 (dk_at dksX26_value_0 7 rfl rfl)
theorem dX26_value_8 : decode cX26_value 8 = .ok (.istore_n 3, 1) := dk_62 (dk_at dksX26_value_0 8 rfl rfl)
theorem dX26_value_9 : decode cX26_value 9 = .ok (.iload_n 3, 1) := dk_29 (dk_at dksX26_value_0 9 rfl rfl)
theorem dX26_value_10 : decode cX26_value 10 = .ok (.ifCond .lt 23, 3) := dk_155 0 23 (dk_at dksX26_value_0 10 rfl rfl)
theorem dX26_value_13 : decode cX26_value 13 = .ok (.lload_n 1, 1) := dk_31 (dk_at dksX26_value_0 13 rfl rfl)
theorem dX26_value_14 : decode cX26_value 14 = .ok (.ldc2_w 24, 3) := dk_20 0 24 (dk_at dksX26_value_0 14 rfl rfl)
theorem dX26_value_17 : decode cX26_value 17 = .ok (.lmul, 1) := dk_105 (dk_at dksX26_value_0 17 rfl rfl)
theorem dX26_value_18 : decode cX26_value 18 = .ok (.aload_n 0, 1) := dk_42 (dk_at dksX26_value_0 18 rfl rfl)
theorem dX26_value_19 : decode cX26_value 19 = .ok (.getfield 7, 3) := dk_180 0 7 (dk_at dksX26_value_0 19 rfl rfl)
theorem dX26_value_22 : decode cX26_value 22 = .ok (.iload_n 3, 1) := dk_29 (dk_at dksX26_value_0 22 rfl rfl)
theorem dX26_value_23 : decode cX26_value 23 = .ok (.iaload, 1) := dk_46 (dk_at dksX26_value_0 23 rfl rfl)
theorem dX26_value_24 : decode cX26_value 24 = .ok (.i2l, 1) := dk_133 (dk_at dksX26_value_1 0 rfl rfl)
theorem dX26_value_25 : decode cX26_value 25 = .ok (.ladd, 1) := dk_97 (dk_at dksX26_value_1 1 rfl rfl)
theorem dX26_value_26 : decode cX26_value 26 = .ok (.lstore_n 1, 1) := dk_64 (dk_at dksX26_value_1 2 rfl rfl)
theorem dX26_value_27 : decode cX26_value 27 = .ok (.iinc 3 (-1), 3) := dk_132 3 255 (dk_at dksX26_value_1 3 rfl rfl)
theorem dX26_value_30 : decode cX26_value 30 = .ok (.goto (-21), 3) := dk_167 255 235 (dk_at dksX26_value_1 6 rfl rfl)
theorem dX26_value_33 : decode cX26_value 33 = .ok (.aload_n 0, 1) := dk_42 (dk_at dksX26_value_1 9 rfl rfl)
theorem dX26_value_34 : decode cX26_value 34 = .ok (.getfield 17, 3) := dk_180 0 17 (dk_at dksX26_value_1 10 rfl rfl)
theorem dX26_value_37 : decode cX26_value 37 = .ok (.ifCond .eq 8, 3) := dk_153 0 8 (dk_at dksX26_value_1 13 rfl rfl)
theorem dX26_value_40 : decode cX26_value 40 = .ok (.lload_n 1, 1) := dk_31 (dk_at dksX26_value_1 16 rfl rfl)
theorem dX26_value_41 : decode cX26_value 41 = .ok (.lneg, 1) := dk_117 (dk_at dksX26_value_1 17 rfl rfl)
theorem dX26_value_42 : decode cX26_value 42 = .ok (.goto 4, 3) := dk_167 0 4 (dk_at dksX26_value_1 18 rfl rfl)
theorem dX26_value_45 : decode cX26_value 45 = .ok (.lload_n 1, 1) := dk_31 (dk_at dksX26_value_1 21 rfl rfl)
theorem dX26_value_46 : decode cX26_value 46 = .ok (.lreturn, 1) := dk_173 (dk_at dksX26_value_1 22 rfl rfl)
abbrev cX26_isMutez : ByteArray := prog_28_method_9_code
def yX26_isMutez : MethodName := ⟨RX26, "isMutez", "()Z"⟩
def dkwX26_isMutez_0 : List UInt8 := [42, 180, 0, 17, 154, 0, 16, 42, 182, 0, 26, 16, 63, 163, 0, 7, 4, 167, 0, 4, 3, 172]
abbrev dktX26_isMutez_0 : List UInt8 := dkwX26_isMutez_0 ++ []
theorem dksX26_isMutez_0 : cX26_isMutez.data.toList.drop 0 = dktX26_isMutez_0 := by decide +kernel
theorem dX26_isMutez_0 : decode cX26_isMutez 0 = .ok (.aload_n 0, 1) := dk_42 (dk_at dksX26_isMutez_0 0 rfl rfl)
theorem dX26_isMutez_1 : decode cX26_isMutez 1 = .ok (.getfield 17, 3) := dk_180 0 17 (dk_at dksX26_isMutez_0 1 rfl rfl)
theorem dX26_isMutez_4 : decode cX26_isMutez 4 = .ok (.ifCond .ne 16, 3) := dk_154 0 16 (dk_at dksX26_isMutez_0 4 rfl rfl)
theorem dX26_isMutez_7 : decode cX26_isMutez 7 = .ok (.aload_n 0, 1) := dk_42 (dk_at dksX26_isMutez_0 7 rfl rfl)
theorem dX26_isMutez_8 : decode cX26_isMutez 8 = .ok (.invokevirtual 26, 3) := dk_182 0 26 (dk_at dksX26_isMutez_0 8 rfl rfl)
theorem dX26_isMutez_11 : decode cX26_isMutez 11 = .ok (.bipush 63, 2) := dk_16 63 (dk_at dksX26_isMutez_0 11 rfl rfl)
theorem dX26_isMutez_13 : decode cX26_isMutez 13 = .ok (.if_icmp .gt 7, 3) := dk_163 0 7 (dk_at dksX26_isMutez_0 13 rfl rfl)
theorem dX26_isMutez_16 : decode cX26_isMutez 16 = .ok (.iconst 1, 1) := dk_4 (dk_at dksX26_isMutez_0 16 rfl rfl)
theorem dX26_isMutez_17 : decode cX26_isMutez 17 = .ok (.goto 4, 3) := dk_167 0 4 (dk_at dksX26_isMutez_0 17 rfl rfl)
theorem dX26_isMutez_20 : decode cX26_isMutez 20 = .ok (.iconst 0, 1) := dk_3 (dk_at dksX26_isMutez_0 20 rfl rfl)
theorem dX26_isMutez_21 : decode cX26_isMutez 21 = .ok (.ireturn, 1) := dk_172 (dk_at dksX26_isMutez_0 21 rfl rfl)
abbrev cX26_length : ByteArray := prog_28_method_24_code
def yX26_length : MethodName := ⟨RX26, "length", "()I"⟩
def dkwX26_length_1 : List UInt8 := [16, 7, 108, 96, 172]
abbrev dktX26_length_1 : List UInt8 := dkwX26_length_1 ++ []
def dkwX26_length_0 : List UInt8 := [42, 182, 0, 26, 60, 27, 16, 6, 163, 0, 7, 5, 167, 0, 15, 5, 27, 16, 6, 100, 16, 6, 96]
abbrev dktX26_length_0 : List UInt8 := dkwX26_length_0 ++ dktX26_length_1
theorem dksX26_length_0 : cX26_length.data.toList.drop 0 = dktX26_length_0 := by decide +kernel
theorem dksX26_length_1 : cX26_length.data.toList.drop 23 = dktX26_length_1 := dk_seg dksX26_length_0 23 rfl rfl
theorem dX26_length_0 : decode cX26_length 0 = .ok (.aload_n 0, 1) := dk_42 (dk_at dksX26_length_0 0 rfl rfl)
theorem dX26_length_1 : decode cX26_length 1 = .ok (.invokevirtual 26, 3) := dk_182 0 26 (dk_at dksX26_length_0 1 rfl rfl)
theorem dX26_length_4 : decode cX26_length 4 = .ok (.istore_n 1, 1) := dk_60 (dk_at dksX26_length_0 4 rfl rfl)
theorem dX26_length_5 : decode cX26_length 5 = .ok (.iload_n 1, 1) := dk_27 (dk_at dksX26_length_0 5 rfl rfl)
theorem dX26_length_6 : decode cX26_length 6 = .ok (.bipush 6, 2) := dk_16 6 (dk_at dksX26_length_0 6 rfl rfl)
theorem dX26_length_8 : decode cX26_length 8 = .ok (.if_icmp .gt 7, 3) := dk_163 0 7 (dk_at dksX26_length_0 8 rfl rfl)
theorem dX26_length_11 : decode cX26_length 11 = .ok (.iconst 2, 1) := dk_5 (dk_at dksX26_length_0 11 rfl rfl)
theorem dX26_length_12 : decode cX26_length 12 = .ok (.goto 15, 3) := dk_167 0 15 (dk_at dksX26_length_0 12 rfl rfl)
theorem dX26_length_15 : decode cX26_length 15 = .ok (.iconst 2, 1) := dk_5 (dk_at dksX26_length_0 15 rfl rfl)
theorem dX26_length_16 : decode cX26_length 16 = .ok (.iload_n 1, 1) := dk_27 (dk_at dksX26_length_0 16 rfl rfl)
theorem dX26_length_17 : decode cX26_length 17 = .ok (.bipush 6, 2) := dk_16 6 (dk_at dksX26_length_0 17 rfl rfl)
theorem dX26_length_19 : decode cX26_length 19 = .ok (.isub, 1) := dk_100 (dk_at dksX26_length_0 19 rfl rfl)
theorem dX26_length_20 : decode cX26_length 20 = .ok (.bipush 6, 2) := dk_16 6 (dk_at dksX26_length_0 20 rfl rfl)
theorem dX26_length_22 : decode cX26_length 22 = .ok (.iadd, 1) := dk_96 (dk_at dksX26_length_0 22 rfl rfl)
theorem dX26_length_23 : decode cX26_length 23 = .ok (.bipush 7, 2) := dk_16 7 (dk_at dksX26_length_1 0 rfl rfl)
theorem dX26_length_25 : decode cX26_length 25 = .ok (.idiv, 1) := dk_108 (dk_at dksX26_length_1 2 rfl rfl)
theorem dX26_length_26 : decode cX26_length 26 = .ok (.iadd, 1) := dk_96 (dk_at dksX26_length_1 3 rfl rfl)
theorem dX26_length_27 : decode cX26_length 27 = .ok (.ireturn, 1) := dk_172 (dk_at dksX26_length_1 4 rfl rfl)
abbrev cX26_compare : ByteArray := prog_28_method_12_code
def yX26_compare : MethodName := ⟨RX26, "compare", "(LContractLedgerModel$Num;)I"⟩
def dkwX26_compare_1 : List UInt8 := [42, 43, 182, 0, 30, 61, 42, 180, 0, 17, 153, 0, 8, 28, 116, 167, 0, 4, 28, 172]
abbrev dktX26_compare_1 : List UInt8 := dkwX26_compare_1 ++ []
def dkwX26_compare_0 : List UInt8 := [42, 180, 0, 17, 43, 180, 0, 17, 159, 0, 16, 42, 180, 0, 17, 153, 0, 7, 2, 167, 0, 4, 4, 172]
abbrev dktX26_compare_0 : List UInt8 := dkwX26_compare_0 ++ dktX26_compare_1
theorem dksX26_compare_0 : cX26_compare.data.toList.drop 0 = dktX26_compare_0 := by decide +kernel
theorem dksX26_compare_1 : cX26_compare.data.toList.drop 24 = dktX26_compare_1 := dk_seg dksX26_compare_0 24 rfl rfl
theorem dX26_compare_0 : decode cX26_compare 0 = .ok (.aload_n 0, 1) := dk_42 (dk_at dksX26_compare_0 0 rfl rfl)
theorem dX26_compare_1 : decode cX26_compare 1 = .ok (.getfield 17, 3) := dk_180 0 17 (dk_at dksX26_compare_0 1 rfl rfl)
theorem dX26_compare_4 : decode cX26_compare 4 = .ok (.aload_n 1, 1) := dk_43 (dk_at dksX26_compare_0 4 rfl rfl)
theorem dX26_compare_5 : decode cX26_compare 5 = .ok (.getfield 17, 3) := dk_180 0 17 (dk_at dksX26_compare_0 5 rfl rfl)
theorem dX26_compare_8 : decode cX26_compare 8 = .ok (.if_icmp .eq 16, 3) := dk_159 0 16 (dk_at dksX26_compare_0 8 rfl rfl)
theorem dX26_compare_11 : decode cX26_compare 11 = .ok (.aload_n 0, 1) := dk_42 (dk_at dksX26_compare_0 11 rfl rfl)
theorem dX26_compare_12 : decode cX26_compare 12 = .ok (.getfield 17, 3) := dk_180 0 17 (dk_at dksX26_compare_0 12 rfl rfl)
theorem dX26_compare_15 : decode cX26_compare 15 = .ok (.ifCond .eq 7, 3) := dk_153 0 7 (dk_at dksX26_compare_0 15 rfl rfl)
theorem dX26_compare_18 : decode cX26_compare 18 = .ok (.iconst (-1), 1) := dk_2 (dk_at dksX26_compare_0 18 rfl rfl)
theorem dX26_compare_19 : decode cX26_compare 19 = .ok (.goto 4, 3) := dk_167 0 4 (dk_at dksX26_compare_0 19 rfl rfl)
theorem dX26_compare_22 : decode cX26_compare 22 = .ok (.iconst 1, 1) := dk_4 (dk_at dksX26_compare_0 22 rfl rfl)
theorem dX26_compare_23 : decode cX26_compare 23 = .ok (.ireturn, 1) := dk_172 (dk_at dksX26_compare_0 23 rfl rfl)
theorem dX26_compare_24 : decode cX26_compare 24 = .ok (.aload_n 0, 1) := dk_42 (dk_at dksX26_compare_1 0 rfl rfl)
theorem dX26_compare_25 : decode cX26_compare 25 = .ok (.aload_n 1, 1) := dk_43 (dk_at dksX26_compare_1 1 rfl rfl)
theorem dX26_compare_26 : decode cX26_compare 26 = .ok (.invokevirtual 30, 3) := dk_182 0 30 (dk_at dksX26_compare_1 2 rfl rfl)
theorem dX26_compare_29 : decode cX26_compare 29 = .ok (.istore_n 2, 1) := dk_61 (dk_at dksX26_compare_1 5 rfl rfl)
theorem dX26_compare_30 : decode cX26_compare 30 = .ok (.aload_n 0, 1) := dk_42 (dk_at dksX26_compare_1 6 rfl rfl)
theorem dX26_compare_31 : decode cX26_compare 31 = .ok (.getfield 17, 3) := dk_180 0 17 (dk_at dksX26_compare_1 7 rfl rfl)
theorem dX26_compare_34 : decode cX26_compare 34 = .ok (.ifCond .eq 8, 3) := dk_153 0 8 (dk_at dksX26_compare_1 10 rfl rfl)
theorem dX26_compare_37 : decode cX26_compare 37 = .ok (.iload_n 2, 1) := dk_28 (dk_at dksX26_compare_1 13 rfl rfl)
theorem dX26_compare_38 : decode cX26_compare 38 = .ok (.ineg, 1) := dk_116 (dk_at dksX26_compare_1 14 rfl rfl)
theorem dX26_compare_39 : decode cX26_compare 39 = .ok (.goto 4, 3) := dk_167 0 4 (dk_at dksX26_compare_1 15 rfl rfl)
theorem dX26_compare_42 : decode cX26_compare 42 = .ok (.iload_n 2, 1) := dk_28 (dk_at dksX26_compare_1 18 rfl rfl)
theorem dX26_compare_43 : decode cX26_compare 43 = .ok (.ireturn, 1) := dk_172 (dk_at dksX26_compare_1 19 rfl rfl)
abbrev cX26_compareSize : ByteArray := prog_28_method_11_code
def yX26_compareSize : MethodName := ⟨RX26, "compareSize", "(LContractLedgerModel$Num;)I"⟩
def dkwX26_compareSize_3 : List UInt8 := [180, 0, 7, 28, 46, 43, 180, 0, 7, 28, 46, 162, 0, 7, 2, 167, 0, 4, 4, 172]
abbrev dktX26_compareSize_3 : List UInt8 := dkwX26_compareSize_3 ++ []
def dkwX26_compareSize_2 : List UInt8 := [180, 0, 7, 28, 46, 160, 0, 9, 132, 2, 255, 167, 255, 234, 28, 156, 0, 7, 3, 167, 0, 23, 42]
abbrev dktX26_compareSize_2 : List UInt8 := dkwX26_compareSize_2 ++ dktX26_compareSize_3
def dkwX26_compareSize_1 : List UInt8 := [167, 0, 4, 4, 172, 42, 180, 0, 13, 4, 100, 61, 28, 155, 0, 24, 42, 180, 0, 7, 28, 46, 43]
abbrev dktX26_compareSize_1 : List UInt8 := dkwX26_compareSize_1 ++ dktX26_compareSize_2
def dkwX26_compareSize_0 : List UInt8 := [42, 180, 0, 13, 43, 180, 0, 13, 159, 0, 20, 42, 180, 0, 13, 43, 180, 0, 13, 162, 0, 7, 2]
abbrev dktX26_compareSize_0 : List UInt8 := dkwX26_compareSize_0 ++ dktX26_compareSize_1
theorem dksX26_compareSize_0 : cX26_compareSize.data.toList.drop 0 = dktX26_compareSize_0 := by decide +kernel
theorem dksX26_compareSize_1 : cX26_compareSize.data.toList.drop 23 = dktX26_compareSize_1 := dk_seg dksX26_compareSize_0 23 rfl rfl
theorem dksX26_compareSize_2 : cX26_compareSize.data.toList.drop 46 = dktX26_compareSize_2 := dk_seg dksX26_compareSize_1 23 rfl rfl
theorem dksX26_compareSize_3 : cX26_compareSize.data.toList.drop 69 = dktX26_compareSize_3 := dk_seg dksX26_compareSize_2 23 rfl rfl
theorem dX26_compareSize_0 : decode cX26_compareSize 0 = .ok (.aload_n 0, 1) := dk_42 (dk_at dksX26_compareSize_0 0 rfl rfl)
theorem dX26_compareSize_1 : decode cX26_compareSize 1 = .ok (.getfield 13, 3) := dk_180 0 13 (dk_at dksX26_compareSize_0 1 rfl rfl)
theorem dX26_compareSize_4 : decode cX26_compareSize 4 = .ok (.aload_n 1, 1) := dk_43 (dk_at dksX26_compareSize_0 4 rfl rfl)
theorem dX26_compareSize_5 : decode cX26_compareSize 5 = .ok (.getfield 13, 3) := dk_180 0 13 (dk_at dksX26_compareSize_0 5 rfl rfl)
theorem dX26_compareSize_8 : decode cX26_compareSize 8 = .ok (.if_icmp .eq 20, 3) := dk_159 0 20 (dk_at dksX26_compareSize_0 8 rfl rfl)
theorem dX26_compareSize_11 : decode cX26_compareSize 11 = .ok (.aload_n 0, 1) := dk_42 (dk_at dksX26_compareSize_0 11 rfl rfl)
theorem dX26_compareSize_12 : decode cX26_compareSize 12 = .ok (.getfield 13, 3) := dk_180 0 13 (dk_at dksX26_compareSize_0 12 rfl rfl)
theorem dX26_compareSize_15 : decode cX26_compareSize 15 = .ok (.aload_n 1, 1) := dk_43 (dk_at dksX26_compareSize_0 15 rfl rfl)
theorem dX26_compareSize_16 : decode cX26_compareSize 16 = .ok (.getfield 13, 3) := dk_180 0 13 (dk_at dksX26_compareSize_0 16 rfl rfl)
theorem dX26_compareSize_19 : decode cX26_compareSize 19 = .ok (.if_icmp .ge 7, 3) := dk_162 0 7 (dk_at dksX26_compareSize_0 19 rfl rfl)
theorem dX26_compareSize_22 : decode cX26_compareSize 22 = .ok (.iconst (-1), 1) := dk_2 (dk_at dksX26_compareSize_0 22 rfl rfl)
theorem dX26_compareSize_23 : decode cX26_compareSize 23 = .ok (.goto 4, 3) := dk_167 0 4 (dk_at dksX26_compareSize_1 0 rfl rfl)
theorem dX26_compareSize_26 : decode cX26_compareSize 26 = .ok (.iconst 1, 1) := dk_4 (dk_at dksX26_compareSize_1 3 rfl rfl)
theorem dX26_compareSize_27 : decode cX26_compareSize 27 = .ok (.ireturn, 1) := dk_172 (dk_at dksX26_compareSize_1 4 rfl rfl)
theorem dX26_compareSize_28 : decode cX26_compareSize 28 = .ok (.aload_n 0, 1) := dk_42 (dk_at dksX26_compareSize_1 5 rfl rfl)
theorem dX26_compareSize_29 : decode cX26_compareSize 29 = .ok (.getfield 13, 3) := dk_180 0 13 (dk_at dksX26_compareSize_1 6 rfl rfl)
theorem dX26_compareSize_32 : decode cX26_compareSize 32 = .ok (.iconst 1, 1) := dk_4 (dk_at dksX26_compareSize_1 9 rfl rfl)
theorem dX26_compareSize_33 : decode cX26_compareSize 33 = .ok (.isub, 1) := dk_100 (dk_at dksX26_compareSize_1 10 rfl rfl)
theorem dX26_compareSize_34 : decode cX26_compareSize 34 = .ok (.istore_n 2, 1) := dk_61 (dk_at dksX26_compareSize_1 11 rfl rfl)
theorem dX26_compareSize_35 : decode cX26_compareSize 35 = .ok (.iload_n 2, 1) := dk_28 (dk_at dksX26_compareSize_1 12 rfl rfl)
theorem dX26_compareSize_36 : decode cX26_compareSize 36 = .ok (.ifCond .lt 24, 3) := dk_155 0 24 (dk_at dksX26_compareSize_1 13 rfl rfl)
theorem dX26_compareSize_39 : decode cX26_compareSize 39 = .ok (.aload_n 0, 1) := dk_42 (dk_at dksX26_compareSize_1 16 rfl rfl)
theorem dX26_compareSize_40 : decode cX26_compareSize 40 = .ok (.getfield 7, 3) := dk_180 0 7 (dk_at dksX26_compareSize_1 17 rfl rfl)
theorem dX26_compareSize_43 : decode cX26_compareSize 43 = .ok (.iload_n 2, 1) := dk_28 (dk_at dksX26_compareSize_1 20 rfl rfl)
theorem dX26_compareSize_44 : decode cX26_compareSize 44 = .ok (.iaload, 1) := dk_46 (dk_at dksX26_compareSize_1 21 rfl rfl)
theorem dX26_compareSize_45 : decode cX26_compareSize 45 = .ok (.aload_n 1, 1) := dk_43 (dk_at dksX26_compareSize_1 22 rfl rfl)
theorem dX26_compareSize_46 : decode cX26_compareSize 46 = .ok (.getfield 7, 3) := dk_180 0 7 (dk_at dksX26_compareSize_2 0 rfl rfl)
theorem dX26_compareSize_49 : decode cX26_compareSize 49 = .ok (.iload_n 2, 1) := dk_28 (dk_at dksX26_compareSize_2 3 rfl rfl)
theorem dX26_compareSize_50 : decode cX26_compareSize 50 = .ok (.iaload, 1) := dk_46 (dk_at dksX26_compareSize_2 4 rfl rfl)
theorem dX26_compareSize_51 : decode cX26_compareSize 51 = .ok (.if_icmp .ne 9, 3) := dk_160 0 9 (dk_at dksX26_compareSize_2 5 rfl rfl)
theorem dX26_compareSize_54 : decode cX26_compareSize 54 = .ok (.iinc 2 (-1), 3) := dk_132 2 255 (dk_at dksX26_compareSize_2 8 rfl rfl)
theorem dX26_compareSize_57 : decode cX26_compareSize 57 = .ok (.goto (-22), 3) := dk_167 255 234 (dk_at dksX26_compareSize_2 11 rfl rfl)
theorem dX26_compareSize_60 : decode cX26_compareSize 60 = .ok (.iload_n 2, 1) := dk_28 (dk_at dksX26_compareSize_2 14 rfl rfl)
theorem dX26_compareSize_61 : decode cX26_compareSize 61 = .ok (.ifCond .ge 7, 3) := dk_156 0 7 (dk_at dksX26_compareSize_2 15 rfl rfl)
theorem dX26_compareSize_64 : decode cX26_compareSize 64 = .ok (.iconst 0, 1) := dk_3 (dk_at dksX26_compareSize_2 18 rfl rfl)
theorem dX26_compareSize_65 : decode cX26_compareSize 65 = .ok (.goto 23, 3) := dk_167 0 23 (dk_at dksX26_compareSize_2 19 rfl rfl)
theorem dX26_compareSize_68 : decode cX26_compareSize 68 = .ok (.aload_n 0, 1) := dk_42 (dk_at dksX26_compareSize_2 22 rfl rfl)
theorem dX26_compareSize_69 : decode cX26_compareSize 69 = .ok (.getfield 7, 3) := dk_180 0 7 (dk_at dksX26_compareSize_3 0 rfl rfl)
theorem dX26_compareSize_72 : decode cX26_compareSize 72 = .ok (.iload_n 2, 1) := dk_28 (dk_at dksX26_compareSize_3 3 rfl rfl)
theorem dX26_compareSize_73 : decode cX26_compareSize 73 = .ok (.iaload, 1) := dk_46 (dk_at dksX26_compareSize_3 4 rfl rfl)
theorem dX26_compareSize_74 : decode cX26_compareSize 74 = .ok (.aload_n 1, 1) := dk_43 (dk_at dksX26_compareSize_3 5 rfl rfl)
theorem dX26_compareSize_75 : decode cX26_compareSize 75 = .ok (.getfield 7, 3) := dk_180 0 7 (dk_at dksX26_compareSize_3 6 rfl rfl)
theorem dX26_compareSize_78 : decode cX26_compareSize 78 = .ok (.iload_n 2, 1) := dk_28 (dk_at dksX26_compareSize_3 9 rfl rfl)
theorem dX26_compareSize_79 : decode cX26_compareSize 79 = .ok (.iaload, 1) := dk_46 (dk_at dksX26_compareSize_3 10 rfl rfl)
theorem dX26_compareSize_80 : decode cX26_compareSize 80 = .ok (.if_icmp .ge 7, 3) := dk_162 0 7 (dk_at dksX26_compareSize_3 11 rfl rfl)
theorem dX26_compareSize_83 : decode cX26_compareSize 83 = .ok (.iconst (-1), 1) := dk_2 (dk_at dksX26_compareSize_3 14 rfl rfl)
theorem dX26_compareSize_84 : decode cX26_compareSize 84 = .ok (.goto 4, 3) := dk_167 0 4 (dk_at dksX26_compareSize_3 15 rfl rfl)
theorem dX26_compareSize_87 : decode cX26_compareSize 87 = .ok (.iconst 1, 1) := dk_4 (dk_at dksX26_compareSize_3 18 rfl rfl)
theorem dX26_compareSize_88 : decode cX26_compareSize 88 = .ok (.ireturn, 1) := dk_172 (dk_at dksX26_compareSize_3 19 rfl rfl)
abbrev cX26_small : ByteArray := prog_28_method_4_code
def yX26_small : MethodName := ⟨RX26, "small", "(J)V"⟩
def dkwX26_small_3 : List UInt8 := [20, 0, 24, 109, 66, 167, 255, 202, 177]
abbrev dktX26_small_3 : List UInt8 := dkwX26_small_3 ++ []
def dkwX26_small_2 : List UInt8 := [156, 0, 9, 22, 5, 117, 167, 0, 5, 22, 5, 136, 79, 42, 89, 180, 0, 13, 4, 96, 181, 0, 13, 33]
abbrev dktX26_small_2 : List UInt8 := dkwX26_small_2 ++ dktX26_small_3
def dkwX26_small_1 : List UInt8 := [153, 0, 54, 33, 20, 0, 24, 113, 55, 5, 42, 180, 0, 7, 42, 180, 0, 13, 22, 5, 9, 148]
abbrev dktX26_small_1 : List UInt8 := dkwX26_small_1 ++ dktX26_small_2
def dkwX26_small_0 : List UInt8 := [42, 182, 0, 21, 42, 31, 9, 148, 156, 0, 7, 4, 167, 0, 4, 3, 181, 0, 17, 31, 66, 33, 9, 148]
abbrev dktX26_small_0 : List UInt8 := dkwX26_small_0 ++ dktX26_small_1
theorem dksX26_small_0 : cX26_small.data.toList.drop 0 = dktX26_small_0 := by decide +kernel
theorem dksX26_small_1 : cX26_small.data.toList.drop 24 = dktX26_small_1 := dk_seg dksX26_small_0 24 rfl rfl
theorem dksX26_small_2 : cX26_small.data.toList.drop 46 = dktX26_small_2 := dk_seg dksX26_small_1 22 rfl rfl
theorem dksX26_small_3 : cX26_small.data.toList.drop 70 = dktX26_small_3 := dk_seg dksX26_small_2 24 rfl rfl
theorem dX26_small_0 : decode cX26_small 0 = .ok (.aload_n 0, 1) := dk_42 (dk_at dksX26_small_0 0 rfl rfl)
theorem dX26_small_1 : decode cX26_small 1 = .ok (.invokevirtual 21, 3) := dk_182 0 21 (dk_at dksX26_small_0 1 rfl rfl)
theorem dX26_small_4 : decode cX26_small 4 = .ok (.aload_n 0, 1) := dk_42 (dk_at dksX26_small_0 4 rfl rfl)
theorem dX26_small_5 : decode cX26_small 5 = .ok (.lload_n 1, 1) := dk_31 (dk_at dksX26_small_0 5 rfl rfl)
theorem dX26_small_6 : decode cX26_small 6 = .ok (.lconst 0, 1) := dk_9 (dk_at dksX26_small_0 6 rfl rfl)
theorem dX26_small_7 : decode cX26_small 7 = .ok (.lcmp, 1) := dk_148 (dk_at dksX26_small_0 7 rfl rfl)
theorem dX26_small_8 : decode cX26_small 8 = .ok (.ifCond .ge 7, 3) := dk_156 0 7 (dk_at dksX26_small_0 8 rfl rfl)
theorem dX26_small_11 : decode cX26_small 11 = .ok (.iconst 1, 1) := dk_4 (dk_at dksX26_small_0 11 rfl rfl)
theorem dX26_small_12 : decode cX26_small 12 = .ok (.goto 4, 3) := dk_167 0 4 (dk_at dksX26_small_0 12 rfl rfl)
theorem dX26_small_15 : decode cX26_small 15 = .ok (.iconst 0, 1) := dk_3 (dk_at dksX26_small_0 15 rfl rfl)
theorem dX26_small_16 : decode cX26_small 16 = .ok (.putfield 17, 3) := dk_181 0 17 (dk_at dksX26_small_0 16 rfl rfl)
theorem dX26_small_19 : decode cX26_small 19 = .ok (.lload_n 1, 1) := dk_31 (dk_at dksX26_small_0 19 rfl rfl)
theorem dX26_small_20 : decode cX26_small 20 = .ok (.lstore_n 3, 1) := dk_66 (dk_at dksX26_small_0 20 rfl rfl)
theorem dX26_small_21 : decode cX26_small 21 = .ok (.lload_n 3, 1) := dk_33 (dk_at dksX26_small_0 21 rfl rfl)
theorem dX26_small_22 : decode cX26_small 22 = .ok (.lconst 0, 1) := dk_9 (dk_at dksX26_small_0 22 rfl rfl)
theorem dX26_small_23 : decode cX26_small 23 = .ok (.lcmp, 1) := dk_148 (dk_at dksX26_small_0 23 rfl rfl)
theorem dX26_small_24 : decode cX26_small 24 = .ok (.ifCond .eq 54, 3) := dk_153 0 54 (dk_at dksX26_small_1 0 rfl rfl)
theorem dX26_small_27 : decode cX26_small 27 = .ok (.lload_n 3, 1) := dk_33 (dk_at dksX26_small_1 3 rfl rfl)
theorem dX26_small_28 : decode cX26_small 28 = .ok (.ldc2_w 24, 3) := dk_20 0 24 (dk_at dksX26_small_1 4 rfl rfl)
theorem dX26_small_31 : decode cX26_small 31 = .ok (.lrem, 1) := dk_113 (dk_at dksX26_small_1 7 rfl rfl)
theorem dX26_small_32 : decode cX26_small 32 = .ok (.lstore 5, 2) := dk_55 5 (dk_at dksX26_small_1 8 rfl rfl)
theorem dX26_small_34 : decode cX26_small 34 = .ok (.aload_n 0, 1) := dk_42 (dk_at dksX26_small_1 10 rfl rfl)
theorem dX26_small_35 : decode cX26_small 35 = .ok (.getfield 7, 3) := dk_180 0 7 (dk_at dksX26_small_1 11 rfl rfl)
theorem dX26_small_38 : decode cX26_small 38 = .ok (.aload_n 0, 1) := dk_42 (dk_at dksX26_small_1 14 rfl rfl)
theorem dX26_small_39 : decode cX26_small 39 = .ok (.getfield 13, 3) := dk_180 0 13 (dk_at dksX26_small_1 15 rfl rfl)
theorem dX26_small_42 : decode cX26_small 42 = .ok (.lload 5, 2) := dk_22 5 (dk_at dksX26_small_1 18 rfl rfl)
theorem dX26_small_44 : decode cX26_small 44 = .ok (.lconst 0, 1) := dk_9 (dk_at dksX26_small_1 20 rfl rfl)
theorem dX26_small_45 : decode cX26_small 45 = .ok (.lcmp, 1) := dk_148 (dk_at dksX26_small_1 21 rfl rfl)
theorem dX26_small_46 : decode cX26_small 46 = .ok (.ifCond .ge 9, 3) := dk_156 0 9 (dk_at dksX26_small_2 0 rfl rfl)
theorem dX26_small_49 : decode cX26_small 49 = .ok (.lload 5, 2) := dk_22 5 (dk_at dksX26_small_2 3 rfl rfl)
theorem dX26_small_51 : decode cX26_small 51 = .ok (.lneg, 1) := dk_117 (dk_at dksX26_small_2 5 rfl rfl)
theorem dX26_small_52 : decode cX26_small 52 = .ok (.goto 5, 3) := dk_167 0 5 (dk_at dksX26_small_2 6 rfl rfl)
theorem dX26_small_55 : decode cX26_small 55 = .ok (.lload 5, 2) := dk_22 5 (dk_at dksX26_small_2 9 rfl rfl)
theorem dX26_small_57 : decode cX26_small 57 = .ok (.l2i, 1) := dk_136 (dk_at dksX26_small_2 11 rfl rfl)
theorem dX26_small_58 : decode cX26_small 58 = .ok (.iastore, 1) := dk_79 (dk_at dksX26_small_2 12 rfl rfl)
theorem dX26_small_59 : decode cX26_small 59 = .ok (.aload_n 0, 1) := dk_42 (dk_at dksX26_small_2 13 rfl rfl)
theorem dX26_small_60 : decode cX26_small 60 = .ok (.dup, 1) := dk_89 (dk_at dksX26_small_2 14 rfl rfl)
theorem dX26_small_61 : decode cX26_small 61 = .ok (.getfield 13, 3) := dk_180 0 13 (dk_at dksX26_small_2 15 rfl rfl)
theorem dX26_small_64 : decode cX26_small 64 = .ok (.iconst 1, 1) := dk_4 (dk_at dksX26_small_2 18 rfl rfl)
theorem dX26_small_65 : decode cX26_small 65 = .ok (.iadd, 1) := dk_96 (dk_at dksX26_small_2 19 rfl rfl)
theorem dX26_small_66 : decode cX26_small 66 = .ok (.putfield 13, 3) := dk_181 0 13 (dk_at dksX26_small_2 20 rfl rfl)
theorem dX26_small_69 : decode cX26_small 69 = .ok (.lload_n 3, 1) := dk_33 (dk_at dksX26_small_2 23 rfl rfl)
theorem dX26_small_70 : decode cX26_small 70 = .ok (.ldc2_w 24, 3) := dk_20 0 24 (dk_at dksX26_small_3 0 rfl rfl)
theorem dX26_small_73 : decode cX26_small 73 = .ok (.ldiv, 1) := dk_109 (dk_at dksX26_small_3 3 rfl rfl)
theorem dX26_small_74 : decode cX26_small 74 = .ok (.lstore_n 3, 1) := dk_66 (dk_at dksX26_small_3 4 rfl rfl)
theorem dX26_small_75 : decode cX26_small 75 = .ok (.goto (-54), 3) := dk_167 255 202 (dk_at dksX26_small_3 5 rfl rfl)
theorem dX26_small_78 : decode cX26_small 78 = .ok (.return_, 1) := dk_177 (dk_at dksX26_small_3 8 rfl rfl)
abbrev cX26_copy : ByteArray := prog_28_method_3_code
def yX26_copy : MethodName := ⟨RX26, "copy", "(LContractLedgerModel$Num;)V"⟩
def dkwX26_copy_1 : List UInt8 := [162, 0, 21, 42, 180, 0, 7, 28, 43, 180, 0, 7, 28, 46, 79, 132, 2, 1, 167, 255, 233, 177]
abbrev dktX26_copy_1 : List UInt8 := dkwX26_copy_1 ++ []
def dkwX26_copy_0 : List UInt8 := [42, 43, 180, 0, 13, 181, 0, 13, 42, 43, 180, 0, 17, 181, 0, 17, 3, 61, 28, 42, 180, 0, 13]
abbrev dktX26_copy_0 : List UInt8 := dkwX26_copy_0 ++ dktX26_copy_1
theorem dksX26_copy_0 : cX26_copy.data.toList.drop 0 = dktX26_copy_0 := by decide +kernel
theorem dksX26_copy_1 : cX26_copy.data.toList.drop 23 = dktX26_copy_1 := dk_seg dksX26_copy_0 23 rfl rfl
theorem dX26_copy_0 : decode cX26_copy 0 = .ok (.aload_n 0, 1) := dk_42 (dk_at dksX26_copy_0 0 rfl rfl)
theorem dX26_copy_1 : decode cX26_copy 1 = .ok (.aload_n 1, 1) := dk_43 (dk_at dksX26_copy_0 1 rfl rfl)
theorem dX26_copy_2 : decode cX26_copy 2 = .ok (.getfield 13, 3) := dk_180 0 13 (dk_at dksX26_copy_0 2 rfl rfl)
theorem dX26_copy_5 : decode cX26_copy 5 = .ok (.putfield 13, 3) := dk_181 0 13 (dk_at dksX26_copy_0 5 rfl rfl)
theorem dX26_copy_8 : decode cX26_copy 8 = .ok (.aload_n 0, 1) := dk_42 (dk_at dksX26_copy_0 8 rfl rfl)
theorem dX26_copy_9 : decode cX26_copy 9 = .ok (.aload_n 1, 1) := dk_43 (dk_at dksX26_copy_0 9 rfl rfl)
theorem dX26_copy_10 : decode cX26_copy 10 = .ok (.getfield 17, 3) := dk_180 0 17 (dk_at dksX26_copy_0 10 rfl rfl)
theorem dX26_copy_13 : decode cX26_copy 13 = .ok (.putfield 17, 3) := dk_181 0 17 (dk_at dksX26_copy_0 13 rfl rfl)
theorem dX26_copy_16 : decode cX26_copy 16 = .ok (.iconst 0, 1) := dk_3 (dk_at dksX26_copy_0 16 rfl rfl)
theorem dX26_copy_17 : decode cX26_copy 17 = .ok (.istore_n 2, 1) := dk_61 (dk_at dksX26_copy_0 17 rfl rfl)
theorem dX26_copy_18 : decode cX26_copy 18 = .ok (.iload_n 2, 1) := dk_28 (dk_at dksX26_copy_0 18 rfl rfl)
theorem dX26_copy_19 : decode cX26_copy 19 = .ok (.aload_n 0, 1) := dk_42 (dk_at dksX26_copy_0 19 rfl rfl)
theorem dX26_copy_20 : decode cX26_copy 20 = .ok (.getfield 13, 3) := dk_180 0 13 (dk_at dksX26_copy_0 20 rfl rfl)
theorem dX26_copy_23 : decode cX26_copy 23 = .ok (.if_icmp .ge 21, 3) := dk_162 0 21 (dk_at dksX26_copy_1 0 rfl rfl)
theorem dX26_copy_26 : decode cX26_copy 26 = .ok (.aload_n 0, 1) := dk_42 (dk_at dksX26_copy_1 3 rfl rfl)
theorem dX26_copy_27 : decode cX26_copy 27 = .ok (.getfield 7, 3) := dk_180 0 7 (dk_at dksX26_copy_1 4 rfl rfl)
theorem dX26_copy_30 : decode cX26_copy 30 = .ok (.iload_n 2, 1) := dk_28 (dk_at dksX26_copy_1 7 rfl rfl)
theorem dX26_copy_31 : decode cX26_copy 31 = .ok (.aload_n 1, 1) := dk_43 (dk_at dksX26_copy_1 8 rfl rfl)
theorem dX26_copy_32 : decode cX26_copy 32 = .ok (.getfield 7, 3) := dk_180 0 7 (dk_at dksX26_copy_1 9 rfl rfl)
theorem dX26_copy_35 : decode cX26_copy 35 = .ok (.iload_n 2, 1) := dk_28 (dk_at dksX26_copy_1 12 rfl rfl)
theorem dX26_copy_36 : decode cX26_copy 36 = .ok (.iaload, 1) := dk_46 (dk_at dksX26_copy_1 13 rfl rfl)
theorem dX26_copy_37 : decode cX26_copy 37 = .ok (.iastore, 1) := dk_79 (dk_at dksX26_copy_1 14 rfl rfl)
theorem dX26_copy_38 : decode cX26_copy 38 = .ok (.iinc 2 1, 3) := dk_132 2 1 (dk_at dksX26_copy_1 15 rfl rfl)
theorem dX26_copy_41 : decode cX26_copy 41 = .ok (.goto (-23), 3) := dk_167 255 233 (dk_at dksX26_copy_1 18 rfl rfl)
theorem dX26_copy_44 : decode cX26_copy 44 = .ok (.return_, 1) := dk_177 (dk_at dksX26_copy_1 21 rfl rfl)
abbrev cX26_sum : ByteArray := prog_28_method_13_code
def yX26_sum : MethodName := ⟨RX26, "sum", "(LContractLedgerModel$Num;LContractLedgerModel$Num;Z)V"⟩
def dkwX26_sum_13 : List UInt8 := [182, 0, 39, 177]
abbrev dktX26_sum_13 : List UInt8 := dkwX26_sum_13 ++ []
def dkwX26_sum_12 : List UInt8 := [104, 96, 79, 132, 11, 1, 167, 255, 199, 42, 21, 10, 181, 0, 13, 42, 21, 8, 181, 0, 17, 42]
abbrev dktX26_sum_12 : List UInt8 := dkwX26_sum_12 ++ dktX26_sum_13
def dkwX26_sum_11 : List UInt8 := [21, 12, 156, 0, 7, 4, 167, 0, 4, 3, 54, 9, 42, 180, 0, 7, 21, 11, 21, 12, 18, 38, 21, 9]
abbrev dktX26_sum_11 : List UInt8 := dkwX26_sum_11 ++ dktX26_sum_12
def dkwX26_sum_10 : List UInt8 := [162, 0, 56, 25, 6, 21, 11, 182, 0, 34, 25, 7, 21, 11, 182, 0, 34, 100, 21, 9, 100, 54, 12]
abbrev dktX26_sum_10 : List UInt8 := dkwX26_sum_10 ++ dktX26_sum_11
def dkwX26_sum_9 : List UInt8 := [167, 0, 5, 21, 4, 54, 8, 3, 54, 9, 25, 6, 180, 0, 13, 54, 10, 3, 54, 11, 21, 11, 21, 10]
abbrev dktX26_sum_9 : List UInt8 := dkwX26_sum_9 ++ dktX26_sum_10
def dkwX26_sum_8 : List UInt8 := [44, 58, 6, 21, 5, 155, 0, 7, 44, 167, 0, 4, 43, 58, 7, 21, 5, 155, 0, 10, 43, 180, 0, 17]
abbrev dktX26_sum_8 : List UInt8 := dkwX26_sum_8 ++ dktX26_sum_9
def dkwX26_sum_7 : List UInt8 := [181, 0, 17, 42, 182, 0, 39, 177, 43, 44, 182, 0, 30, 54, 5, 21, 5, 155, 0, 7, 43, 167, 0, 4]
abbrev dktX26_sum_7 : List UInt8 := dkwX26_sum_7 ++ dktX26_sum_8
def dkwX26_sum_6 : List UInt8 := [167, 255, 209, 42, 180, 0, 7, 21, 6, 21, 5, 79, 42, 21, 6, 4, 96, 181, 0, 13, 42, 21, 7]
abbrev dktX26_sum_6 : List UInt8 := dkwX26_sum_6 ++ dktX26_sum_7
def dkwX26_sum_5 : List UInt8 := [54, 9, 42, 180, 0, 7, 21, 8, 21, 9, 18, 38, 112, 79, 21, 9, 18, 38, 108, 54, 5, 132, 8, 1]
abbrev dktX26_sum_5 : List UInt8 := dkwX26_sum_5 ++ dktX26_sum_6
def dkwX26_sum_4 : List UInt8 := [21, 8, 21, 6, 162, 0, 46, 43, 21, 8, 182, 0, 34, 44, 21, 8, 182, 0, 34, 96, 21, 5, 96]
abbrev dktX26_sum_4 : List UInt8 := dkwX26_sum_4 ++ dktX26_sum_5
def dkwX26_sum_3 : List UInt8 := [54, 6, 43, 180, 0, 13, 154, 0, 8, 21, 4, 167, 0, 7, 43, 180, 0, 17, 54, 7, 3, 54, 8]
abbrev dktX26_sum_3 : List UInt8 := dkwX26_sum_3 ++ dktX26_sum_4
def dkwX26_sum_2 : List UInt8 := [54, 5, 43, 180, 0, 13, 44, 180, 0, 13, 164, 0, 10, 43, 180, 0, 13, 167, 0, 7, 44, 180, 0, 13]
abbrev dktX26_sum_2 : List UInt8 := dkwX26_sum_2 ++ dktX26_sum_3
def dkwX26_sum_1 : List UInt8 := [180, 0, 17, 21, 4, 159, 0, 17, 43, 180, 0, 13, 153, 0, 10, 44, 180, 0, 13, 154, 0, 129, 3]
abbrev dktX26_sum_1 : List UInt8 := dkwX26_sum_1 ++ dktX26_sum_2
def dkwX26_sum_0 : List UInt8 := [44, 180, 0, 13, 158, 0, 15, 44, 180, 0, 17, 29, 159, 0, 7, 4, 167, 0, 4, 3, 54, 4, 43]
abbrev dktX26_sum_0 : List UInt8 := dkwX26_sum_0 ++ dktX26_sum_1
theorem dksX26_sum_0 : cX26_sum.data.toList.drop 0 = dktX26_sum_0 := by decide +kernel
theorem dksX26_sum_1 : cX26_sum.data.toList.drop 23 = dktX26_sum_1 := dk_seg dksX26_sum_0 23 rfl rfl
theorem dksX26_sum_2 : cX26_sum.data.toList.drop 46 = dktX26_sum_2 := dk_seg dksX26_sum_1 23 rfl rfl
theorem dksX26_sum_3 : cX26_sum.data.toList.drop 70 = dktX26_sum_3 := dk_seg dksX26_sum_2 24 rfl rfl
theorem dksX26_sum_4 : cX26_sum.data.toList.drop 93 = dktX26_sum_4 := dk_seg dksX26_sum_3 23 rfl rfl
theorem dksX26_sum_5 : cX26_sum.data.toList.drop 116 = dktX26_sum_5 := dk_seg dksX26_sum_4 23 rfl rfl
theorem dksX26_sum_6 : cX26_sum.data.toList.drop 140 = dktX26_sum_6 := dk_seg dksX26_sum_5 24 rfl rfl
theorem dksX26_sum_7 : cX26_sum.data.toList.drop 163 = dktX26_sum_7 := dk_seg dksX26_sum_6 23 rfl rfl
theorem dksX26_sum_8 : cX26_sum.data.toList.drop 187 = dktX26_sum_8 := dk_seg dksX26_sum_7 24 rfl rfl
theorem dksX26_sum_9 : cX26_sum.data.toList.drop 211 = dktX26_sum_9 := dk_seg dksX26_sum_8 24 rfl rfl
theorem dksX26_sum_10 : cX26_sum.data.toList.drop 235 = dktX26_sum_10 := dk_seg dksX26_sum_9 24 rfl rfl
theorem dksX26_sum_11 : cX26_sum.data.toList.drop 258 = dktX26_sum_11 := dk_seg dksX26_sum_10 23 rfl rfl
theorem dksX26_sum_12 : cX26_sum.data.toList.drop 282 = dktX26_sum_12 := dk_seg dksX26_sum_11 24 rfl rfl
theorem dksX26_sum_13 : cX26_sum.data.toList.drop 304 = dktX26_sum_13 := dk_seg dksX26_sum_12 22 rfl rfl
theorem dX26_sum_0 : decode cX26_sum 0 = .ok (.aload_n 2, 1) := dk_44 (dk_at dksX26_sum_0 0 rfl rfl)
theorem dX26_sum_1 : decode cX26_sum 1 = .ok (.getfield 13, 3) := dk_180 0 13 (dk_at dksX26_sum_0 1 rfl rfl)
theorem dX26_sum_4 : decode cX26_sum 4 = .ok (.ifCond .le 15, 3) := dk_158 0 15 (dk_at dksX26_sum_0 4 rfl rfl)
theorem dX26_sum_7 : decode cX26_sum 7 = .ok (.aload_n 2, 1) := dk_44 (dk_at dksX26_sum_0 7 rfl rfl)
theorem dX26_sum_8 : decode cX26_sum 8 = .ok (.getfield 17, 3) := dk_180 0 17 (dk_at dksX26_sum_0 8 rfl rfl)
theorem dX26_sum_11 : decode cX26_sum 11 = .ok (.iload_n 3, 1) := dk_29 (dk_at dksX26_sum_0 11 rfl rfl)
theorem dX26_sum_12 : decode cX26_sum 12 = .ok (.if_icmp .eq 7, 3) := dk_159 0 7 (dk_at dksX26_sum_0 12 rfl rfl)
theorem dX26_sum_15 : decode cX26_sum 15 = .ok (.iconst 1, 1) := dk_4 (dk_at dksX26_sum_0 15 rfl rfl)
theorem dX26_sum_16 : decode cX26_sum 16 = .ok (.goto 4, 3) := dk_167 0 4 (dk_at dksX26_sum_0 16 rfl rfl)
theorem dX26_sum_19 : decode cX26_sum 19 = .ok (.iconst 0, 1) := dk_3 (dk_at dksX26_sum_0 19 rfl rfl)
theorem dX26_sum_20 : decode cX26_sum 20 = .ok (.istore 4, 2) := dk_54 4 (dk_at dksX26_sum_0 20 rfl rfl)
theorem dX26_sum_22 : decode cX26_sum 22 = .ok (.aload_n 1, 1) := dk_43 (dk_at dksX26_sum_0 22 rfl rfl)
theorem dX26_sum_23 : decode cX26_sum 23 = .ok (.getfield 17, 3) := dk_180 0 17 (dk_at dksX26_sum_1 0 rfl rfl)
theorem dX26_sum_26 : decode cX26_sum 26 = .ok (.iload 4, 2) := dk_21 4 (dk_at dksX26_sum_1 3 rfl rfl)
theorem dX26_sum_28 : decode cX26_sum 28 = .ok (.if_icmp .eq 17, 3) := dk_159 0 17 (dk_at dksX26_sum_1 5 rfl rfl)
theorem dX26_sum_31 : decode cX26_sum 31 = .ok (.aload_n 1, 1) := dk_43 (dk_at dksX26_sum_1 8 rfl rfl)
theorem dX26_sum_32 : decode cX26_sum 32 = .ok (.getfield 13, 3) := dk_180 0 13 (dk_at dksX26_sum_1 9 rfl rfl)
theorem dX26_sum_35 : decode cX26_sum 35 = .ok (.ifCond .eq 10, 3) := dk_153 0 10 (dk_at dksX26_sum_1 12 rfl rfl)
theorem dX26_sum_38 : decode cX26_sum 38 = .ok (.aload_n 2, 1) := dk_44 (dk_at dksX26_sum_1 15 rfl rfl)
theorem dX26_sum_39 : decode cX26_sum 39 = .ok (.getfield 13, 3) := dk_180 0 13 (dk_at dksX26_sum_1 16 rfl rfl)
theorem dX26_sum_42 : decode cX26_sum 42 = .ok (.ifCond .ne 129, 3) := dk_154 0 129 (dk_at dksX26_sum_1 19 rfl rfl)
theorem dX26_sum_45 : decode cX26_sum 45 = .ok (.iconst 0, 1) := dk_3 (dk_at dksX26_sum_1 22 rfl rfl)
theorem dX26_sum_46 : decode cX26_sum 46 = .ok (.istore 5, 2) := dk_54 5 (dk_at dksX26_sum_2 0 rfl rfl)
theorem dX26_sum_48 : decode cX26_sum 48 = .ok (.aload_n 1, 1) := dk_43 (dk_at dksX26_sum_2 2 rfl rfl)
theorem dX26_sum_49 : decode cX26_sum 49 = .ok (.getfield 13, 3) := dk_180 0 13 (dk_at dksX26_sum_2 3 rfl rfl)
theorem dX26_sum_52 : decode cX26_sum 52 = .ok (.aload_n 2, 1) := dk_44 (dk_at dksX26_sum_2 6 rfl rfl)
theorem dX26_sum_53 : decode cX26_sum 53 = .ok (.getfield 13, 3) := dk_180 0 13 (dk_at dksX26_sum_2 7 rfl rfl)
theorem dX26_sum_56 : decode cX26_sum 56 = .ok (.if_icmp .le 10, 3) := dk_164 0 10 (dk_at dksX26_sum_2 10 rfl rfl)
theorem dX26_sum_59 : decode cX26_sum 59 = .ok (.aload_n 1, 1) := dk_43 (dk_at dksX26_sum_2 13 rfl rfl)
theorem dX26_sum_60 : decode cX26_sum 60 = .ok (.getfield 13, 3) := dk_180 0 13 (dk_at dksX26_sum_2 14 rfl rfl)
theorem dX26_sum_63 : decode cX26_sum 63 = .ok (.goto 7, 3) := dk_167 0 7 (dk_at dksX26_sum_2 17 rfl rfl)
theorem dX26_sum_66 : decode cX26_sum 66 = .ok (.aload_n 2, 1) := dk_44 (dk_at dksX26_sum_2 20 rfl rfl)
theorem dX26_sum_67 : decode cX26_sum 67 = .ok (.getfield 13, 3) := dk_180 0 13 (dk_at dksX26_sum_2 21 rfl rfl)
theorem dX26_sum_70 : decode cX26_sum 70 = .ok (.istore 6, 2) := dk_54 6 (dk_at dksX26_sum_3 0 rfl rfl)
theorem dX26_sum_72 : decode cX26_sum 72 = .ok (.aload_n 1, 1) := dk_43 (dk_at dksX26_sum_3 2 rfl rfl)
theorem dX26_sum_73 : decode cX26_sum 73 = .ok (.getfield 13, 3) := dk_180 0 13 (dk_at dksX26_sum_3 3 rfl rfl)
theorem dX26_sum_76 : decode cX26_sum 76 = .ok (.ifCond .ne 8, 3) := dk_154 0 8 (dk_at dksX26_sum_3 6 rfl rfl)
theorem dX26_sum_79 : decode cX26_sum 79 = .ok (.iload 4, 2) := dk_21 4 (dk_at dksX26_sum_3 9 rfl rfl)
theorem dX26_sum_81 : decode cX26_sum 81 = .ok (.goto 7, 3) := dk_167 0 7 (dk_at dksX26_sum_3 11 rfl rfl)
theorem dX26_sum_84 : decode cX26_sum 84 = .ok (.aload_n 1, 1) := dk_43 (dk_at dksX26_sum_3 14 rfl rfl)
theorem dX26_sum_85 : decode cX26_sum 85 = .ok (.getfield 17, 3) := dk_180 0 17 (dk_at dksX26_sum_3 15 rfl rfl)
theorem dX26_sum_88 : decode cX26_sum 88 = .ok (.istore 7, 2) := dk_54 7 (dk_at dksX26_sum_3 18 rfl rfl)
theorem dX26_sum_90 : decode cX26_sum 90 = .ok (.iconst 0, 1) := dk_3 (dk_at dksX26_sum_3 20 rfl rfl)
theorem dX26_sum_91 : decode cX26_sum 91 = .ok (.istore 8, 2) := dk_54 8 (dk_at dksX26_sum_3 21 rfl rfl)
theorem dX26_sum_93 : decode cX26_sum 93 = .ok (.iload 8, 2) := dk_21 8 (dk_at dksX26_sum_4 0 rfl rfl)
theorem dX26_sum_95 : decode cX26_sum 95 = .ok (.iload 6, 2) := dk_21 6 (dk_at dksX26_sum_4 2 rfl rfl)
theorem dX26_sum_97 : decode cX26_sum 97 = .ok (.if_icmp .ge 46, 3) := dk_162 0 46 (dk_at dksX26_sum_4 4 rfl rfl)
theorem dX26_sum_100 : decode cX26_sum 100 = .ok (.aload_n 1, 1) := dk_43 (dk_at dksX26_sum_4 7 rfl rfl)
theorem dX26_sum_101 : decode cX26_sum 101 = .ok (.iload 8, 2) := dk_21 8 (dk_at dksX26_sum_4 8 rfl rfl)
theorem dX26_sum_103 : decode cX26_sum 103 = .ok (.invokevirtual 34, 3) := dk_182 0 34 (dk_at dksX26_sum_4 10 rfl rfl)
theorem dX26_sum_106 : decode cX26_sum 106 = .ok (.aload_n 2, 1) := dk_44 (dk_at dksX26_sum_4 13 rfl rfl)
theorem dX26_sum_107 : decode cX26_sum 107 = .ok (.iload 8, 2) := dk_21 8 (dk_at dksX26_sum_4 14 rfl rfl)
theorem dX26_sum_109 : decode cX26_sum 109 = .ok (.invokevirtual 34, 3) := dk_182 0 34 (dk_at dksX26_sum_4 16 rfl rfl)
theorem dX26_sum_112 : decode cX26_sum 112 = .ok (.iadd, 1) := dk_96 (dk_at dksX26_sum_4 19 rfl rfl)
theorem dX26_sum_113 : decode cX26_sum 113 = .ok (.iload 5, 2) := dk_21 5 (dk_at dksX26_sum_4 20 rfl rfl)
theorem dX26_sum_115 : decode cX26_sum 115 = .ok (.iadd, 1) := dk_96 (dk_at dksX26_sum_4 22 rfl rfl)
theorem dX26_sum_116 : decode cX26_sum 116 = .ok (.istore 9, 2) := dk_54 9 (dk_at dksX26_sum_5 0 rfl rfl)
theorem dX26_sum_118 : decode cX26_sum 118 = .ok (.aload_n 0, 1) := dk_42 (dk_at dksX26_sum_5 2 rfl rfl)
theorem dX26_sum_119 : decode cX26_sum 119 = .ok (.getfield 7, 3) := dk_180 0 7 (dk_at dksX26_sum_5 3 rfl rfl)
theorem dX26_sum_122 : decode cX26_sum 122 = .ok (.iload 8, 2) := dk_21 8 (dk_at dksX26_sum_5 6 rfl rfl)
theorem dX26_sum_124 : decode cX26_sum 124 = .ok (.iload 9, 2) := dk_21 9 (dk_at dksX26_sum_5 8 rfl rfl)
theorem dX26_sum_126 : decode cX26_sum 126 = .ok (.ldc 38, 2) := dk_18 38 (dk_at dksX26_sum_5 10 rfl rfl)
theorem dX26_sum_128 : decode cX26_sum 128 = .ok (.irem, 1) := dk_112 (dk_at dksX26_sum_5 12 rfl rfl)
theorem dX26_sum_129 : decode cX26_sum 129 = .ok (.iastore, 1) := dk_79 (dk_at dksX26_sum_5 13 rfl rfl)
theorem dX26_sum_130 : decode cX26_sum 130 = .ok (.iload 9, 2) := dk_21 9 (dk_at dksX26_sum_5 14 rfl rfl)
theorem dX26_sum_132 : decode cX26_sum 132 = .ok (.ldc 38, 2) := dk_18 38 (dk_at dksX26_sum_5 16 rfl rfl)
theorem dX26_sum_134 : decode cX26_sum 134 = .ok (.idiv, 1) := dk_108 (dk_at dksX26_sum_5 18 rfl rfl)
theorem dX26_sum_135 : decode cX26_sum 135 = .ok (.istore 5, 2) := dk_54 5 (dk_at dksX26_sum_5 19 rfl rfl)
theorem dX26_sum_137 : decode cX26_sum 137 = .ok (.iinc 8 1, 3) := dk_132 8 1 (dk_at dksX26_sum_5 21 rfl rfl)
theorem dX26_sum_140 : decode cX26_sum 140 = .ok (.goto (-47), 3) := dk_167 255 209 (dk_at dksX26_sum_6 0 rfl rfl)
theorem dX26_sum_143 : decode cX26_sum 143 = .ok (.aload_n 0, 1) := dk_42 (dk_at dksX26_sum_6 3 rfl rfl)
theorem dX26_sum_144 : decode cX26_sum 144 = .ok (.getfield 7, 3) := dk_180 0 7 (dk_at dksX26_sum_6 4 rfl rfl)
theorem dX26_sum_147 : decode cX26_sum 147 = .ok (.iload 6, 2) := dk_21 6 (dk_at dksX26_sum_6 7 rfl rfl)
theorem dX26_sum_149 : decode cX26_sum 149 = .ok (.iload 5, 2) := dk_21 5 (dk_at dksX26_sum_6 9 rfl rfl)
theorem dX26_sum_151 : decode cX26_sum 151 = .ok (.iastore, 1) := dk_79 (dk_at dksX26_sum_6 11 rfl rfl)
theorem dX26_sum_152 : decode cX26_sum 152 = .ok (.aload_n 0, 1) := dk_42 (dk_at dksX26_sum_6 12 rfl rfl)
theorem dX26_sum_153 : decode cX26_sum 153 = .ok (.iload 6, 2) := dk_21 6 (dk_at dksX26_sum_6 13 rfl rfl)
theorem dX26_sum_155 : decode cX26_sum 155 = .ok (.iconst 1, 1) := dk_4 (dk_at dksX26_sum_6 15 rfl rfl)
theorem dX26_sum_156 : decode cX26_sum 156 = .ok (.iadd, 1) := dk_96 (dk_at dksX26_sum_6 16 rfl rfl)
theorem dX26_sum_157 : decode cX26_sum 157 = .ok (.putfield 13, 3) := dk_181 0 13 (dk_at dksX26_sum_6 17 rfl rfl)
theorem dX26_sum_160 : decode cX26_sum 160 = .ok (.aload_n 0, 1) := dk_42 (dk_at dksX26_sum_6 20 rfl rfl)
theorem dX26_sum_161 : decode cX26_sum 161 = .ok (.iload 7, 2) := dk_21 7 (dk_at dksX26_sum_6 21 rfl rfl)
theorem dX26_sum_163 : decode cX26_sum 163 = .ok (.putfield 17, 3) := dk_181 0 17 (dk_at dksX26_sum_7 0 rfl rfl)
theorem dX26_sum_166 : decode cX26_sum 166 = .ok (.aload_n 0, 1) := dk_42 (dk_at dksX26_sum_7 3 rfl rfl)
theorem dX26_sum_167 : decode cX26_sum 167 = .ok (.invokevirtual 39, 3) := dk_182 0 39 (dk_at dksX26_sum_7 4 rfl rfl)
theorem dX26_sum_170 : decode cX26_sum 170 = .ok (.return_, 1) := dk_177 (dk_at dksX26_sum_7 7 rfl rfl)
theorem dX26_sum_171 : decode cX26_sum 171 = .ok (.aload_n 1, 1) := dk_43 (dk_at dksX26_sum_7 8 rfl rfl)
theorem dX26_sum_172 : decode cX26_sum 172 = .ok (.aload_n 2, 1) := dk_44 (dk_at dksX26_sum_7 9 rfl rfl)
theorem dX26_sum_173 : decode cX26_sum 173 = .ok (.invokevirtual 30, 3) := dk_182 0 30 (dk_at dksX26_sum_7 10 rfl rfl)
theorem dX26_sum_176 : decode cX26_sum 176 = .ok (.istore 5, 2) := dk_54 5 (dk_at dksX26_sum_7 13 rfl rfl)
theorem dX26_sum_178 : decode cX26_sum 178 = .ok (.iload 5, 2) := dk_21 5 (dk_at dksX26_sum_7 15 rfl rfl)
theorem dX26_sum_180 : decode cX26_sum 180 = .ok (.ifCond .lt 7, 3) := dk_155 0 7 (dk_at dksX26_sum_7 17 rfl rfl)
theorem dX26_sum_183 : decode cX26_sum 183 = .ok (.aload_n 1, 1) := dk_43 (dk_at dksX26_sum_7 20 rfl rfl)
theorem dX26_sum_184 : decode cX26_sum 184 = .ok (.goto 4, 3) := dk_167 0 4 (dk_at dksX26_sum_7 21 rfl rfl)
theorem dX26_sum_187 : decode cX26_sum 187 = .ok (.aload_n 2, 1) := dk_44 (dk_at dksX26_sum_8 0 rfl rfl)
theorem dX26_sum_188 : decode cX26_sum 188 = .ok (.astore 6, 2) := dk_58 6 (dk_at dksX26_sum_8 1 rfl rfl)
theorem dX26_sum_190 : decode cX26_sum 190 = .ok (.iload 5, 2) := dk_21 5 (dk_at dksX26_sum_8 3 rfl rfl)
theorem dX26_sum_192 : decode cX26_sum 192 = .ok (.ifCond .lt 7, 3) := dk_155 0 7 (dk_at dksX26_sum_8 5 rfl rfl)
theorem dX26_sum_195 : decode cX26_sum 195 = .ok (.aload_n 2, 1) := dk_44 (dk_at dksX26_sum_8 8 rfl rfl)
theorem dX26_sum_196 : decode cX26_sum 196 = .ok (.goto 4, 3) := dk_167 0 4 (dk_at dksX26_sum_8 9 rfl rfl)
theorem dX26_sum_199 : decode cX26_sum 199 = .ok (.aload_n 1, 1) := dk_43 (dk_at dksX26_sum_8 12 rfl rfl)
theorem dX26_sum_200 : decode cX26_sum 200 = .ok (.astore 7, 2) := dk_58 7 (dk_at dksX26_sum_8 13 rfl rfl)
theorem dX26_sum_202 : decode cX26_sum 202 = .ok (.iload 5, 2) := dk_21 5 (dk_at dksX26_sum_8 15 rfl rfl)
theorem dX26_sum_204 : decode cX26_sum 204 = .ok (.ifCond .lt 10, 3) := dk_155 0 10 (dk_at dksX26_sum_8 17 rfl rfl)
theorem dX26_sum_207 : decode cX26_sum 207 = .ok (.aload_n 1, 1) := dk_43 (dk_at dksX26_sum_8 20 rfl rfl)
theorem dX26_sum_208 : decode cX26_sum 208 = .ok (.getfield 17, 3) := dk_180 0 17 (dk_at dksX26_sum_8 21 rfl rfl)
theorem dX26_sum_211 : decode cX26_sum 211 = .ok (.goto 5, 3) := dk_167 0 5 (dk_at dksX26_sum_9 0 rfl rfl)
theorem dX26_sum_214 : decode cX26_sum 214 = .ok (.iload 4, 2) := dk_21 4 (dk_at dksX26_sum_9 3 rfl rfl)
theorem dX26_sum_216 : decode cX26_sum 216 = .ok (.istore 8, 2) := dk_54 8 (dk_at dksX26_sum_9 5 rfl rfl)
theorem dX26_sum_218 : decode cX26_sum 218 = .ok (.iconst 0, 1) := dk_3 (dk_at dksX26_sum_9 7 rfl rfl)
theorem dX26_sum_219 : decode cX26_sum 219 = .ok (.istore 9, 2) := dk_54 9 (dk_at dksX26_sum_9 8 rfl rfl)
theorem dX26_sum_221 : decode cX26_sum 221 = .ok (.aload 6, 2) := dk_25 6 (dk_at dksX26_sum_9 10 rfl rfl)
theorem dX26_sum_223 : decode cX26_sum 223 = .ok (.getfield 13, 3) := dk_180 0 13 (dk_at dksX26_sum_9 12 rfl rfl)
theorem dX26_sum_226 : decode cX26_sum 226 = .ok (.istore 10, 2) := dk_54 10 (dk_at dksX26_sum_9 15 rfl rfl)
theorem dX26_sum_228 : decode cX26_sum 228 = .ok (.iconst 0, 1) := dk_3 (dk_at dksX26_sum_9 17 rfl rfl)
theorem dX26_sum_229 : decode cX26_sum 229 = .ok (.istore 11, 2) := dk_54 11 (dk_at dksX26_sum_9 18 rfl rfl)
theorem dX26_sum_231 : decode cX26_sum 231 = .ok (.iload 11, 2) := dk_21 11 (dk_at dksX26_sum_9 20 rfl rfl)
theorem dX26_sum_233 : decode cX26_sum 233 = .ok (.iload 10, 2) := dk_21 10 (dk_at dksX26_sum_9 22 rfl rfl)
theorem dX26_sum_235 : decode cX26_sum 235 = .ok (.if_icmp .ge 56, 3) := dk_162 0 56 (dk_at dksX26_sum_10 0 rfl rfl)
theorem dX26_sum_238 : decode cX26_sum 238 = .ok (.aload 6, 2) := dk_25 6 (dk_at dksX26_sum_10 3 rfl rfl)
theorem dX26_sum_240 : decode cX26_sum 240 = .ok (.iload 11, 2) := dk_21 11 (dk_at dksX26_sum_10 5 rfl rfl)
theorem dX26_sum_242 : decode cX26_sum 242 = .ok (.invokevirtual 34, 3) := dk_182 0 34 (dk_at dksX26_sum_10 7 rfl rfl)
theorem dX26_sum_245 : decode cX26_sum 245 = .ok (.aload 7, 2) := dk_25 7 (dk_at dksX26_sum_10 10 rfl rfl)
theorem dX26_sum_247 : decode cX26_sum 247 = .ok (.iload 11, 2) := dk_21 11 (dk_at dksX26_sum_10 12 rfl rfl)
theorem dX26_sum_249 : decode cX26_sum 249 = .ok (.invokevirtual 34, 3) := dk_182 0 34 (dk_at dksX26_sum_10 14 rfl rfl)
theorem dX26_sum_252 : decode cX26_sum 252 = .ok (.isub, 1) := dk_100 (dk_at dksX26_sum_10 17 rfl rfl)
theorem dX26_sum_253 : decode cX26_sum 253 = .ok (.iload 9, 2) := dk_21 9 (dk_at dksX26_sum_10 18 rfl rfl)
theorem dX26_sum_255 : decode cX26_sum 255 = .ok (.isub, 1) := dk_100 (dk_at dksX26_sum_10 20 rfl rfl)
theorem dX26_sum_256 : decode cX26_sum 256 = .ok (.istore 12, 2) := dk_54 12 (dk_at dksX26_sum_10 21 rfl rfl)
theorem dX26_sum_258 : decode cX26_sum 258 = .ok (.iload 12, 2) := dk_21 12 (dk_at dksX26_sum_11 0 rfl rfl)
theorem dX26_sum_260 : decode cX26_sum 260 = .ok (.ifCond .ge 7, 3) := dk_156 0 7 (dk_at dksX26_sum_11 2 rfl rfl)
theorem dX26_sum_263 : decode cX26_sum 263 = .ok (.iconst 1, 1) := dk_4 (dk_at dksX26_sum_11 5 rfl rfl)
theorem dX26_sum_264 : decode cX26_sum 264 = .ok (.goto 4, 3) := dk_167 0 4 (dk_at dksX26_sum_11 6 rfl rfl)
theorem dX26_sum_267 : decode cX26_sum 267 = .ok (.iconst 0, 1) := dk_3 (dk_at dksX26_sum_11 9 rfl rfl)
theorem dX26_sum_268 : decode cX26_sum 268 = .ok (.istore 9, 2) := dk_54 9 (dk_at dksX26_sum_11 10 rfl rfl)
theorem dX26_sum_270 : decode cX26_sum 270 = .ok (.aload_n 0, 1) := dk_42 (dk_at dksX26_sum_11 12 rfl rfl)
theorem dX26_sum_271 : decode cX26_sum 271 = .ok (.getfield 7, 3) := dk_180 0 7 (dk_at dksX26_sum_11 13 rfl rfl)
theorem dX26_sum_274 : decode cX26_sum 274 = .ok (.iload 11, 2) := dk_21 11 (dk_at dksX26_sum_11 16 rfl rfl)
theorem dX26_sum_276 : decode cX26_sum 276 = .ok (.iload 12, 2) := dk_21 12 (dk_at dksX26_sum_11 18 rfl rfl)
theorem dX26_sum_278 : decode cX26_sum 278 = .ok (.ldc 38, 2) := dk_18 38 (dk_at dksX26_sum_11 20 rfl rfl)
theorem dX26_sum_280 : decode cX26_sum 280 = .ok (.iload 9, 2) := dk_21 9 (dk_at dksX26_sum_11 22 rfl rfl)
theorem dX26_sum_282 : decode cX26_sum 282 = .ok (.imul, 1) := dk_104 (dk_at dksX26_sum_12 0 rfl rfl)
theorem dX26_sum_283 : decode cX26_sum 283 = .ok (.iadd, 1) := dk_96 (dk_at dksX26_sum_12 1 rfl rfl)
theorem dX26_sum_284 : decode cX26_sum 284 = .ok (.iastore, 1) := dk_79 (dk_at dksX26_sum_12 2 rfl rfl)
theorem dX26_sum_285 : decode cX26_sum 285 = .ok (.iinc 11 1, 3) := dk_132 11 1 (dk_at dksX26_sum_12 3 rfl rfl)
theorem dX26_sum_288 : decode cX26_sum 288 = .ok (.goto (-57), 3) := dk_167 255 199 (dk_at dksX26_sum_12 6 rfl rfl)
theorem dX26_sum_291 : decode cX26_sum 291 = .ok (.aload_n 0, 1) := dk_42 (dk_at dksX26_sum_12 9 rfl rfl)
theorem dX26_sum_292 : decode cX26_sum 292 = .ok (.iload 10, 2) := dk_21 10 (dk_at dksX26_sum_12 10 rfl rfl)
theorem dX26_sum_294 : decode cX26_sum 294 = .ok (.putfield 13, 3) := dk_181 0 13 (dk_at dksX26_sum_12 12 rfl rfl)
theorem dX26_sum_297 : decode cX26_sum 297 = .ok (.aload_n 0, 1) := dk_42 (dk_at dksX26_sum_12 15 rfl rfl)
theorem dX26_sum_298 : decode cX26_sum 298 = .ok (.iload 8, 2) := dk_21 8 (dk_at dksX26_sum_12 16 rfl rfl)
theorem dX26_sum_300 : decode cX26_sum 300 = .ok (.putfield 17, 3) := dk_181 0 17 (dk_at dksX26_sum_12 18 rfl rfl)
theorem dX26_sum_303 : decode cX26_sum 303 = .ok (.aload_n 0, 1) := dk_42 (dk_at dksX26_sum_12 21 rfl rfl)
theorem dX26_sum_304 : decode cX26_sum 304 = .ok (.invokevirtual 39, 3) := dk_182 0 39 (dk_at dksX26_sum_13 0 rfl rfl)
theorem dX26_sum_307 : decode cX26_sum 307 = .ok (.return_, 1) := dk_177 (dk_at dksX26_sum_13 3 rfl rfl)
abbrev cX26_digit : ByteArray := prog_28_method_6_code
def yX26_digit : MethodName := ⟨RX26, "digit", "(I)I"⟩
def dkwX26_digit_0 : List UInt8 := [27, 42, 180, 0, 13, 162, 0, 12, 42, 180, 0, 7, 27, 46, 167, 0, 4, 3, 172]
abbrev dktX26_digit_0 : List UInt8 := dkwX26_digit_0 ++ []
theorem dksX26_digit_0 : cX26_digit.data.toList.drop 0 = dktX26_digit_0 := by decide +kernel
theorem dX26_digit_0 : decode cX26_digit 0 = .ok (.iload_n 1, 1) := dk_27 (dk_at dksX26_digit_0 0 rfl rfl)
theorem dX26_digit_1 : decode cX26_digit 1 = .ok (.aload_n 0, 1) := dk_42 (dk_at dksX26_digit_0 1 rfl rfl)
theorem dX26_digit_2 : decode cX26_digit 2 = .ok (.getfield 13, 3) := dk_180 0 13 (dk_at dksX26_digit_0 2 rfl rfl)
theorem dX26_digit_5 : decode cX26_digit 5 = .ok (.if_icmp .ge 12, 3) := dk_162 0 12 (dk_at dksX26_digit_0 5 rfl rfl)
theorem dX26_digit_8 : decode cX26_digit 8 = .ok (.aload_n 0, 1) := dk_42 (dk_at dksX26_digit_0 8 rfl rfl)
theorem dX26_digit_9 : decode cX26_digit 9 = .ok (.getfield 7, 3) := dk_180 0 7 (dk_at dksX26_digit_0 9 rfl rfl)
theorem dX26_digit_12 : decode cX26_digit 12 = .ok (.iload_n 1, 1) := dk_27 (dk_at dksX26_digit_0 12 rfl rfl)
theorem dX26_digit_13 : decode cX26_digit 13 = .ok (.iaload, 1) := dk_46 (dk_at dksX26_digit_0 13 rfl rfl)
theorem dX26_digit_14 : decode cX26_digit 14 = .ok (.goto 4, 3) := dk_167 0 4 (dk_at dksX26_digit_0 14 rfl rfl)
theorem dX26_digit_17 : decode cX26_digit 17 = .ok (.iconst 0, 1) := dk_3 (dk_at dksX26_digit_0 17 rfl rfl)
theorem dX26_digit_18 : decode cX26_digit 18 = .ok (.ireturn, 1) := dk_172 (dk_at dksX26_digit_0 18 rfl rfl)
abbrev cX26_product : ByteArray := prog_28_method_14_code
def yX26_product : MethodName := ⟨RX26, "product", "(LContractLedgerModel$Num;LContractLedgerModel$Num;)V"⟩
def dkwX26_product_7 : List UInt8 := [182, 0, 39, 177]
abbrev dktX26_product_7 : List UInt8 := dkwX26_product_7 ++ []
def dkwX26_product_6 : List UInt8 := [167, 255, 154, 42, 43, 180, 0, 17, 44, 180, 0, 17, 159, 0, 7, 4, 167, 0, 4, 3, 181, 0, 17, 42]
abbrev dktX26_product_6 : List UInt8 := dkwX26_product_6 ++ dktX26_product_7
def dkwX26_product_5 : List UInt8 := [132, 6, 1, 167, 255, 188, 42, 180, 0, 7, 29, 44, 180, 0, 13, 96, 22, 4, 136, 79, 132, 3, 1]
abbrev dktX26_product_5 : List UInt8 := dkwX26_product_5 ++ dktX26_product_6
def dkwX26_product_4 : List UInt8 := [42, 180, 0, 7, 29, 21, 6, 96, 22, 7, 20, 0, 24, 113, 136, 79, 22, 7, 20, 0, 24, 109, 55, 4]
abbrev dktX26_product_4 : List UInt8 := dkwX26_product_4 ++ dktX26_product_5
def dkwX26_product_3 : List UInt8 := [180, 0, 7, 21, 6, 46, 133, 105, 42, 180, 0, 7, 29, 21, 6, 96, 46, 133, 97, 22, 4, 97, 55, 7]
abbrev dktX26_product_3 : List UInt8 := dkwX26_product_3 ++ dktX26_product_4
def dkwX26_product_2 : List UInt8 := [55, 4, 3, 54, 6, 21, 6, 44, 180, 0, 13, 162, 0, 65, 43, 180, 0, 7, 29, 46, 133, 44]
abbrev dktX26_product_2 : List UInt8 := dkwX26_product_2 ++ dktX26_product_3
def dkwX26_product_1 : List UInt8 := [180, 0, 7, 29, 3, 79, 132, 3, 1, 167, 255, 238, 3, 62, 29, 43, 180, 0, 13, 162, 0, 100, 9]
abbrev dktX26_product_1 : List UInt8 := dkwX26_product_1 ++ dktX26_product_2
def dkwX26_product_0 : List UInt8 := [42, 43, 180, 0, 13, 44, 180, 0, 13, 96, 181, 0, 13, 3, 62, 29, 42, 180, 0, 13, 162, 0, 16, 42]
abbrev dktX26_product_0 : List UInt8 := dkwX26_product_0 ++ dktX26_product_1
theorem dksX26_product_0 : cX26_product.data.toList.drop 0 = dktX26_product_0 := by decide +kernel
theorem dksX26_product_1 : cX26_product.data.toList.drop 24 = dktX26_product_1 := dk_seg dksX26_product_0 24 rfl rfl
theorem dksX26_product_2 : cX26_product.data.toList.drop 47 = dktX26_product_2 := dk_seg dksX26_product_1 23 rfl rfl
theorem dksX26_product_3 : cX26_product.data.toList.drop 69 = dktX26_product_3 := dk_seg dksX26_product_2 22 rfl rfl
theorem dksX26_product_4 : cX26_product.data.toList.drop 93 = dktX26_product_4 := dk_seg dksX26_product_3 24 rfl rfl
theorem dksX26_product_5 : cX26_product.data.toList.drop 117 = dktX26_product_5 := dk_seg dksX26_product_4 24 rfl rfl
theorem dksX26_product_6 : cX26_product.data.toList.drop 140 = dktX26_product_6 := dk_seg dksX26_product_5 23 rfl rfl
theorem dksX26_product_7 : cX26_product.data.toList.drop 164 = dktX26_product_7 := dk_seg dksX26_product_6 24 rfl rfl
theorem dX26_product_0 : decode cX26_product 0 = .ok (.aload_n 0, 1) := dk_42 (dk_at dksX26_product_0 0 rfl rfl)
theorem dX26_product_1 : decode cX26_product 1 = .ok (.aload_n 1, 1) := dk_43 (dk_at dksX26_product_0 1 rfl rfl)
theorem dX26_product_2 : decode cX26_product 2 = .ok (.getfield 13, 3) := dk_180 0 13 (dk_at dksX26_product_0 2 rfl rfl)
theorem dX26_product_5 : decode cX26_product 5 = .ok (.aload_n 2, 1) := dk_44 (dk_at dksX26_product_0 5 rfl rfl)
theorem dX26_product_6 : decode cX26_product 6 = .ok (.getfield 13, 3) := dk_180 0 13 (dk_at dksX26_product_0 6 rfl rfl)
theorem dX26_product_9 : decode cX26_product 9 = .ok (.iadd, 1) := dk_96 (dk_at dksX26_product_0 9 rfl rfl)
theorem dX26_product_10 : decode cX26_product 10 = .ok (.putfield 13, 3) := dk_181 0 13 (dk_at dksX26_product_0 10 rfl rfl)
theorem dX26_product_13 : decode cX26_product 13 = .ok (.iconst 0, 1) := dk_3 (dk_at dksX26_product_0 13 rfl rfl)
theorem dX26_product_14 : decode cX26_product 14 = .ok (.istore_n 3, 1) := dk_62 (dk_at dksX26_product_0 14 rfl rfl)
theorem dX26_product_15 : decode cX26_product 15 = .ok (.iload_n 3, 1) := dk_29 (dk_at dksX26_product_0 15 rfl rfl)
theorem dX26_product_16 : decode cX26_product 16 = .ok (.aload_n 0, 1) := dk_42 (dk_at dksX26_product_0 16 rfl rfl)
theorem dX26_product_17 : decode cX26_product 17 = .ok (.getfield 13, 3) := dk_180 0 13 (dk_at dksX26_product_0 17 rfl rfl)
theorem dX26_product_20 : decode cX26_product 20 = .ok (.if_icmp .ge 16, 3) := dk_162 0 16 (dk_at dksX26_product_0 20 rfl rfl)
theorem dX26_product_23 : decode cX26_product 23 = .ok (.aload_n 0, 1) := dk_42 (dk_at dksX26_product_0 23 rfl rfl)
theorem dX26_product_24 : decode cX26_product 24 = .ok (.getfield 7, 3) := dk_180 0 7 (dk_at dksX26_product_1 0 rfl rfl)
theorem dX26_product_27 : decode cX26_product 27 = .ok (.iload_n 3, 1) := dk_29 (dk_at dksX26_product_1 3 rfl rfl)
theorem dX26_product_28 : decode cX26_product 28 = .ok (.iconst 0, 1) := dk_3 (dk_at dksX26_product_1 4 rfl rfl)
theorem dX26_product_29 : decode cX26_product 29 = .ok (.iastore, 1) := dk_79 (dk_at dksX26_product_1 5 rfl rfl)
theorem dX26_product_30 : decode cX26_product 30 = .ok (.iinc 3 1, 3) := dk_132 3 1 (dk_at dksX26_product_1 6 rfl rfl)
theorem dX26_product_33 : decode cX26_product 33 = .ok (.goto (-18), 3) := dk_167 255 238 (dk_at dksX26_product_1 9 rfl rfl)
theorem dX26_product_36 : decode cX26_product 36 = .ok (.iconst 0, 1) := dk_3 (dk_at dksX26_product_1 12 rfl rfl)
theorem dX26_product_37 : decode cX26_product 37 = .ok (.istore_n 3, 1) := dk_62 (dk_at dksX26_product_1 13 rfl rfl)
theorem dX26_product_38 : decode cX26_product 38 = .ok (.iload_n 3, 1) := dk_29 (dk_at dksX26_product_1 14 rfl rfl)
theorem dX26_product_39 : decode cX26_product 39 = .ok (.aload_n 1, 1) := dk_43 (dk_at dksX26_product_1 15 rfl rfl)
theorem dX26_product_40 : decode cX26_product 40 = .ok (.getfield 13, 3) := dk_180 0 13 (dk_at dksX26_product_1 16 rfl rfl)
theorem dX26_product_43 : decode cX26_product 43 = .ok (.if_icmp .ge 100, 3) := dk_162 0 100 (dk_at dksX26_product_1 19 rfl rfl)
theorem dX26_product_46 : decode cX26_product 46 = .ok (.lconst 0, 1) := dk_9 (dk_at dksX26_product_1 22 rfl rfl)
theorem dX26_product_47 : decode cX26_product 47 = .ok (.lstore 4, 2) := dk_55 4 (dk_at dksX26_product_2 0 rfl rfl)
theorem dX26_product_49 : decode cX26_product 49 = .ok (.iconst 0, 1) := dk_3 (dk_at dksX26_product_2 2 rfl rfl)
theorem dX26_product_50 : decode cX26_product 50 = .ok (.istore 6, 2) := dk_54 6 (dk_at dksX26_product_2 3 rfl rfl)
theorem dX26_product_52 : decode cX26_product 52 = .ok (.iload 6, 2) := dk_21 6 (dk_at dksX26_product_2 5 rfl rfl)
theorem dX26_product_54 : decode cX26_product 54 = .ok (.aload_n 2, 1) := dk_44 (dk_at dksX26_product_2 7 rfl rfl)
theorem dX26_product_55 : decode cX26_product 55 = .ok (.getfield 13, 3) := dk_180 0 13 (dk_at dksX26_product_2 8 rfl rfl)
theorem dX26_product_58 : decode cX26_product 58 = .ok (.if_icmp .ge 65, 3) := dk_162 0 65 (dk_at dksX26_product_2 11 rfl rfl)
theorem dX26_product_61 : decode cX26_product 61 = .ok (.aload_n 1, 1) := dk_43 (dk_at dksX26_product_2 14 rfl rfl)
theorem dX26_product_62 : decode cX26_product 62 = .ok (.getfield 7, 3) := dk_180 0 7 (dk_at dksX26_product_2 15 rfl rfl)
theorem dX26_product_65 : decode cX26_product 65 = .ok (.iload_n 3, 1) := dk_29 (dk_at dksX26_product_2 18 rfl rfl)
theorem dX26_product_66 : decode cX26_product 66 = .ok (.iaload, 1) := dk_46 (dk_at dksX26_product_2 19 rfl rfl)
theorem dX26_product_67 : decode cX26_product 67 = .ok (.i2l, 1) := dk_133 (dk_at dksX26_product_2 20 rfl rfl)
theorem dX26_product_68 : decode cX26_product 68 = .ok (.aload_n 2, 1) := dk_44 (dk_at dksX26_product_2 21 rfl rfl)
theorem dX26_product_69 : decode cX26_product 69 = .ok (.getfield 7, 3) := dk_180 0 7 (dk_at dksX26_product_3 0 rfl rfl)
theorem dX26_product_72 : decode cX26_product 72 = .ok (.iload 6, 2) := dk_21 6 (dk_at dksX26_product_3 3 rfl rfl)
theorem dX26_product_74 : decode cX26_product 74 = .ok (.iaload, 1) := dk_46 (dk_at dksX26_product_3 5 rfl rfl)
theorem dX26_product_75 : decode cX26_product 75 = .ok (.i2l, 1) := dk_133 (dk_at dksX26_product_3 6 rfl rfl)
theorem dX26_product_76 : decode cX26_product 76 = .ok (.lmul, 1) := dk_105 (dk_at dksX26_product_3 7 rfl rfl)
theorem dX26_product_77 : decode cX26_product 77 = .ok (.aload_n 0, 1) := dk_42 (dk_at dksX26_product_3 8 rfl rfl)
theorem dX26_product_78 : decode cX26_product 78 = .ok (.getfield 7, 3) := dk_180 0 7 (dk_at dksX26_product_3 9 rfl rfl)
theorem dX26_product_81 : decode cX26_product 81 = .ok (.iload_n 3, 1) := dk_29 (dk_at dksX26_product_3 12 rfl rfl)
theorem dX26_product_82 : decode cX26_product 82 = .ok (.iload 6, 2) := dk_21 6 (dk_at dksX26_product_3 13 rfl rfl)
theorem dX26_product_84 : decode cX26_product 84 = .ok (.iadd, 1) := dk_96 (dk_at dksX26_product_3 15 rfl rfl)
theorem dX26_product_85 : decode cX26_product 85 = .ok (.iaload, 1) := dk_46 (dk_at dksX26_product_3 16 rfl rfl)
theorem dX26_product_86 : decode cX26_product 86 = .ok (.i2l, 1) := dk_133 (dk_at dksX26_product_3 17 rfl rfl)
theorem dX26_product_87 : decode cX26_product 87 = .ok (.ladd, 1) := dk_97 (dk_at dksX26_product_3 18 rfl rfl)
theorem dX26_product_88 : decode cX26_product 88 = .ok (.lload 4, 2) := dk_22 4 (dk_at dksX26_product_3 19 rfl rfl)
theorem dX26_product_90 : decode cX26_product 90 = .ok (.ladd, 1) := dk_97 (dk_at dksX26_product_3 21 rfl rfl)
theorem dX26_product_91 : decode cX26_product 91 = .ok (.lstore 7, 2) := dk_55 7 (dk_at dksX26_product_3 22 rfl rfl)
theorem dX26_product_93 : decode cX26_product 93 = .ok (.aload_n 0, 1) := dk_42 (dk_at dksX26_product_4 0 rfl rfl)
theorem dX26_product_94 : decode cX26_product 94 = .ok (.getfield 7, 3) := dk_180 0 7 (dk_at dksX26_product_4 1 rfl rfl)
theorem dX26_product_97 : decode cX26_product 97 = .ok (.iload_n 3, 1) := dk_29 (dk_at dksX26_product_4 4 rfl rfl)
theorem dX26_product_98 : decode cX26_product 98 = .ok (.iload 6, 2) := dk_21 6 (dk_at dksX26_product_4 5 rfl rfl)
theorem dX26_product_100 : decode cX26_product 100 = .ok (.iadd, 1) := dk_96 (dk_at dksX26_product_4 7 rfl rfl)
theorem dX26_product_101 : decode cX26_product 101 = .ok (.lload 7, 2) := dk_22 7 (dk_at dksX26_product_4 8 rfl rfl)
theorem dX26_product_103 : decode cX26_product 103 = .ok (.ldc2_w 24, 3) := dk_20 0 24 (dk_at dksX26_product_4 10 rfl rfl)
theorem dX26_product_106 : decode cX26_product 106 = .ok (.lrem, 1) := dk_113 (dk_at dksX26_product_4 13 rfl rfl)
theorem dX26_product_107 : decode cX26_product 107 = .ok (.l2i, 1) := dk_136 (dk_at dksX26_product_4 14 rfl rfl)
theorem dX26_product_108 : decode cX26_product 108 = .ok (.iastore, 1) := dk_79 (dk_at dksX26_product_4 15 rfl rfl)
theorem dX26_product_109 : decode cX26_product 109 = .ok (.lload 7, 2) := dk_22 7 (dk_at dksX26_product_4 16 rfl rfl)
theorem dX26_product_111 : decode cX26_product 111 = .ok (.ldc2_w 24, 3) := dk_20 0 24 (dk_at dksX26_product_4 18 rfl rfl)
theorem dX26_product_114 : decode cX26_product 114 = .ok (.ldiv, 1) := dk_109 (dk_at dksX26_product_4 21 rfl rfl)
theorem dX26_product_115 : decode cX26_product 115 = .ok (.lstore 4, 2) := dk_55 4 (dk_at dksX26_product_4 22 rfl rfl)
theorem dX26_product_117 : decode cX26_product 117 = .ok (.iinc 6 1, 3) := dk_132 6 1 (dk_at dksX26_product_5 0 rfl rfl)
theorem dX26_product_120 : decode cX26_product 120 = .ok (.goto (-68), 3) := dk_167 255 188 (dk_at dksX26_product_5 3 rfl rfl)
theorem dX26_product_123 : decode cX26_product 123 = .ok (.aload_n 0, 1) := dk_42 (dk_at dksX26_product_5 6 rfl rfl)
theorem dX26_product_124 : decode cX26_product 124 = .ok (.getfield 7, 3) := dk_180 0 7 (dk_at dksX26_product_5 7 rfl rfl)
theorem dX26_product_127 : decode cX26_product 127 = .ok (.iload_n 3, 1) := dk_29 (dk_at dksX26_product_5 10 rfl rfl)
theorem dX26_product_128 : decode cX26_product 128 = .ok (.aload_n 2, 1) := dk_44 (dk_at dksX26_product_5 11 rfl rfl)
theorem dX26_product_129 : decode cX26_product 129 = .ok (.getfield 13, 3) := dk_180 0 13 (dk_at dksX26_product_5 12 rfl rfl)
theorem dX26_product_132 : decode cX26_product 132 = .ok (.iadd, 1) := dk_96 (dk_at dksX26_product_5 15 rfl rfl)
theorem dX26_product_133 : decode cX26_product 133 = .ok (.lload 4, 2) := dk_22 4 (dk_at dksX26_product_5 16 rfl rfl)
theorem dX26_product_135 : decode cX26_product 135 = .ok (.l2i, 1) := dk_136 (dk_at dksX26_product_5 18 rfl rfl)
theorem dX26_product_136 : decode cX26_product 136 = .ok (.iastore, 1) := dk_79 (dk_at dksX26_product_5 19 rfl rfl)
theorem dX26_product_137 : decode cX26_product 137 = .ok (.iinc 3 1, 3) := dk_132 3 1 (dk_at dksX26_product_5 20 rfl rfl)
theorem dX26_product_140 : decode cX26_product 140 = .ok (.goto (-102), 3) := dk_167 255 154 (dk_at dksX26_product_6 0 rfl rfl)
theorem dX26_product_143 : decode cX26_product 143 = .ok (.aload_n 0, 1) := dk_42 (dk_at dksX26_product_6 3 rfl rfl)
theorem dX26_product_144 : decode cX26_product 144 = .ok (.aload_n 1, 1) := dk_43 (dk_at dksX26_product_6 4 rfl rfl)
theorem dX26_product_145 : decode cX26_product 145 = .ok (.getfield 17, 3) := dk_180 0 17 (dk_at dksX26_product_6 5 rfl rfl)
theorem dX26_product_148 : decode cX26_product 148 = .ok (.aload_n 2, 1) := dk_44 (dk_at dksX26_product_6 8 rfl rfl)
theorem dX26_product_149 : decode cX26_product 149 = .ok (.getfield 17, 3) := dk_180 0 17 (dk_at dksX26_product_6 9 rfl rfl)
theorem dX26_product_152 : decode cX26_product 152 = .ok (.if_icmp .eq 7, 3) := dk_159 0 7 (dk_at dksX26_product_6 12 rfl rfl)
theorem dX26_product_155 : decode cX26_product 155 = .ok (.iconst 1, 1) := dk_4 (dk_at dksX26_product_6 15 rfl rfl)
theorem dX26_product_156 : decode cX26_product 156 = .ok (.goto 4, 3) := dk_167 0 4 (dk_at dksX26_product_6 16 rfl rfl)
theorem dX26_product_159 : decode cX26_product 159 = .ok (.iconst 0, 1) := dk_3 (dk_at dksX26_product_6 19 rfl rfl)
theorem dX26_product_160 : decode cX26_product 160 = .ok (.putfield 17, 3) := dk_181 0 17 (dk_at dksX26_product_6 20 rfl rfl)
theorem dX26_product_163 : decode cX26_product 163 = .ok (.aload_n 0, 1) := dk_42 (dk_at dksX26_product_6 23 rfl rfl)
theorem dX26_product_164 : decode cX26_product 164 = .ok (.invokevirtual 39, 3) := dk_182 0 39 (dk_at dksX26_product_7 0 rfl rfl)
theorem dX26_product_167 : decode cX26_product 167 = .ok (.return_, 1) := dk_177 (dk_at dksX26_product_7 3 rfl rfl)
abbrev cX26_divide : ByteArray := prog_28_method_16_code
def yX26_divide : MethodName := ⟨RX26, "divide", "(LContractLedgerModel$Num;LContractLedgerModel$Num;LContractLedgerModel$Num;)V"⟩
def dkwX26_divide_6 : List UInt8 := [42, 182, 0, 39, 177]
abbrev dktX26_divide_6 : List UInt8 := dkwX26_divide_6 ++ []
def dkwX26_divide_5 : List UInt8 := [44, 184, 0, 42, 79, 132, 4, 255, 167, 255, 168, 42, 43, 180, 0, 13, 181, 0, 13, 42, 3, 181, 0, 17]
abbrev dktX26_divide_5 : List UInt8 := dkwX26_divide_5 ++ dktX26_divide_6
def dkwX26_divide_4 : List UInt8 := [4, 96, 181, 0, 13, 45, 182, 0, 39, 45, 44, 182, 0, 30, 155, 0, 15, 42, 180, 0, 7, 21, 4, 45]
abbrev dktX26_divide_4 : List UInt8 := dkwX26_divide_4 ++ dktX26_divide_5
def dkwX26_divide_3 : List UInt8 := [132, 5, 255, 167, 255, 232, 45, 180, 0, 7, 3, 43, 180, 0, 7, 21, 4, 46, 79, 45, 89, 180, 0, 13]
abbrev dktX26_divide_3 : List UInt8 := dkwX26_divide_3 ++ dktX26_divide_4
def dkwX26_divide_2 : List UInt8 := [54, 5, 21, 5, 158, 0, 25, 45, 180, 0, 7, 21, 5, 45, 180, 0, 7, 21, 5, 4, 100, 46, 79]
abbrev dktX26_divide_2 : List UInt8 := dkwX26_divide_2 ++ dktX26_divide_3
def dkwX26_divide_1 : List UInt8 := [132, 4, 1, 167, 255, 236, 43, 180, 0, 13, 4, 100, 54, 4, 21, 4, 155, 0, 89, 45, 180, 0, 13]
abbrev dktX26_divide_1 : List UInt8 := dkwX26_divide_1 ++ dktX26_divide_2
def dkwX26_divide_0 : List UInt8 := [45, 182, 0, 21, 3, 54, 4, 21, 4, 43, 180, 0, 13, 162, 0, 17, 42, 180, 0, 7, 21, 4, 3, 79]
abbrev dktX26_divide_0 : List UInt8 := dkwX26_divide_0 ++ dktX26_divide_1
theorem dksX26_divide_0 : cX26_divide.data.toList.drop 0 = dktX26_divide_0 := by decide +kernel
theorem dksX26_divide_1 : cX26_divide.data.toList.drop 24 = dktX26_divide_1 := dk_seg dksX26_divide_0 24 rfl rfl
theorem dksX26_divide_2 : cX26_divide.data.toList.drop 47 = dktX26_divide_2 := dk_seg dksX26_divide_1 23 rfl rfl
theorem dksX26_divide_3 : cX26_divide.data.toList.drop 70 = dktX26_divide_3 := dk_seg dksX26_divide_2 23 rfl rfl
theorem dksX26_divide_4 : cX26_divide.data.toList.drop 94 = dktX26_divide_4 := dk_seg dksX26_divide_3 24 rfl rfl
theorem dksX26_divide_5 : cX26_divide.data.toList.drop 118 = dktX26_divide_5 := dk_seg dksX26_divide_4 24 rfl rfl
theorem dksX26_divide_6 : cX26_divide.data.toList.drop 142 = dktX26_divide_6 := dk_seg dksX26_divide_5 24 rfl rfl
theorem dX26_divide_0 : decode cX26_divide 0 = .ok (.aload_n 3, 1) := dk_45 (dk_at dksX26_divide_0 0 rfl rfl)
theorem dX26_divide_1 : decode cX26_divide 1 = .ok (.invokevirtual 21, 3) := dk_182 0 21 (dk_at dksX26_divide_0 1 rfl rfl)
theorem dX26_divide_4 : decode cX26_divide 4 = .ok (.iconst 0, 1) := dk_3 (dk_at dksX26_divide_0 4 rfl rfl)
theorem dX26_divide_5 : decode cX26_divide 5 = .ok (.istore 4, 2) := dk_54 4 (dk_at dksX26_divide_0 5 rfl rfl)
theorem dX26_divide_7 : decode cX26_divide 7 = .ok (.iload 4, 2) := dk_21 4 (dk_at dksX26_divide_0 7 rfl rfl)
theorem dX26_divide_9 : decode cX26_divide 9 = .ok (.aload_n 1, 1) := dk_43 (dk_at dksX26_divide_0 9 rfl rfl)
theorem dX26_divide_10 : decode cX26_divide 10 = .ok (.getfield 13, 3) := dk_180 0 13 (dk_at dksX26_divide_0 10 rfl rfl)
theorem dX26_divide_13 : decode cX26_divide 13 = .ok (.if_icmp .ge 17, 3) := dk_162 0 17 (dk_at dksX26_divide_0 13 rfl rfl)
theorem dX26_divide_16 : decode cX26_divide 16 = .ok (.aload_n 0, 1) := dk_42 (dk_at dksX26_divide_0 16 rfl rfl)
theorem dX26_divide_17 : decode cX26_divide 17 = .ok (.getfield 7, 3) := dk_180 0 7 (dk_at dksX26_divide_0 17 rfl rfl)
theorem dX26_divide_20 : decode cX26_divide 20 = .ok (.iload 4, 2) := dk_21 4 (dk_at dksX26_divide_0 20 rfl rfl)
theorem dX26_divide_22 : decode cX26_divide 22 = .ok (.iconst 0, 1) := dk_3 (dk_at dksX26_divide_0 22 rfl rfl)
theorem dX26_divide_23 : decode cX26_divide 23 = .ok (.iastore, 1) := dk_79 (dk_at dksX26_divide_0 23 rfl rfl)
theorem dX26_divide_24 : decode cX26_divide 24 = .ok (.iinc 4 1, 3) := dk_132 4 1 (dk_at dksX26_divide_1 0 rfl rfl)
theorem dX26_divide_27 : decode cX26_divide 27 = .ok (.goto (-20), 3) := dk_167 255 236 (dk_at dksX26_divide_1 3 rfl rfl)
theorem dX26_divide_30 : decode cX26_divide 30 = .ok (.aload_n 1, 1) := dk_43 (dk_at dksX26_divide_1 6 rfl rfl)
theorem dX26_divide_31 : decode cX26_divide 31 = .ok (.getfield 13, 3) := dk_180 0 13 (dk_at dksX26_divide_1 7 rfl rfl)
theorem dX26_divide_34 : decode cX26_divide 34 = .ok (.iconst 1, 1) := dk_4 (dk_at dksX26_divide_1 10 rfl rfl)
theorem dX26_divide_35 : decode cX26_divide 35 = .ok (.isub, 1) := dk_100 (dk_at dksX26_divide_1 11 rfl rfl)
theorem dX26_divide_36 : decode cX26_divide 36 = .ok (.istore 4, 2) := dk_54 4 (dk_at dksX26_divide_1 12 rfl rfl)
theorem dX26_divide_38 : decode cX26_divide 38 = .ok (.iload 4, 2) := dk_21 4 (dk_at dksX26_divide_1 14 rfl rfl)
theorem dX26_divide_40 : decode cX26_divide 40 = .ok (.ifCond .lt 89, 3) := dk_155 0 89 (dk_at dksX26_divide_1 16 rfl rfl)
theorem dX26_divide_43 : decode cX26_divide 43 = .ok (.aload_n 3, 1) := dk_45 (dk_at dksX26_divide_1 19 rfl rfl)
theorem dX26_divide_44 : decode cX26_divide 44 = .ok (.getfield 13, 3) := dk_180 0 13 (dk_at dksX26_divide_1 20 rfl rfl)
theorem dX26_divide_47 : decode cX26_divide 47 = .ok (.istore 5, 2) := dk_54 5 (dk_at dksX26_divide_2 0 rfl rfl)
theorem dX26_divide_49 : decode cX26_divide 49 = .ok (.iload 5, 2) := dk_21 5 (dk_at dksX26_divide_2 2 rfl rfl)
theorem dX26_divide_51 : decode cX26_divide 51 = .ok (.ifCond .le 25, 3) := dk_158 0 25 (dk_at dksX26_divide_2 4 rfl rfl)
theorem dX26_divide_54 : decode cX26_divide 54 = .ok (.aload_n 3, 1) := dk_45 (dk_at dksX26_divide_2 7 rfl rfl)
theorem dX26_divide_55 : decode cX26_divide 55 = .ok (.getfield 7, 3) := dk_180 0 7 (dk_at dksX26_divide_2 8 rfl rfl)
theorem dX26_divide_58 : decode cX26_divide 58 = .ok (.iload 5, 2) := dk_21 5 (dk_at dksX26_divide_2 11 rfl rfl)
theorem dX26_divide_60 : decode cX26_divide 60 = .ok (.aload_n 3, 1) := dk_45 (dk_at dksX26_divide_2 13 rfl rfl)
theorem dX26_divide_61 : decode cX26_divide 61 = .ok (.getfield 7, 3) := dk_180 0 7 (dk_at dksX26_divide_2 14 rfl rfl)
theorem dX26_divide_64 : decode cX26_divide 64 = .ok (.iload 5, 2) := dk_21 5 (dk_at dksX26_divide_2 17 rfl rfl)
theorem dX26_divide_66 : decode cX26_divide 66 = .ok (.iconst 1, 1) := dk_4 (dk_at dksX26_divide_2 19 rfl rfl)
theorem dX26_divide_67 : decode cX26_divide 67 = .ok (.isub, 1) := dk_100 (dk_at dksX26_divide_2 20 rfl rfl)
theorem dX26_divide_68 : decode cX26_divide 68 = .ok (.iaload, 1) := dk_46 (dk_at dksX26_divide_2 21 rfl rfl)
theorem dX26_divide_69 : decode cX26_divide 69 = .ok (.iastore, 1) := dk_79 (dk_at dksX26_divide_2 22 rfl rfl)
theorem dX26_divide_70 : decode cX26_divide 70 = .ok (.iinc 5 (-1), 3) := dk_132 5 255 (dk_at dksX26_divide_3 0 rfl rfl)
theorem dX26_divide_73 : decode cX26_divide 73 = .ok (.goto (-24), 3) := dk_167 255 232 (dk_at dksX26_divide_3 3 rfl rfl)
theorem dX26_divide_76 : decode cX26_divide 76 = .ok (.aload_n 3, 1) := dk_45 (dk_at dksX26_divide_3 6 rfl rfl)
theorem dX26_divide_77 : decode cX26_divide 77 = .ok (.getfield 7, 3) := dk_180 0 7 (dk_at dksX26_divide_3 7 rfl rfl)
theorem dX26_divide_80 : decode cX26_divide 80 = .ok (.iconst 0, 1) := dk_3 (dk_at dksX26_divide_3 10 rfl rfl)
theorem dX26_divide_81 : decode cX26_divide 81 = .ok (.aload_n 1, 1) := dk_43 (dk_at dksX26_divide_3 11 rfl rfl)
theorem dX26_divide_82 : decode cX26_divide 82 = .ok (.getfield 7, 3) := dk_180 0 7 (dk_at dksX26_divide_3 12 rfl rfl)
theorem dX26_divide_85 : decode cX26_divide 85 = .ok (.iload 4, 2) := dk_21 4 (dk_at dksX26_divide_3 15 rfl rfl)
theorem dX26_divide_87 : decode cX26_divide 87 = .ok (.iaload, 1) := dk_46 (dk_at dksX26_divide_3 17 rfl rfl)
theorem dX26_divide_88 : decode cX26_divide 88 = .ok (.iastore, 1) := dk_79 (dk_at dksX26_divide_3 18 rfl rfl)
theorem dX26_divide_89 : decode cX26_divide 89 = .ok (.aload_n 3, 1) := dk_45 (dk_at dksX26_divide_3 19 rfl rfl)
theorem dX26_divide_90 : decode cX26_divide 90 = .ok (.dup, 1) := dk_89 (dk_at dksX26_divide_3 20 rfl rfl)
theorem dX26_divide_91 : decode cX26_divide 91 = .ok (.getfield 13, 3) := dk_180 0 13 (dk_at dksX26_divide_3 21 rfl rfl)
theorem dX26_divide_94 : decode cX26_divide 94 = .ok (.iconst 1, 1) := dk_4 (dk_at dksX26_divide_4 0 rfl rfl)
theorem dX26_divide_95 : decode cX26_divide 95 = .ok (.iadd, 1) := dk_96 (dk_at dksX26_divide_4 1 rfl rfl)
theorem dX26_divide_96 : decode cX26_divide 96 = .ok (.putfield 13, 3) := dk_181 0 13 (dk_at dksX26_divide_4 2 rfl rfl)
theorem dX26_divide_99 : decode cX26_divide 99 = .ok (.aload_n 3, 1) := dk_45 (dk_at dksX26_divide_4 5 rfl rfl)
theorem dX26_divide_100 : decode cX26_divide 100 = .ok (.invokevirtual 39, 3) := dk_182 0 39 (dk_at dksX26_divide_4 6 rfl rfl)
theorem dX26_divide_103 : decode cX26_divide 103 = .ok (.aload_n 3, 1) := dk_45 (dk_at dksX26_divide_4 9 rfl rfl)
theorem dX26_divide_104 : decode cX26_divide 104 = .ok (.aload_n 2, 1) := dk_44 (dk_at dksX26_divide_4 10 rfl rfl)
theorem dX26_divide_105 : decode cX26_divide 105 = .ok (.invokevirtual 30, 3) := dk_182 0 30 (dk_at dksX26_divide_4 11 rfl rfl)
theorem dX26_divide_108 : decode cX26_divide 108 = .ok (.ifCond .lt 15, 3) := dk_155 0 15 (dk_at dksX26_divide_4 14 rfl rfl)
theorem dX26_divide_111 : decode cX26_divide 111 = .ok (.aload_n 0, 1) := dk_42 (dk_at dksX26_divide_4 17 rfl rfl)
theorem dX26_divide_112 : decode cX26_divide 112 = .ok (.getfield 7, 3) := dk_180 0 7 (dk_at dksX26_divide_4 18 rfl rfl)
theorem dX26_divide_115 : decode cX26_divide 115 = .ok (.iload 4, 2) := dk_21 4 (dk_at dksX26_divide_4 21 rfl rfl)
theorem dX26_divide_117 : decode cX26_divide 117 = .ok (.aload_n 3, 1) := dk_45 (dk_at dksX26_divide_4 23 rfl rfl)
theorem dX26_divide_118 : decode cX26_divide 118 = .ok (.aload_n 2, 1) := dk_44 (dk_at dksX26_divide_5 0 rfl rfl)
theorem dX26_divide_119 : decode cX26_divide 119 = .ok (.invokestatic 42, 3) := dk_184 0 42 (dk_at dksX26_divide_5 1 rfl rfl)
theorem dX26_divide_122 : decode cX26_divide 122 = .ok (.iastore, 1) := dk_79 (dk_at dksX26_divide_5 4 rfl rfl)
theorem dX26_divide_123 : decode cX26_divide 123 = .ok (.iinc 4 (-1), 3) := dk_132 4 255 (dk_at dksX26_divide_5 5 rfl rfl)
theorem dX26_divide_126 : decode cX26_divide 126 = .ok (.goto (-88), 3) := dk_167 255 168 (dk_at dksX26_divide_5 8 rfl rfl)
theorem dX26_divide_129 : decode cX26_divide 129 = .ok (.aload_n 0, 1) := dk_42 (dk_at dksX26_divide_5 11 rfl rfl)
theorem dX26_divide_130 : decode cX26_divide 130 = .ok (.aload_n 1, 1) := dk_43 (dk_at dksX26_divide_5 12 rfl rfl)
theorem dX26_divide_131 : decode cX26_divide 131 = .ok (.getfield 13, 3) := dk_180 0 13 (dk_at dksX26_divide_5 13 rfl rfl)
theorem dX26_divide_134 : decode cX26_divide 134 = .ok (.putfield 13, 3) := dk_181 0 13 (dk_at dksX26_divide_5 16 rfl rfl)
theorem dX26_divide_137 : decode cX26_divide 137 = .ok (.aload_n 0, 1) := dk_42 (dk_at dksX26_divide_5 19 rfl rfl)
theorem dX26_divide_138 : decode cX26_divide 138 = .ok (.iconst 0, 1) := dk_3 (dk_at dksX26_divide_5 20 rfl rfl)
theorem dX26_divide_139 : decode cX26_divide 139 = .ok (.putfield 17, 3) := dk_181 0 17 (dk_at dksX26_divide_5 21 rfl rfl)
theorem dX26_divide_142 : decode cX26_divide 142 = .ok (.aload_n 0, 1) := dk_42 (dk_at dksX26_divide_6 0 rfl rfl)
theorem dX26_divide_143 : decode cX26_divide 143 = .ok (.invokevirtual 39, 3) := dk_182 0 39 (dk_at dksX26_divide_6 1 rfl rfl)
theorem dX26_divide_146 : decode cX26_divide 146 = .ok (.return_, 1) := dk_177 (dk_at dksX26_divide_6 4 rfl rfl)
abbrev cX26_guess : ByteArray := prog_28_method_17_code
def yX26_guess : MethodName := ⟨RX26, "guess", "(LContractLedgerModel$Num;LContractLedgerModel$Num;)I"⟩
def dkwX26_guess_9 : List UInt8 := [22, 5, 136, 172]
abbrev dktX26_guess_9 : List UInt8 := dkwX26_guess_9 ++ []
def dkwX26_guess_8 : List UInt8 := [21, 9, 22, 10, 22, 7, 20, 0, 24, 105, 97, 136, 79, 132, 9, 1, 167, 255, 179, 42, 182, 0, 39]
abbrev dktX26_guess_8 : List UInt8 := dkwX26_guess_8 ++ dktX26_guess_9
def dkwX26_guess_7 : List UInt8 := [156, 0, 17, 22, 10, 117, 20, 0, 46, 97, 20, 0, 24, 109, 167, 0, 4, 9, 55, 7, 42, 180, 0, 7]
abbrev dktX26_guess_7 : List UInt8 := dkwX26_guess_7 ++ dktX26_guess_8
def dkwX26_guess_6 : List UInt8 := [46, 133, 22, 5, 43, 21, 9, 182, 0, 34, 133, 105, 101, 22, 7, 101, 55, 10, 22, 10, 9, 148]
abbrev dktX26_guess_6 : List UInt8 := dkwX26_guess_6 ++ dktX26_guess_7
def dkwX26_guess_5 : List UInt8 := [167, 255, 240, 9, 55, 7, 3, 54, 9, 21, 9, 42, 180, 0, 13, 162, 0, 74, 42, 180, 0, 7, 21, 9]
abbrev dktX26_guess_5 : List UInt8 := dkwX26_guess_5 ++ dktX26_guess_6
def dkwX26_guess_4 : List UInt8 := [167, 0, 5, 22, 5, 55, 5, 42, 43, 22, 5, 184, 0, 48, 153, 0, 12, 22, 5, 10, 101, 55, 5]
abbrev dktX26_guess_4 : List UInt8 := dkwX26_guess_4 ++ dktX26_guess_5
def dkwX26_guess_3 : List UInt8 := [180, 0, 7, 28, 5, 100, 46, 133, 97, 109, 55, 5, 22, 5, 20, 0, 46, 148, 158, 0, 9, 20, 0, 46]
abbrev dktX26_guess_3 : List UInt8 := dkwX26_guess_3 ++ dktX26_guess_4
def dkwX26_guess_2 : List UInt8 := [105, 42, 28, 5, 100, 182, 0, 34, 133, 97, 43, 180, 0, 7, 28, 4, 100, 46, 133, 20, 0, 24, 105, 43]
abbrev dktX26_guess_2 : List UInt8 := dkwX26_guess_2 ++ dktX26_guess_3
def dkwX26_guess_1 : List UInt8 := [66, 28, 4, 160, 0, 17, 33, 43, 180, 0, 7, 3, 46, 133, 109, 55, 5, 167, 0, 43, 33, 20, 0, 24]
abbrev dktX26_guess_1 : List UInt8 := dkwX26_guess_1 ++ dktX26_guess_2
def dkwX26_guess_0 : List UInt8 := [43, 180, 0, 13, 61, 42, 28, 182, 0, 34, 133, 20, 0, 24, 105, 42, 28, 4, 100, 182, 0, 34, 133, 97]
abbrev dktX26_guess_0 : List UInt8 := dkwX26_guess_0 ++ dktX26_guess_1
theorem dksX26_guess_0 : cX26_guess.data.toList.drop 0 = dktX26_guess_0 := by decide +kernel
theorem dksX26_guess_1 : cX26_guess.data.toList.drop 24 = dktX26_guess_1 := dk_seg dksX26_guess_0 24 rfl rfl
theorem dksX26_guess_2 : cX26_guess.data.toList.drop 48 = dktX26_guess_2 := dk_seg dksX26_guess_1 24 rfl rfl
theorem dksX26_guess_3 : cX26_guess.data.toList.drop 72 = dktX26_guess_3 := dk_seg dksX26_guess_2 24 rfl rfl
theorem dksX26_guess_4 : cX26_guess.data.toList.drop 96 = dktX26_guess_4 := dk_seg dksX26_guess_3 24 rfl rfl
theorem dksX26_guess_5 : cX26_guess.data.toList.drop 119 = dktX26_guess_5 := dk_seg dksX26_guess_4 23 rfl rfl
theorem dksX26_guess_6 : cX26_guess.data.toList.drop 143 = dktX26_guess_6 := dk_seg dksX26_guess_5 24 rfl rfl
theorem dksX26_guess_7 : cX26_guess.data.toList.drop 165 = dktX26_guess_7 := dk_seg dksX26_guess_6 22 rfl rfl
theorem dksX26_guess_8 : cX26_guess.data.toList.drop 189 = dktX26_guess_8 := dk_seg dksX26_guess_7 24 rfl rfl
theorem dksX26_guess_9 : cX26_guess.data.toList.drop 212 = dktX26_guess_9 := dk_seg dksX26_guess_8 23 rfl rfl
theorem dX26_guess_0 : decode cX26_guess 0 = .ok (.aload_n 1, 1) := dk_43 (dk_at dksX26_guess_0 0 rfl rfl)
theorem dX26_guess_1 : decode cX26_guess 1 = .ok (.getfield 13, 3) := dk_180 0 13 (dk_at dksX26_guess_0 1 rfl rfl)
theorem dX26_guess_4 : decode cX26_guess 4 = .ok (.istore_n 2, 1) := dk_61 (dk_at dksX26_guess_0 4 rfl rfl)
theorem dX26_guess_5 : decode cX26_guess 5 = .ok (.aload_n 0, 1) := dk_42 (dk_at dksX26_guess_0 5 rfl rfl)
theorem dX26_guess_6 : decode cX26_guess 6 = .ok (.iload_n 2, 1) := dk_28 (dk_at dksX26_guess_0 6 rfl rfl)
theorem dX26_guess_7 : decode cX26_guess 7 = .ok (.invokevirtual 34, 3) := dk_182 0 34 (dk_at dksX26_guess_0 7 rfl rfl)
theorem dX26_guess_10 : decode cX26_guess 10 = .ok (.i2l, 1) := dk_133 (dk_at dksX26_guess_0 10 rfl rfl)
theorem dX26_guess_11 : decode cX26_guess 11 = .ok (.ldc2_w 24, 3) := dk_20 0 24 (dk_at dksX26_guess_0 11 rfl rfl)
theorem dX26_guess_14 : decode cX26_guess 14 = .ok (.lmul, 1) := dk_105 (dk_at dksX26_guess_0 14 rfl rfl)
theorem dX26_guess_15 : decode cX26_guess 15 = .ok (.aload_n 0, 1) := dk_42 (dk_at dksX26_guess_0 15 rfl rfl)
theorem dX26_guess_16 : decode cX26_guess 16 = .ok (.iload_n 2, 1) := dk_28 (dk_at dksX26_guess_0 16 rfl rfl)
theorem dX26_guess_17 : decode cX26_guess 17 = .ok (.iconst 1, 1) := dk_4 (dk_at dksX26_guess_0 17 rfl rfl)
theorem dX26_guess_18 : decode cX26_guess 18 = .ok (.isub, 1) := dk_100 (dk_at dksX26_guess_0 18 rfl rfl)
theorem dX26_guess_19 : decode cX26_guess 19 = .ok (.invokevirtual 34, 3) := dk_182 0 34 (dk_at dksX26_guess_0 19 rfl rfl)
theorem dX26_guess_22 : decode cX26_guess 22 = .ok (.i2l, 1) := dk_133 (dk_at dksX26_guess_0 22 rfl rfl)
theorem dX26_guess_23 : decode cX26_guess 23 = .ok (.ladd, 1) := dk_97 (dk_at dksX26_guess_0 23 rfl rfl)
theorem dX26_guess_24 : decode cX26_guess 24 = .ok (.lstore_n 3, 1) := dk_66 (dk_at dksX26_guess_1 0 rfl rfl)
theorem dX26_guess_25 : decode cX26_guess 25 = .ok (.iload_n 2, 1) := dk_28 (dk_at dksX26_guess_1 1 rfl rfl)
theorem dX26_guess_26 : decode cX26_guess 26 = .ok (.iconst 1, 1) := dk_4 (dk_at dksX26_guess_1 2 rfl rfl)
theorem dX26_guess_27 : decode cX26_guess 27 = .ok (.if_icmp .ne 17, 3) := dk_160 0 17 (dk_at dksX26_guess_1 3 rfl rfl)
theorem dX26_guess_30 : decode cX26_guess 30 = .ok (.lload_n 3, 1) := dk_33 (dk_at dksX26_guess_1 6 rfl rfl)
theorem dX26_guess_31 : decode cX26_guess 31 = .ok (.aload_n 1, 1) := dk_43 (dk_at dksX26_guess_1 7 rfl rfl)
theorem dX26_guess_32 : decode cX26_guess 32 = .ok (.getfield 7, 3) := dk_180 0 7 (dk_at dksX26_guess_1 8 rfl rfl)
theorem dX26_guess_35 : decode cX26_guess 35 = .ok (.iconst 0, 1) := dk_3 (dk_at dksX26_guess_1 11 rfl rfl)
theorem dX26_guess_36 : decode cX26_guess 36 = .ok (.iaload, 1) := dk_46 (dk_at dksX26_guess_1 12 rfl rfl)
theorem dX26_guess_37 : decode cX26_guess 37 = .ok (.i2l, 1) := dk_133 (dk_at dksX26_guess_1 13 rfl rfl)
theorem dX26_guess_38 : decode cX26_guess 38 = .ok (.ldiv, 1) := dk_109 (dk_at dksX26_guess_1 14 rfl rfl)
theorem dX26_guess_39 : decode cX26_guess 39 = .ok (.lstore 5, 2) := dk_55 5 (dk_at dksX26_guess_1 15 rfl rfl)
theorem dX26_guess_41 : decode cX26_guess 41 = .ok (.goto 43, 3) := dk_167 0 43 (dk_at dksX26_guess_1 17 rfl rfl)
theorem dX26_guess_44 : decode cX26_guess 44 = .ok (.lload_n 3, 1) := dk_33 (dk_at dksX26_guess_1 20 rfl rfl)
theorem dX26_guess_45 : decode cX26_guess 45 = .ok (.ldc2_w 24, 3) := dk_20 0 24 (dk_at dksX26_guess_1 21 rfl rfl)
theorem dX26_guess_48 : decode cX26_guess 48 = .ok (.lmul, 1) := dk_105 (dk_at dksX26_guess_2 0 rfl rfl)
theorem dX26_guess_49 : decode cX26_guess 49 = .ok (.aload_n 0, 1) := dk_42 (dk_at dksX26_guess_2 1 rfl rfl)
theorem dX26_guess_50 : decode cX26_guess 50 = .ok (.iload_n 2, 1) := dk_28 (dk_at dksX26_guess_2 2 rfl rfl)
theorem dX26_guess_51 : decode cX26_guess 51 = .ok (.iconst 2, 1) := dk_5 (dk_at dksX26_guess_2 3 rfl rfl)
theorem dX26_guess_52 : decode cX26_guess 52 = .ok (.isub, 1) := dk_100 (dk_at dksX26_guess_2 4 rfl rfl)
theorem dX26_guess_53 : decode cX26_guess 53 = .ok (.invokevirtual 34, 3) := dk_182 0 34 (dk_at dksX26_guess_2 5 rfl rfl)
theorem dX26_guess_56 : decode cX26_guess 56 = .ok (.i2l, 1) := dk_133 (dk_at dksX26_guess_2 8 rfl rfl)
theorem dX26_guess_57 : decode cX26_guess 57 = .ok (.ladd, 1) := dk_97 (dk_at dksX26_guess_2 9 rfl rfl)
theorem dX26_guess_58 : decode cX26_guess 58 = .ok (.aload_n 1, 1) := dk_43 (dk_at dksX26_guess_2 10 rfl rfl)
theorem dX26_guess_59 : decode cX26_guess 59 = .ok (.getfield 7, 3) := dk_180 0 7 (dk_at dksX26_guess_2 11 rfl rfl)
theorem dX26_guess_62 : decode cX26_guess 62 = .ok (.iload_n 2, 1) := dk_28 (dk_at dksX26_guess_2 14 rfl rfl)
theorem dX26_guess_63 : decode cX26_guess 63 = .ok (.iconst 1, 1) := dk_4 (dk_at dksX26_guess_2 15 rfl rfl)
theorem dX26_guess_64 : decode cX26_guess 64 = .ok (.isub, 1) := dk_100 (dk_at dksX26_guess_2 16 rfl rfl)
theorem dX26_guess_65 : decode cX26_guess 65 = .ok (.iaload, 1) := dk_46 (dk_at dksX26_guess_2 17 rfl rfl)
theorem dX26_guess_66 : decode cX26_guess 66 = .ok (.i2l, 1) := dk_133 (dk_at dksX26_guess_2 18 rfl rfl)
theorem dX26_guess_67 : decode cX26_guess 67 = .ok (.ldc2_w 24, 3) := dk_20 0 24 (dk_at dksX26_guess_2 19 rfl rfl)
theorem dX26_guess_70 : decode cX26_guess 70 = .ok (.lmul, 1) := dk_105 (dk_at dksX26_guess_2 22 rfl rfl)
theorem dX26_guess_71 : decode cX26_guess 71 = .ok (.aload_n 1, 1) := dk_43 (dk_at dksX26_guess_2 23 rfl rfl)
theorem dX26_guess_72 : decode cX26_guess 72 = .ok (.getfield 7, 3) := dk_180 0 7 (dk_at dksX26_guess_3 0 rfl rfl)
theorem dX26_guess_75 : decode cX26_guess 75 = .ok (.iload_n 2, 1) := dk_28 (dk_at dksX26_guess_3 3 rfl rfl)
theorem dX26_guess_76 : decode cX26_guess 76 = .ok (.iconst 2, 1) := dk_5 (dk_at dksX26_guess_3 4 rfl rfl)
theorem dX26_guess_77 : decode cX26_guess 77 = .ok (.isub, 1) := dk_100 (dk_at dksX26_guess_3 5 rfl rfl)
theorem dX26_guess_78 : decode cX26_guess 78 = .ok (.iaload, 1) := dk_46 (dk_at dksX26_guess_3 6 rfl rfl)
theorem dX26_guess_79 : decode cX26_guess 79 = .ok (.i2l, 1) := dk_133 (dk_at dksX26_guess_3 7 rfl rfl)
theorem dX26_guess_80 : decode cX26_guess 80 = .ok (.ladd, 1) := dk_97 (dk_at dksX26_guess_3 8 rfl rfl)
theorem dX26_guess_81 : decode cX26_guess 81 = .ok (.ldiv, 1) := dk_109 (dk_at dksX26_guess_3 9 rfl rfl)
theorem dX26_guess_82 : decode cX26_guess 82 = .ok (.lstore 5, 2) := dk_55 5 (dk_at dksX26_guess_3 10 rfl rfl)
theorem dX26_guess_84 : decode cX26_guess 84 = .ok (.lload 5, 2) := dk_22 5 (dk_at dksX26_guess_3 12 rfl rfl)
theorem dX26_guess_86 : decode cX26_guess 86 = .ok (.ldc2_w 46, 3) := dk_20 0 46 (dk_at dksX26_guess_3 14 rfl rfl)
theorem dX26_guess_89 : decode cX26_guess 89 = .ok (.lcmp, 1) := dk_148 (dk_at dksX26_guess_3 17 rfl rfl)
theorem dX26_guess_90 : decode cX26_guess 90 = .ok (.ifCond .le 9, 3) := dk_158 0 9 (dk_at dksX26_guess_3 18 rfl rfl)
theorem dX26_guess_93 : decode cX26_guess 93 = .ok (.ldc2_w 46, 3) := dk_20 0 46 (dk_at dksX26_guess_3 21 rfl rfl)
theorem dX26_guess_96 : decode cX26_guess 96 = .ok (.goto 5, 3) := dk_167 0 5 (dk_at dksX26_guess_4 0 rfl rfl)
theorem dX26_guess_99 : decode cX26_guess 99 = .ok (.lload 5, 2) := dk_22 5 (dk_at dksX26_guess_4 3 rfl rfl)
theorem dX26_guess_101 : decode cX26_guess 101 = .ok (.lstore 5, 2) := dk_55 5 (dk_at dksX26_guess_4 5 rfl rfl)
theorem dX26_guess_103 : decode cX26_guess 103 = .ok (.aload_n 0, 1) := dk_42 (dk_at dksX26_guess_4 7 rfl rfl)
theorem dX26_guess_104 : decode cX26_guess 104 = .ok (.aload_n 1, 1) := dk_43 (dk_at dksX26_guess_4 8 rfl rfl)
theorem dX26_guess_105 : decode cX26_guess 105 = .ok (.lload 5, 2) := dk_22 5 (dk_at dksX26_guess_4 9 rfl rfl)
theorem dX26_guess_107 : decode cX26_guess 107 = .ok (.invokestatic 48, 3) := dk_184 0 48 (dk_at dksX26_guess_4 11 rfl rfl)
theorem dX26_guess_110 : decode cX26_guess 110 = .ok (.ifCond .eq 12, 3) := dk_153 0 12 (dk_at dksX26_guess_4 14 rfl rfl)
theorem dX26_guess_113 : decode cX26_guess 113 = .ok (.lload 5, 2) := dk_22 5 (dk_at dksX26_guess_4 17 rfl rfl)
theorem dX26_guess_115 : decode cX26_guess 115 = .ok (.lconst 1, 1) := dk_10 (dk_at dksX26_guess_4 19 rfl rfl)
theorem dX26_guess_116 : decode cX26_guess 116 = .ok (.lsub, 1) := dk_101 (dk_at dksX26_guess_4 20 rfl rfl)
theorem dX26_guess_117 : decode cX26_guess 117 = .ok (.lstore 5, 2) := dk_55 5 (dk_at dksX26_guess_4 21 rfl rfl)
theorem dX26_guess_119 : decode cX26_guess 119 = .ok (.goto (-16), 3) := dk_167 255 240 (dk_at dksX26_guess_5 0 rfl rfl)
theorem dX26_guess_122 : decode cX26_guess 122 = .ok (.lconst 0, 1) := dk_9 (dk_at dksX26_guess_5 3 rfl rfl)
theorem dX26_guess_123 : decode cX26_guess 123 = .ok (.lstore 7, 2) := dk_55 7 (dk_at dksX26_guess_5 4 rfl rfl)
theorem dX26_guess_125 : decode cX26_guess 125 = .ok (.iconst 0, 1) := dk_3 (dk_at dksX26_guess_5 6 rfl rfl)
theorem dX26_guess_126 : decode cX26_guess 126 = .ok (.istore 9, 2) := dk_54 9 (dk_at dksX26_guess_5 7 rfl rfl)
theorem dX26_guess_128 : decode cX26_guess 128 = .ok (.iload 9, 2) := dk_21 9 (dk_at dksX26_guess_5 9 rfl rfl)
theorem dX26_guess_130 : decode cX26_guess 130 = .ok (.aload_n 0, 1) := dk_42 (dk_at dksX26_guess_5 11 rfl rfl)
theorem dX26_guess_131 : decode cX26_guess 131 = .ok (.getfield 13, 3) := dk_180 0 13 (dk_at dksX26_guess_5 12 rfl rfl)
theorem dX26_guess_134 : decode cX26_guess 134 = .ok (.if_icmp .ge 74, 3) := dk_162 0 74 (dk_at dksX26_guess_5 15 rfl rfl)
theorem dX26_guess_137 : decode cX26_guess 137 = .ok (.aload_n 0, 1) := dk_42 (dk_at dksX26_guess_5 18 rfl rfl)
theorem dX26_guess_138 : decode cX26_guess 138 = .ok (.getfield 7, 3) := dk_180 0 7 (dk_at dksX26_guess_5 19 rfl rfl)
theorem dX26_guess_141 : decode cX26_guess 141 = .ok (.iload 9, 2) := dk_21 9 (dk_at dksX26_guess_5 22 rfl rfl)
theorem dX26_guess_143 : decode cX26_guess 143 = .ok (.iaload, 1) := dk_46 (dk_at dksX26_guess_6 0 rfl rfl)
theorem dX26_guess_144 : decode cX26_guess 144 = .ok (.i2l, 1) := dk_133 (dk_at dksX26_guess_6 1 rfl rfl)
theorem dX26_guess_145 : decode cX26_guess 145 = .ok (.lload 5, 2) := dk_22 5 (dk_at dksX26_guess_6 2 rfl rfl)
theorem dX26_guess_147 : decode cX26_guess 147 = .ok (.aload_n 1, 1) := dk_43 (dk_at dksX26_guess_6 4 rfl rfl)
theorem dX26_guess_148 : decode cX26_guess 148 = .ok (.iload 9, 2) := dk_21 9 (dk_at dksX26_guess_6 5 rfl rfl)
theorem dX26_guess_150 : decode cX26_guess 150 = .ok (.invokevirtual 34, 3) := dk_182 0 34 (dk_at dksX26_guess_6 7 rfl rfl)
theorem dX26_guess_153 : decode cX26_guess 153 = .ok (.i2l, 1) := dk_133 (dk_at dksX26_guess_6 10 rfl rfl)
theorem dX26_guess_154 : decode cX26_guess 154 = .ok (.lmul, 1) := dk_105 (dk_at dksX26_guess_6 11 rfl rfl)
theorem dX26_guess_155 : decode cX26_guess 155 = .ok (.lsub, 1) := dk_101 (dk_at dksX26_guess_6 12 rfl rfl)
theorem dX26_guess_156 : decode cX26_guess 156 = .ok (.lload 7, 2) := dk_22 7 (dk_at dksX26_guess_6 13 rfl rfl)
theorem dX26_guess_158 : decode cX26_guess 158 = .ok (.lsub, 1) := dk_101 (dk_at dksX26_guess_6 15 rfl rfl)
theorem dX26_guess_159 : decode cX26_guess 159 = .ok (.lstore 10, 2) := dk_55 10 (dk_at dksX26_guess_6 16 rfl rfl)
theorem dX26_guess_161 : decode cX26_guess 161 = .ok (.lload 10, 2) := dk_22 10 (dk_at dksX26_guess_6 18 rfl rfl)
theorem dX26_guess_163 : decode cX26_guess 163 = .ok (.lconst 0, 1) := dk_9 (dk_at dksX26_guess_6 20 rfl rfl)
theorem dX26_guess_164 : decode cX26_guess 164 = .ok (.lcmp, 1) := dk_148 (dk_at dksX26_guess_6 21 rfl rfl)
theorem dX26_guess_165 : decode cX26_guess 165 = .ok (.ifCond .ge 17, 3) := dk_156 0 17 (dk_at dksX26_guess_7 0 rfl rfl)
theorem dX26_guess_168 : decode cX26_guess 168 = .ok (.lload 10, 2) := dk_22 10 (dk_at dksX26_guess_7 3 rfl rfl)
theorem dX26_guess_170 : decode cX26_guess 170 = .ok (.lneg, 1) := dk_117 (dk_at dksX26_guess_7 5 rfl rfl)
theorem dX26_guess_171 : decode cX26_guess 171 = .ok (.ldc2_w 46, 3) := dk_20 0 46 (dk_at dksX26_guess_7 6 rfl rfl)
theorem dX26_guess_174 : decode cX26_guess 174 = .ok (.ladd, 1) := dk_97 (dk_at dksX26_guess_7 9 rfl rfl)
theorem dX26_guess_175 : decode cX26_guess 175 = .ok (.ldc2_w 24, 3) := dk_20 0 24 (dk_at dksX26_guess_7 10 rfl rfl)
theorem dX26_guess_178 : decode cX26_guess 178 = .ok (.ldiv, 1) := dk_109 (dk_at dksX26_guess_7 13 rfl rfl)
theorem dX26_guess_179 : decode cX26_guess 179 = .ok (.goto 4, 3) := dk_167 0 4 (dk_at dksX26_guess_7 14 rfl rfl)
theorem dX26_guess_182 : decode cX26_guess 182 = .ok (.lconst 0, 1) := dk_9 (dk_at dksX26_guess_7 17 rfl rfl)
theorem dX26_guess_183 : decode cX26_guess 183 = .ok (.lstore 7, 2) := dk_55 7 (dk_at dksX26_guess_7 18 rfl rfl)
theorem dX26_guess_185 : decode cX26_guess 185 = .ok (.aload_n 0, 1) := dk_42 (dk_at dksX26_guess_7 20 rfl rfl)
theorem dX26_guess_186 : decode cX26_guess 186 = .ok (.getfield 7, 3) := dk_180 0 7 (dk_at dksX26_guess_7 21 rfl rfl)
theorem dX26_guess_189 : decode cX26_guess 189 = .ok (.iload 9, 2) := dk_21 9 (dk_at dksX26_guess_8 0 rfl rfl)
theorem dX26_guess_191 : decode cX26_guess 191 = .ok (.lload 10, 2) := dk_22 10 (dk_at dksX26_guess_8 2 rfl rfl)
theorem dX26_guess_193 : decode cX26_guess 193 = .ok (.lload 7, 2) := dk_22 7 (dk_at dksX26_guess_8 4 rfl rfl)
theorem dX26_guess_195 : decode cX26_guess 195 = .ok (.ldc2_w 24, 3) := dk_20 0 24 (dk_at dksX26_guess_8 6 rfl rfl)
theorem dX26_guess_198 : decode cX26_guess 198 = .ok (.lmul, 1) := dk_105 (dk_at dksX26_guess_8 9 rfl rfl)
theorem dX26_guess_199 : decode cX26_guess 199 = .ok (.ladd, 1) := dk_97 (dk_at dksX26_guess_8 10 rfl rfl)
theorem dX26_guess_200 : decode cX26_guess 200 = .ok (.l2i, 1) := dk_136 (dk_at dksX26_guess_8 11 rfl rfl)
theorem dX26_guess_201 : decode cX26_guess 201 = .ok (.iastore, 1) := dk_79 (dk_at dksX26_guess_8 12 rfl rfl)
theorem dX26_guess_202 : decode cX26_guess 202 = .ok (.iinc 9 1, 3) := dk_132 9 1 (dk_at dksX26_guess_8 13 rfl rfl)
theorem dX26_guess_205 : decode cX26_guess 205 = .ok (.goto (-77), 3) := dk_167 255 179 (dk_at dksX26_guess_8 16 rfl rfl)
theorem dX26_guess_208 : decode cX26_guess 208 = .ok (.aload_n 0, 1) := dk_42 (dk_at dksX26_guess_8 19 rfl rfl)
theorem dX26_guess_209 : decode cX26_guess 209 = .ok (.invokevirtual 39, 3) := dk_182 0 39 (dk_at dksX26_guess_8 20 rfl rfl)
theorem dX26_guess_212 : decode cX26_guess 212 = .ok (.lload 5, 2) := dk_22 5 (dk_at dksX26_guess_9 0 rfl rfl)
theorem dX26_guess_214 : decode cX26_guess 214 = .ok (.l2i, 1) := dk_136 (dk_at dksX26_guess_9 2 rfl rfl)
theorem dX26_guess_215 : decode cX26_guess 215 = .ok (.ireturn, 1) := dk_172 (dk_at dksX26_guess_9 3 rfl rfl)
abbrev cX26_isLess : ByteArray := prog_28_method_18_code
def yX26_isLess : MethodName := ⟨RX26, "isLess", "(LContractLedgerModel$Num;LContractLedgerModel$Num;J)Z"⟩
def dkwX26_isLess_3 : List UInt8 := [158, 0, 7, 4, 167, 0, 4, 3, 172]
abbrev dktX26_isLess_3 : List UInt8 := dkwX26_isLess_3 ++ []
def dkwX26_isLess_2 : List UInt8 := [20, 0, 46, 97, 20, 0, 24, 109, 167, 0, 4, 9, 55, 4, 132, 6, 1, 167, 255, 197, 22, 4, 9, 148]
abbrev dktX26_isLess_2 : List UInt8 := dkwX26_isLess_2 ++ dktX26_isLess_3
def dkwX26_isLess_1 : List UInt8 := [43, 21, 6, 182, 0, 34, 133, 105, 101, 22, 4, 101, 55, 7, 22, 7, 9, 148, 156, 0, 17, 22, 7, 117]
abbrev dktX26_isLess_1 : List UInt8 := dkwX26_isLess_1 ++ dktX26_isLess_2
def dkwX26_isLess_0 : List UInt8 := [9, 55, 4, 3, 54, 6, 21, 6, 42, 180, 0, 13, 162, 0, 56, 42, 180, 0, 7, 21, 6, 46, 133, 32]
abbrev dktX26_isLess_0 : List UInt8 := dkwX26_isLess_0 ++ dktX26_isLess_1
theorem dksX26_isLess_0 : cX26_isLess.data.toList.drop 0 = dktX26_isLess_0 := by decide +kernel
theorem dksX26_isLess_1 : cX26_isLess.data.toList.drop 24 = dktX26_isLess_1 := dk_seg dksX26_isLess_0 24 rfl rfl
theorem dksX26_isLess_2 : cX26_isLess.data.toList.drop 48 = dktX26_isLess_2 := dk_seg dksX26_isLess_1 24 rfl rfl
theorem dksX26_isLess_3 : cX26_isLess.data.toList.drop 72 = dktX26_isLess_3 := dk_seg dksX26_isLess_2 24 rfl rfl
theorem dX26_isLess_0 : decode cX26_isLess 0 = .ok (.lconst 0, 1) := dk_9 (dk_at dksX26_isLess_0 0 rfl rfl)
theorem dX26_isLess_1 : decode cX26_isLess 1 = .ok (.lstore 4, 2) := dk_55 4 (dk_at dksX26_isLess_0 1 rfl rfl)
theorem dX26_isLess_3 : decode cX26_isLess 3 = .ok (.iconst 0, 1) := dk_3 (dk_at dksX26_isLess_0 3 rfl rfl)
theorem dX26_isLess_4 : decode cX26_isLess 4 = .ok (.istore 6, 2) := dk_54 6 (dk_at dksX26_isLess_0 4 rfl rfl)
theorem dX26_isLess_6 : decode cX26_isLess 6 = .ok (.iload 6, 2) := dk_21 6 (dk_at dksX26_isLess_0 6 rfl rfl)
theorem dX26_isLess_8 : decode cX26_isLess 8 = .ok (.aload_n 0, 1) := dk_42 (dk_at dksX26_isLess_0 8 rfl rfl)
theorem dX26_isLess_9 : decode cX26_isLess 9 = .ok (.getfield 13, 3) := dk_180 0 13 (dk_at dksX26_isLess_0 9 rfl rfl)
theorem dX26_isLess_12 : decode cX26_isLess 12 = .ok (.if_icmp .ge 56, 3) := dk_162 0 56 (dk_at dksX26_isLess_0 12 rfl rfl)
theorem dX26_isLess_15 : decode cX26_isLess 15 = .ok (.aload_n 0, 1) := dk_42 (dk_at dksX26_isLess_0 15 rfl rfl)
theorem dX26_isLess_16 : decode cX26_isLess 16 = .ok (.getfield 7, 3) := dk_180 0 7 (dk_at dksX26_isLess_0 16 rfl rfl)
theorem dX26_isLess_19 : decode cX26_isLess 19 = .ok (.iload 6, 2) := dk_21 6 (dk_at dksX26_isLess_0 19 rfl rfl)
theorem dX26_isLess_21 : decode cX26_isLess 21 = .ok (.iaload, 1) := dk_46 (dk_at dksX26_isLess_0 21 rfl rfl)
theorem dX26_isLess_22 : decode cX26_isLess 22 = .ok (.i2l, 1) := dk_133 (dk_at dksX26_isLess_0 22 rfl rfl)
theorem dX26_isLess_23 : decode cX26_isLess 23 = .ok (.lload_n 2, 1) := dk_32 (dk_at dksX26_isLess_0 23 rfl rfl)
theorem dX26_isLess_24 : decode cX26_isLess 24 = .ok (.aload_n 1, 1) := dk_43 (dk_at dksX26_isLess_1 0 rfl rfl)
theorem dX26_isLess_25 : decode cX26_isLess 25 = .ok (.iload 6, 2) := dk_21 6 (dk_at dksX26_isLess_1 1 rfl rfl)
theorem dX26_isLess_27 : decode cX26_isLess 27 = .ok (.invokevirtual 34, 3) := dk_182 0 34 (dk_at dksX26_isLess_1 3 rfl rfl)
theorem dX26_isLess_30 : decode cX26_isLess 30 = .ok (.i2l, 1) := dk_133 (dk_at dksX26_isLess_1 6 rfl rfl)
theorem dX26_isLess_31 : decode cX26_isLess 31 = .ok (.lmul, 1) := dk_105 (dk_at dksX26_isLess_1 7 rfl rfl)
theorem dX26_isLess_32 : decode cX26_isLess 32 = .ok (.lsub, 1) := dk_101 (dk_at dksX26_isLess_1 8 rfl rfl)
theorem dX26_isLess_33 : decode cX26_isLess 33 = .ok (.lload 4, 2) := dk_22 4 (dk_at dksX26_isLess_1 9 rfl rfl)
theorem dX26_isLess_35 : decode cX26_isLess 35 = .ok (.lsub, 1) := dk_101 (dk_at dksX26_isLess_1 11 rfl rfl)
theorem dX26_isLess_36 : decode cX26_isLess 36 = .ok (.lstore 7, 2) := dk_55 7 (dk_at dksX26_isLess_1 12 rfl rfl)
theorem dX26_isLess_38 : decode cX26_isLess 38 = .ok (.lload 7, 2) := dk_22 7 (dk_at dksX26_isLess_1 14 rfl rfl)
theorem dX26_isLess_40 : decode cX26_isLess 40 = .ok (.lconst 0, 1) := dk_9 (dk_at dksX26_isLess_1 16 rfl rfl)
theorem dX26_isLess_41 : decode cX26_isLess 41 = .ok (.lcmp, 1) := dk_148 (dk_at dksX26_isLess_1 17 rfl rfl)
theorem dX26_isLess_42 : decode cX26_isLess 42 = .ok (.ifCond .ge 17, 3) := dk_156 0 17 (dk_at dksX26_isLess_1 18 rfl rfl)
theorem dX26_isLess_45 : decode cX26_isLess 45 = .ok (.lload 7, 2) := dk_22 7 (dk_at dksX26_isLess_1 21 rfl rfl)
theorem dX26_isLess_47 : decode cX26_isLess 47 = .ok (.lneg, 1) := dk_117 (dk_at dksX26_isLess_1 23 rfl rfl)
theorem dX26_isLess_48 : decode cX26_isLess 48 = .ok (.ldc2_w 46, 3) := dk_20 0 46 (dk_at dksX26_isLess_2 0 rfl rfl)
theorem dX26_isLess_51 : decode cX26_isLess 51 = .ok (.ladd, 1) := dk_97 (dk_at dksX26_isLess_2 3 rfl rfl)
theorem dX26_isLess_52 : decode cX26_isLess 52 = .ok (.ldc2_w 24, 3) := dk_20 0 24 (dk_at dksX26_isLess_2 4 rfl rfl)
theorem dX26_isLess_55 : decode cX26_isLess 55 = .ok (.ldiv, 1) := dk_109 (dk_at dksX26_isLess_2 7 rfl rfl)
theorem dX26_isLess_56 : decode cX26_isLess 56 = .ok (.goto 4, 3) := dk_167 0 4 (dk_at dksX26_isLess_2 8 rfl rfl)
theorem dX26_isLess_59 : decode cX26_isLess 59 = .ok (.lconst 0, 1) := dk_9 (dk_at dksX26_isLess_2 11 rfl rfl)
theorem dX26_isLess_60 : decode cX26_isLess 60 = .ok (.lstore 4, 2) := dk_55 4 (dk_at dksX26_isLess_2 12 rfl rfl)
theorem dX26_isLess_62 : decode cX26_isLess 62 = .ok (.iinc 6 1, 3) := dk_132 6 1 (dk_at dksX26_isLess_2 14 rfl rfl)
theorem dX26_isLess_65 : decode cX26_isLess 65 = .ok (.goto (-59), 3) := dk_167 255 197 (dk_at dksX26_isLess_2 17 rfl rfl)
theorem dX26_isLess_68 : decode cX26_isLess 68 = .ok (.lload 4, 2) := dk_22 4 (dk_at dksX26_isLess_2 20 rfl rfl)
theorem dX26_isLess_70 : decode cX26_isLess 70 = .ok (.lconst 0, 1) := dk_9 (dk_at dksX26_isLess_2 22 rfl rfl)
theorem dX26_isLess_71 : decode cX26_isLess 71 = .ok (.lcmp, 1) := dk_148 (dk_at dksX26_isLess_2 23 rfl rfl)
theorem dX26_isLess_72 : decode cX26_isLess 72 = .ok (.ifCond .le 7, 3) := dk_158 0 7 (dk_at dksX26_isLess_3 0 rfl rfl)
theorem dX26_isLess_75 : decode cX26_isLess 75 = .ok (.iconst 1, 1) := dk_4 (dk_at dksX26_isLess_3 3 rfl rfl)
theorem dX26_isLess_76 : decode cX26_isLess 76 = .ok (.goto 4, 3) := dk_167 0 4 (dk_at dksX26_isLess_3 4 rfl rfl)
theorem dX26_isLess_79 : decode cX26_isLess 79 = .ok (.iconst 0, 1) := dk_3 (dk_at dksX26_isLess_3 7 rfl rfl)
theorem dX26_isLess_80 : decode cX26_isLess 80 = .ok (.ireturn, 1) := dk_172 (dk_at dksX26_isLess_3 8 rfl rfl)
abbrev cX26_join : ByteArray := prog_28_method_21_code
def yX26_join : MethodName := ⟨RX26, "join", "(LContractLedgerModel$Num;LContractLedgerModel$Num;I)V"⟩
def dkwX26_join_7 : List UInt8 := [177]
abbrev dktX26_join_7 : List UInt8 := dkwX26_join_7 ++ []
def dkwX26_join_6 : List UInt8 := [167, 0, 8, 21, 6, 21, 7, 130, 79, 132, 5, 1, 167, 255, 155, 42, 3, 181, 0, 17, 42, 182, 0, 39]
abbrev dktX26_join_6 : List UInt8 := dkwX26_join_6 ++ dktX26_join_7
def dkwX26_join_5 : List UInt8 := [21, 5, 29, 154, 0, 11, 21, 6, 21, 7, 126, 167, 0, 21, 29, 4, 160, 0, 11, 21, 6, 21, 7, 128]
abbrev dktX26_join_5 : List UInt8 := dkwX26_join_5 ++ dktX26_join_6
def dkwX26_join_4 : List UInt8 := [54, 4, 18, 52, 21, 7, 18, 52, 126, 100, 54, 6, 44, 21, 5, 182, 0, 34, 54, 7, 42, 180, 0, 7]
abbrev dktX26_join_4 : List UInt8 := dkwX26_join_4 ++ dktX26_join_5
def dkwX26_join_3 : List UInt8 := [180, 0, 17, 153, 0, 32, 21, 6, 21, 4, 100, 54, 7, 21, 7, 156, 0, 7, 4, 167, 0, 4, 3]
abbrev dktX26_join_3 : List UInt8 := dkwX26_join_3 ++ dktX26_join_4
def dkwX26_join_2 : List UInt8 := [3, 54, 4, 3, 54, 5, 21, 5, 42, 180, 0, 13, 162, 0, 98, 43, 21, 5, 182, 0, 34, 54, 6, 43]
abbrev dktX26_join_2 : List UInt8 := dkwX26_join_2 ++ dktX26_join_3
def dkwX26_join_1 : List UInt8 := [180, 0, 13, 167, 0, 7, 44, 180, 0, 13, 181, 0, 13, 43, 180, 0, 17, 153, 0, 7, 4, 167, 0, 4]
abbrev dktX26_join_1 : List UInt8 := dkwX26_join_1 ++ dktX26_join_2
def dkwX26_join_0 : List UInt8 := [42, 29, 154, 0, 10, 44, 180, 0, 13, 167, 0, 25, 43, 180, 0, 13, 44, 180, 0, 13, 164, 0, 10, 43]
abbrev dktX26_join_0 : List UInt8 := dkwX26_join_0 ++ dktX26_join_1
theorem dksX26_join_0 : cX26_join.data.toList.drop 0 = dktX26_join_0 := by decide +kernel
theorem dksX26_join_1 : cX26_join.data.toList.drop 24 = dktX26_join_1 := dk_seg dksX26_join_0 24 rfl rfl
theorem dksX26_join_2 : cX26_join.data.toList.drop 48 = dktX26_join_2 := dk_seg dksX26_join_1 24 rfl rfl
theorem dksX26_join_3 : cX26_join.data.toList.drop 72 = dktX26_join_3 := dk_seg dksX26_join_2 24 rfl rfl
theorem dksX26_join_4 : cX26_join.data.toList.drop 95 = dktX26_join_4 := dk_seg dksX26_join_3 23 rfl rfl
theorem dksX26_join_5 : cX26_join.data.toList.drop 119 = dktX26_join_5 := dk_seg dksX26_join_4 24 rfl rfl
theorem dksX26_join_6 : cX26_join.data.toList.drop 143 = dktX26_join_6 := dk_seg dksX26_join_5 24 rfl rfl
theorem dksX26_join_7 : cX26_join.data.toList.drop 167 = dktX26_join_7 := dk_seg dksX26_join_6 24 rfl rfl
theorem dX26_join_0 : decode cX26_join 0 = .ok (.aload_n 0, 1) := dk_42 (dk_at dksX26_join_0 0 rfl rfl)
theorem dX26_join_1 : decode cX26_join 1 = .ok (.iload_n 3, 1) := dk_29 (dk_at dksX26_join_0 1 rfl rfl)
theorem dX26_join_2 : decode cX26_join 2 = .ok (.ifCond .ne 10, 3) := dk_154 0 10 (dk_at dksX26_join_0 2 rfl rfl)
theorem dX26_join_5 : decode cX26_join 5 = .ok (.aload_n 2, 1) := dk_44 (dk_at dksX26_join_0 5 rfl rfl)
theorem dX26_join_6 : decode cX26_join 6 = .ok (.getfield 13, 3) := dk_180 0 13 (dk_at dksX26_join_0 6 rfl rfl)
theorem dX26_join_9 : decode cX26_join 9 = .ok (.goto 25, 3) := dk_167 0 25 (dk_at dksX26_join_0 9 rfl rfl)
theorem dX26_join_12 : decode cX26_join 12 = .ok (.aload_n 1, 1) := dk_43 (dk_at dksX26_join_0 12 rfl rfl)
theorem dX26_join_13 : decode cX26_join 13 = .ok (.getfield 13, 3) := dk_180 0 13 (dk_at dksX26_join_0 13 rfl rfl)
theorem dX26_join_16 : decode cX26_join 16 = .ok (.aload_n 2, 1) := dk_44 (dk_at dksX26_join_0 16 rfl rfl)
theorem dX26_join_17 : decode cX26_join 17 = .ok (.getfield 13, 3) := dk_180 0 13 (dk_at dksX26_join_0 17 rfl rfl)
theorem dX26_join_20 : decode cX26_join 20 = .ok (.if_icmp .le 10, 3) := dk_164 0 10 (dk_at dksX26_join_0 20 rfl rfl)
theorem dX26_join_23 : decode cX26_join 23 = .ok (.aload_n 1, 1) := dk_43 (dk_at dksX26_join_0 23 rfl rfl)
theorem dX26_join_24 : decode cX26_join 24 = .ok (.getfield 13, 3) := dk_180 0 13 (dk_at dksX26_join_1 0 rfl rfl)
theorem dX26_join_27 : decode cX26_join 27 = .ok (.goto 7, 3) := dk_167 0 7 (dk_at dksX26_join_1 3 rfl rfl)
theorem dX26_join_30 : decode cX26_join 30 = .ok (.aload_n 2, 1) := dk_44 (dk_at dksX26_join_1 6 rfl rfl)
theorem dX26_join_31 : decode cX26_join 31 = .ok (.getfield 13, 3) := dk_180 0 13 (dk_at dksX26_join_1 7 rfl rfl)
theorem dX26_join_34 : decode cX26_join 34 = .ok (.putfield 13, 3) := dk_181 0 13 (dk_at dksX26_join_1 10 rfl rfl)
theorem dX26_join_37 : decode cX26_join 37 = .ok (.aload_n 1, 1) := dk_43 (dk_at dksX26_join_1 13 rfl rfl)
theorem dX26_join_38 : decode cX26_join 38 = .ok (.getfield 17, 3) := dk_180 0 17 (dk_at dksX26_join_1 14 rfl rfl)
theorem dX26_join_41 : decode cX26_join 41 = .ok (.ifCond .eq 7, 3) := dk_153 0 7 (dk_at dksX26_join_1 17 rfl rfl)
theorem dX26_join_44 : decode cX26_join 44 = .ok (.iconst 1, 1) := dk_4 (dk_at dksX26_join_1 20 rfl rfl)
theorem dX26_join_45 : decode cX26_join 45 = .ok (.goto 4, 3) := dk_167 0 4 (dk_at dksX26_join_1 21 rfl rfl)
theorem dX26_join_48 : decode cX26_join 48 = .ok (.iconst 0, 1) := dk_3 (dk_at dksX26_join_2 0 rfl rfl)
theorem dX26_join_49 : decode cX26_join 49 = .ok (.istore 4, 2) := dk_54 4 (dk_at dksX26_join_2 1 rfl rfl)
theorem dX26_join_51 : decode cX26_join 51 = .ok (.iconst 0, 1) := dk_3 (dk_at dksX26_join_2 3 rfl rfl)
theorem dX26_join_52 : decode cX26_join 52 = .ok (.istore 5, 2) := dk_54 5 (dk_at dksX26_join_2 4 rfl rfl)
theorem dX26_join_54 : decode cX26_join 54 = .ok (.iload 5, 2) := dk_21 5 (dk_at dksX26_join_2 6 rfl rfl)
theorem dX26_join_56 : decode cX26_join 56 = .ok (.aload_n 0, 1) := dk_42 (dk_at dksX26_join_2 8 rfl rfl)
theorem dX26_join_57 : decode cX26_join 57 = .ok (.getfield 13, 3) := dk_180 0 13 (dk_at dksX26_join_2 9 rfl rfl)
theorem dX26_join_60 : decode cX26_join 60 = .ok (.if_icmp .ge 98, 3) := dk_162 0 98 (dk_at dksX26_join_2 12 rfl rfl)
theorem dX26_join_63 : decode cX26_join 63 = .ok (.aload_n 1, 1) := dk_43 (dk_at dksX26_join_2 15 rfl rfl)
theorem dX26_join_64 : decode cX26_join 64 = .ok (.iload 5, 2) := dk_21 5 (dk_at dksX26_join_2 16 rfl rfl)
theorem dX26_join_66 : decode cX26_join 66 = .ok (.invokevirtual 34, 3) := dk_182 0 34 (dk_at dksX26_join_2 18 rfl rfl)
theorem dX26_join_69 : decode cX26_join 69 = .ok (.istore 6, 2) := dk_54 6 (dk_at dksX26_join_2 21 rfl rfl)
theorem dX26_join_71 : decode cX26_join 71 = .ok (.aload_n 1, 1) := dk_43 (dk_at dksX26_join_2 23 rfl rfl)
theorem dX26_join_72 : decode cX26_join 72 = .ok (.getfield 17, 3) := dk_180 0 17 (dk_at dksX26_join_3 0 rfl rfl)
theorem dX26_join_75 : decode cX26_join 75 = .ok (.ifCond .eq 32, 3) := dk_153 0 32 (dk_at dksX26_join_3 3 rfl rfl)
theorem dX26_join_78 : decode cX26_join 78 = .ok (.iload 6, 2) := dk_21 6 (dk_at dksX26_join_3 6 rfl rfl)
theorem dX26_join_80 : decode cX26_join 80 = .ok (.iload 4, 2) := dk_21 4 (dk_at dksX26_join_3 8 rfl rfl)
theorem dX26_join_82 : decode cX26_join 82 = .ok (.isub, 1) := dk_100 (dk_at dksX26_join_3 10 rfl rfl)
theorem dX26_join_83 : decode cX26_join 83 = .ok (.istore 7, 2) := dk_54 7 (dk_at dksX26_join_3 11 rfl rfl)
theorem dX26_join_85 : decode cX26_join 85 = .ok (.iload 7, 2) := dk_21 7 (dk_at dksX26_join_3 13 rfl rfl)
theorem dX26_join_87 : decode cX26_join 87 = .ok (.ifCond .ge 7, 3) := dk_156 0 7 (dk_at dksX26_join_3 15 rfl rfl)
theorem dX26_join_90 : decode cX26_join 90 = .ok (.iconst 1, 1) := dk_4 (dk_at dksX26_join_3 18 rfl rfl)
theorem dX26_join_91 : decode cX26_join 91 = .ok (.goto 4, 3) := dk_167 0 4 (dk_at dksX26_join_3 19 rfl rfl)
theorem dX26_join_94 : decode cX26_join 94 = .ok (.iconst 0, 1) := dk_3 (dk_at dksX26_join_3 22 rfl rfl)
theorem dX26_join_95 : decode cX26_join 95 = .ok (.istore 4, 2) := dk_54 4 (dk_at dksX26_join_4 0 rfl rfl)
theorem dX26_join_97 : decode cX26_join 97 = .ok (.ldc 52, 2) := dk_18 52 (dk_at dksX26_join_4 2 rfl rfl)
theorem dX26_join_99 : decode cX26_join 99 = .ok (.iload 7, 2) := dk_21 7 (dk_at dksX26_join_4 4 rfl rfl)
theorem dX26_join_101 : decode cX26_join 101 = .ok (.ldc 52, 2) := dk_18 52 (dk_at dksX26_join_4 6 rfl rfl)
theorem dX26_join_103 : decode cX26_join 103 = .ok (.iand, 1) := dk_126 (dk_at dksX26_join_4 8 rfl rfl)
theorem dX26_join_104 : decode cX26_join 104 = .ok (.isub, 1) := dk_100 (dk_at dksX26_join_4 9 rfl rfl)
theorem dX26_join_105 : decode cX26_join 105 = .ok (.istore 6, 2) := dk_54 6 (dk_at dksX26_join_4 10 rfl rfl)
theorem dX26_join_107 : decode cX26_join 107 = .ok (.aload_n 2, 1) := dk_44 (dk_at dksX26_join_4 12 rfl rfl)
theorem dX26_join_108 : decode cX26_join 108 = .ok (.iload 5, 2) := dk_21 5 (dk_at dksX26_join_4 13 rfl rfl)
theorem dX26_join_110 : decode cX26_join 110 = .ok (.invokevirtual 34, 3) := dk_182 0 34 (dk_at dksX26_join_4 15 rfl rfl)
theorem dX26_join_113 : decode cX26_join 113 = .ok (.istore 7, 2) := dk_54 7 (dk_at dksX26_join_4 18 rfl rfl)
theorem dX26_join_115 : decode cX26_join 115 = .ok (.aload_n 0, 1) := dk_42 (dk_at dksX26_join_4 20 rfl rfl)
theorem dX26_join_116 : decode cX26_join 116 = .ok (.getfield 7, 3) := dk_180 0 7 (dk_at dksX26_join_4 21 rfl rfl)
theorem dX26_join_119 : decode cX26_join 119 = .ok (.iload 5, 2) := dk_21 5 (dk_at dksX26_join_5 0 rfl rfl)
theorem dX26_join_121 : decode cX26_join 121 = .ok (.iload_n 3, 1) := dk_29 (dk_at dksX26_join_5 2 rfl rfl)
theorem dX26_join_122 : decode cX26_join 122 = .ok (.ifCond .ne 11, 3) := dk_154 0 11 (dk_at dksX26_join_5 3 rfl rfl)
theorem dX26_join_125 : decode cX26_join 125 = .ok (.iload 6, 2) := dk_21 6 (dk_at dksX26_join_5 6 rfl rfl)
theorem dX26_join_127 : decode cX26_join 127 = .ok (.iload 7, 2) := dk_21 7 (dk_at dksX26_join_5 8 rfl rfl)
theorem dX26_join_129 : decode cX26_join 129 = .ok (.iand, 1) := dk_126 (dk_at dksX26_join_5 10 rfl rfl)
theorem dX26_join_130 : decode cX26_join 130 = .ok (.goto 21, 3) := dk_167 0 21 (dk_at dksX26_join_5 11 rfl rfl)
theorem dX26_join_133 : decode cX26_join 133 = .ok (.iload_n 3, 1) := dk_29 (dk_at dksX26_join_5 14 rfl rfl)
theorem dX26_join_134 : decode cX26_join 134 = .ok (.iconst 1, 1) := dk_4 (dk_at dksX26_join_5 15 rfl rfl)
theorem dX26_join_135 : decode cX26_join 135 = .ok (.if_icmp .ne 11, 3) := dk_160 0 11 (dk_at dksX26_join_5 16 rfl rfl)
theorem dX26_join_138 : decode cX26_join 138 = .ok (.iload 6, 2) := dk_21 6 (dk_at dksX26_join_5 19 rfl rfl)
theorem dX26_join_140 : decode cX26_join 140 = .ok (.iload 7, 2) := dk_21 7 (dk_at dksX26_join_5 21 rfl rfl)
theorem dX26_join_142 : decode cX26_join 142 = .ok (.ior, 1) := dk_128 (dk_at dksX26_join_5 23 rfl rfl)
theorem dX26_join_143 : decode cX26_join 143 = .ok (.goto 8, 3) := dk_167 0 8 (dk_at dksX26_join_6 0 rfl rfl)
theorem dX26_join_146 : decode cX26_join 146 = .ok (.iload 6, 2) := dk_21 6 (dk_at dksX26_join_6 3 rfl rfl)
theorem dX26_join_148 : decode cX26_join 148 = .ok (.iload 7, 2) := dk_21 7 (dk_at dksX26_join_6 5 rfl rfl)
theorem dX26_join_150 : decode cX26_join 150 = .ok (.ixor, 1) := dk_130 (dk_at dksX26_join_6 7 rfl rfl)
theorem dX26_join_151 : decode cX26_join 151 = .ok (.iastore, 1) := dk_79 (dk_at dksX26_join_6 8 rfl rfl)
theorem dX26_join_152 : decode cX26_join 152 = .ok (.iinc 5 1, 3) := dk_132 5 1 (dk_at dksX26_join_6 9 rfl rfl)
theorem dX26_join_155 : decode cX26_join 155 = .ok (.goto (-101), 3) := dk_167 255 155 (dk_at dksX26_join_6 12 rfl rfl)
theorem dX26_join_158 : decode cX26_join 158 = .ok (.aload_n 0, 1) := dk_42 (dk_at dksX26_join_6 15 rfl rfl)
theorem dX26_join_159 : decode cX26_join 159 = .ok (.iconst 0, 1) := dk_3 (dk_at dksX26_join_6 16 rfl rfl)
theorem dX26_join_160 : decode cX26_join 160 = .ok (.putfield 17, 3) := dk_181 0 17 (dk_at dksX26_join_6 17 rfl rfl)
theorem dX26_join_163 : decode cX26_join 163 = .ok (.aload_n 0, 1) := dk_42 (dk_at dksX26_join_6 20 rfl rfl)
theorem dX26_join_164 : decode cX26_join 164 = .ok (.invokevirtual 39, 3) := dk_182 0 39 (dk_at dksX26_join_6 21 rfl rfl)
theorem dX26_join_167 : decode cX26_join 167 = .ok (.return_, 1) := dk_177 (dk_at dksX26_join_7 0 rfl rfl)
abbrev cX26_up : ByteArray := prog_28_method_19_code
def yX26_up : MethodName := ⟨RX26, "up", "(LContractLedgerModel$Num;I)V"⟩
def dkwX26_up_5 : List UInt8 := [180, 0, 17, 181, 0, 17, 42, 182, 0, 39, 177]
abbrev dktX26_up_5 : List UInt8 := dkwX26_up_5 ++ []
def dkwX26_up_4 : List UInt8 := [21, 5, 29, 96, 4, 96, 92, 46, 21, 6, 18, 38, 108, 128, 79, 132, 5, 1, 167, 255, 196, 42, 43]
abbrev dktX26_up_4 : List UInt8 := dkwX26_up_4 ++ dktX26_up_5
def dkwX26_up_3 : List UInt8 := [120, 54, 6, 42, 180, 0, 7, 21, 5, 29, 96, 92, 46, 21, 6, 18, 38, 112, 128, 79, 42, 180, 0, 7]
abbrev dktX26_up_3 : List UInt8 := dkwX26_up_3 ++ dktX26_up_4
def dkwX26_up_2 : List UInt8 := [167, 255, 236, 3, 54, 5, 21, 5, 43, 180, 0, 13, 162, 0, 57, 43, 180, 0, 7, 21, 5, 46, 21, 4]
abbrev dktX26_up_2 : List UInt8 := dkwX26_up_2 ++ dktX26_up_3
def dkwX26_up_1 : List UInt8 := [54, 5, 21, 5, 42, 180, 0, 13, 162, 0, 17, 42, 180, 0, 7, 21, 5, 3, 79, 132, 5, 1]
abbrev dktX26_up_1 : List UInt8 := dkwX26_up_1 ++ dktX26_up_2
def dkwX26_up_0 : List UInt8 := [28, 16, 16, 108, 62, 28, 16, 16, 112, 54, 4, 42, 43, 180, 0, 13, 29, 96, 4, 96, 181, 0, 13, 3]
abbrev dktX26_up_0 : List UInt8 := dkwX26_up_0 ++ dktX26_up_1
theorem dksX26_up_0 : cX26_up.data.toList.drop 0 = dktX26_up_0 := by decide +kernel
theorem dksX26_up_1 : cX26_up.data.toList.drop 24 = dktX26_up_1 := dk_seg dksX26_up_0 24 rfl rfl
theorem dksX26_up_2 : cX26_up.data.toList.drop 46 = dktX26_up_2 := dk_seg dksX26_up_1 22 rfl rfl
theorem dksX26_up_3 : cX26_up.data.toList.drop 70 = dktX26_up_3 := dk_seg dksX26_up_2 24 rfl rfl
theorem dksX26_up_4 : cX26_up.data.toList.drop 94 = dktX26_up_4 := dk_seg dksX26_up_3 24 rfl rfl
theorem dksX26_up_5 : cX26_up.data.toList.drop 117 = dktX26_up_5 := dk_seg dksX26_up_4 23 rfl rfl
theorem dX26_up_0 : decode cX26_up 0 = .ok (.iload_n 2, 1) := dk_28 (dk_at dksX26_up_0 0 rfl rfl)
theorem dX26_up_1 : decode cX26_up 1 = .ok (.bipush 16, 2) := dk_16 16 (dk_at dksX26_up_0 1 rfl rfl)
theorem dX26_up_3 : decode cX26_up 3 = .ok (.idiv, 1) := dk_108 (dk_at dksX26_up_0 3 rfl rfl)
theorem dX26_up_4 : decode cX26_up 4 = .ok (.istore_n 3, 1) := dk_62 (dk_at dksX26_up_0 4 rfl rfl)
theorem dX26_up_5 : decode cX26_up 5 = .ok (.iload_n 2, 1) := dk_28 (dk_at dksX26_up_0 5 rfl rfl)
theorem dX26_up_6 : decode cX26_up 6 = .ok (.bipush 16, 2) := dk_16 16 (dk_at dksX26_up_0 6 rfl rfl)
theorem dX26_up_8 : decode cX26_up 8 = .ok (.irem, 1) := dk_112 (dk_at dksX26_up_0 8 rfl rfl)
theorem dX26_up_9 : decode cX26_up 9 = .ok (.istore 4, 2) := dk_54 4 (dk_at dksX26_up_0 9 rfl rfl)
theorem dX26_up_11 : decode cX26_up 11 = .ok (.aload_n 0, 1) := dk_42 (dk_at dksX26_up_0 11 rfl rfl)
theorem dX26_up_12 : decode cX26_up 12 = .ok (.aload_n 1, 1) := dk_43 (dk_at dksX26_up_0 12 rfl rfl)
theorem dX26_up_13 : decode cX26_up 13 = .ok (.getfield 13, 3) := dk_180 0 13 (dk_at dksX26_up_0 13 rfl rfl)
theorem dX26_up_16 : decode cX26_up 16 = .ok (.iload_n 3, 1) := dk_29 (dk_at dksX26_up_0 16 rfl rfl)
theorem dX26_up_17 : decode cX26_up 17 = .ok (.iadd, 1) := dk_96 (dk_at dksX26_up_0 17 rfl rfl)
theorem dX26_up_18 : decode cX26_up 18 = .ok (.iconst 1, 1) := dk_4 (dk_at dksX26_up_0 18 rfl rfl)
theorem dX26_up_19 : decode cX26_up 19 = .ok (.iadd, 1) := dk_96 (dk_at dksX26_up_0 19 rfl rfl)
theorem dX26_up_20 : decode cX26_up 20 = .ok (.putfield 13, 3) := dk_181 0 13 (dk_at dksX26_up_0 20 rfl rfl)
theorem dX26_up_23 : decode cX26_up 23 = .ok (.iconst 0, 1) := dk_3 (dk_at dksX26_up_0 23 rfl rfl)
theorem dX26_up_24 : decode cX26_up 24 = .ok (.istore 5, 2) := dk_54 5 (dk_at dksX26_up_1 0 rfl rfl)
theorem dX26_up_26 : decode cX26_up 26 = .ok (.iload 5, 2) := dk_21 5 (dk_at dksX26_up_1 2 rfl rfl)
theorem dX26_up_28 : decode cX26_up 28 = .ok (.aload_n 0, 1) := dk_42 (dk_at dksX26_up_1 4 rfl rfl)
theorem dX26_up_29 : decode cX26_up 29 = .ok (.getfield 13, 3) := dk_180 0 13 (dk_at dksX26_up_1 5 rfl rfl)
theorem dX26_up_32 : decode cX26_up 32 = .ok (.if_icmp .ge 17, 3) := dk_162 0 17 (dk_at dksX26_up_1 8 rfl rfl)
theorem dX26_up_35 : decode cX26_up 35 = .ok (.aload_n 0, 1) := dk_42 (dk_at dksX26_up_1 11 rfl rfl)
theorem dX26_up_36 : decode cX26_up 36 = .ok (.getfield 7, 3) := dk_180 0 7 (dk_at dksX26_up_1 12 rfl rfl)
theorem dX26_up_39 : decode cX26_up 39 = .ok (.iload 5, 2) := dk_21 5 (dk_at dksX26_up_1 15 rfl rfl)
theorem dX26_up_41 : decode cX26_up 41 = .ok (.iconst 0, 1) := dk_3 (dk_at dksX26_up_1 17 rfl rfl)
theorem dX26_up_42 : decode cX26_up 42 = .ok (.iastore, 1) := dk_79 (dk_at dksX26_up_1 18 rfl rfl)
theorem dX26_up_43 : decode cX26_up 43 = .ok (.iinc 5 1, 3) := dk_132 5 1 (dk_at dksX26_up_1 19 rfl rfl)
theorem dX26_up_46 : decode cX26_up 46 = .ok (.goto (-20), 3) := dk_167 255 236 (dk_at dksX26_up_2 0 rfl rfl)
theorem dX26_up_49 : decode cX26_up 49 = .ok (.iconst 0, 1) := dk_3 (dk_at dksX26_up_2 3 rfl rfl)
theorem dX26_up_50 : decode cX26_up 50 = .ok (.istore 5, 2) := dk_54 5 (dk_at dksX26_up_2 4 rfl rfl)
theorem dX26_up_52 : decode cX26_up 52 = .ok (.iload 5, 2) := dk_21 5 (dk_at dksX26_up_2 6 rfl rfl)
theorem dX26_up_54 : decode cX26_up 54 = .ok (.aload_n 1, 1) := dk_43 (dk_at dksX26_up_2 8 rfl rfl)
theorem dX26_up_55 : decode cX26_up 55 = .ok (.getfield 13, 3) := dk_180 0 13 (dk_at dksX26_up_2 9 rfl rfl)
theorem dX26_up_58 : decode cX26_up 58 = .ok (.if_icmp .ge 57, 3) := dk_162 0 57 (dk_at dksX26_up_2 12 rfl rfl)
theorem dX26_up_61 : decode cX26_up 61 = .ok (.aload_n 1, 1) := dk_43 (dk_at dksX26_up_2 15 rfl rfl)
theorem dX26_up_62 : decode cX26_up 62 = .ok (.getfield 7, 3) := dk_180 0 7 (dk_at dksX26_up_2 16 rfl rfl)
theorem dX26_up_65 : decode cX26_up 65 = .ok (.iload 5, 2) := dk_21 5 (dk_at dksX26_up_2 19 rfl rfl)
theorem dX26_up_67 : decode cX26_up 67 = .ok (.iaload, 1) := dk_46 (dk_at dksX26_up_2 21 rfl rfl)
theorem dX26_up_68 : decode cX26_up 68 = .ok (.iload 4, 2) := dk_21 4 (dk_at dksX26_up_2 22 rfl rfl)
theorem dX26_up_70 : decode cX26_up 70 = .ok (.ishl, 1) := dk_120 (dk_at dksX26_up_3 0 rfl rfl)
theorem dX26_up_71 : decode cX26_up 71 = .ok (.istore 6, 2) := dk_54 6 (dk_at dksX26_up_3 1 rfl rfl)
theorem dX26_up_73 : decode cX26_up 73 = .ok (.aload_n 0, 1) := dk_42 (dk_at dksX26_up_3 3 rfl rfl)
theorem dX26_up_74 : decode cX26_up 74 = .ok (.getfield 7, 3) := dk_180 0 7 (dk_at dksX26_up_3 4 rfl rfl)
theorem dX26_up_77 : decode cX26_up 77 = .ok (.iload 5, 2) := dk_21 5 (dk_at dksX26_up_3 7 rfl rfl)
theorem dX26_up_79 : decode cX26_up 79 = .ok (.iload_n 3, 1) := dk_29 (dk_at dksX26_up_3 9 rfl rfl)
theorem dX26_up_80 : decode cX26_up 80 = .ok (.iadd, 1) := dk_96 (dk_at dksX26_up_3 10 rfl rfl)
theorem dX26_up_81 : decode cX26_up 81 = .ok (.dup2, 1) := dk_92 (dk_at dksX26_up_3 11 rfl rfl)
theorem dX26_up_82 : decode cX26_up 82 = .ok (.iaload, 1) := dk_46 (dk_at dksX26_up_3 12 rfl rfl)
theorem dX26_up_83 : decode cX26_up 83 = .ok (.iload 6, 2) := dk_21 6 (dk_at dksX26_up_3 13 rfl rfl)
theorem dX26_up_85 : decode cX26_up 85 = .ok (.ldc 38, 2) := dk_18 38 (dk_at dksX26_up_3 15 rfl rfl)
theorem dX26_up_87 : decode cX26_up 87 = .ok (.irem, 1) := dk_112 (dk_at dksX26_up_3 17 rfl rfl)
theorem dX26_up_88 : decode cX26_up 88 = .ok (.ior, 1) := dk_128 (dk_at dksX26_up_3 18 rfl rfl)
theorem dX26_up_89 : decode cX26_up 89 = .ok (.iastore, 1) := dk_79 (dk_at dksX26_up_3 19 rfl rfl)
theorem dX26_up_90 : decode cX26_up 90 = .ok (.aload_n 0, 1) := dk_42 (dk_at dksX26_up_3 20 rfl rfl)
theorem dX26_up_91 : decode cX26_up 91 = .ok (.getfield 7, 3) := dk_180 0 7 (dk_at dksX26_up_3 21 rfl rfl)
theorem dX26_up_94 : decode cX26_up 94 = .ok (.iload 5, 2) := dk_21 5 (dk_at dksX26_up_4 0 rfl rfl)
theorem dX26_up_96 : decode cX26_up 96 = .ok (.iload_n 3, 1) := dk_29 (dk_at dksX26_up_4 2 rfl rfl)
theorem dX26_up_97 : decode cX26_up 97 = .ok (.iadd, 1) := dk_96 (dk_at dksX26_up_4 3 rfl rfl)
theorem dX26_up_98 : decode cX26_up 98 = .ok (.iconst 1, 1) := dk_4 (dk_at dksX26_up_4 4 rfl rfl)
theorem dX26_up_99 : decode cX26_up 99 = .ok (.iadd, 1) := dk_96 (dk_at dksX26_up_4 5 rfl rfl)
theorem dX26_up_100 : decode cX26_up 100 = .ok (.dup2, 1) := dk_92 (dk_at dksX26_up_4 6 rfl rfl)
theorem dX26_up_101 : decode cX26_up 101 = .ok (.iaload, 1) := dk_46 (dk_at dksX26_up_4 7 rfl rfl)
theorem dX26_up_102 : decode cX26_up 102 = .ok (.iload 6, 2) := dk_21 6 (dk_at dksX26_up_4 8 rfl rfl)
theorem dX26_up_104 : decode cX26_up 104 = .ok (.ldc 38, 2) := dk_18 38 (dk_at dksX26_up_4 10 rfl rfl)
theorem dX26_up_106 : decode cX26_up 106 = .ok (.idiv, 1) := dk_108 (dk_at dksX26_up_4 12 rfl rfl)
theorem dX26_up_107 : decode cX26_up 107 = .ok (.ior, 1) := dk_128 (dk_at dksX26_up_4 13 rfl rfl)
theorem dX26_up_108 : decode cX26_up 108 = .ok (.iastore, 1) := dk_79 (dk_at dksX26_up_4 14 rfl rfl)
theorem dX26_up_109 : decode cX26_up 109 = .ok (.iinc 5 1, 3) := dk_132 5 1 (dk_at dksX26_up_4 15 rfl rfl)
theorem dX26_up_112 : decode cX26_up 112 = .ok (.goto (-60), 3) := dk_167 255 196 (dk_at dksX26_up_4 18 rfl rfl)
theorem dX26_up_115 : decode cX26_up 115 = .ok (.aload_n 0, 1) := dk_42 (dk_at dksX26_up_4 21 rfl rfl)
theorem dX26_up_116 : decode cX26_up 116 = .ok (.aload_n 1, 1) := dk_43 (dk_at dksX26_up_4 22 rfl rfl)
theorem dX26_up_117 : decode cX26_up 117 = .ok (.getfield 17, 3) := dk_180 0 17 (dk_at dksX26_up_5 0 rfl rfl)
theorem dX26_up_120 : decode cX26_up 120 = .ok (.putfield 17, 3) := dk_181 0 17 (dk_at dksX26_up_5 3 rfl rfl)
theorem dX26_up_123 : decode cX26_up 123 = .ok (.aload_n 0, 1) := dk_42 (dk_at dksX26_up_5 6 rfl rfl)
theorem dX26_up_124 : decode cX26_up 124 = .ok (.invokevirtual 39, 3) := dk_182 0 39 (dk_at dksX26_up_5 7 rfl rfl)
theorem dX26_up_127 : decode cX26_up 127 = .ok (.return_, 1) := dk_177 (dk_at dksX26_up_5 10 rfl rfl)
abbrev cX26_down : ByteArray := prog_28_method_20_code
def yX26_down : MethodName := ⟨RX26, "down", "(LContractLedgerModel$Num;I)V"⟩
def dkwX26_down_4 : List UInt8 := [180, 0, 17, 181, 0, 17, 42, 182, 0, 39, 177]
abbrev dktX26_down_4 : List UInt8 := dkwX26_down_4 ++ []
def dkwX26_down_3 : List UInt8 := [182, 0, 34, 16, 16, 21, 4, 100, 120, 128, 18, 52, 126, 79, 132, 5, 1, 167, 255, 206, 42, 43]
abbrev dktX26_down_3 : List UInt8 := dkwX26_down_3 ++ dktX26_down_4
def dkwX26_down_2 : List UInt8 := [180, 0, 7, 21, 5, 43, 21, 5, 29, 96, 182, 0, 34, 21, 4, 122, 43, 21, 5, 29, 96, 4, 96]
abbrev dktX26_down_2 : List UInt8 := dkwX26_down_2 ++ dktX26_down_3
def dkwX26_down_1 : List UInt8 := [29, 100, 167, 0, 4, 3, 181, 0, 13, 3, 54, 5, 21, 5, 42, 180, 0, 13, 162, 0, 47, 42]
abbrev dktX26_down_1 : List UInt8 := dkwX26_down_1 ++ dktX26_down_2
def dkwX26_down_0 : List UInt8 := [28, 16, 16, 108, 62, 28, 16, 16, 112, 54, 4, 42, 43, 180, 0, 13, 29, 164, 0, 12, 43, 180, 0, 13]
abbrev dktX26_down_0 : List UInt8 := dkwX26_down_0 ++ dktX26_down_1
theorem dksX26_down_0 : cX26_down.data.toList.drop 0 = dktX26_down_0 := by decide +kernel
theorem dksX26_down_1 : cX26_down.data.toList.drop 24 = dktX26_down_1 := dk_seg dksX26_down_0 24 rfl rfl
theorem dksX26_down_2 : cX26_down.data.toList.drop 46 = dktX26_down_2 := dk_seg dksX26_down_1 22 rfl rfl
theorem dksX26_down_3 : cX26_down.data.toList.drop 69 = dktX26_down_3 := dk_seg dksX26_down_2 23 rfl rfl
theorem dksX26_down_4 : cX26_down.data.toList.drop 91 = dktX26_down_4 := dk_seg dksX26_down_3 22 rfl rfl
theorem dX26_down_0 : decode cX26_down 0 = .ok (.iload_n 2, 1) := dk_28 (dk_at dksX26_down_0 0 rfl rfl)
theorem dX26_down_1 : decode cX26_down 1 = .ok (.bipush 16, 2) := dk_16 16 (dk_at dksX26_down_0 1 rfl rfl)
theorem dX26_down_3 : decode cX26_down 3 = .ok (.idiv, 1) := dk_108 (dk_at dksX26_down_0 3 rfl rfl)
theorem dX26_down_4 : decode cX26_down 4 = .ok (.istore_n 3, 1) := dk_62 (dk_at dksX26_down_0 4 rfl rfl)
theorem dX26_down_5 : decode cX26_down 5 = .ok (.iload_n 2, 1) := dk_28 (dk_at dksX26_down_0 5 rfl rfl)
theorem dX26_down_6 : decode cX26_down 6 = .ok (.bipush 16, 2) := dk_16 16 (dk_at dksX26_down_0 6 rfl rfl)
theorem dX26_down_8 : decode cX26_down 8 = .ok (.irem, 1) := dk_112 (dk_at dksX26_down_0 8 rfl rfl)
theorem dX26_down_9 : decode cX26_down 9 = .ok (.istore 4, 2) := dk_54 4 (dk_at dksX26_down_0 9 rfl rfl)
theorem dX26_down_11 : decode cX26_down 11 = .ok (.aload_n 0, 1) := dk_42 (dk_at dksX26_down_0 11 rfl rfl)
theorem dX26_down_12 : decode cX26_down 12 = .ok (.aload_n 1, 1) := dk_43 (dk_at dksX26_down_0 12 rfl rfl)
theorem dX26_down_13 : decode cX26_down 13 = .ok (.getfield 13, 3) := dk_180 0 13 (dk_at dksX26_down_0 13 rfl rfl)
theorem dX26_down_16 : decode cX26_down 16 = .ok (.iload_n 3, 1) := dk_29 (dk_at dksX26_down_0 16 rfl rfl)
theorem dX26_down_17 : decode cX26_down 17 = .ok (.if_icmp .le 12, 3) := dk_164 0 12 (dk_at dksX26_down_0 17 rfl rfl)
theorem dX26_down_20 : decode cX26_down 20 = .ok (.aload_n 1, 1) := dk_43 (dk_at dksX26_down_0 20 rfl rfl)
theorem dX26_down_21 : decode cX26_down 21 = .ok (.getfield 13, 3) := dk_180 0 13 (dk_at dksX26_down_0 21 rfl rfl)
theorem dX26_down_24 : decode cX26_down 24 = .ok (.iload_n 3, 1) := dk_29 (dk_at dksX26_down_1 0 rfl rfl)
theorem dX26_down_25 : decode cX26_down 25 = .ok (.isub, 1) := dk_100 (dk_at dksX26_down_1 1 rfl rfl)
theorem dX26_down_26 : decode cX26_down 26 = .ok (.goto 4, 3) := dk_167 0 4 (dk_at dksX26_down_1 2 rfl rfl)
theorem dX26_down_29 : decode cX26_down 29 = .ok (.iconst 0, 1) := dk_3 (dk_at dksX26_down_1 5 rfl rfl)
theorem dX26_down_30 : decode cX26_down 30 = .ok (.putfield 13, 3) := dk_181 0 13 (dk_at dksX26_down_1 6 rfl rfl)
theorem dX26_down_33 : decode cX26_down 33 = .ok (.iconst 0, 1) := dk_3 (dk_at dksX26_down_1 9 rfl rfl)
theorem dX26_down_34 : decode cX26_down 34 = .ok (.istore 5, 2) := dk_54 5 (dk_at dksX26_down_1 10 rfl rfl)
theorem dX26_down_36 : decode cX26_down 36 = .ok (.iload 5, 2) := dk_21 5 (dk_at dksX26_down_1 12 rfl rfl)
theorem dX26_down_38 : decode cX26_down 38 = .ok (.aload_n 0, 1) := dk_42 (dk_at dksX26_down_1 14 rfl rfl)
theorem dX26_down_39 : decode cX26_down 39 = .ok (.getfield 13, 3) := dk_180 0 13 (dk_at dksX26_down_1 15 rfl rfl)
theorem dX26_down_42 : decode cX26_down 42 = .ok (.if_icmp .ge 47, 3) := dk_162 0 47 (dk_at dksX26_down_1 18 rfl rfl)
theorem dX26_down_45 : decode cX26_down 45 = .ok (.aload_n 0, 1) := dk_42 (dk_at dksX26_down_1 21 rfl rfl)
theorem dX26_down_46 : decode cX26_down 46 = .ok (.getfield 7, 3) := dk_180 0 7 (dk_at dksX26_down_2 0 rfl rfl)
theorem dX26_down_49 : decode cX26_down 49 = .ok (.iload 5, 2) := dk_21 5 (dk_at dksX26_down_2 3 rfl rfl)
theorem dX26_down_51 : decode cX26_down 51 = .ok (.aload_n 1, 1) := dk_43 (dk_at dksX26_down_2 5 rfl rfl)
theorem dX26_down_52 : decode cX26_down 52 = .ok (.iload 5, 2) := dk_21 5 (dk_at dksX26_down_2 6 rfl rfl)
theorem dX26_down_54 : decode cX26_down 54 = .ok (.iload_n 3, 1) := dk_29 (dk_at dksX26_down_2 8 rfl rfl)
theorem dX26_down_55 : decode cX26_down 55 = .ok (.iadd, 1) := dk_96 (dk_at dksX26_down_2 9 rfl rfl)
theorem dX26_down_56 : decode cX26_down 56 = .ok (.invokevirtual 34, 3) := dk_182 0 34 (dk_at dksX26_down_2 10 rfl rfl)
theorem dX26_down_59 : decode cX26_down 59 = .ok (.iload 4, 2) := dk_21 4 (dk_at dksX26_down_2 13 rfl rfl)
theorem dX26_down_61 : decode cX26_down 61 = .ok (.ishr, 1) := dk_122 (dk_at dksX26_down_2 15 rfl rfl)
theorem dX26_down_62 : decode cX26_down 62 = .ok (.aload_n 1, 1) := dk_43 (dk_at dksX26_down_2 16 rfl rfl)
theorem dX26_down_63 : decode cX26_down 63 = .ok (.iload 5, 2) := dk_21 5 (dk_at dksX26_down_2 17 rfl rfl)
theorem dX26_down_65 : decode cX26_down 65 = .ok (.iload_n 3, 1) := dk_29 (dk_at dksX26_down_2 19 rfl rfl)
theorem dX26_down_66 : decode cX26_down 66 = .ok (.iadd, 1) := dk_96 (dk_at dksX26_down_2 20 rfl rfl)
theorem dX26_down_67 : decode cX26_down 67 = .ok (.iconst 1, 1) := dk_4 (dk_at dksX26_down_2 21 rfl rfl)
theorem dX26_down_68 : decode cX26_down 68 = .ok (.iadd, 1) := dk_96 (dk_at dksX26_down_2 22 rfl rfl)
theorem dX26_down_69 : decode cX26_down 69 = .ok (.invokevirtual 34, 3) := dk_182 0 34 (dk_at dksX26_down_3 0 rfl rfl)
theorem dX26_down_72 : decode cX26_down 72 = .ok (.bipush 16, 2) := dk_16 16 (dk_at dksX26_down_3 3 rfl rfl)
theorem dX26_down_74 : decode cX26_down 74 = .ok (.iload 4, 2) := dk_21 4 (dk_at dksX26_down_3 5 rfl rfl)
theorem dX26_down_76 : decode cX26_down 76 = .ok (.isub, 1) := dk_100 (dk_at dksX26_down_3 7 rfl rfl)
theorem dX26_down_77 : decode cX26_down 77 = .ok (.ishl, 1) := dk_120 (dk_at dksX26_down_3 8 rfl rfl)
theorem dX26_down_78 : decode cX26_down 78 = .ok (.ior, 1) := dk_128 (dk_at dksX26_down_3 9 rfl rfl)
theorem dX26_down_79 : decode cX26_down 79 = .ok (.ldc 52, 2) := dk_18 52 (dk_at dksX26_down_3 10 rfl rfl)
theorem dX26_down_81 : decode cX26_down 81 = .ok (.iand, 1) := dk_126 (dk_at dksX26_down_3 12 rfl rfl)
theorem dX26_down_82 : decode cX26_down 82 = .ok (.iastore, 1) := dk_79 (dk_at dksX26_down_3 13 rfl rfl)
theorem dX26_down_83 : decode cX26_down 83 = .ok (.iinc 5 1, 3) := dk_132 5 1 (dk_at dksX26_down_3 14 rfl rfl)
theorem dX26_down_86 : decode cX26_down 86 = .ok (.goto (-50), 3) := dk_167 255 206 (dk_at dksX26_down_3 17 rfl rfl)
theorem dX26_down_89 : decode cX26_down 89 = .ok (.aload_n 0, 1) := dk_42 (dk_at dksX26_down_3 20 rfl rfl)
theorem dX26_down_90 : decode cX26_down 90 = .ok (.aload_n 1, 1) := dk_43 (dk_at dksX26_down_3 21 rfl rfl)
theorem dX26_down_91 : decode cX26_down 91 = .ok (.getfield 17, 3) := dk_180 0 17 (dk_at dksX26_down_4 0 rfl rfl)
theorem dX26_down_94 : decode cX26_down 94 = .ok (.putfield 17, 3) := dk_181 0 17 (dk_at dksX26_down_4 3 rfl rfl)
theorem dX26_down_97 : decode cX26_down 97 = .ok (.aload_n 0, 1) := dk_42 (dk_at dksX26_down_4 6 rfl rfl)
theorem dX26_down_98 : decode cX26_down 98 = .ok (.invokevirtual 39, 3) := dk_182 0 39 (dk_at dksX26_down_4 7 rfl rfl)
theorem dX26_down_101 : decode cX26_down 101 = .ok (.return_, 1) := dk_177 (dk_at dksX26_down_4 10 rfl rfl)
abbrev cX26_part : ByteArray := prog_28_method_22_code
def yX26_part : MethodName := ⟨RX26, "part", "(II)I"⟩
def dkwX26_part_1 : List UInt8 := [16, 16, 108, 182, 0, 34, 21, 5, 16, 16, 112, 122, 4, 126, 96, 62, 132, 4, 255, 167, 255, 220, 29, 172]
abbrev dktX26_part_1 : List UInt8 := dkwX26_part_1 ++ []
def dkwX26_part_0 : List UInt8 := [3, 62, 28, 4, 100, 54, 4, 21, 4, 155, 0, 37, 27, 21, 4, 96, 54, 5, 5, 29, 104, 42, 21, 5]
abbrev dktX26_part_0 : List UInt8 := dkwX26_part_0 ++ dktX26_part_1
theorem dksX26_part_0 : cX26_part.data.toList.drop 0 = dktX26_part_0 := by decide +kernel
theorem dksX26_part_1 : cX26_part.data.toList.drop 24 = dktX26_part_1 := dk_seg dksX26_part_0 24 rfl rfl
theorem dX26_part_0 : decode cX26_part 0 = .ok (.iconst 0, 1) := dk_3 (dk_at dksX26_part_0 0 rfl rfl)
theorem dX26_part_1 : decode cX26_part 1 = .ok (.istore_n 3, 1) := dk_62 (dk_at dksX26_part_0 1 rfl rfl)
theorem dX26_part_2 : decode cX26_part 2 = .ok (.iload_n 2, 1) := dk_28 (dk_at dksX26_part_0 2 rfl rfl)
theorem dX26_part_3 : decode cX26_part 3 = .ok (.iconst 1, 1) := dk_4 (dk_at dksX26_part_0 3 rfl rfl)
theorem dX26_part_4 : decode cX26_part 4 = .ok (.isub, 1) := dk_100 (dk_at dksX26_part_0 4 rfl rfl)
theorem dX26_part_5 : decode cX26_part 5 = .ok (.istore 4, 2) := dk_54 4 (dk_at dksX26_part_0 5 rfl rfl)
theorem dX26_part_7 : decode cX26_part 7 = .ok (.iload 4, 2) := dk_21 4 (dk_at dksX26_part_0 7 rfl rfl)
theorem dX26_part_9 : decode cX26_part 9 = .ok (.ifCond .lt 37, 3) := dk_155 0 37 (dk_at dksX26_part_0 9 rfl rfl)
theorem dX26_part_12 : decode cX26_part 12 = .ok (.iload_n 1, 1) := dk_27 (dk_at dksX26_part_0 12 rfl rfl)
theorem dX26_part_13 : decode cX26_part 13 = .ok (.iload 4, 2) := dk_21 4 (dk_at dksX26_part_0 13 rfl rfl)
theorem dX26_part_15 : decode cX26_part 15 = .ok (.iadd, 1) := dk_96 (dk_at dksX26_part_0 15 rfl rfl)
theorem dX26_part_16 : decode cX26_part 16 = .ok (.istore 5, 2) := dk_54 5 (dk_at dksX26_part_0 16 rfl rfl)
theorem dX26_part_18 : decode cX26_part 18 = .ok (.iconst 2, 1) := dk_5 (dk_at dksX26_part_0 18 rfl rfl)
theorem dX26_part_19 : decode cX26_part 19 = .ok (.iload_n 3, 1) := dk_29 (dk_at dksX26_part_0 19 rfl rfl)
theorem dX26_part_20 : decode cX26_part 20 = .ok (.imul, 1) := dk_104 (dk_at dksX26_part_0 20 rfl rfl)
theorem dX26_part_21 : decode cX26_part 21 = .ok (.aload_n 0, 1) := dk_42 (dk_at dksX26_part_0 21 rfl rfl)
theorem dX26_part_22 : decode cX26_part 22 = .ok (.iload 5, 2) := dk_21 5 (dk_at dksX26_part_0 22 rfl rfl)
theorem dX26_part_24 : decode cX26_part 24 = .ok (.bipush 16, 2) := dk_16 16 (dk_at dksX26_part_1 0 rfl rfl)
theorem dX26_part_26 : decode cX26_part 26 = .ok (.idiv, 1) := dk_108 (dk_at dksX26_part_1 2 rfl rfl)
theorem dX26_part_27 : decode cX26_part 27 = .ok (.invokevirtual 34, 3) := dk_182 0 34 (dk_at dksX26_part_1 3 rfl rfl)
theorem dX26_part_30 : decode cX26_part 30 = .ok (.iload 5, 2) := dk_21 5 (dk_at dksX26_part_1 6 rfl rfl)
theorem dX26_part_32 : decode cX26_part 32 = .ok (.bipush 16, 2) := dk_16 16 (dk_at dksX26_part_1 8 rfl rfl)
theorem dX26_part_34 : decode cX26_part 34 = .ok (.irem, 1) := dk_112 (dk_at dksX26_part_1 10 rfl rfl)
theorem dX26_part_35 : decode cX26_part 35 = .ok (.ishr, 1) := dk_122 (dk_at dksX26_part_1 11 rfl rfl)
theorem dX26_part_36 : decode cX26_part 36 = .ok (.iconst 1, 1) := dk_4 (dk_at dksX26_part_1 12 rfl rfl)
theorem dX26_part_37 : decode cX26_part 37 = .ok (.iand, 1) := dk_126 (dk_at dksX26_part_1 13 rfl rfl)
theorem dX26_part_38 : decode cX26_part 38 = .ok (.iadd, 1) := dk_96 (dk_at dksX26_part_1 14 rfl rfl)
theorem dX26_part_39 : decode cX26_part 39 = .ok (.istore_n 3, 1) := dk_62 (dk_at dksX26_part_1 15 rfl rfl)
theorem dX26_part_40 : decode cX26_part 40 = .ok (.iinc 4 (-1), 3) := dk_132 4 255 (dk_at dksX26_part_1 16 rfl rfl)
theorem dX26_part_43 : decode cX26_part 43 = .ok (.goto (-36), 3) := dk_167 255 220 (dk_at dksX26_part_1 19 rfl rfl)
theorem dX26_part_46 : decode cX26_part 46 = .ok (.iload_n 3, 1) := dk_29 (dk_at dksX26_part_1 22 rfl rfl)
theorem dX26_part_47 : decode cX26_part 47 = .ok (.ireturn, 1) := dk_172 (dk_at dksX26_part_1 23 rfl rfl)
abbrev cX26_setPart : ByteArray := prog_28_method_23_code
def yX26_setPart : MethodName := ⟨RX26, "setPart", "(III)V"⟩
def dkwX26_setPart_3 : List UInt8 := [112, 120, 128, 79, 132, 4, 1, 167, 255, 181, 177]
abbrev dktX26_setPart_3 : List UInt8 := dkwX26_setPart_3 ++ []
def dkwX26_setPart_2 : List UInt8 := [167, 255, 224, 42, 180, 0, 7, 21, 5, 16, 16, 108, 92, 46, 29, 21, 4, 122, 4, 126, 21, 5, 16, 16]
abbrev dktX26_setPart_2 : List UInt8 := dkwX26_setPart_2 ++ dktX26_setPart_3
def dkwX26_setPart_1 : List UInt8 := [163, 0, 26, 42, 180, 0, 7, 42, 180, 0, 13, 3, 79, 42, 89, 180, 0, 13, 4, 96, 181, 0, 13]
abbrev dktX26_setPart_1 : List UInt8 := dkwX26_setPart_1 ++ dktX26_setPart_2
def dkwX26_setPart_0 : List UInt8 := [3, 54, 4, 21, 4, 28, 162, 0, 75, 27, 21, 4, 96, 54, 5, 42, 180, 0, 13, 21, 5, 16, 16, 108]
abbrev dktX26_setPart_0 : List UInt8 := dkwX26_setPart_0 ++ dktX26_setPart_1
theorem dksX26_setPart_0 : cX26_setPart.data.toList.drop 0 = dktX26_setPart_0 := by decide +kernel
theorem dksX26_setPart_1 : cX26_setPart.data.toList.drop 24 = dktX26_setPart_1 := dk_seg dksX26_setPart_0 24 rfl rfl
theorem dksX26_setPart_2 : cX26_setPart.data.toList.drop 47 = dktX26_setPart_2 := dk_seg dksX26_setPart_1 23 rfl rfl
theorem dksX26_setPart_3 : cX26_setPart.data.toList.drop 71 = dktX26_setPart_3 := dk_seg dksX26_setPart_2 24 rfl rfl
theorem dX26_setPart_0 : decode cX26_setPart 0 = .ok (.iconst 0, 1) := dk_3 (dk_at dksX26_setPart_0 0 rfl rfl)
theorem dX26_setPart_1 : decode cX26_setPart 1 = .ok (.istore 4, 2) := dk_54 4 (dk_at dksX26_setPart_0 1 rfl rfl)
theorem dX26_setPart_3 : decode cX26_setPart 3 = .ok (.iload 4, 2) := dk_21 4 (dk_at dksX26_setPart_0 3 rfl rfl)
theorem dX26_setPart_5 : decode cX26_setPart 5 = .ok (.iload_n 2, 1) := dk_28 (dk_at dksX26_setPart_0 5 rfl rfl)
theorem dX26_setPart_6 : decode cX26_setPart 6 = .ok (.if_icmp .ge 75, 3) := dk_162 0 75 (dk_at dksX26_setPart_0 6 rfl rfl)
theorem dX26_setPart_9 : decode cX26_setPart 9 = .ok (.iload_n 1, 1) := dk_27 (dk_at dksX26_setPart_0 9 rfl rfl)
theorem dX26_setPart_10 : decode cX26_setPart 10 = .ok (.iload 4, 2) := dk_21 4 (dk_at dksX26_setPart_0 10 rfl rfl)
theorem dX26_setPart_12 : decode cX26_setPart 12 = .ok (.iadd, 1) := dk_96 (dk_at dksX26_setPart_0 12 rfl rfl)
theorem dX26_setPart_13 : decode cX26_setPart 13 = .ok (.istore 5, 2) := dk_54 5 (dk_at dksX26_setPart_0 13 rfl rfl)
theorem dX26_setPart_15 : decode cX26_setPart 15 = .ok (.aload_n 0, 1) := dk_42 (dk_at dksX26_setPart_0 15 rfl rfl)
theorem dX26_setPart_16 : decode cX26_setPart 16 = .ok (.getfield 13, 3) := dk_180 0 13 (dk_at dksX26_setPart_0 16 rfl rfl)
theorem dX26_setPart_19 : decode cX26_setPart 19 = .ok (.iload 5, 2) := dk_21 5 (dk_at dksX26_setPart_0 19 rfl rfl)
theorem dX26_setPart_21 : decode cX26_setPart 21 = .ok (.bipush 16, 2) := dk_16 16 (dk_at dksX26_setPart_0 21 rfl rfl)
theorem dX26_setPart_23 : decode cX26_setPart 23 = .ok (.idiv, 1) := dk_108 (dk_at dksX26_setPart_0 23 rfl rfl)
theorem dX26_setPart_24 : decode cX26_setPart 24 = .ok (.if_icmp .gt 26, 3) := dk_163 0 26 (dk_at dksX26_setPart_1 0 rfl rfl)
theorem dX26_setPart_27 : decode cX26_setPart 27 = .ok (.aload_n 0, 1) := dk_42 (dk_at dksX26_setPart_1 3 rfl rfl)
theorem dX26_setPart_28 : decode cX26_setPart 28 = .ok (.getfield 7, 3) := dk_180 0 7 (dk_at dksX26_setPart_1 4 rfl rfl)
theorem dX26_setPart_31 : decode cX26_setPart 31 = .ok (.aload_n 0, 1) := dk_42 (dk_at dksX26_setPart_1 7 rfl rfl)
theorem dX26_setPart_32 : decode cX26_setPart 32 = .ok (.getfield 13, 3) := dk_180 0 13 (dk_at dksX26_setPart_1 8 rfl rfl)
theorem dX26_setPart_35 : decode cX26_setPart 35 = .ok (.iconst 0, 1) := dk_3 (dk_at dksX26_setPart_1 11 rfl rfl)
theorem dX26_setPart_36 : decode cX26_setPart 36 = .ok (.iastore, 1) := dk_79 (dk_at dksX26_setPart_1 12 rfl rfl)
theorem dX26_setPart_37 : decode cX26_setPart 37 = .ok (.aload_n 0, 1) := dk_42 (dk_at dksX26_setPart_1 13 rfl rfl)
theorem dX26_setPart_38 : decode cX26_setPart 38 = .ok (.dup, 1) := dk_89 (dk_at dksX26_setPart_1 14 rfl rfl)
theorem dX26_setPart_39 : decode cX26_setPart 39 = .ok (.getfield 13, 3) := dk_180 0 13 (dk_at dksX26_setPart_1 15 rfl rfl)
theorem dX26_setPart_42 : decode cX26_setPart 42 = .ok (.iconst 1, 1) := dk_4 (dk_at dksX26_setPart_1 18 rfl rfl)
theorem dX26_setPart_43 : decode cX26_setPart 43 = .ok (.iadd, 1) := dk_96 (dk_at dksX26_setPart_1 19 rfl rfl)
theorem dX26_setPart_44 : decode cX26_setPart 44 = .ok (.putfield 13, 3) := dk_181 0 13 (dk_at dksX26_setPart_1 20 rfl rfl)
theorem dX26_setPart_47 : decode cX26_setPart 47 = .ok (.goto (-32), 3) := dk_167 255 224 (dk_at dksX26_setPart_2 0 rfl rfl)
theorem dX26_setPart_50 : decode cX26_setPart 50 = .ok (.aload_n 0, 1) := dk_42 (dk_at dksX26_setPart_2 3 rfl rfl)
theorem dX26_setPart_51 : decode cX26_setPart 51 = .ok (.getfield 7, 3) := dk_180 0 7 (dk_at dksX26_setPart_2 4 rfl rfl)
theorem dX26_setPart_54 : decode cX26_setPart 54 = .ok (.iload 5, 2) := dk_21 5 (dk_at dksX26_setPart_2 7 rfl rfl)
theorem dX26_setPart_56 : decode cX26_setPart 56 = .ok (.bipush 16, 2) := dk_16 16 (dk_at dksX26_setPart_2 9 rfl rfl)
theorem dX26_setPart_58 : decode cX26_setPart 58 = .ok (.idiv, 1) := dk_108 (dk_at dksX26_setPart_2 11 rfl rfl)
theorem dX26_setPart_59 : decode cX26_setPart 59 = .ok (.dup2, 1) := dk_92 (dk_at dksX26_setPart_2 12 rfl rfl)
theorem dX26_setPart_60 : decode cX26_setPart 60 = .ok (.iaload, 1) := dk_46 (dk_at dksX26_setPart_2 13 rfl rfl)
theorem dX26_setPart_61 : decode cX26_setPart 61 = .ok (.iload_n 3, 1) := dk_29 (dk_at dksX26_setPart_2 14 rfl rfl)
theorem dX26_setPart_62 : decode cX26_setPart 62 = .ok (.iload 4, 2) := dk_21 4 (dk_at dksX26_setPart_2 15 rfl rfl)
theorem dX26_setPart_64 : decode cX26_setPart 64 = .ok (.ishr, 1) := dk_122 (dk_at dksX26_setPart_2 17 rfl rfl)
theorem dX26_setPart_65 : decode cX26_setPart 65 = .ok (.iconst 1, 1) := dk_4 (dk_at dksX26_setPart_2 18 rfl rfl)
theorem dX26_setPart_66 : decode cX26_setPart 66 = .ok (.iand, 1) := dk_126 (dk_at dksX26_setPart_2 19 rfl rfl)
theorem dX26_setPart_67 : decode cX26_setPart 67 = .ok (.iload 5, 2) := dk_21 5 (dk_at dksX26_setPart_2 20 rfl rfl)
theorem dX26_setPart_69 : decode cX26_setPart 69 = .ok (.bipush 16, 2) := dk_16 16 (dk_at dksX26_setPart_2 22 rfl rfl)
theorem dX26_setPart_71 : decode cX26_setPart 71 = .ok (.irem, 1) := dk_112 (dk_at dksX26_setPart_3 0 rfl rfl)
theorem dX26_setPart_72 : decode cX26_setPart 72 = .ok (.ishl, 1) := dk_120 (dk_at dksX26_setPart_3 1 rfl rfl)
theorem dX26_setPart_73 : decode cX26_setPart 73 = .ok (.ior, 1) := dk_128 (dk_at dksX26_setPart_3 2 rfl rfl)
theorem dX26_setPart_74 : decode cX26_setPart 74 = .ok (.iastore, 1) := dk_79 (dk_at dksX26_setPart_3 3 rfl rfl)
theorem dX26_setPart_75 : decode cX26_setPart 75 = .ok (.iinc 4 1, 3) := dk_132 4 1 (dk_at dksX26_setPart_3 4 rfl rfl)
theorem dX26_setPart_78 : decode cX26_setPart 78 = .ok (.goto (-75), 3) := dk_167 255 181 (dk_at dksX26_setPart_3 7 rfl rfl)
theorem dX26_setPart_81 : decode cX26_setPart 81 = .ok (.return_, 1) := dk_177 (dk_at dksX26_setPart_3 10 rfl rfl)
abbrev cX26_init : ByteArray := prog_28_method_1_code
def yX26_init : MethodName := ⟨RX26, "<init>", "()V"⟩
def dkwX26_init_0 : List UInt8 := [42, 183, 0, 1, 42, 17, 0, 180, 188, 10, 181, 0, 7, 177]
abbrev dktX26_init_0 : List UInt8 := dkwX26_init_0 ++ []
theorem dksX26_init_0 : cX26_init.data.toList.drop 0 = dktX26_init_0 := by decide +kernel
theorem dX26_init_0 : decode cX26_init 0 = .ok (.aload_n 0, 1) := dk_42 (dk_at dksX26_init_0 0 rfl rfl)
theorem dX26_init_1 : decode cX26_init 1 = .ok (.invokespecial 1, 3) := dk_183 0 1 (dk_at dksX26_init_0 1 rfl rfl)
theorem dX26_init_4 : decode cX26_init 4 = .ok (.aload_n 0, 1) := dk_42 (dk_at dksX26_init_0 4 rfl rfl)
theorem dX26_init_5 : decode cX26_init 5 = .ok (.sipush 180, 3) := dk_17 0 180 (dk_at dksX26_init_0 5 rfl rfl)
theorem dX26_init_8 : decode cX26_init 8 = .ok (.newarray .int, 2) := dk_188_10 (dk_at dksX26_init_0 8 rfl rfl)
theorem dX26_init_10 : decode cX26_init 10 = .ok (.putfield 7, 3) := dk_181 0 7 (dk_at dksX26_init_0 10 rfl rfl)
theorem dX26_init_13 : decode cX26_init 13 = .ok (.return_, 1) := dk_177 (dk_at dksX26_init_0 13 rfl rfl)
theorem q393 : (Jvm.Cond.initialized "ContractLedgerModel$Num") ∈ lw_all := lw_g (lw_at lw_m1 36 rfl) rfl
theorem q3214 : (Jvm.Cond.instanceMethod ({ cls := "ContractLedgerModel$Num", name := "read", desc := "([BII)Z" } : Jvm.MethodName)) ∈ lw_all := lw_g (lw_at lw_m12 217 rfl) rfl
theorem q3215 : (Jvm.Cond.selects "ContractLedgerModel$Num" ({ cls := "ContractLedgerModel$Num", name := "read", desc := "([BII)Z" } : Jvm.MethodName) ({ cls := "ContractLedgerModel$Num", name := "read", desc := "([BII)Z" } : Jvm.MethodName)) ∈ lw_all := lw_g (lw_at lw_m12 218 rfl) rfl
theorem q3216 : (Jvm.Cond.code ({ cls := "ContractLedgerModel$Num", name := "read", desc := "([BII)Z" } : Jvm.MethodName) prog_28_method_25_code (6 : Nat) (Option.some Jvm.ClassFile.FieldType.boolean)) ∈ lw_all := lw_g (lw_at lw_m12 219 rfl) rfl
theorem q3217 : (Jvm.Cond.methodLink "ContractLedgerModel$Num" (21 : Nat) ({ cls := "ContractLedgerModel$Num", name := "zero", desc := "()V" } : Jvm.MethodName)) ∈ lw_all := lw_g (lw_at lw_m12 220 rfl) rfl
theorem q3218 : (Jvm.Cond.instanceMethod ({ cls := "ContractLedgerModel$Num", name := "zero", desc := "()V" } : Jvm.MethodName)) ∈ lw_all := lw_g (lw_at lw_m12 221 rfl) rfl
theorem q3219 : (Jvm.Cond.selects "ContractLedgerModel$Num" ({ cls := "ContractLedgerModel$Num", name := "zero", desc := "()V" } : Jvm.MethodName) ({ cls := "ContractLedgerModel$Num", name := "zero", desc := "()V" } : Jvm.MethodName)) ∈ lw_all := lw_g (lw_at lw_m12 222 rfl) rfl
theorem q3220 : (Jvm.Cond.code ({ cls := "ContractLedgerModel$Num", name := "zero", desc := "()V" } : Jvm.MethodName) prog_28_method_2_code (1 : Nat) (Option.none : Option Jvm.ClassFile.FieldType)) ∈ lw_all := lw_g (lw_at lw_m12 223 rfl) rfl
theorem q3221 : (Jvm.Cond.methodLink "ContractLedgerModel$Num" (53 : Nat) ({ cls := "ContractLedgerModel$Num", name := "tenth", desc := "(I)V" } : Jvm.MethodName)) ∈ lw_all := lw_g (lw_at lw_m12 224 rfl) rfl
theorem q3222 : (Jvm.Cond.instanceMethod ({ cls := "ContractLedgerModel$Num", name := "tenth", desc := "(I)V" } : Jvm.MethodName)) ∈ lw_all := lw_g (lw_at lw_m12 225 rfl) rfl
theorem q3223 : (Jvm.Cond.selects "ContractLedgerModel$Num" ({ cls := "ContractLedgerModel$Num", name := "tenth", desc := "(I)V" } : Jvm.MethodName) ({ cls := "ContractLedgerModel$Num", name := "tenth", desc := "(I)V" } : Jvm.MethodName)) ∈ lw_all := lw_g (lw_at lw_m12 226 rfl) rfl
theorem q3224 : (Jvm.Cond.code ({ cls := "ContractLedgerModel$Num", name := "tenth", desc := "(I)V" } : Jvm.MethodName) prog_28_method_15_code (5 : Nat) (Option.none : Option Jvm.ClassFile.FieldType)) ∈ lw_all := lw_g (lw_at lw_m12 227 rfl) rfl
theorem q3225 : (Jvm.Cond.constant "ContractLedgerModel$Num" (38 : Nat) (65536 : Int32)) ∈ lw_all := lw_g (lw_at lw_m12 228 rfl) rfl
theorem q3226 : (Jvm.Cond.methodLink "ContractLedgerModel$Num" (39 : Nat) ({ cls := "ContractLedgerModel$Num", name := "trim", desc := "()V" } : Jvm.MethodName)) ∈ lw_all := lw_g (lw_at lw_m12 229 rfl) rfl
theorem q3227 : (Jvm.Cond.instanceMethod ({ cls := "ContractLedgerModel$Num", name := "trim", desc := "()V" } : Jvm.MethodName)) ∈ lw_all := lw_g (lw_at lw_m12 230 rfl) rfl
theorem q3228 : (Jvm.Cond.selects "ContractLedgerModel$Num" ({ cls := "ContractLedgerModel$Num", name := "trim", desc := "()V" } : Jvm.MethodName) ({ cls := "ContractLedgerModel$Num", name := "trim", desc := "()V" } : Jvm.MethodName)) ∈ lw_all := lw_g (lw_at lw_m12 231 rfl) rfl
theorem q3229 : (Jvm.Cond.code ({ cls := "ContractLedgerModel$Num", name := "trim", desc := "()V" } : Jvm.MethodName) prog_28_method_5_code (1 : Nat) (Option.none : Option Jvm.ClassFile.FieldType)) ∈ lw_all := lw_g (lw_at lw_m12 232 rfl) rfl
theorem q3230 : (Jvm.Cond.methodLink "ContractLedgerModel$Num" (57 : Nat) ({ cls := "ContractLedgerModel$Num", name := "isLarge", desc := "()Z" } : Jvm.MethodName)) ∈ lw_all := lw_g (lw_at lw_m12 233 rfl) rfl
theorem q3231 : (Jvm.Cond.instanceMethod ({ cls := "ContractLedgerModel$Num", name := "isLarge", desc := "()Z" } : Jvm.MethodName)) ∈ lw_all := lw_g (lw_at lw_m12 234 rfl) rfl
theorem q3232 : (Jvm.Cond.selects "ContractLedgerModel$Num" ({ cls := "ContractLedgerModel$Num", name := "isLarge", desc := "()Z" } : Jvm.MethodName) ({ cls := "ContractLedgerModel$Num", name := "isLarge", desc := "()Z" } : Jvm.MethodName)) ∈ lw_all := lw_g (lw_at lw_m12 235 rfl) rfl
theorem q3233 : (Jvm.Cond.code ({ cls := "ContractLedgerModel$Num", name := "isLarge", desc := "()Z" } : Jvm.MethodName) prog_28_method_8_code (1 : Nat) (Option.some Jvm.ClassFile.FieldType.boolean)) ∈ lw_all := lw_g (lw_at lw_m12 236 rfl) rfl
theorem q3234 : (Jvm.Cond.methodLink "ContractLedgerModel$Num" (26 : Nat) ({ cls := "ContractLedgerModel$Num", name := "bits", desc := "()I" } : Jvm.MethodName)) ∈ lw_all := lw_g (lw_at lw_m12 237 rfl) rfl
theorem q3235 : (Jvm.Cond.instanceMethod ({ cls := "ContractLedgerModel$Num", name := "bits", desc := "()I" } : Jvm.MethodName)) ∈ lw_all := lw_g (lw_at lw_m12 238 rfl) rfl
theorem q3236 : (Jvm.Cond.selects "ContractLedgerModel$Num" ({ cls := "ContractLedgerModel$Num", name := "bits", desc := "()I" } : Jvm.MethodName) ({ cls := "ContractLedgerModel$Num", name := "bits", desc := "()I" } : Jvm.MethodName)) ∈ lw_all := lw_g (lw_at lw_m12 239 rfl) rfl
theorem q3237 : (Jvm.Cond.code ({ cls := "ContractLedgerModel$Num", name := "bits", desc := "()I" } : Jvm.MethodName) prog_28_method_7_code (3 : Nat) (Option.some Jvm.ClassFile.FieldType.int)) ∈ lw_all := lw_g (lw_at lw_m13 0 rfl) rfl
theorem q3397 : (Jvm.Cond.instanceMethod ({ cls := "ContractLedgerModel$Num", name := "value", desc := "()J" } : Jvm.MethodName)) ∈ lw_all := lw_g (lw_at lw_m13 160 rfl) rfl
theorem q3398 : (Jvm.Cond.selects "ContractLedgerModel$Num" ({ cls := "ContractLedgerModel$Num", name := "value", desc := "()J" } : Jvm.MethodName) ({ cls := "ContractLedgerModel$Num", name := "value", desc := "()J" } : Jvm.MethodName)) ∈ lw_all := lw_g (lw_at lw_m13 161 rfl) rfl
theorem q3399 : (Jvm.Cond.code ({ cls := "ContractLedgerModel$Num", name := "value", desc := "()J" } : Jvm.MethodName) prog_28_method_10_code (4 : Nat) (Option.some Jvm.ClassFile.FieldType.long)) ∈ lw_all := lw_g (lw_at lw_m13 162 rfl) rfl
theorem q3400 : (Jvm.Cond.constantLong "ContractLedgerModel$Num" (24 : Nat) (65536 : Int64)) ∈ lw_all := lw_g (lw_at lw_m13 163 rfl) rfl
theorem q3522 : (Jvm.Cond.instanceMethod ({ cls := "ContractLedgerModel$Num", name := "isMutez", desc := "()Z" } : Jvm.MethodName)) ∈ lw_all := lw_g (lw_at lw_m14 45 rfl) rfl
theorem q3523 : (Jvm.Cond.selects "ContractLedgerModel$Num" ({ cls := "ContractLedgerModel$Num", name := "isMutez", desc := "()Z" } : Jvm.MethodName) ({ cls := "ContractLedgerModel$Num", name := "isMutez", desc := "()Z" } : Jvm.MethodName)) ∈ lw_all := lw_g (lw_at lw_m14 46 rfl) rfl
theorem q3524 : (Jvm.Cond.code ({ cls := "ContractLedgerModel$Num", name := "isMutez", desc := "()Z" } : Jvm.MethodName) prog_28_method_9_code (1 : Nat) (Option.some Jvm.ClassFile.FieldType.boolean)) ∈ lw_all := lw_g (lw_at lw_m14 47 rfl) rfl
theorem q3530 : (Jvm.Cond.instanceMethod ({ cls := "ContractLedgerModel$Num", name := "length", desc := "()I" } : Jvm.MethodName)) ∈ lw_all := lw_g (lw_at lw_m14 53 rfl) rfl
theorem q3531 : (Jvm.Cond.selects "ContractLedgerModel$Num" ({ cls := "ContractLedgerModel$Num", name := "length", desc := "()I" } : Jvm.MethodName) ({ cls := "ContractLedgerModel$Num", name := "length", desc := "()I" } : Jvm.MethodName)) ∈ lw_all := lw_g (lw_at lw_m14 54 rfl) rfl
theorem q3532 : (Jvm.Cond.code ({ cls := "ContractLedgerModel$Num", name := "length", desc := "()I" } : Jvm.MethodName) prog_28_method_24_code (2 : Nat) (Option.some Jvm.ClassFile.FieldType.int)) ∈ lw_all := lw_g (lw_at lw_m14 55 rfl) rfl
theorem q3567 : (Jvm.Cond.instanceMethod ({ cls := "ContractLedgerModel$Num", name := "compare", desc := "(LContractLedgerModel$Num;)I" } : Jvm.MethodName)) ∈ lw_all := lw_g (lw_at lw_m14 90 rfl) rfl
theorem q3568 : (Jvm.Cond.selects "ContractLedgerModel$Num" ({ cls := "ContractLedgerModel$Num", name := "compare", desc := "(LContractLedgerModel$Num;)I" } : Jvm.MethodName) ({ cls := "ContractLedgerModel$Num", name := "compare", desc := "(LContractLedgerModel$Num;)I" } : Jvm.MethodName)) ∈ lw_all := lw_g (lw_at lw_m14 91 rfl) rfl
theorem q3569 : (Jvm.Cond.code ({ cls := "ContractLedgerModel$Num", name := "compare", desc := "(LContractLedgerModel$Num;)I" } : Jvm.MethodName) prog_28_method_12_code (3 : Nat) (Option.some Jvm.ClassFile.FieldType.int)) ∈ lw_all := lw_g (lw_at lw_m14 92 rfl) rfl
theorem q3570 : (Jvm.Cond.methodLink "ContractLedgerModel$Num" (30 : Nat) ({ cls := "ContractLedgerModel$Num", name := "compareSize", desc := "(LContractLedgerModel$Num;)I" } : Jvm.MethodName)) ∈ lw_all := lw_g (lw_at lw_m14 93 rfl) rfl
theorem q3571 : (Jvm.Cond.instanceMethod ({ cls := "ContractLedgerModel$Num", name := "compareSize", desc := "(LContractLedgerModel$Num;)I" } : Jvm.MethodName)) ∈ lw_all := lw_g (lw_at lw_m14 94 rfl) rfl
theorem q3572 : (Jvm.Cond.selects "ContractLedgerModel$Num" ({ cls := "ContractLedgerModel$Num", name := "compareSize", desc := "(LContractLedgerModel$Num;)I" } : Jvm.MethodName) ({ cls := "ContractLedgerModel$Num", name := "compareSize", desc := "(LContractLedgerModel$Num;)I" } : Jvm.MethodName)) ∈ lw_all := lw_g (lw_at lw_m14 95 rfl) rfl
theorem q3573 : (Jvm.Cond.code ({ cls := "ContractLedgerModel$Num", name := "compareSize", desc := "(LContractLedgerModel$Num;)I" } : Jvm.MethodName) prog_28_method_11_code (3 : Nat) (Option.some Jvm.ClassFile.FieldType.int)) ∈ lw_all := lw_g (lw_at lw_m14 96 rfl) rfl
theorem q3832 : (Jvm.Cond.instanceMethod ({ cls := "ContractLedgerModel$Num", name := "small", desc := "(J)V" } : Jvm.MethodName)) ∈ lw_all := lw_g (lw_at lw_m15 115 rfl) rfl
theorem q3833 : (Jvm.Cond.selects "ContractLedgerModel$Num" ({ cls := "ContractLedgerModel$Num", name := "small", desc := "(J)V" } : Jvm.MethodName) ({ cls := "ContractLedgerModel$Num", name := "small", desc := "(J)V" } : Jvm.MethodName)) ∈ lw_all := lw_g (lw_at lw_m15 116 rfl) rfl
theorem q3834 : (Jvm.Cond.code ({ cls := "ContractLedgerModel$Num", name := "small", desc := "(J)V" } : Jvm.MethodName) prog_28_method_4_code (7 : Nat) (Option.none : Option Jvm.ClassFile.FieldType)) ∈ lw_all := lw_g (lw_at lw_m15 117 rfl) rfl
theorem q3848 : (Jvm.Cond.instanceMethod ({ cls := "ContractLedgerModel$Num", name := "copy", desc := "(LContractLedgerModel$Num;)V" } : Jvm.MethodName)) ∈ lw_all := lw_g (lw_at lw_m15 131 rfl) rfl
theorem q3849 : (Jvm.Cond.selects "ContractLedgerModel$Num" ({ cls := "ContractLedgerModel$Num", name := "copy", desc := "(LContractLedgerModel$Num;)V" } : Jvm.MethodName) ({ cls := "ContractLedgerModel$Num", name := "copy", desc := "(LContractLedgerModel$Num;)V" } : Jvm.MethodName)) ∈ lw_all := lw_g (lw_at lw_m15 132 rfl) rfl
theorem q3850 : (Jvm.Cond.code ({ cls := "ContractLedgerModel$Num", name := "copy", desc := "(LContractLedgerModel$Num;)V" } : Jvm.MethodName) prog_28_method_3_code (3 : Nat) (Option.none : Option Jvm.ClassFile.FieldType)) ∈ lw_all := lw_g (lw_at lw_m15 133 rfl) rfl
theorem q3852 : (Jvm.Cond.instanceMethod ({ cls := "ContractLedgerModel$Num", name := "sum", desc := "(LContractLedgerModel$Num;LContractLedgerModel$Num;Z)V" } : Jvm.MethodName)) ∈ lw_all := lw_g (lw_at lw_m15 135 rfl) rfl
theorem q3853 : (Jvm.Cond.selects "ContractLedgerModel$Num" ({ cls := "ContractLedgerModel$Num", name := "sum", desc := "(LContractLedgerModel$Num;LContractLedgerModel$Num;Z)V" } : Jvm.MethodName) ({ cls := "ContractLedgerModel$Num", name := "sum", desc := "(LContractLedgerModel$Num;LContractLedgerModel$Num;Z)V" } : Jvm.MethodName)) ∈ lw_all := lw_g (lw_at lw_m15 136 rfl) rfl
theorem q3854 : (Jvm.Cond.code ({ cls := "ContractLedgerModel$Num", name := "sum", desc := "(LContractLedgerModel$Num;LContractLedgerModel$Num;Z)V" } : Jvm.MethodName) prog_28_method_13_code (13 : Nat) (Option.none : Option Jvm.ClassFile.FieldType)) ∈ lw_all := lw_g (lw_at lw_m15 137 rfl) rfl
theorem q3855 : (Jvm.Cond.methodLink "ContractLedgerModel$Num" (34 : Nat) ({ cls := "ContractLedgerModel$Num", name := "digit", desc := "(I)I" } : Jvm.MethodName)) ∈ lw_all := lw_g (lw_at lw_m15 138 rfl) rfl
theorem q3856 : (Jvm.Cond.instanceMethod ({ cls := "ContractLedgerModel$Num", name := "digit", desc := "(I)I" } : Jvm.MethodName)) ∈ lw_all := lw_g (lw_at lw_m15 139 rfl) rfl
theorem q3857 : (Jvm.Cond.selects "ContractLedgerModel$Num" ({ cls := "ContractLedgerModel$Num", name := "digit", desc := "(I)I" } : Jvm.MethodName) ({ cls := "ContractLedgerModel$Num", name := "digit", desc := "(I)I" } : Jvm.MethodName)) ∈ lw_all := lw_g (lw_at lw_m15 140 rfl) rfl
theorem q3858 : (Jvm.Cond.code ({ cls := "ContractLedgerModel$Num", name := "digit", desc := "(I)I" } : Jvm.MethodName) prog_28_method_6_code (2 : Nat) (Option.some Jvm.ClassFile.FieldType.int)) ∈ lw_all := lw_g (lw_at lw_m15 141 rfl) rfl
theorem q3869 : (Jvm.Cond.instanceMethod ({ cls := "ContractLedgerModel$Num", name := "product", desc := "(LContractLedgerModel$Num;LContractLedgerModel$Num;)V" } : Jvm.MethodName)) ∈ lw_all := lw_g (lw_at lw_m15 152 rfl) rfl
theorem q3870 : (Jvm.Cond.selects "ContractLedgerModel$Num" ({ cls := "ContractLedgerModel$Num", name := "product", desc := "(LContractLedgerModel$Num;LContractLedgerModel$Num;)V" } : Jvm.MethodName) ({ cls := "ContractLedgerModel$Num", name := "product", desc := "(LContractLedgerModel$Num;LContractLedgerModel$Num;)V" } : Jvm.MethodName)) ∈ lw_all := lw_g (lw_at lw_m15 153 rfl) rfl
theorem q3871 : (Jvm.Cond.code ({ cls := "ContractLedgerModel$Num", name := "product", desc := "(LContractLedgerModel$Num;LContractLedgerModel$Num;)V" } : Jvm.MethodName) prog_28_method_14_code (9 : Nat) (Option.none : Option Jvm.ClassFile.FieldType)) ∈ lw_all := lw_g (lw_at lw_m15 154 rfl) rfl
theorem q3877 : (Jvm.Cond.instanceMethod ({ cls := "ContractLedgerModel$Num", name := "divide", desc := "(LContractLedgerModel$Num;LContractLedgerModel$Num;LContractLedgerModel$Num;)V" } : Jvm.MethodName)) ∈ lw_all := lw_g (lw_at lw_m15 160 rfl) rfl
theorem q3878 : (Jvm.Cond.selects "ContractLedgerModel$Num" ({ cls := "ContractLedgerModel$Num", name := "divide", desc := "(LContractLedgerModel$Num;LContractLedgerModel$Num;LContractLedgerModel$Num;)V" } : Jvm.MethodName) ({ cls := "ContractLedgerModel$Num", name := "divide", desc := "(LContractLedgerModel$Num;LContractLedgerModel$Num;LContractLedgerModel$Num;)V" } : Jvm.MethodName)) ∈ lw_all := lw_g (lw_at lw_m15 161 rfl) rfl
theorem q3879 : (Jvm.Cond.code ({ cls := "ContractLedgerModel$Num", name := "divide", desc := "(LContractLedgerModel$Num;LContractLedgerModel$Num;LContractLedgerModel$Num;)V" } : Jvm.MethodName) prog_28_method_16_code (6 : Nat) (Option.none : Option Jvm.ClassFile.FieldType)) ∈ lw_all := lw_g (lw_at lw_m15 162 rfl) rfl
theorem q3880 : (Jvm.Cond.methodLink "ContractLedgerModel$Num" (42 : Nat) ({ cls := "ContractLedgerModel$Num", name := "guess", desc := "(LContractLedgerModel$Num;LContractLedgerModel$Num;)I" } : Jvm.MethodName)) ∈ lw_all := lw_g (lw_at lw_m15 163 rfl) rfl
theorem q3881 : (Jvm.Cond.static ({ cls := "ContractLedgerModel$Num", name := "guess", desc := "(LContractLedgerModel$Num;LContractLedgerModel$Num;)I" } : Jvm.MethodName)) ∈ lw_all := lw_g (lw_at lw_m15 164 rfl) rfl
theorem q3882 : (Jvm.Cond.code ({ cls := "ContractLedgerModel$Num", name := "guess", desc := "(LContractLedgerModel$Num;LContractLedgerModel$Num;)I" } : Jvm.MethodName) prog_28_method_17_code (12 : Nat) (Option.some Jvm.ClassFile.FieldType.int)) ∈ lw_all := lw_g (lw_at lw_m15 165 rfl) rfl
theorem q3883 : (Jvm.Cond.constantLong "ContractLedgerModel$Num" (46 : Nat) (65535 : Int64)) ∈ lw_all := lw_g (lw_at lw_m15 166 rfl) rfl
theorem q3884 : (Jvm.Cond.methodLink "ContractLedgerModel$Num" (48 : Nat) ({ cls := "ContractLedgerModel$Num", name := "isLess", desc := "(LContractLedgerModel$Num;LContractLedgerModel$Num;J)Z" } : Jvm.MethodName)) ∈ lw_all := lw_g (lw_at lw_m15 167 rfl) rfl
theorem q3885 : (Jvm.Cond.static ({ cls := "ContractLedgerModel$Num", name := "isLess", desc := "(LContractLedgerModel$Num;LContractLedgerModel$Num;J)Z" } : Jvm.MethodName)) ∈ lw_all := lw_g (lw_at lw_m15 168 rfl) rfl
theorem q3886 : (Jvm.Cond.code ({ cls := "ContractLedgerModel$Num", name := "isLess", desc := "(LContractLedgerModel$Num;LContractLedgerModel$Num;J)Z" } : Jvm.MethodName) prog_28_method_18_code (9 : Nat) (Option.some Jvm.ClassFile.FieldType.boolean)) ∈ lw_all := lw_g (lw_at lw_m15 169 rfl) rfl
theorem q3888 : (Jvm.Cond.instanceMethod ({ cls := "ContractLedgerModel$Num", name := "join", desc := "(LContractLedgerModel$Num;LContractLedgerModel$Num;I)V" } : Jvm.MethodName)) ∈ lw_all := lw_g (lw_at lw_m15 171 rfl) rfl
theorem q3889 : (Jvm.Cond.selects "ContractLedgerModel$Num" ({ cls := "ContractLedgerModel$Num", name := "join", desc := "(LContractLedgerModel$Num;LContractLedgerModel$Num;I)V" } : Jvm.MethodName) ({ cls := "ContractLedgerModel$Num", name := "join", desc := "(LContractLedgerModel$Num;LContractLedgerModel$Num;I)V" } : Jvm.MethodName)) ∈ lw_all := lw_g (lw_at lw_m15 172 rfl) rfl
theorem q3890 : (Jvm.Cond.code ({ cls := "ContractLedgerModel$Num", name := "join", desc := "(LContractLedgerModel$Num;LContractLedgerModel$Num;I)V" } : Jvm.MethodName) prog_28_method_21_code (8 : Nat) (Option.none : Option Jvm.ClassFile.FieldType)) ∈ lw_all := lw_g (lw_at lw_m15 173 rfl) rfl
theorem q3891 : (Jvm.Cond.constant "ContractLedgerModel$Num" (52 : Nat) (65535 : Int32)) ∈ lw_all := lw_g (lw_at lw_m15 174 rfl) rfl
theorem q3900 : (Jvm.Cond.instanceMethod ({ cls := "ContractLedgerModel$Num", name := "up", desc := "(LContractLedgerModel$Num;I)V" } : Jvm.MethodName)) ∈ lw_all := lw_g (lw_at lw_m15 183 rfl) rfl
theorem q3901 : (Jvm.Cond.selects "ContractLedgerModel$Num" ({ cls := "ContractLedgerModel$Num", name := "up", desc := "(LContractLedgerModel$Num;I)V" } : Jvm.MethodName) ({ cls := "ContractLedgerModel$Num", name := "up", desc := "(LContractLedgerModel$Num;I)V" } : Jvm.MethodName)) ∈ lw_all := lw_g (lw_at lw_m15 184 rfl) rfl
theorem q3902 : (Jvm.Cond.code ({ cls := "ContractLedgerModel$Num", name := "up", desc := "(LContractLedgerModel$Num;I)V" } : Jvm.MethodName) prog_28_method_19_code (7 : Nat) (Option.none : Option Jvm.ClassFile.FieldType)) ∈ lw_all := lw_g (lw_at lw_m15 185 rfl) rfl
theorem q3904 : (Jvm.Cond.instanceMethod ({ cls := "ContractLedgerModel$Num", name := "down", desc := "(LContractLedgerModel$Num;I)V" } : Jvm.MethodName)) ∈ lw_all := lw_g (lw_at lw_m15 187 rfl) rfl
theorem q3905 : (Jvm.Cond.selects "ContractLedgerModel$Num" ({ cls := "ContractLedgerModel$Num", name := "down", desc := "(LContractLedgerModel$Num;I)V" } : Jvm.MethodName) ({ cls := "ContractLedgerModel$Num", name := "down", desc := "(LContractLedgerModel$Num;I)V" } : Jvm.MethodName)) ∈ lw_all := lw_g (lw_at lw_m15 188 rfl) rfl
theorem q3906 : (Jvm.Cond.code ({ cls := "ContractLedgerModel$Num", name := "down", desc := "(LContractLedgerModel$Num;I)V" } : Jvm.MethodName) prog_28_method_20_code (6 : Nat) (Option.none : Option Jvm.ClassFile.FieldType)) ∈ lw_all := lw_g (lw_at lw_m15 189 rfl) rfl
theorem q3969 : (Jvm.Cond.instanceMethod ({ cls := "ContractLedgerModel$Num", name := "part", desc := "(II)I" } : Jvm.MethodName)) ∈ lw_all := lw_g (lw_at lw_m16 12 rfl) rfl
theorem q3970 : (Jvm.Cond.selects "ContractLedgerModel$Num" ({ cls := "ContractLedgerModel$Num", name := "part", desc := "(II)I" } : Jvm.MethodName) ({ cls := "ContractLedgerModel$Num", name := "part", desc := "(II)I" } : Jvm.MethodName)) ∈ lw_all := lw_g (lw_at lw_m16 13 rfl) rfl
theorem q3971 : (Jvm.Cond.code ({ cls := "ContractLedgerModel$Num", name := "part", desc := "(II)I" } : Jvm.MethodName) prog_28_method_22_code (6 : Nat) (Option.some Jvm.ClassFile.FieldType.int)) ∈ lw_all := lw_g (lw_at lw_m16 14 rfl) rfl
theorem q3998 : (Jvm.Cond.instanceMethod ({ cls := "ContractLedgerModel$Num", name := "setPart", desc := "(III)V" } : Jvm.MethodName)) ∈ lw_all := lw_g (lw_at lw_m16 41 rfl) rfl
theorem q3999 : (Jvm.Cond.selects "ContractLedgerModel$Num" ({ cls := "ContractLedgerModel$Num", name := "setPart", desc := "(III)V" } : Jvm.MethodName) ({ cls := "ContractLedgerModel$Num", name := "setPart", desc := "(III)V" } : Jvm.MethodName)) ∈ lw_all := lw_g (lw_at lw_m16 42 rfl) rfl
theorem q4000 : (Jvm.Cond.code ({ cls := "ContractLedgerModel$Num", name := "setPart", desc := "(III)V" } : Jvm.MethodName) prog_28_method_23_code (6 : Nat) (Option.none : Option Jvm.ClassFile.FieldType)) ∈ lw_all := lw_g (lw_at lw_m16 43 rfl) rfl
theorem q4080 : (Jvm.Cond.instantiable "ContractLedgerModel$Num" (3 : Nat)) ∈ lw_all := lw_g (lw_at lw_m16 123 rfl) rfl
theorem q4082 : (Jvm.Cond.instanceMethod ({ cls := "ContractLedgerModel$Num", name := "<init>", desc := "()V" } : Jvm.MethodName)) ∈ lw_all := lw_g (lw_at lw_m16 125 rfl) rfl
theorem q4083 : (Jvm.Cond.code ({ cls := "ContractLedgerModel$Num", name := "<init>", desc := "()V" } : Jvm.MethodName) prog_28_method_1_code (1 : Nat) (Option.none : Option Jvm.ClassFile.FieldType)) ∈ lw_all := lw_g (lw_at lw_m16 126 rfl) rfl
theorem q4084 : (Jvm.Cond.methodLink "ContractLedgerModel$Num" (1 : Nat) ({ cls := "java/lang/Object", name := "<init>", desc := "()V" } : Jvm.MethodName)) ∈ lw_all := lw_g (lw_at lw_m16 127 rfl) rfl
theorem q4085 : (Jvm.Cond.fieldLink "ContractLedgerModel$Num" (7 : Nat) "ContractLedgerModel$Num" "d" "[I") ∈ lw_all := lw_g (lw_at lw_m16 128 rfl) rfl
theorem q4087 : (Jvm.Cond.fieldLink "ContractLedgerModel$Num" (13 : Nat) "ContractLedgerModel$Num" "n" "I") ∈ lw_all := lw_g (lw_at lw_m16 130 rfl) rfl
theorem q4089 : (Jvm.Cond.fieldLink "ContractLedgerModel$Num" (17 : Nat) "ContractLedgerModel$Num" "minus" "Z") ∈ lw_all := lw_g (lw_at lw_m16 132 rfl) rfl
theorem q4092 : (Jvm.Cond.laysFinal "ContractLedgerModel$Num" "ContractLedgerModel$Num" "d" "[I") ∈ lw_all := lw_g (lw_at lw_m16 135 rfl) rfl
theorem q4093 : (Jvm.Cond.soleField "ContractLedgerModel$Num" "d") ∈ lw_all := lw_g (lw_at lw_m16 136 rfl) rfl
theorem q4094 : (Jvm.Cond.lays "ContractLedgerModel$Num" "ContractLedgerModel$Num" "n" "I") ∈ lw_all := lw_g (lw_at lw_m16 137 rfl) rfl
theorem q4095 : (Jvm.Cond.soleField "ContractLedgerModel$Num" "n") ∈ lw_all := lw_g (lw_at lw_m16 138 rfl) rfl
theorem q4096 : (Jvm.Cond.lays "ContractLedgerModel$Num" "ContractLedgerModel$Num" "minus" "Z") ∈ lw_all := lw_g (lw_at lw_m16 139 rfl) rfl
theorem q4097 : (Jvm.Cond.soleField "ContractLedgerModel$Num" "minus") ∈ lw_all := lw_g (lw_at lw_m16 140 rfl) rfl
theorem q4098 : (Jvm.Cond.superclass "ContractLedgerModel$Num" "java/lang/Object") ∈ lw_all := lw_g (lw_at lw_m16 141 rfl) rfl
set_option maxRecDepth 100000
abbrev cX27_clear : ByteArray := prog_30_method_2_code
def yX27_clear : MethodName := ⟨RX27, "clear", "()V"⟩
def dkwX27_clear_2 : List UInt8 := [167, 255, 239, 177]
abbrev dktX27_clear_2 : List UInt8 := dkwX27_clear_2 ++ []
def dkwX27_clear_1 : List UInt8 := [167, 255, 239, 3, 60, 27, 16, 9, 163, 0, 17, 42, 27, 2, 2, 182, 0, 42, 61, 132, 1, 1]
abbrev dktX27_clear_1 : List UInt8 := dkwX27_clear_1 ++ dktX27_clear_2
def dkwX27_clear_0 : List UInt8 := [42, 3, 181, 0, 38, 3, 60, 27, 17, 8, 0, 162, 0, 16, 42, 180, 0, 32, 27, 2, 79, 132, 1, 1]
abbrev dktX27_clear_0 : List UInt8 := dkwX27_clear_0 ++ dktX27_clear_1
theorem dksX27_clear_0 : cX27_clear.data.toList.drop 0 = dktX27_clear_0 := by decide +kernel
theorem dksX27_clear_1 : cX27_clear.data.toList.drop 24 = dktX27_clear_1 := dk_seg dksX27_clear_0 24 rfl rfl
theorem dksX27_clear_2 : cX27_clear.data.toList.drop 46 = dktX27_clear_2 := dk_seg dksX27_clear_1 22 rfl rfl
theorem dX27_clear_0 : decode cX27_clear 0 = .ok (.aload_n 0, 1) := dk_42 (dk_at dksX27_clear_0 0 rfl rfl)
theorem dX27_clear_1 : decode cX27_clear 1 = .ok (.iconst 0, 1) := dk_3 (dk_at dksX27_clear_0 1 rfl rfl)
theorem dX27_clear_2 : decode cX27_clear 2 = .ok (.putfield 38, 3) := dk_181 0 38 (dk_at dksX27_clear_0 2 rfl rfl)
theorem dX27_clear_5 : decode cX27_clear 5 = .ok (.iconst 0, 1) := dk_3 (dk_at dksX27_clear_0 5 rfl rfl)
theorem dX27_clear_6 : decode cX27_clear 6 = .ok (.istore_n 1, 1) := dk_60 (dk_at dksX27_clear_0 6 rfl rfl)
theorem dX27_clear_7 : decode cX27_clear 7 = .ok (.iload_n 1, 1) := dk_27 (dk_at dksX27_clear_0 7 rfl rfl)
theorem dX27_clear_8 : decode cX27_clear 8 = .ok (.sipush 2048, 3) := dk_17 8 0 (dk_at dksX27_clear_0 8 rfl rfl)
theorem dX27_clear_11 : decode cX27_clear 11 = .ok (.if_icmp .ge 16, 3) := dk_162 0 16 (dk_at dksX27_clear_0 11 rfl rfl)
theorem dX27_clear_14 : decode cX27_clear 14 = .ok (.aload_n 0, 1) := dk_42 (dk_at dksX27_clear_0 14 rfl rfl)
theorem dX27_clear_15 : decode cX27_clear 15 = .ok (.getfield 32, 3) := dk_180 0 32 (dk_at dksX27_clear_0 15 rfl rfl)
theorem dX27_clear_18 : decode cX27_clear 18 = .ok (.iload_n 1, 1) := dk_27 (dk_at dksX27_clear_0 18 rfl rfl)
theorem dX27_clear_19 : decode cX27_clear 19 = .ok (.iconst (-1), 1) := dk_2 (dk_at dksX27_clear_0 19 rfl rfl)
theorem dX27_clear_20 : decode cX27_clear 20 = .ok (.iastore, 1) := dk_79 (dk_at dksX27_clear_0 20 rfl rfl)
theorem dX27_clear_21 : decode cX27_clear 21 = .ok (.iinc 1 1, 3) := dk_132 1 1 (dk_at dksX27_clear_0 21 rfl rfl)
theorem dX27_clear_24 : decode cX27_clear 24 = .ok (.goto (-17), 3) := dk_167 255 239 (dk_at dksX27_clear_1 0 rfl rfl)
theorem dX27_clear_27 : decode cX27_clear 27 = .ok (.iconst 0, 1) := dk_3 (dk_at dksX27_clear_1 3 rfl rfl)
theorem dX27_clear_28 : decode cX27_clear 28 = .ok (.istore_n 1, 1) := dk_60 (dk_at dksX27_clear_1 4 rfl rfl)
theorem dX27_clear_29 : decode cX27_clear 29 = .ok (.iload_n 1, 1) := dk_27 (dk_at dksX27_clear_1 5 rfl rfl)
theorem dX27_clear_30 : decode cX27_clear 30 = .ok (.bipush 9, 2) := dk_16 9 (dk_at dksX27_clear_1 6 rfl rfl)
theorem dX27_clear_32 : decode cX27_clear 32 = .ok (.if_icmp .gt 17, 3) := dk_163 0 17 (dk_at dksX27_clear_1 8 rfl rfl)
theorem dX27_clear_35 : decode cX27_clear 35 = .ok (.aload_n 0, 1) := dk_42 (dk_at dksX27_clear_1 11 rfl rfl)
theorem dX27_clear_36 : decode cX27_clear 36 = .ok (.iload_n 1, 1) := dk_27 (dk_at dksX27_clear_1 12 rfl rfl)
theorem dX27_clear_37 : decode cX27_clear 37 = .ok (.iconst (-1), 1) := dk_2 (dk_at dksX27_clear_1 13 rfl rfl)
theorem dX27_clear_38 : decode cX27_clear 38 = .ok (.iconst (-1), 1) := dk_2 (dk_at dksX27_clear_1 14 rfl rfl)
theorem dX27_clear_39 : decode cX27_clear 39 = .ok (.invokevirtual 42, 3) := dk_182 0 42 (dk_at dksX27_clear_1 15 rfl rfl)
theorem dX27_clear_42 : decode cX27_clear 42 = .ok (.istore_n 2, 1) := dk_61 (dk_at dksX27_clear_1 18 rfl rfl)
theorem dX27_clear_43 : decode cX27_clear 43 = .ok (.iinc 1 1, 3) := dk_132 1 1 (dk_at dksX27_clear_1 19 rfl rfl)
theorem dX27_clear_46 : decode cX27_clear 46 = .ok (.goto (-17), 3) := dk_167 255 239 (dk_at dksX27_clear_2 0 rfl rfl)
theorem dX27_clear_49 : decode cX27_clear 49 = .ok (.return_, 1) := dk_177 (dk_at dksX27_clear_2 3 rfl rfl)
abbrev cX27_make : ByteArray := prog_30_method_4_code
def yX27_make : MethodName := ⟨RX27, "make", "(III)I"⟩
def dkwX27_make_10 : List UInt8 := [79, 42, 180, 0, 32, 21, 5, 21, 6, 79, 21, 6, 172]
abbrev dktX27_make_10 : List UInt8 := dkwX27_make_10 ++ []
def dkwX27_make_9 : List UInt8 := [21, 6, 42, 27, 28, 29, 182, 0, 47, 145, 84, 42, 180, 0, 29, 21, 6, 42, 180, 0, 32, 21, 5, 46]
abbrev dktX27_make_9 : List UInt8 := dkwX27_make_9 ++ dktX27_make_10
def dkwX27_make_8 : List UInt8 := [79, 42, 180, 0, 19, 21, 6, 29, 79, 42, 180, 0, 22, 21, 6, 21, 4, 147, 86, 42, 180, 0, 26]
abbrev dktX27_make_8 : List UInt8 := dkwX27_make_8 ++ dktX27_make_9
def dkwX27_make_7 : List UInt8 := [180, 0, 38, 4, 96, 181, 0, 38, 42, 180, 0, 9, 21, 6, 27, 145, 84, 42, 180, 0, 15, 21, 6, 28]
abbrev dktX27_make_7 : List UInt8 := dkwX27_make_7 ++ dktX27_make_8
def dkwX27_make_6 : List UInt8 := [46, 54, 6, 167, 255, 209, 21, 6, 155, 0, 6, 21, 6, 172, 42, 180, 0, 38, 54, 6, 42, 89]
abbrev dktX27_make_6 : List UInt8 := dkwX27_make_6 ++ dktX27_make_7
def dkwX27_make_5 : List UInt8 := [21, 6, 46, 28, 160, 0, 14, 42, 180, 0, 19, 21, 6, 46, 29, 159, 0, 15, 42, 180, 0, 29, 21, 6]
abbrev dktX27_make_5 : List UInt8 := dkwX27_make_5 ++ dktX27_make_6
def dkwX27_make_4 : List UInt8 := [46, 54, 6, 21, 6, 155, 0, 48, 42, 180, 0, 9, 21, 6, 51, 27, 160, 0, 25, 42, 180, 0, 15]
abbrev dktX27_make_4 : List UInt8 := dkwX27_make_4 ++ dktX27_make_5
def dkwX27_make_3 : List UInt8 := [16, 31, 27, 104, 28, 96, 104, 29, 96, 18, 46, 126, 17, 8, 0, 112, 54, 5, 42, 180, 0, 32, 21, 5]
abbrev dktX27_make_3 : List UInt8 := dkwX27_make_3 ++ dktX27_make_4
def dkwX27_make_2 : List UInt8 := [167, 0, 9, 42, 180, 0, 22, 29, 53, 96, 54, 4, 21, 4, 17, 0, 200, 164, 0, 5, 2, 172, 16, 31]
abbrev dktX27_make_2 : List UInt8 := dkwX27_make_2 ++ dktX27_make_3
def dkwX27_make_1 : List UInt8 := [180, 0, 22, 28, 53, 96, 27, 16, 14, 162, 0, 7, 3, 167, 0, 19, 29, 156, 0, 9, 17, 0, 200]
abbrev dktX27_make_1 : List UInt8 := dkwX27_make_1 ++ dktX27_make_2
def dkwX27_make_0 : List UInt8 := [4, 27, 16, 10, 162, 0, 7, 3, 167, 0, 19, 28, 156, 0, 9, 17, 0, 200, 167, 0, 9, 42]
abbrev dktX27_make_0 : List UInt8 := dkwX27_make_0 ++ dktX27_make_1
theorem dksX27_make_0 : cX27_make.data.toList.drop 0 = dktX27_make_0 := by decide +kernel
theorem dksX27_make_1 : cX27_make.data.toList.drop 22 = dktX27_make_1 := dk_seg dksX27_make_0 22 rfl rfl
theorem dksX27_make_2 : cX27_make.data.toList.drop 45 = dktX27_make_2 := dk_seg dksX27_make_1 23 rfl rfl
theorem dksX27_make_3 : cX27_make.data.toList.drop 69 = dktX27_make_3 := dk_seg dksX27_make_2 24 rfl rfl
theorem dksX27_make_4 : cX27_make.data.toList.drop 93 = dktX27_make_4 := dk_seg dksX27_make_3 24 rfl rfl
theorem dksX27_make_5 : cX27_make.data.toList.drop 116 = dktX27_make_5 := dk_seg dksX27_make_4 23 rfl rfl
theorem dksX27_make_6 : cX27_make.data.toList.drop 140 = dktX27_make_6 := dk_seg dksX27_make_5 24 rfl rfl
theorem dksX27_make_7 : cX27_make.data.toList.drop 162 = dktX27_make_7 := dk_seg dksX27_make_6 22 rfl rfl
theorem dksX27_make_8 : cX27_make.data.toList.drop 186 = dktX27_make_8 := dk_seg dksX27_make_7 24 rfl rfl
theorem dksX27_make_9 : cX27_make.data.toList.drop 209 = dktX27_make_9 := dk_seg dksX27_make_8 23 rfl rfl
theorem dksX27_make_10 : cX27_make.data.toList.drop 233 = dktX27_make_10 := dk_seg dksX27_make_9 24 rfl rfl
theorem dX27_make_0 : decode cX27_make 0 = .ok (.iconst 1, 1) := dk_4 (dk_at dksX27_make_0 0 rfl rfl)
theorem dX27_make_1 : decode cX27_make 1 = .ok (.iload_n 1, 1) := dk_27 (dk_at dksX27_make_0 1 rfl rfl)
theorem dX27_make_2 : decode cX27_make 2 = .ok (.bipush 10, 2) := dk_16 10 (dk_at dksX27_make_0 2 rfl rfl)
theorem dX27_make_4 : decode cX27_make 4 = .ok (.if_icmp .ge 7, 3) := dk_162 0 7 (dk_at dksX27_make_0 4 rfl rfl)
theorem dX27_make_7 : decode cX27_make 7 = .ok (.iconst 0, 1) := dk_3 (dk_at dksX27_make_0 7 rfl rfl)
theorem dX27_make_8 : decode cX27_make 8 = .ok (.goto 19, 3) := dk_167 0 19 (dk_at dksX27_make_0 8 rfl rfl)
theorem dX27_make_11 : decode cX27_make 11 = .ok (.iload_n 2, 1) := dk_28 (dk_at dksX27_make_0 11 rfl rfl)
theorem dX27_make_12 : decode cX27_make 12 = .ok (.ifCond .ge 9, 3) := dk_156 0 9 (dk_at dksX27_make_0 12 rfl rfl)
theorem dX27_make_15 : decode cX27_make 15 = .ok (.sipush 200, 3) := dk_17 0 200 (dk_at dksX27_make_0 15 rfl rfl)
theorem dX27_make_18 : decode cX27_make 18 = .ok (.goto 9, 3) := dk_167 0 9 (dk_at dksX27_make_0 18 rfl rfl)
theorem dX27_make_21 : decode cX27_make 21 = .ok (.aload_n 0, 1) := dk_42 (dk_at dksX27_make_0 21 rfl rfl)
theorem dX27_make_22 : decode cX27_make 22 = .ok (.getfield 22, 3) := dk_180 0 22 (dk_at dksX27_make_1 0 rfl rfl)
theorem dX27_make_25 : decode cX27_make 25 = .ok (.iload_n 2, 1) := dk_28 (dk_at dksX27_make_1 3 rfl rfl)
theorem dX27_make_26 : decode cX27_make 26 = .ok (.saload, 1) := dk_53 (dk_at dksX27_make_1 4 rfl rfl)
theorem dX27_make_27 : decode cX27_make 27 = .ok (.iadd, 1) := dk_96 (dk_at dksX27_make_1 5 rfl rfl)
theorem dX27_make_28 : decode cX27_make 28 = .ok (.iload_n 1, 1) := dk_27 (dk_at dksX27_make_1 6 rfl rfl)
theorem dX27_make_29 : decode cX27_make 29 = .ok (.bipush 14, 2) := dk_16 14 (dk_at dksX27_make_1 7 rfl rfl)
theorem dX27_make_31 : decode cX27_make 31 = .ok (.if_icmp .ge 7, 3) := dk_162 0 7 (dk_at dksX27_make_1 9 rfl rfl)
theorem dX27_make_34 : decode cX27_make 34 = .ok (.iconst 0, 1) := dk_3 (dk_at dksX27_make_1 12 rfl rfl)
theorem dX27_make_35 : decode cX27_make 35 = .ok (.goto 19, 3) := dk_167 0 19 (dk_at dksX27_make_1 13 rfl rfl)
theorem dX27_make_38 : decode cX27_make 38 = .ok (.iload_n 3, 1) := dk_29 (dk_at dksX27_make_1 16 rfl rfl)
theorem dX27_make_39 : decode cX27_make 39 = .ok (.ifCond .ge 9, 3) := dk_156 0 9 (dk_at dksX27_make_1 17 rfl rfl)
theorem dX27_make_42 : decode cX27_make 42 = .ok (.sipush 200, 3) := dk_17 0 200 (dk_at dksX27_make_1 20 rfl rfl)
theorem dX27_make_45 : decode cX27_make 45 = .ok (.goto 9, 3) := dk_167 0 9 (dk_at dksX27_make_2 0 rfl rfl)
theorem dX27_make_48 : decode cX27_make 48 = .ok (.aload_n 0, 1) := dk_42 (dk_at dksX27_make_2 3 rfl rfl)
theorem dX27_make_49 : decode cX27_make 49 = .ok (.getfield 22, 3) := dk_180 0 22 (dk_at dksX27_make_2 4 rfl rfl)
theorem dX27_make_52 : decode cX27_make 52 = .ok (.iload_n 3, 1) := dk_29 (dk_at dksX27_make_2 7 rfl rfl)
theorem dX27_make_53 : decode cX27_make 53 = .ok (.saload, 1) := dk_53 (dk_at dksX27_make_2 8 rfl rfl)
theorem dX27_make_54 : decode cX27_make 54 = .ok (.iadd, 1) := dk_96 (dk_at dksX27_make_2 9 rfl rfl)
theorem dX27_make_55 : decode cX27_make 55 = .ok (.istore 4, 2) := dk_54 4 (dk_at dksX27_make_2 10 rfl rfl)
theorem dX27_make_57 : decode cX27_make 57 = .ok (.iload 4, 2) := dk_21 4 (dk_at dksX27_make_2 12 rfl rfl)
theorem dX27_make_59 : decode cX27_make 59 = .ok (.sipush 200, 3) := dk_17 0 200 (dk_at dksX27_make_2 14 rfl rfl)
theorem dX27_make_62 : decode cX27_make 62 = .ok (.if_icmp .le 5, 3) := dk_164 0 5 (dk_at dksX27_make_2 17 rfl rfl)
theorem dX27_make_65 : decode cX27_make 65 = .ok (.iconst (-1), 1) := dk_2 (dk_at dksX27_make_2 20 rfl rfl)
theorem dX27_make_66 : decode cX27_make 66 = .ok (.ireturn, 1) := dk_172 (dk_at dksX27_make_2 21 rfl rfl)
theorem dX27_make_67 : decode cX27_make 67 = .ok (.bipush 31, 2) := dk_16 31 (dk_at dksX27_make_2 22 rfl rfl)
theorem dX27_make_69 : decode cX27_make 69 = .ok (.bipush 31, 2) := dk_16 31 (dk_at dksX27_make_3 0 rfl rfl)
theorem dX27_make_71 : decode cX27_make 71 = .ok (.iload_n 1, 1) := dk_27 (dk_at dksX27_make_3 2 rfl rfl)
theorem dX27_make_72 : decode cX27_make 72 = .ok (.imul, 1) := dk_104 (dk_at dksX27_make_3 3 rfl rfl)
theorem dX27_make_73 : decode cX27_make 73 = .ok (.iload_n 2, 1) := dk_28 (dk_at dksX27_make_3 4 rfl rfl)
theorem dX27_make_74 : decode cX27_make 74 = .ok (.iadd, 1) := dk_96 (dk_at dksX27_make_3 5 rfl rfl)
theorem dX27_make_75 : decode cX27_make 75 = .ok (.imul, 1) := dk_104 (dk_at dksX27_make_3 6 rfl rfl)
theorem dX27_make_76 : decode cX27_make 76 = .ok (.iload_n 3, 1) := dk_29 (dk_at dksX27_make_3 7 rfl rfl)
theorem dX27_make_77 : decode cX27_make 77 = .ok (.iadd, 1) := dk_96 (dk_at dksX27_make_3 8 rfl rfl)
theorem dX27_make_78 : decode cX27_make 78 = .ok (.ldc 46, 2) := dk_18 46 (dk_at dksX27_make_3 9 rfl rfl)
theorem dX27_make_80 : decode cX27_make 80 = .ok (.iand, 1) := dk_126 (dk_at dksX27_make_3 11 rfl rfl)
theorem dX27_make_81 : decode cX27_make 81 = .ok (.sipush 2048, 3) := dk_17 8 0 (dk_at dksX27_make_3 12 rfl rfl)
theorem dX27_make_84 : decode cX27_make 84 = .ok (.irem, 1) := dk_112 (dk_at dksX27_make_3 15 rfl rfl)
theorem dX27_make_85 : decode cX27_make 85 = .ok (.istore 5, 2) := dk_54 5 (dk_at dksX27_make_3 16 rfl rfl)
theorem dX27_make_87 : decode cX27_make 87 = .ok (.aload_n 0, 1) := dk_42 (dk_at dksX27_make_3 18 rfl rfl)
theorem dX27_make_88 : decode cX27_make 88 = .ok (.getfield 32, 3) := dk_180 0 32 (dk_at dksX27_make_3 19 rfl rfl)
theorem dX27_make_91 : decode cX27_make 91 = .ok (.iload 5, 2) := dk_21 5 (dk_at dksX27_make_3 22 rfl rfl)
theorem dX27_make_93 : decode cX27_make 93 = .ok (.iaload, 1) := dk_46 (dk_at dksX27_make_4 0 rfl rfl)
theorem dX27_make_94 : decode cX27_make 94 = .ok (.istore 6, 2) := dk_54 6 (dk_at dksX27_make_4 1 rfl rfl)
theorem dX27_make_96 : decode cX27_make 96 = .ok (.iload 6, 2) := dk_21 6 (dk_at dksX27_make_4 3 rfl rfl)
theorem dX27_make_98 : decode cX27_make 98 = .ok (.ifCond .lt 48, 3) := dk_155 0 48 (dk_at dksX27_make_4 5 rfl rfl)
theorem dX27_make_101 : decode cX27_make 101 = .ok (.aload_n 0, 1) := dk_42 (dk_at dksX27_make_4 8 rfl rfl)
theorem dX27_make_102 : decode cX27_make 102 = .ok (.getfield 9, 3) := dk_180 0 9 (dk_at dksX27_make_4 9 rfl rfl)
theorem dX27_make_105 : decode cX27_make 105 = .ok (.iload 6, 2) := dk_21 6 (dk_at dksX27_make_4 12 rfl rfl)
theorem dX27_make_107 : decode cX27_make 107 = .ok (.baload, 1) := dk_51 (dk_at dksX27_make_4 14 rfl rfl)
theorem dX27_make_108 : decode cX27_make 108 = .ok (.iload_n 1, 1) := dk_27 (dk_at dksX27_make_4 15 rfl rfl)
theorem dX27_make_109 : decode cX27_make 109 = .ok (.if_icmp .ne 25, 3) := dk_160 0 25 (dk_at dksX27_make_4 16 rfl rfl)
theorem dX27_make_112 : decode cX27_make 112 = .ok (.aload_n 0, 1) := dk_42 (dk_at dksX27_make_4 19 rfl rfl)
theorem dX27_make_113 : decode cX27_make 113 = .ok (.getfield 15, 3) := dk_180 0 15 (dk_at dksX27_make_4 20 rfl rfl)
theorem dX27_make_116 : decode cX27_make 116 = .ok (.iload 6, 2) := dk_21 6 (dk_at dksX27_make_5 0 rfl rfl)
theorem dX27_make_118 : decode cX27_make 118 = .ok (.iaload, 1) := dk_46 (dk_at dksX27_make_5 2 rfl rfl)
theorem dX27_make_119 : decode cX27_make 119 = .ok (.iload_n 2, 1) := dk_28 (dk_at dksX27_make_5 3 rfl rfl)
theorem dX27_make_120 : decode cX27_make 120 = .ok (.if_icmp .ne 14, 3) := dk_160 0 14 (dk_at dksX27_make_5 4 rfl rfl)
theorem dX27_make_123 : decode cX27_make 123 = .ok (.aload_n 0, 1) := dk_42 (dk_at dksX27_make_5 7 rfl rfl)
theorem dX27_make_124 : decode cX27_make 124 = .ok (.getfield 19, 3) := dk_180 0 19 (dk_at dksX27_make_5 8 rfl rfl)
theorem dX27_make_127 : decode cX27_make 127 = .ok (.iload 6, 2) := dk_21 6 (dk_at dksX27_make_5 11 rfl rfl)
theorem dX27_make_129 : decode cX27_make 129 = .ok (.iaload, 1) := dk_46 (dk_at dksX27_make_5 13 rfl rfl)
theorem dX27_make_130 : decode cX27_make 130 = .ok (.iload_n 3, 1) := dk_29 (dk_at dksX27_make_5 14 rfl rfl)
theorem dX27_make_131 : decode cX27_make 131 = .ok (.if_icmp .eq 15, 3) := dk_159 0 15 (dk_at dksX27_make_5 15 rfl rfl)
theorem dX27_make_134 : decode cX27_make 134 = .ok (.aload_n 0, 1) := dk_42 (dk_at dksX27_make_5 18 rfl rfl)
theorem dX27_make_135 : decode cX27_make 135 = .ok (.getfield 29, 3) := dk_180 0 29 (dk_at dksX27_make_5 19 rfl rfl)
theorem dX27_make_138 : decode cX27_make 138 = .ok (.iload 6, 2) := dk_21 6 (dk_at dksX27_make_5 22 rfl rfl)
theorem dX27_make_140 : decode cX27_make 140 = .ok (.iaload, 1) := dk_46 (dk_at dksX27_make_6 0 rfl rfl)
theorem dX27_make_141 : decode cX27_make 141 = .ok (.istore 6, 2) := dk_54 6 (dk_at dksX27_make_6 1 rfl rfl)
theorem dX27_make_143 : decode cX27_make 143 = .ok (.goto (-47), 3) := dk_167 255 209 (dk_at dksX27_make_6 3 rfl rfl)
theorem dX27_make_146 : decode cX27_make 146 = .ok (.iload 6, 2) := dk_21 6 (dk_at dksX27_make_6 6 rfl rfl)
theorem dX27_make_148 : decode cX27_make 148 = .ok (.ifCond .lt 6, 3) := dk_155 0 6 (dk_at dksX27_make_6 8 rfl rfl)
theorem dX27_make_151 : decode cX27_make 151 = .ok (.iload 6, 2) := dk_21 6 (dk_at dksX27_make_6 11 rfl rfl)
theorem dX27_make_153 : decode cX27_make 153 = .ok (.ireturn, 1) := dk_172 (dk_at dksX27_make_6 13 rfl rfl)
theorem dX27_make_154 : decode cX27_make 154 = .ok (.aload_n 0, 1) := dk_42 (dk_at dksX27_make_6 14 rfl rfl)
theorem dX27_make_155 : decode cX27_make 155 = .ok (.getfield 38, 3) := dk_180 0 38 (dk_at dksX27_make_6 15 rfl rfl)
theorem dX27_make_158 : decode cX27_make 158 = .ok (.istore 6, 2) := dk_54 6 (dk_at dksX27_make_6 18 rfl rfl)
theorem dX27_make_160 : decode cX27_make 160 = .ok (.aload_n 0, 1) := dk_42 (dk_at dksX27_make_6 20 rfl rfl)
theorem dX27_make_161 : decode cX27_make 161 = .ok (.dup, 1) := dk_89 (dk_at dksX27_make_6 21 rfl rfl)
theorem dX27_make_162 : decode cX27_make 162 = .ok (.getfield 38, 3) := dk_180 0 38 (dk_at dksX27_make_7 0 rfl rfl)
theorem dX27_make_165 : decode cX27_make 165 = .ok (.iconst 1, 1) := dk_4 (dk_at dksX27_make_7 3 rfl rfl)
theorem dX27_make_166 : decode cX27_make 166 = .ok (.iadd, 1) := dk_96 (dk_at dksX27_make_7 4 rfl rfl)
theorem dX27_make_167 : decode cX27_make 167 = .ok (.putfield 38, 3) := dk_181 0 38 (dk_at dksX27_make_7 5 rfl rfl)
theorem dX27_make_170 : decode cX27_make 170 = .ok (.aload_n 0, 1) := dk_42 (dk_at dksX27_make_7 8 rfl rfl)
theorem dX27_make_171 : decode cX27_make 171 = .ok (.getfield 9, 3) := dk_180 0 9 (dk_at dksX27_make_7 9 rfl rfl)
theorem dX27_make_174 : decode cX27_make 174 = .ok (.iload 6, 2) := dk_21 6 (dk_at dksX27_make_7 12 rfl rfl)
theorem dX27_make_176 : decode cX27_make 176 = .ok (.iload_n 1, 1) := dk_27 (dk_at dksX27_make_7 14 rfl rfl)
theorem dX27_make_177 : decode cX27_make 177 = .ok (.i2b, 1) := dk_145 (dk_at dksX27_make_7 15 rfl rfl)
theorem dX27_make_178 : decode cX27_make 178 = .ok (.bastore, 1) := dk_84 (dk_at dksX27_make_7 16 rfl rfl)
theorem dX27_make_179 : decode cX27_make 179 = .ok (.aload_n 0, 1) := dk_42 (dk_at dksX27_make_7 17 rfl rfl)
theorem dX27_make_180 : decode cX27_make 180 = .ok (.getfield 15, 3) := dk_180 0 15 (dk_at dksX27_make_7 18 rfl rfl)
theorem dX27_make_183 : decode cX27_make 183 = .ok (.iload 6, 2) := dk_21 6 (dk_at dksX27_make_7 21 rfl rfl)
theorem dX27_make_185 : decode cX27_make 185 = .ok (.iload_n 2, 1) := dk_28 (dk_at dksX27_make_7 23 rfl rfl)
theorem dX27_make_186 : decode cX27_make 186 = .ok (.iastore, 1) := dk_79 (dk_at dksX27_make_8 0 rfl rfl)
theorem dX27_make_187 : decode cX27_make 187 = .ok (.aload_n 0, 1) := dk_42 (dk_at dksX27_make_8 1 rfl rfl)
theorem dX27_make_188 : decode cX27_make 188 = .ok (.getfield 19, 3) := dk_180 0 19 (dk_at dksX27_make_8 2 rfl rfl)
theorem dX27_make_191 : decode cX27_make 191 = .ok (.iload 6, 2) := dk_21 6 (dk_at dksX27_make_8 5 rfl rfl)
theorem dX27_make_193 : decode cX27_make 193 = .ok (.iload_n 3, 1) := dk_29 (dk_at dksX27_make_8 7 rfl rfl)
theorem dX27_make_194 : decode cX27_make 194 = .ok (.iastore, 1) := dk_79 (dk_at dksX27_make_8 8 rfl rfl)
theorem dX27_make_195 : decode cX27_make 195 = .ok (.aload_n 0, 1) := dk_42 (dk_at dksX27_make_8 9 rfl rfl)
theorem dX27_make_196 : decode cX27_make 196 = .ok (.getfield 22, 3) := dk_180 0 22 (dk_at dksX27_make_8 10 rfl rfl)
theorem dX27_make_199 : decode cX27_make 199 = .ok (.iload 6, 2) := dk_21 6 (dk_at dksX27_make_8 13 rfl rfl)
theorem dX27_make_201 : decode cX27_make 201 = .ok (.iload 4, 2) := dk_21 4 (dk_at dksX27_make_8 15 rfl rfl)
theorem dX27_make_203 : decode cX27_make 203 = .ok (.i2s, 1) := dk_147 (dk_at dksX27_make_8 17 rfl rfl)
theorem dX27_make_204 : decode cX27_make 204 = .ok (.sastore, 1) := dk_86 (dk_at dksX27_make_8 18 rfl rfl)
theorem dX27_make_205 : decode cX27_make 205 = .ok (.aload_n 0, 1) := dk_42 (dk_at dksX27_make_8 19 rfl rfl)
theorem dX27_make_206 : decode cX27_make 206 = .ok (.getfield 26, 3) := dk_180 0 26 (dk_at dksX27_make_8 20 rfl rfl)
theorem dX27_make_209 : decode cX27_make 209 = .ok (.iload 6, 2) := dk_21 6 (dk_at dksX27_make_9 0 rfl rfl)
theorem dX27_make_211 : decode cX27_make 211 = .ok (.aload_n 0, 1) := dk_42 (dk_at dksX27_make_9 2 rfl rfl)
theorem dX27_make_212 : decode cX27_make 212 = .ok (.iload_n 1, 1) := dk_27 (dk_at dksX27_make_9 3 rfl rfl)
theorem dX27_make_213 : decode cX27_make 213 = .ok (.iload_n 2, 1) := dk_28 (dk_at dksX27_make_9 4 rfl rfl)
theorem dX27_make_214 : decode cX27_make 214 = .ok (.iload_n 3, 1) := dk_29 (dk_at dksX27_make_9 5 rfl rfl)
theorem dX27_make_215 : decode cX27_make 215 = .ok (.invokevirtual 47, 3) := dk_182 0 47 (dk_at dksX27_make_9 6 rfl rfl)
theorem dX27_make_218 : decode cX27_make 218 = .ok (.i2b, 1) := dk_145 (dk_at dksX27_make_9 9 rfl rfl)
theorem dX27_make_219 : decode cX27_make 219 = .ok (.bastore, 1) := dk_84 (dk_at dksX27_make_9 10 rfl rfl)
theorem dX27_make_220 : decode cX27_make 220 = .ok (.aload_n 0, 1) := dk_42 (dk_at dksX27_make_9 11 rfl rfl)
theorem dX27_make_221 : decode cX27_make 221 = .ok (.getfield 29, 3) := dk_180 0 29 (dk_at dksX27_make_9 12 rfl rfl)
theorem dX27_make_224 : decode cX27_make 224 = .ok (.iload 6, 2) := dk_21 6 (dk_at dksX27_make_9 15 rfl rfl)
theorem dX27_make_226 : decode cX27_make 226 = .ok (.aload_n 0, 1) := dk_42 (dk_at dksX27_make_9 17 rfl rfl)
theorem dX27_make_227 : decode cX27_make 227 = .ok (.getfield 32, 3) := dk_180 0 32 (dk_at dksX27_make_9 18 rfl rfl)
theorem dX27_make_230 : decode cX27_make 230 = .ok (.iload 5, 2) := dk_21 5 (dk_at dksX27_make_9 21 rfl rfl)
theorem dX27_make_232 : decode cX27_make 232 = .ok (.iaload, 1) := dk_46 (dk_at dksX27_make_9 23 rfl rfl)
theorem dX27_make_233 : decode cX27_make 233 = .ok (.iastore, 1) := dk_79 (dk_at dksX27_make_10 0 rfl rfl)
theorem dX27_make_234 : decode cX27_make 234 = .ok (.aload_n 0, 1) := dk_42 (dk_at dksX27_make_10 1 rfl rfl)
theorem dX27_make_235 : decode cX27_make 235 = .ok (.getfield 32, 3) := dk_180 0 32 (dk_at dksX27_make_10 2 rfl rfl)
theorem dX27_make_238 : decode cX27_make 238 = .ok (.iload 5, 2) := dk_21 5 (dk_at dksX27_make_10 5 rfl rfl)
theorem dX27_make_240 : decode cX27_make 240 = .ok (.iload 6, 2) := dk_21 6 (dk_at dksX27_make_10 7 rfl rfl)
theorem dX27_make_242 : decode cX27_make 242 = .ok (.iastore, 1) := dk_79 (dk_at dksX27_make_10 9 rfl rfl)
theorem dX27_make_243 : decode cX27_make 243 = .ok (.iload 6, 2) := dk_21 6 (dk_at dksX27_make_10 10 rfl rfl)
theorem dX27_make_245 : decode cX27_make 245 = .ok (.ireturn, 1) := dk_172 (dk_at dksX27_make_10 12 rfl rfl)
abbrev cX27_marksOf : ByteArray := prog_30_method_3_code
def yX27_marksOf : MethodName := ⟨RX27, "marksOf", "(III)I"⟩
def dkwX27_marksOf_7 : List UInt8 := [51, 5, 126, 158, 0, 7, 7, 167, 0, 4, 3, 172, 16, 7, 172]
abbrev dktX27_marksOf_7 : List UInt8 := dkwX27_marksOf_7 ++ []
def dkwX27_marksOf_6 : List UInt8 := [172, 42, 180, 0, 26, 29, 51, 5, 126, 158, 0, 8, 16, 6, 167, 0, 4, 3, 172, 42, 180, 0, 26, 29]
abbrev dktX27_marksOf_6 : List UInt8 := dkwX27_marksOf_6 ++ dktX27_marksOf_7
def dkwX27_marksOf_5 : List UInt8 := [180, 0, 26, 29, 51, 126, 172, 42, 180, 0, 26, 28, 51, 5, 126, 158, 0, 8, 16, 6, 167, 0, 4, 3]
abbrev dktX27_marksOf_5 : List UInt8 := dkwX27_marksOf_5 ++ dktX27_marksOf_6
def dkwX27_marksOf_4 : List UInt8 := [21, 4, 21, 4, 5, 126, 158, 0, 7, 7, 167, 0, 4, 3, 128, 172, 42, 180, 0, 26, 28, 51, 42]
abbrev dktX27_marksOf_4 : List UInt8 := dkwX27_marksOf_4 ++ dktX27_marksOf_5
def dkwX27_marksOf_3 : List UInt8 := [167, 0, 4, 3, 128, 172, 42, 180, 0, 26, 28, 51, 42, 180, 0, 26, 29, 51, 126, 6, 126, 54, 4]
abbrev dktX27_marksOf_3 : List UInt8 := dkwX27_marksOf_3 ++ dktX27_marksOf_4
def dkwX27_marksOf_2 : List UInt8 := [3, 172, 42, 180, 0, 26, 28, 51, 6, 126, 42, 180, 0, 26, 28, 51, 5, 126, 158, 0, 7, 7]
abbrev dktX27_marksOf_2 : List UInt8 := dkwX27_marksOf_2 ++ dktX27_marksOf_3
def dkwX27_marksOf_1 : List UInt8 := [170, 0, 0, 0, 0, 0, 183, 0, 0, 0, 9, 0, 0, 0, 18, 0, 0, 0, 55, 0, 0, 0, 57, 0, 0, 0, 130, 0, 0, 0, 130, 0, 0, 0, 55, 0, 0, 0, 83, 0, 0, 0, 148, 0, 0, 0, 166, 0, 0, 0, 55, 0, 0, 0, 116]
abbrev dktX27_marksOf_1 : List UInt8 := dkwX27_marksOf_1 ++ dktX27_marksOf_2
def dkwX27_marksOf_0 : List UInt8 := [27]
abbrev dktX27_marksOf_0 : List UInt8 := dkwX27_marksOf_0 ++ dktX27_marksOf_1
theorem dksX27_marksOf_0 : cX27_marksOf.data.toList.drop 0 = dktX27_marksOf_0 := by decide +kernel
theorem dksX27_marksOf_1 : cX27_marksOf.data.toList.drop 1 = dktX27_marksOf_1 := dk_seg dksX27_marksOf_0 1 rfl rfl
theorem dksX27_marksOf_2 : cX27_marksOf.data.toList.drop 56 = dktX27_marksOf_2 := dk_seg dksX27_marksOf_1 55 rfl rfl
theorem dksX27_marksOf_3 : cX27_marksOf.data.toList.drop 78 = dktX27_marksOf_3 := dk_seg dksX27_marksOf_2 22 rfl rfl
theorem dksX27_marksOf_4 : cX27_marksOf.data.toList.drop 101 = dktX27_marksOf_4 := dk_seg dksX27_marksOf_3 23 rfl rfl
theorem dksX27_marksOf_5 : cX27_marksOf.data.toList.drop 124 = dktX27_marksOf_5 := dk_seg dksX27_marksOf_4 23 rfl rfl
theorem dksX27_marksOf_6 : cX27_marksOf.data.toList.drop 148 = dktX27_marksOf_6 := dk_seg dksX27_marksOf_5 24 rfl rfl
theorem dksX27_marksOf_7 : cX27_marksOf.data.toList.drop 172 = dktX27_marksOf_7 := dk_seg dksX27_marksOf_6 24 rfl rfl
theorem dX27_marksOf_0 : decode cX27_marksOf 0 = .ok (.iload_n 1, 1) := dk_27 (dk_at dksX27_marksOf_0 0 rfl rfl)
theorem dX27_marksOf_1 : decode cX27_marksOf 1 = .ok (.tableswitch 183 9 18 #[55, 57, 130, 130, 55, 83, 148, 166, 55, 116], 55) := by decide +kernel
theorem dX27_marksOf_56 : decode cX27_marksOf 56 = .ok (.iconst 0, 1) := dk_3 (dk_at dksX27_marksOf_2 0 rfl rfl)
theorem dX27_marksOf_57 : decode cX27_marksOf 57 = .ok (.ireturn, 1) := dk_172 (dk_at dksX27_marksOf_2 1 rfl rfl)
theorem dX27_marksOf_58 : decode cX27_marksOf 58 = .ok (.aload_n 0, 1) := dk_42 (dk_at dksX27_marksOf_2 2 rfl rfl)
theorem dX27_marksOf_59 : decode cX27_marksOf 59 = .ok (.getfield 26, 3) := dk_180 0 26 (dk_at dksX27_marksOf_2 3 rfl rfl)
theorem dX27_marksOf_62 : decode cX27_marksOf 62 = .ok (.iload_n 2, 1) := dk_28 (dk_at dksX27_marksOf_2 6 rfl rfl)
theorem dX27_marksOf_63 : decode cX27_marksOf 63 = .ok (.baload, 1) := dk_51 (dk_at dksX27_marksOf_2 7 rfl rfl)
theorem dX27_marksOf_64 : decode cX27_marksOf 64 = .ok (.iconst 3, 1) := dk_6 (dk_at dksX27_marksOf_2 8 rfl rfl)
theorem dX27_marksOf_65 : decode cX27_marksOf 65 = .ok (.iand, 1) := dk_126 (dk_at dksX27_marksOf_2 9 rfl rfl)
theorem dX27_marksOf_66 : decode cX27_marksOf 66 = .ok (.aload_n 0, 1) := dk_42 (dk_at dksX27_marksOf_2 10 rfl rfl)
theorem dX27_marksOf_67 : decode cX27_marksOf 67 = .ok (.getfield 26, 3) := dk_180 0 26 (dk_at dksX27_marksOf_2 11 rfl rfl)
theorem dX27_marksOf_70 : decode cX27_marksOf 70 = .ok (.iload_n 2, 1) := dk_28 (dk_at dksX27_marksOf_2 14 rfl rfl)
theorem dX27_marksOf_71 : decode cX27_marksOf 71 = .ok (.baload, 1) := dk_51 (dk_at dksX27_marksOf_2 15 rfl rfl)
theorem dX27_marksOf_72 : decode cX27_marksOf 72 = .ok (.iconst 2, 1) := dk_5 (dk_at dksX27_marksOf_2 16 rfl rfl)
theorem dX27_marksOf_73 : decode cX27_marksOf 73 = .ok (.iand, 1) := dk_126 (dk_at dksX27_marksOf_2 17 rfl rfl)
theorem dX27_marksOf_74 : decode cX27_marksOf 74 = .ok (.ifCond .le 7, 3) := dk_158 0 7 (dk_at dksX27_marksOf_2 18 rfl rfl)
theorem dX27_marksOf_77 : decode cX27_marksOf 77 = .ok (.iconst 4, 1) := dk_7 (dk_at dksX27_marksOf_2 21 rfl rfl)
theorem dX27_marksOf_78 : decode cX27_marksOf 78 = .ok (.goto 4, 3) := dk_167 0 4 (dk_at dksX27_marksOf_3 0 rfl rfl)
theorem dX27_marksOf_81 : decode cX27_marksOf 81 = .ok (.iconst 0, 1) := dk_3 (dk_at dksX27_marksOf_3 3 rfl rfl)
theorem dX27_marksOf_82 : decode cX27_marksOf 82 = .ok (.ior, 1) := dk_128 (dk_at dksX27_marksOf_3 4 rfl rfl)
theorem dX27_marksOf_83 : decode cX27_marksOf 83 = .ok (.ireturn, 1) := dk_172 (dk_at dksX27_marksOf_3 5 rfl rfl)
theorem dX27_marksOf_84 : decode cX27_marksOf 84 = .ok (.aload_n 0, 1) := dk_42 (dk_at dksX27_marksOf_3 6 rfl rfl)
theorem dX27_marksOf_85 : decode cX27_marksOf 85 = .ok (.getfield 26, 3) := dk_180 0 26 (dk_at dksX27_marksOf_3 7 rfl rfl)
theorem dX27_marksOf_88 : decode cX27_marksOf 88 = .ok (.iload_n 2, 1) := dk_28 (dk_at dksX27_marksOf_3 10 rfl rfl)
theorem dX27_marksOf_89 : decode cX27_marksOf 89 = .ok (.baload, 1) := dk_51 (dk_at dksX27_marksOf_3 11 rfl rfl)
theorem dX27_marksOf_90 : decode cX27_marksOf 90 = .ok (.aload_n 0, 1) := dk_42 (dk_at dksX27_marksOf_3 12 rfl rfl)
theorem dX27_marksOf_91 : decode cX27_marksOf 91 = .ok (.getfield 26, 3) := dk_180 0 26 (dk_at dksX27_marksOf_3 13 rfl rfl)
theorem dX27_marksOf_94 : decode cX27_marksOf 94 = .ok (.iload_n 3, 1) := dk_29 (dk_at dksX27_marksOf_3 16 rfl rfl)
theorem dX27_marksOf_95 : decode cX27_marksOf 95 = .ok (.baload, 1) := dk_51 (dk_at dksX27_marksOf_3 17 rfl rfl)
theorem dX27_marksOf_96 : decode cX27_marksOf 96 = .ok (.iand, 1) := dk_126 (dk_at dksX27_marksOf_3 18 rfl rfl)
theorem dX27_marksOf_97 : decode cX27_marksOf 97 = .ok (.iconst 3, 1) := dk_6 (dk_at dksX27_marksOf_3 19 rfl rfl)
theorem dX27_marksOf_98 : decode cX27_marksOf 98 = .ok (.iand, 1) := dk_126 (dk_at dksX27_marksOf_3 20 rfl rfl)
theorem dX27_marksOf_99 : decode cX27_marksOf 99 = .ok (.istore 4, 2) := dk_54 4 (dk_at dksX27_marksOf_3 21 rfl rfl)
theorem dX27_marksOf_101 : decode cX27_marksOf 101 = .ok (.iload 4, 2) := dk_21 4 (dk_at dksX27_marksOf_4 0 rfl rfl)
theorem dX27_marksOf_103 : decode cX27_marksOf 103 = .ok (.iload 4, 2) := dk_21 4 (dk_at dksX27_marksOf_4 2 rfl rfl)
theorem dX27_marksOf_105 : decode cX27_marksOf 105 = .ok (.iconst 2, 1) := dk_5 (dk_at dksX27_marksOf_4 4 rfl rfl)
theorem dX27_marksOf_106 : decode cX27_marksOf 106 = .ok (.iand, 1) := dk_126 (dk_at dksX27_marksOf_4 5 rfl rfl)
theorem dX27_marksOf_107 : decode cX27_marksOf 107 = .ok (.ifCond .le 7, 3) := dk_158 0 7 (dk_at dksX27_marksOf_4 6 rfl rfl)
theorem dX27_marksOf_110 : decode cX27_marksOf 110 = .ok (.iconst 4, 1) := dk_7 (dk_at dksX27_marksOf_4 9 rfl rfl)
theorem dX27_marksOf_111 : decode cX27_marksOf 111 = .ok (.goto 4, 3) := dk_167 0 4 (dk_at dksX27_marksOf_4 10 rfl rfl)
theorem dX27_marksOf_114 : decode cX27_marksOf 114 = .ok (.iconst 0, 1) := dk_3 (dk_at dksX27_marksOf_4 13 rfl rfl)
theorem dX27_marksOf_115 : decode cX27_marksOf 115 = .ok (.ior, 1) := dk_128 (dk_at dksX27_marksOf_4 14 rfl rfl)
theorem dX27_marksOf_116 : decode cX27_marksOf 116 = .ok (.ireturn, 1) := dk_172 (dk_at dksX27_marksOf_4 15 rfl rfl)
theorem dX27_marksOf_117 : decode cX27_marksOf 117 = .ok (.aload_n 0, 1) := dk_42 (dk_at dksX27_marksOf_4 16 rfl rfl)
theorem dX27_marksOf_118 : decode cX27_marksOf 118 = .ok (.getfield 26, 3) := dk_180 0 26 (dk_at dksX27_marksOf_4 17 rfl rfl)
theorem dX27_marksOf_121 : decode cX27_marksOf 121 = .ok (.iload_n 2, 1) := dk_28 (dk_at dksX27_marksOf_4 20 rfl rfl)
theorem dX27_marksOf_122 : decode cX27_marksOf 122 = .ok (.baload, 1) := dk_51 (dk_at dksX27_marksOf_4 21 rfl rfl)
theorem dX27_marksOf_123 : decode cX27_marksOf 123 = .ok (.aload_n 0, 1) := dk_42 (dk_at dksX27_marksOf_4 22 rfl rfl)
theorem dX27_marksOf_124 : decode cX27_marksOf 124 = .ok (.getfield 26, 3) := dk_180 0 26 (dk_at dksX27_marksOf_5 0 rfl rfl)
theorem dX27_marksOf_127 : decode cX27_marksOf 127 = .ok (.iload_n 3, 1) := dk_29 (dk_at dksX27_marksOf_5 3 rfl rfl)
theorem dX27_marksOf_128 : decode cX27_marksOf 128 = .ok (.baload, 1) := dk_51 (dk_at dksX27_marksOf_5 4 rfl rfl)
theorem dX27_marksOf_129 : decode cX27_marksOf 129 = .ok (.iand, 1) := dk_126 (dk_at dksX27_marksOf_5 5 rfl rfl)
theorem dX27_marksOf_130 : decode cX27_marksOf 130 = .ok (.ireturn, 1) := dk_172 (dk_at dksX27_marksOf_5 6 rfl rfl)
theorem dX27_marksOf_131 : decode cX27_marksOf 131 = .ok (.aload_n 0, 1) := dk_42 (dk_at dksX27_marksOf_5 7 rfl rfl)
theorem dX27_marksOf_132 : decode cX27_marksOf 132 = .ok (.getfield 26, 3) := dk_180 0 26 (dk_at dksX27_marksOf_5 8 rfl rfl)
theorem dX27_marksOf_135 : decode cX27_marksOf 135 = .ok (.iload_n 2, 1) := dk_28 (dk_at dksX27_marksOf_5 11 rfl rfl)
theorem dX27_marksOf_136 : decode cX27_marksOf 136 = .ok (.baload, 1) := dk_51 (dk_at dksX27_marksOf_5 12 rfl rfl)
theorem dX27_marksOf_137 : decode cX27_marksOf 137 = .ok (.iconst 2, 1) := dk_5 (dk_at dksX27_marksOf_5 13 rfl rfl)
theorem dX27_marksOf_138 : decode cX27_marksOf 138 = .ok (.iand, 1) := dk_126 (dk_at dksX27_marksOf_5 14 rfl rfl)
theorem dX27_marksOf_139 : decode cX27_marksOf 139 = .ok (.ifCond .le 8, 3) := dk_158 0 8 (dk_at dksX27_marksOf_5 15 rfl rfl)
theorem dX27_marksOf_142 : decode cX27_marksOf 142 = .ok (.bipush 6, 2) := dk_16 6 (dk_at dksX27_marksOf_5 18 rfl rfl)
theorem dX27_marksOf_144 : decode cX27_marksOf 144 = .ok (.goto 4, 3) := dk_167 0 4 (dk_at dksX27_marksOf_5 20 rfl rfl)
theorem dX27_marksOf_147 : decode cX27_marksOf 147 = .ok (.iconst 0, 1) := dk_3 (dk_at dksX27_marksOf_5 23 rfl rfl)
theorem dX27_marksOf_148 : decode cX27_marksOf 148 = .ok (.ireturn, 1) := dk_172 (dk_at dksX27_marksOf_6 0 rfl rfl)
theorem dX27_marksOf_149 : decode cX27_marksOf 149 = .ok (.aload_n 0, 1) := dk_42 (dk_at dksX27_marksOf_6 1 rfl rfl)
theorem dX27_marksOf_150 : decode cX27_marksOf 150 = .ok (.getfield 26, 3) := dk_180 0 26 (dk_at dksX27_marksOf_6 2 rfl rfl)
theorem dX27_marksOf_153 : decode cX27_marksOf 153 = .ok (.iload_n 3, 1) := dk_29 (dk_at dksX27_marksOf_6 5 rfl rfl)
theorem dX27_marksOf_154 : decode cX27_marksOf 154 = .ok (.baload, 1) := dk_51 (dk_at dksX27_marksOf_6 6 rfl rfl)
theorem dX27_marksOf_155 : decode cX27_marksOf 155 = .ok (.iconst 2, 1) := dk_5 (dk_at dksX27_marksOf_6 7 rfl rfl)
theorem dX27_marksOf_156 : decode cX27_marksOf 156 = .ok (.iand, 1) := dk_126 (dk_at dksX27_marksOf_6 8 rfl rfl)
theorem dX27_marksOf_157 : decode cX27_marksOf 157 = .ok (.ifCond .le 8, 3) := dk_158 0 8 (dk_at dksX27_marksOf_6 9 rfl rfl)
theorem dX27_marksOf_160 : decode cX27_marksOf 160 = .ok (.bipush 6, 2) := dk_16 6 (dk_at dksX27_marksOf_6 12 rfl rfl)
theorem dX27_marksOf_162 : decode cX27_marksOf 162 = .ok (.goto 4, 3) := dk_167 0 4 (dk_at dksX27_marksOf_6 14 rfl rfl)
theorem dX27_marksOf_165 : decode cX27_marksOf 165 = .ok (.iconst 0, 1) := dk_3 (dk_at dksX27_marksOf_6 17 rfl rfl)
theorem dX27_marksOf_166 : decode cX27_marksOf 166 = .ok (.ireturn, 1) := dk_172 (dk_at dksX27_marksOf_6 18 rfl rfl)
theorem dX27_marksOf_167 : decode cX27_marksOf 167 = .ok (.aload_n 0, 1) := dk_42 (dk_at dksX27_marksOf_6 19 rfl rfl)
theorem dX27_marksOf_168 : decode cX27_marksOf 168 = .ok (.getfield 26, 3) := dk_180 0 26 (dk_at dksX27_marksOf_6 20 rfl rfl)
theorem dX27_marksOf_171 : decode cX27_marksOf 171 = .ok (.iload_n 3, 1) := dk_29 (dk_at dksX27_marksOf_6 23 rfl rfl)
theorem dX27_marksOf_172 : decode cX27_marksOf 172 = .ok (.baload, 1) := dk_51 (dk_at dksX27_marksOf_7 0 rfl rfl)
theorem dX27_marksOf_173 : decode cX27_marksOf 173 = .ok (.iconst 2, 1) := dk_5 (dk_at dksX27_marksOf_7 1 rfl rfl)
theorem dX27_marksOf_174 : decode cX27_marksOf 174 = .ok (.iand, 1) := dk_126 (dk_at dksX27_marksOf_7 2 rfl rfl)
theorem dX27_marksOf_175 : decode cX27_marksOf 175 = .ok (.ifCond .le 7, 3) := dk_158 0 7 (dk_at dksX27_marksOf_7 3 rfl rfl)
theorem dX27_marksOf_178 : decode cX27_marksOf 178 = .ok (.iconst 4, 1) := dk_7 (dk_at dksX27_marksOf_7 6 rfl rfl)
theorem dX27_marksOf_179 : decode cX27_marksOf 179 = .ok (.goto 4, 3) := dk_167 0 4 (dk_at dksX27_marksOf_7 7 rfl rfl)
theorem dX27_marksOf_182 : decode cX27_marksOf 182 = .ok (.iconst 0, 1) := dk_3 (dk_at dksX27_marksOf_7 10 rfl rfl)
theorem dX27_marksOf_183 : decode cX27_marksOf 183 = .ok (.ireturn, 1) := dk_172 (dk_at dksX27_marksOf_7 11 rfl rfl)
theorem dX27_marksOf_184 : decode cX27_marksOf 184 = .ok (.bipush 7, 2) := dk_16 7 (dk_at dksX27_marksOf_7 12 rfl rfl)
theorem dX27_marksOf_186 : decode cX27_marksOf 186 = .ok (.ireturn, 1) := dk_172 (dk_at dksX27_marksOf_7 14 rfl rfl)
abbrev cX27_tell : ByteArray := prog_30_method_8_code
def yX27_tell : MethodName := ⟨RX27, "tell", "(LContractLedgerModel$Terms;I)I"⟩
def dkwX27_tell_9 : List UInt8 := [154, 0, 7, 2, 167, 0, 12, 42, 29, 21, 5, 21, 6, 182, 0, 42, 172]
abbrev dktX27_tell_9 : List UInt8 := dkwX27_tell_9 ++ []
def dkwX27_tell_8 : List UInt8 := [16, 14, 161, 0, 8, 21, 6, 155, 0, 18, 21, 7, 153, 0, 17, 42, 21, 5, 4, 182, 0, 73]
abbrev dktX27_tell_8 : List UInt8 := dkwX27_tell_8 ++ dktX27_tell_9
def dkwX27_tell_7 : List UInt8 := [16, 15, 159, 0, 9, 29, 16, 16, 160, 0, 7, 4, 167, 0, 4, 3, 54, 7, 21, 5, 155, 0, 29, 29]
abbrev dktX27_tell_7 : List UInt8 := dkwX27_tell_7 ++ dktX27_tell_8
def dkwX27_tell_6 : List UInt8 := [43, 43, 180, 0, 70, 43, 180, 0, 63, 28, 46, 46, 182, 0, 66, 54, 6, 29, 16, 12, 159, 0, 15, 29]
abbrev dktX27_tell_6 : List UInt8 := dkwX27_tell_6 ++ dktX27_tell_7
def dkwX27_tell_5 : List UInt8 := [42, 43, 43, 180, 0, 63, 28, 46, 182, 0, 66, 54, 5, 29, 16, 14, 162, 0, 7, 2, 167, 0, 19, 42]
abbrev dktX27_tell_5 : List UInt8 := dkwX27_tell_5 ++ dktX27_tell_6
def dkwX27_tell_4 : List UInt8 := [21, 4, 182, 0, 59, 172, 21, 4, 29, 16, 14, 162, 0, 7, 4, 167, 0, 4, 5, 159, 0, 5, 2, 172]
abbrev dktX27_tell_4 : List UInt8 := dkwX27_tell_4 ++ dktX27_tell_5
def dkwX27_tell_3 : List UInt8 := [160, 0, 29, 21, 4, 5, 161, 0, 10, 21, 4, 16, 100, 164, 0, 7, 2, 167, 0, 11, 42, 43, 28]
abbrev dktX27_tell_3 : List UInt8 := dkwX27_tell_3 ++ dktX27_tell_4
def dkwX27_tell_2 : List UInt8 := [46, 54, 4, 29, 16, 10, 162, 0, 14, 21, 4, 154, 0, 7, 29, 167, 0, 4, 2, 172, 29, 16, 18]
abbrev dktX27_tell_2 : List UInt8 := dkwX27_tell_2 ++ dktX27_tell_3
def dkwX27_tell_1 : List UInt8 := [180, 0, 53, 28, 46, 16, 18, 164, 0, 5, 2, 172, 43, 180, 0, 53, 28, 46, 62, 43, 180, 0, 56, 28]
abbrev dktX27_tell_1 : List UInt8 := dkwX27_tell_1 ++ dktX27_tell_2
def dkwX27_tell_0 : List UInt8 := [28, 155, 0, 33, 43, 180, 0, 50, 28, 51, 8, 160, 0, 23, 43, 180, 0, 53, 28, 46, 155, 0, 14, 43]
abbrev dktX27_tell_0 : List UInt8 := dkwX27_tell_0 ++ dktX27_tell_1
theorem dksX27_tell_0 : cX27_tell.data.toList.drop 0 = dktX27_tell_0 := by decide +kernel
theorem dksX27_tell_1 : cX27_tell.data.toList.drop 24 = dktX27_tell_1 := dk_seg dksX27_tell_0 24 rfl rfl
theorem dksX27_tell_2 : cX27_tell.data.toList.drop 48 = dktX27_tell_2 := dk_seg dksX27_tell_1 24 rfl rfl
theorem dksX27_tell_3 : cX27_tell.data.toList.drop 71 = dktX27_tell_3 := dk_seg dksX27_tell_2 23 rfl rfl
theorem dksX27_tell_4 : cX27_tell.data.toList.drop 94 = dktX27_tell_4 := dk_seg dksX27_tell_3 23 rfl rfl
theorem dksX27_tell_5 : cX27_tell.data.toList.drop 118 = dktX27_tell_5 := dk_seg dksX27_tell_4 24 rfl rfl
theorem dksX27_tell_6 : cX27_tell.data.toList.drop 142 = dktX27_tell_6 := dk_seg dksX27_tell_5 24 rfl rfl
theorem dksX27_tell_7 : cX27_tell.data.toList.drop 166 = dktX27_tell_7 := dk_seg dksX27_tell_6 24 rfl rfl
theorem dksX27_tell_8 : cX27_tell.data.toList.drop 190 = dktX27_tell_8 := dk_seg dksX27_tell_7 24 rfl rfl
theorem dksX27_tell_9 : cX27_tell.data.toList.drop 212 = dktX27_tell_9 := dk_seg dksX27_tell_8 22 rfl rfl
theorem dX27_tell_0 : decode cX27_tell 0 = .ok (.iload_n 2, 1) := dk_28 (dk_at dksX27_tell_0 0 rfl rfl)
theorem dX27_tell_1 : decode cX27_tell 1 = .ok (.ifCond .lt 33, 3) := dk_155 0 33 (dk_at dksX27_tell_0 1 rfl rfl)
theorem dX27_tell_4 : decode cX27_tell 4 = .ok (.aload_n 1, 1) := dk_43 (dk_at dksX27_tell_0 4 rfl rfl)
theorem dX27_tell_5 : decode cX27_tell 5 = .ok (.getfield 50, 3) := dk_180 0 50 (dk_at dksX27_tell_0 5 rfl rfl)
theorem dX27_tell_8 : decode cX27_tell 8 = .ok (.iload_n 2, 1) := dk_28 (dk_at dksX27_tell_0 8 rfl rfl)
theorem dX27_tell_9 : decode cX27_tell 9 = .ok (.baload, 1) := dk_51 (dk_at dksX27_tell_0 9 rfl rfl)
theorem dX27_tell_10 : decode cX27_tell 10 = .ok (.iconst 5, 1) := dk_8 (dk_at dksX27_tell_0 10 rfl rfl)
theorem dX27_tell_11 : decode cX27_tell 11 = .ok (.if_icmp .ne 23, 3) := dk_160 0 23 (dk_at dksX27_tell_0 11 rfl rfl)
theorem dX27_tell_14 : decode cX27_tell 14 = .ok (.aload_n 1, 1) := dk_43 (dk_at dksX27_tell_0 14 rfl rfl)
theorem dX27_tell_15 : decode cX27_tell 15 = .ok (.getfield 53, 3) := dk_180 0 53 (dk_at dksX27_tell_0 15 rfl rfl)
theorem dX27_tell_18 : decode cX27_tell 18 = .ok (.iload_n 2, 1) := dk_28 (dk_at dksX27_tell_0 18 rfl rfl)
theorem dX27_tell_19 : decode cX27_tell 19 = .ok (.iaload, 1) := dk_46 (dk_at dksX27_tell_0 19 rfl rfl)
theorem dX27_tell_20 : decode cX27_tell 20 = .ok (.ifCond .lt 14, 3) := dk_155 0 14 (dk_at dksX27_tell_0 20 rfl rfl)
theorem dX27_tell_23 : decode cX27_tell 23 = .ok (.aload_n 1, 1) := dk_43 (dk_at dksX27_tell_0 23 rfl rfl)
theorem dX27_tell_24 : decode cX27_tell 24 = .ok (.getfield 53, 3) := dk_180 0 53 (dk_at dksX27_tell_1 0 rfl rfl)
theorem dX27_tell_27 : decode cX27_tell 27 = .ok (.iload_n 2, 1) := dk_28 (dk_at dksX27_tell_1 3 rfl rfl)
theorem dX27_tell_28 : decode cX27_tell 28 = .ok (.iaload, 1) := dk_46 (dk_at dksX27_tell_1 4 rfl rfl)
theorem dX27_tell_29 : decode cX27_tell 29 = .ok (.bipush 18, 2) := dk_16 18 (dk_at dksX27_tell_1 5 rfl rfl)
theorem dX27_tell_31 : decode cX27_tell 31 = .ok (.if_icmp .le 5, 3) := dk_164 0 5 (dk_at dksX27_tell_1 7 rfl rfl)
theorem dX27_tell_34 : decode cX27_tell 34 = .ok (.iconst (-1), 1) := dk_2 (dk_at dksX27_tell_1 10 rfl rfl)
theorem dX27_tell_35 : decode cX27_tell 35 = .ok (.ireturn, 1) := dk_172 (dk_at dksX27_tell_1 11 rfl rfl)
theorem dX27_tell_36 : decode cX27_tell 36 = .ok (.aload_n 1, 1) := dk_43 (dk_at dksX27_tell_1 12 rfl rfl)
theorem dX27_tell_37 : decode cX27_tell 37 = .ok (.getfield 53, 3) := dk_180 0 53 (dk_at dksX27_tell_1 13 rfl rfl)
theorem dX27_tell_40 : decode cX27_tell 40 = .ok (.iload_n 2, 1) := dk_28 (dk_at dksX27_tell_1 16 rfl rfl)
theorem dX27_tell_41 : decode cX27_tell 41 = .ok (.iaload, 1) := dk_46 (dk_at dksX27_tell_1 17 rfl rfl)
theorem dX27_tell_42 : decode cX27_tell 42 = .ok (.istore_n 3, 1) := dk_62 (dk_at dksX27_tell_1 18 rfl rfl)
theorem dX27_tell_43 : decode cX27_tell 43 = .ok (.aload_n 1, 1) := dk_43 (dk_at dksX27_tell_1 19 rfl rfl)
theorem dX27_tell_44 : decode cX27_tell 44 = .ok (.getfield 56, 3) := dk_180 0 56 (dk_at dksX27_tell_1 20 rfl rfl)
theorem dX27_tell_47 : decode cX27_tell 47 = .ok (.iload_n 2, 1) := dk_28 (dk_at dksX27_tell_1 23 rfl rfl)
theorem dX27_tell_48 : decode cX27_tell 48 = .ok (.iaload, 1) := dk_46 (dk_at dksX27_tell_2 0 rfl rfl)
theorem dX27_tell_49 : decode cX27_tell 49 = .ok (.istore 4, 2) := dk_54 4 (dk_at dksX27_tell_2 1 rfl rfl)
theorem dX27_tell_51 : decode cX27_tell 51 = .ok (.iload_n 3, 1) := dk_29 (dk_at dksX27_tell_2 3 rfl rfl)
theorem dX27_tell_52 : decode cX27_tell 52 = .ok (.bipush 10, 2) := dk_16 10 (dk_at dksX27_tell_2 4 rfl rfl)
theorem dX27_tell_54 : decode cX27_tell 54 = .ok (.if_icmp .ge 14, 3) := dk_162 0 14 (dk_at dksX27_tell_2 6 rfl rfl)
theorem dX27_tell_57 : decode cX27_tell 57 = .ok (.iload 4, 2) := dk_21 4 (dk_at dksX27_tell_2 9 rfl rfl)
theorem dX27_tell_59 : decode cX27_tell 59 = .ok (.ifCond .ne 7, 3) := dk_154 0 7 (dk_at dksX27_tell_2 11 rfl rfl)
theorem dX27_tell_62 : decode cX27_tell 62 = .ok (.iload_n 3, 1) := dk_29 (dk_at dksX27_tell_2 14 rfl rfl)
theorem dX27_tell_63 : decode cX27_tell 63 = .ok (.goto 4, 3) := dk_167 0 4 (dk_at dksX27_tell_2 15 rfl rfl)
theorem dX27_tell_66 : decode cX27_tell 66 = .ok (.iconst (-1), 1) := dk_2 (dk_at dksX27_tell_2 18 rfl rfl)
theorem dX27_tell_67 : decode cX27_tell 67 = .ok (.ireturn, 1) := dk_172 (dk_at dksX27_tell_2 19 rfl rfl)
theorem dX27_tell_68 : decode cX27_tell 68 = .ok (.iload_n 3, 1) := dk_29 (dk_at dksX27_tell_2 20 rfl rfl)
theorem dX27_tell_69 : decode cX27_tell 69 = .ok (.bipush 18, 2) := dk_16 18 (dk_at dksX27_tell_2 21 rfl rfl)
theorem dX27_tell_71 : decode cX27_tell 71 = .ok (.if_icmp .ne 29, 3) := dk_160 0 29 (dk_at dksX27_tell_3 0 rfl rfl)
theorem dX27_tell_74 : decode cX27_tell 74 = .ok (.iload 4, 2) := dk_21 4 (dk_at dksX27_tell_3 3 rfl rfl)
theorem dX27_tell_76 : decode cX27_tell 76 = .ok (.iconst 2, 1) := dk_5 (dk_at dksX27_tell_3 5 rfl rfl)
theorem dX27_tell_77 : decode cX27_tell 77 = .ok (.if_icmp .lt 10, 3) := dk_161 0 10 (dk_at dksX27_tell_3 6 rfl rfl)
theorem dX27_tell_80 : decode cX27_tell 80 = .ok (.iload 4, 2) := dk_21 4 (dk_at dksX27_tell_3 9 rfl rfl)
theorem dX27_tell_82 : decode cX27_tell 82 = .ok (.bipush 100, 2) := dk_16 100 (dk_at dksX27_tell_3 11 rfl rfl)
theorem dX27_tell_84 : decode cX27_tell 84 = .ok (.if_icmp .le 7, 3) := dk_164 0 7 (dk_at dksX27_tell_3 13 rfl rfl)
theorem dX27_tell_87 : decode cX27_tell 87 = .ok (.iconst (-1), 1) := dk_2 (dk_at dksX27_tell_3 16 rfl rfl)
theorem dX27_tell_88 : decode cX27_tell 88 = .ok (.goto 11, 3) := dk_167 0 11 (dk_at dksX27_tell_3 17 rfl rfl)
theorem dX27_tell_91 : decode cX27_tell 91 = .ok (.aload_n 0, 1) := dk_42 (dk_at dksX27_tell_3 20 rfl rfl)
theorem dX27_tell_92 : decode cX27_tell 92 = .ok (.aload_n 1, 1) := dk_43 (dk_at dksX27_tell_3 21 rfl rfl)
theorem dX27_tell_93 : decode cX27_tell 93 = .ok (.iload_n 2, 1) := dk_28 (dk_at dksX27_tell_3 22 rfl rfl)
theorem dX27_tell_94 : decode cX27_tell 94 = .ok (.iload 4, 2) := dk_21 4 (dk_at dksX27_tell_4 0 rfl rfl)
theorem dX27_tell_96 : decode cX27_tell 96 = .ok (.invokevirtual 59, 3) := dk_182 0 59 (dk_at dksX27_tell_4 2 rfl rfl)
theorem dX27_tell_99 : decode cX27_tell 99 = .ok (.ireturn, 1) := dk_172 (dk_at dksX27_tell_4 5 rfl rfl)
theorem dX27_tell_100 : decode cX27_tell 100 = .ok (.iload 4, 2) := dk_21 4 (dk_at dksX27_tell_4 6 rfl rfl)
theorem dX27_tell_102 : decode cX27_tell 102 = .ok (.iload_n 3, 1) := dk_29 (dk_at dksX27_tell_4 8 rfl rfl)
theorem dX27_tell_103 : decode cX27_tell 103 = .ok (.bipush 14, 2) := dk_16 14 (dk_at dksX27_tell_4 9 rfl rfl)
theorem dX27_tell_105 : decode cX27_tell 105 = .ok (.if_icmp .ge 7, 3) := dk_162 0 7 (dk_at dksX27_tell_4 11 rfl rfl)
theorem dX27_tell_108 : decode cX27_tell 108 = .ok (.iconst 1, 1) := dk_4 (dk_at dksX27_tell_4 14 rfl rfl)
theorem dX27_tell_109 : decode cX27_tell 109 = .ok (.goto 4, 3) := dk_167 0 4 (dk_at dksX27_tell_4 15 rfl rfl)
theorem dX27_tell_112 : decode cX27_tell 112 = .ok (.iconst 2, 1) := dk_5 (dk_at dksX27_tell_4 18 rfl rfl)
theorem dX27_tell_113 : decode cX27_tell 113 = .ok (.if_icmp .eq 5, 3) := dk_159 0 5 (dk_at dksX27_tell_4 19 rfl rfl)
theorem dX27_tell_116 : decode cX27_tell 116 = .ok (.iconst (-1), 1) := dk_2 (dk_at dksX27_tell_4 22 rfl rfl)
theorem dX27_tell_117 : decode cX27_tell 117 = .ok (.ireturn, 1) := dk_172 (dk_at dksX27_tell_4 23 rfl rfl)
theorem dX27_tell_118 : decode cX27_tell 118 = .ok (.aload_n 0, 1) := dk_42 (dk_at dksX27_tell_5 0 rfl rfl)
theorem dX27_tell_119 : decode cX27_tell 119 = .ok (.aload_n 1, 1) := dk_43 (dk_at dksX27_tell_5 1 rfl rfl)
theorem dX27_tell_120 : decode cX27_tell 120 = .ok (.aload_n 1, 1) := dk_43 (dk_at dksX27_tell_5 2 rfl rfl)
theorem dX27_tell_121 : decode cX27_tell 121 = .ok (.getfield 63, 3) := dk_180 0 63 (dk_at dksX27_tell_5 3 rfl rfl)
theorem dX27_tell_124 : decode cX27_tell 124 = .ok (.iload_n 2, 1) := dk_28 (dk_at dksX27_tell_5 6 rfl rfl)
theorem dX27_tell_125 : decode cX27_tell 125 = .ok (.iaload, 1) := dk_46 (dk_at dksX27_tell_5 7 rfl rfl)
theorem dX27_tell_126 : decode cX27_tell 126 = .ok (.invokevirtual 66, 3) := dk_182 0 66 (dk_at dksX27_tell_5 8 rfl rfl)
theorem dX27_tell_129 : decode cX27_tell 129 = .ok (.istore 5, 2) := dk_54 5 (dk_at dksX27_tell_5 11 rfl rfl)
theorem dX27_tell_131 : decode cX27_tell 131 = .ok (.iload_n 3, 1) := dk_29 (dk_at dksX27_tell_5 13 rfl rfl)
theorem dX27_tell_132 : decode cX27_tell 132 = .ok (.bipush 14, 2) := dk_16 14 (dk_at dksX27_tell_5 14 rfl rfl)
theorem dX27_tell_134 : decode cX27_tell 134 = .ok (.if_icmp .ge 7, 3) := dk_162 0 7 (dk_at dksX27_tell_5 16 rfl rfl)
theorem dX27_tell_137 : decode cX27_tell 137 = .ok (.iconst (-1), 1) := dk_2 (dk_at dksX27_tell_5 19 rfl rfl)
theorem dX27_tell_138 : decode cX27_tell 138 = .ok (.goto 19, 3) := dk_167 0 19 (dk_at dksX27_tell_5 20 rfl rfl)
theorem dX27_tell_141 : decode cX27_tell 141 = .ok (.aload_n 0, 1) := dk_42 (dk_at dksX27_tell_5 23 rfl rfl)
theorem dX27_tell_142 : decode cX27_tell 142 = .ok (.aload_n 1, 1) := dk_43 (dk_at dksX27_tell_6 0 rfl rfl)
theorem dX27_tell_143 : decode cX27_tell 143 = .ok (.aload_n 1, 1) := dk_43 (dk_at dksX27_tell_6 1 rfl rfl)
theorem dX27_tell_144 : decode cX27_tell 144 = .ok (.getfield 70, 3) := dk_180 0 70 (dk_at dksX27_tell_6 2 rfl rfl)
theorem dX27_tell_147 : decode cX27_tell 147 = .ok (.aload_n 1, 1) := dk_43 (dk_at dksX27_tell_6 5 rfl rfl)
theorem dX27_tell_148 : decode cX27_tell 148 = .ok (.getfield 63, 3) := dk_180 0 63 (dk_at dksX27_tell_6 6 rfl rfl)
theorem dX27_tell_151 : decode cX27_tell 151 = .ok (.iload_n 2, 1) := dk_28 (dk_at dksX27_tell_6 9 rfl rfl)
theorem dX27_tell_152 : decode cX27_tell 152 = .ok (.iaload, 1) := dk_46 (dk_at dksX27_tell_6 10 rfl rfl)
theorem dX27_tell_153 : decode cX27_tell 153 = .ok (.iaload, 1) := dk_46 (dk_at dksX27_tell_6 11 rfl rfl)
theorem dX27_tell_154 : decode cX27_tell 154 = .ok (.invokevirtual 66, 3) := dk_182 0 66 (dk_at dksX27_tell_6 12 rfl rfl)
theorem dX27_tell_157 : decode cX27_tell 157 = .ok (.istore 6, 2) := dk_54 6 (dk_at dksX27_tell_6 15 rfl rfl)
theorem dX27_tell_159 : decode cX27_tell 159 = .ok (.iload_n 3, 1) := dk_29 (dk_at dksX27_tell_6 17 rfl rfl)
theorem dX27_tell_160 : decode cX27_tell 160 = .ok (.bipush 12, 2) := dk_16 12 (dk_at dksX27_tell_6 18 rfl rfl)
theorem dX27_tell_162 : decode cX27_tell 162 = .ok (.if_icmp .eq 15, 3) := dk_159 0 15 (dk_at dksX27_tell_6 20 rfl rfl)
theorem dX27_tell_165 : decode cX27_tell 165 = .ok (.iload_n 3, 1) := dk_29 (dk_at dksX27_tell_6 23 rfl rfl)
theorem dX27_tell_166 : decode cX27_tell 166 = .ok (.bipush 15, 2) := dk_16 15 (dk_at dksX27_tell_7 0 rfl rfl)
theorem dX27_tell_168 : decode cX27_tell 168 = .ok (.if_icmp .eq 9, 3) := dk_159 0 9 (dk_at dksX27_tell_7 2 rfl rfl)
theorem dX27_tell_171 : decode cX27_tell 171 = .ok (.iload_n 3, 1) := dk_29 (dk_at dksX27_tell_7 5 rfl rfl)
theorem dX27_tell_172 : decode cX27_tell 172 = .ok (.bipush 16, 2) := dk_16 16 (dk_at dksX27_tell_7 6 rfl rfl)
theorem dX27_tell_174 : decode cX27_tell 174 = .ok (.if_icmp .ne 7, 3) := dk_160 0 7 (dk_at dksX27_tell_7 8 rfl rfl)
theorem dX27_tell_177 : decode cX27_tell 177 = .ok (.iconst 1, 1) := dk_4 (dk_at dksX27_tell_7 11 rfl rfl)
theorem dX27_tell_178 : decode cX27_tell 178 = .ok (.goto 4, 3) := dk_167 0 4 (dk_at dksX27_tell_7 12 rfl rfl)
theorem dX27_tell_181 : decode cX27_tell 181 = .ok (.iconst 0, 1) := dk_3 (dk_at dksX27_tell_7 15 rfl rfl)
theorem dX27_tell_182 : decode cX27_tell 182 = .ok (.istore 7, 2) := dk_54 7 (dk_at dksX27_tell_7 16 rfl rfl)
theorem dX27_tell_184 : decode cX27_tell 184 = .ok (.iload 5, 2) := dk_21 5 (dk_at dksX27_tell_7 18 rfl rfl)
theorem dX27_tell_186 : decode cX27_tell 186 = .ok (.ifCond .lt 29, 3) := dk_155 0 29 (dk_at dksX27_tell_7 20 rfl rfl)
theorem dX27_tell_189 : decode cX27_tell 189 = .ok (.iload_n 3, 1) := dk_29 (dk_at dksX27_tell_7 23 rfl rfl)
theorem dX27_tell_190 : decode cX27_tell 190 = .ok (.bipush 14, 2) := dk_16 14 (dk_at dksX27_tell_8 0 rfl rfl)
theorem dX27_tell_192 : decode cX27_tell 192 = .ok (.if_icmp .lt 8, 3) := dk_161 0 8 (dk_at dksX27_tell_8 2 rfl rfl)
theorem dX27_tell_195 : decode cX27_tell 195 = .ok (.iload 6, 2) := dk_21 6 (dk_at dksX27_tell_8 5 rfl rfl)
theorem dX27_tell_197 : decode cX27_tell 197 = .ok (.ifCond .lt 18, 3) := dk_155 0 18 (dk_at dksX27_tell_8 7 rfl rfl)
theorem dX27_tell_200 : decode cX27_tell 200 = .ok (.iload 7, 2) := dk_21 7 (dk_at dksX27_tell_8 10 rfl rfl)
theorem dX27_tell_202 : decode cX27_tell 202 = .ok (.ifCond .eq 17, 3) := dk_153 0 17 (dk_at dksX27_tell_8 12 rfl rfl)
theorem dX27_tell_205 : decode cX27_tell 205 = .ok (.aload_n 0, 1) := dk_42 (dk_at dksX27_tell_8 15 rfl rfl)
theorem dX27_tell_206 : decode cX27_tell 206 = .ok (.iload 5, 2) := dk_21 5 (dk_at dksX27_tell_8 16 rfl rfl)
theorem dX27_tell_208 : decode cX27_tell 208 = .ok (.iconst 1, 1) := dk_4 (dk_at dksX27_tell_8 18 rfl rfl)
theorem dX27_tell_209 : decode cX27_tell 209 = .ok (.invokevirtual 73, 3) := dk_182 0 73 (dk_at dksX27_tell_8 19 rfl rfl)
theorem dX27_tell_212 : decode cX27_tell 212 = .ok (.ifCond .ne 7, 3) := dk_154 0 7 (dk_at dksX27_tell_9 0 rfl rfl)
theorem dX27_tell_215 : decode cX27_tell 215 = .ok (.iconst (-1), 1) := dk_2 (dk_at dksX27_tell_9 3 rfl rfl)
theorem dX27_tell_216 : decode cX27_tell 216 = .ok (.goto 12, 3) := dk_167 0 12 (dk_at dksX27_tell_9 4 rfl rfl)
theorem dX27_tell_219 : decode cX27_tell 219 = .ok (.aload_n 0, 1) := dk_42 (dk_at dksX27_tell_9 7 rfl rfl)
theorem dX27_tell_220 : decode cX27_tell 220 = .ok (.iload_n 3, 1) := dk_29 (dk_at dksX27_tell_9 8 rfl rfl)
theorem dX27_tell_221 : decode cX27_tell 221 = .ok (.iload 5, 2) := dk_21 5 (dk_at dksX27_tell_9 9 rfl rfl)
theorem dX27_tell_223 : decode cX27_tell 223 = .ok (.iload 6, 2) := dk_21 6 (dk_at dksX27_tell_9 11 rfl rfl)
theorem dX27_tell_225 : decode cX27_tell 225 = .ok (.invokevirtual 42, 3) := dk_182 0 42 (dk_at dksX27_tell_9 13 rfl rfl)
theorem dX27_tell_228 : decode cX27_tell 228 = .ok (.ireturn, 1) := dk_172 (dk_at dksX27_tell_9 16 rfl rfl)
abbrev cX27_comb : ByteArray := prog_30_method_9_code
def yX27_comb : MethodName := ⟨RX27, "comb", "(LContractLedgerModel$Terms;II)I"⟩
def dkwX27_comb_3 : List UInt8 := [167, 255, 208, 21, 4, 172]
abbrev dktX27_comb_3 : List UInt8 := dkwX27_comb_3 ++ []
def dkwX27_comb_2 : List UInt8 := [156, 0, 7, 2, 167, 0, 13, 42, 16, 18, 21, 6, 21, 4, 182, 0, 42, 54, 4, 132, 5, 255]
abbrev dktX27_comb_2 : List UInt8 := dkwX27_comb_2 ++ dktX27_comb_3
def dkwX27_comb_1 : List UInt8 := [155, 0, 49, 21, 4, 155, 0, 44, 42, 43, 43, 28, 21, 5, 182, 0, 77, 182, 0, 66, 54, 6, 21, 6]
abbrev dktX27_comb_1 : List UInt8 := dkwX27_comb_1 ++ dktX27_comb_2
def dkwX27_comb_0 : List UInt8 := [42, 43, 43, 28, 29, 4, 100, 182, 0, 77, 182, 0, 66, 54, 4, 29, 5, 100, 54, 5, 21, 5]
abbrev dktX27_comb_0 : List UInt8 := dkwX27_comb_0 ++ dktX27_comb_1
theorem dksX27_comb_0 : cX27_comb.data.toList.drop 0 = dktX27_comb_0 := by decide +kernel
theorem dksX27_comb_1 : cX27_comb.data.toList.drop 22 = dktX27_comb_1 := dk_seg dksX27_comb_0 22 rfl rfl
theorem dksX27_comb_2 : cX27_comb.data.toList.drop 46 = dktX27_comb_2 := dk_seg dksX27_comb_1 24 rfl rfl
theorem dksX27_comb_3 : cX27_comb.data.toList.drop 68 = dktX27_comb_3 := dk_seg dksX27_comb_2 22 rfl rfl
theorem dX27_comb_0 : decode cX27_comb 0 = .ok (.aload_n 0, 1) := dk_42 (dk_at dksX27_comb_0 0 rfl rfl)
theorem dX27_comb_1 : decode cX27_comb 1 = .ok (.aload_n 1, 1) := dk_43 (dk_at dksX27_comb_0 1 rfl rfl)
theorem dX27_comb_2 : decode cX27_comb 2 = .ok (.aload_n 1, 1) := dk_43 (dk_at dksX27_comb_0 2 rfl rfl)
theorem dX27_comb_3 : decode cX27_comb 3 = .ok (.iload_n 2, 1) := dk_28 (dk_at dksX27_comb_0 3 rfl rfl)
theorem dX27_comb_4 : decode cX27_comb 4 = .ok (.iload_n 3, 1) := dk_29 (dk_at dksX27_comb_0 4 rfl rfl)
theorem dX27_comb_5 : decode cX27_comb 5 = .ok (.iconst 1, 1) := dk_4 (dk_at dksX27_comb_0 5 rfl rfl)
theorem dX27_comb_6 : decode cX27_comb 6 = .ok (.isub, 1) := dk_100 (dk_at dksX27_comb_0 6 rfl rfl)
theorem dX27_comb_7 : decode cX27_comb 7 = .ok (.invokevirtual 77, 3) := dk_182 0 77 (dk_at dksX27_comb_0 7 rfl rfl)
theorem dX27_comb_10 : decode cX27_comb 10 = .ok (.invokevirtual 66, 3) := dk_182 0 66 (dk_at dksX27_comb_0 10 rfl rfl)
theorem dX27_comb_13 : decode cX27_comb 13 = .ok (.istore 4, 2) := dk_54 4 (dk_at dksX27_comb_0 13 rfl rfl)
theorem dX27_comb_15 : decode cX27_comb 15 = .ok (.iload_n 3, 1) := dk_29 (dk_at dksX27_comb_0 15 rfl rfl)
theorem dX27_comb_16 : decode cX27_comb 16 = .ok (.iconst 2, 1) := dk_5 (dk_at dksX27_comb_0 16 rfl rfl)
theorem dX27_comb_17 : decode cX27_comb 17 = .ok (.isub, 1) := dk_100 (dk_at dksX27_comb_0 17 rfl rfl)
theorem dX27_comb_18 : decode cX27_comb 18 = .ok (.istore 5, 2) := dk_54 5 (dk_at dksX27_comb_0 18 rfl rfl)
theorem dX27_comb_20 : decode cX27_comb 20 = .ok (.iload 5, 2) := dk_21 5 (dk_at dksX27_comb_0 20 rfl rfl)
theorem dX27_comb_22 : decode cX27_comb 22 = .ok (.ifCond .lt 49, 3) := dk_155 0 49 (dk_at dksX27_comb_1 0 rfl rfl)
theorem dX27_comb_25 : decode cX27_comb 25 = .ok (.iload 4, 2) := dk_21 4 (dk_at dksX27_comb_1 3 rfl rfl)
theorem dX27_comb_27 : decode cX27_comb 27 = .ok (.ifCond .lt 44, 3) := dk_155 0 44 (dk_at dksX27_comb_1 5 rfl rfl)
theorem dX27_comb_30 : decode cX27_comb 30 = .ok (.aload_n 0, 1) := dk_42 (dk_at dksX27_comb_1 8 rfl rfl)
theorem dX27_comb_31 : decode cX27_comb 31 = .ok (.aload_n 1, 1) := dk_43 (dk_at dksX27_comb_1 9 rfl rfl)
theorem dX27_comb_32 : decode cX27_comb 32 = .ok (.aload_n 1, 1) := dk_43 (dk_at dksX27_comb_1 10 rfl rfl)
theorem dX27_comb_33 : decode cX27_comb 33 = .ok (.iload_n 2, 1) := dk_28 (dk_at dksX27_comb_1 11 rfl rfl)
theorem dX27_comb_34 : decode cX27_comb 34 = .ok (.iload 5, 2) := dk_21 5 (dk_at dksX27_comb_1 12 rfl rfl)
theorem dX27_comb_36 : decode cX27_comb 36 = .ok (.invokevirtual 77, 3) := dk_182 0 77 (dk_at dksX27_comb_1 14 rfl rfl)
theorem dX27_comb_39 : decode cX27_comb 39 = .ok (.invokevirtual 66, 3) := dk_182 0 66 (dk_at dksX27_comb_1 17 rfl rfl)
theorem dX27_comb_42 : decode cX27_comb 42 = .ok (.istore 6, 2) := dk_54 6 (dk_at dksX27_comb_1 20 rfl rfl)
theorem dX27_comb_44 : decode cX27_comb 44 = .ok (.iload 6, 2) := dk_21 6 (dk_at dksX27_comb_1 22 rfl rfl)
theorem dX27_comb_46 : decode cX27_comb 46 = .ok (.ifCond .ge 7, 3) := dk_156 0 7 (dk_at dksX27_comb_2 0 rfl rfl)
theorem dX27_comb_49 : decode cX27_comb 49 = .ok (.iconst (-1), 1) := dk_2 (dk_at dksX27_comb_2 3 rfl rfl)
theorem dX27_comb_50 : decode cX27_comb 50 = .ok (.goto 13, 3) := dk_167 0 13 (dk_at dksX27_comb_2 4 rfl rfl)
theorem dX27_comb_53 : decode cX27_comb 53 = .ok (.aload_n 0, 1) := dk_42 (dk_at dksX27_comb_2 7 rfl rfl)
theorem dX27_comb_54 : decode cX27_comb 54 = .ok (.bipush 18, 2) := dk_16 18 (dk_at dksX27_comb_2 8 rfl rfl)
theorem dX27_comb_56 : decode cX27_comb 56 = .ok (.iload 6, 2) := dk_21 6 (dk_at dksX27_comb_2 10 rfl rfl)
theorem dX27_comb_58 : decode cX27_comb 58 = .ok (.iload 4, 2) := dk_21 4 (dk_at dksX27_comb_2 12 rfl rfl)
theorem dX27_comb_60 : decode cX27_comb 60 = .ok (.invokevirtual 42, 3) := dk_182 0 42 (dk_at dksX27_comb_2 14 rfl rfl)
theorem dX27_comb_63 : decode cX27_comb 63 = .ok (.istore 4, 2) := dk_54 4 (dk_at dksX27_comb_2 17 rfl rfl)
theorem dX27_comb_65 : decode cX27_comb 65 = .ok (.iinc 5 (-1), 3) := dk_132 5 255 (dk_at dksX27_comb_2 19 rfl rfl)
theorem dX27_comb_68 : decode cX27_comb 68 = .ok (.goto (-48), 3) := dk_167 255 208 (dk_at dksX27_comb_3 0 rfl rfl)
theorem dX27_comb_71 : decode cX27_comb 71 = .ok (.iload 4, 2) := dk_21 4 (dk_at dksX27_comb_3 3 rfl rfl)
theorem dX27_comb_73 : decode cX27_comb 73 = .ok (.ireturn, 1) := dk_172 (dk_at dksX27_comb_3 5 rfl rfl)
abbrev cX27_is : ByteArray := prog_30_method_6_code
def yX27_is : MethodName := ⟨RX27, "is", "(II)Z"⟩
def dkwX27_is_0 : List UInt8 := [27, 155, 0, 18, 42, 180, 0, 26, 27, 51, 28, 126, 158, 0, 7, 4, 167, 0, 4, 3, 172]
abbrev dktX27_is_0 : List UInt8 := dkwX27_is_0 ++ []
theorem dksX27_is_0 : cX27_is.data.toList.drop 0 = dktX27_is_0 := by decide +kernel
theorem dX27_is_0 : decode cX27_is 0 = .ok (.iload_n 1, 1) := dk_27 (dk_at dksX27_is_0 0 rfl rfl)
theorem dX27_is_1 : decode cX27_is 1 = .ok (.ifCond .lt 18, 3) := dk_155 0 18 (dk_at dksX27_is_0 1 rfl rfl)
theorem dX27_is_4 : decode cX27_is 4 = .ok (.aload_n 0, 1) := dk_42 (dk_at dksX27_is_0 4 rfl rfl)
theorem dX27_is_5 : decode cX27_is 5 = .ok (.getfield 26, 3) := dk_180 0 26 (dk_at dksX27_is_0 5 rfl rfl)
theorem dX27_is_8 : decode cX27_is 8 = .ok (.iload_n 1, 1) := dk_27 (dk_at dksX27_is_0 8 rfl rfl)
theorem dX27_is_9 : decode cX27_is 9 = .ok (.baload, 1) := dk_51 (dk_at dksX27_is_0 9 rfl rfl)
theorem dX27_is_10 : decode cX27_is 10 = .ok (.iload_n 2, 1) := dk_28 (dk_at dksX27_is_0 10 rfl rfl)
theorem dX27_is_11 : decode cX27_is 11 = .ok (.iand, 1) := dk_126 (dk_at dksX27_is_0 11 rfl rfl)
theorem dX27_is_12 : decode cX27_is 12 = .ok (.ifCond .le 7, 3) := dk_158 0 7 (dk_at dksX27_is_0 12 rfl rfl)
theorem dX27_is_15 : decode cX27_is 15 = .ok (.iconst 1, 1) := dk_4 (dk_at dksX27_is_0 15 rfl rfl)
theorem dX27_is_16 : decode cX27_is 16 = .ok (.goto 4, 3) := dk_167 0 4 (dk_at dksX27_is_0 16 rfl rfl)
theorem dX27_is_19 : decode cX27_is 19 = .ok (.iconst 0, 1) := dk_3 (dk_at dksX27_is_0 19 rfl rfl)
theorem dX27_is_20 : decode cX27_is 20 = .ok (.ireturn, 1) := dk_172 (dk_at dksX27_is_0 20 rfl rfl)
abbrev cX27_one : ByteArray := prog_30_method_5_code
def yX27_one : MethodName := ⟨RX27, "one", "(II)I"⟩
def dkwX27_one_0 : List UInt8 := [42, 27, 28, 2, 182, 0, 42, 172]
abbrev dktX27_one_0 : List UInt8 := dkwX27_one_0 ++ []
theorem dksX27_one_0 : cX27_one.data.toList.drop 0 = dktX27_one_0 := by decide +kernel
theorem dX27_one_0 : decode cX27_one 0 = .ok (.aload_n 0, 1) := dk_42 (dk_at dksX27_one_0 0 rfl rfl)
theorem dX27_one_1 : decode cX27_one 1 = .ok (.iload_n 1, 1) := dk_27 (dk_at dksX27_one_0 1 rfl rfl)
theorem dX27_one_2 : decode cX27_one 2 = .ok (.iload_n 2, 1) := dk_28 (dk_at dksX27_one_0 2 rfl rfl)
theorem dX27_one_3 : decode cX27_one 3 = .ok (.iconst (-1), 1) := dk_2 (dk_at dksX27_one_0 3 rfl rfl)
theorem dX27_one_4 : decode cX27_one 4 = .ok (.invokevirtual 42, 3) := dk_182 0 42 (dk_at dksX27_one_0 4 rfl rfl)
theorem dX27_one_7 : decode cX27_one 7 = .ok (.ireturn, 1) := dk_172 (dk_at dksX27_one_0 7 rfl rfl)
abbrev cX27_isKind : ByteArray := prog_30_method_7_code
def yX27_isKind : MethodName := ⟨RX27, "isKind", "(II)Z"⟩
def dkwX27_isKind_0 : List UInt8 := [27, 155, 0, 17, 42, 180, 0, 9, 27, 51, 28, 160, 0, 7, 4, 167, 0, 4, 3, 172]
abbrev dktX27_isKind_0 : List UInt8 := dkwX27_isKind_0 ++ []
theorem dksX27_isKind_0 : cX27_isKind.data.toList.drop 0 = dktX27_isKind_0 := by decide +kernel
theorem dX27_isKind_0 : decode cX27_isKind 0 = .ok (.iload_n 1, 1) := dk_27 (dk_at dksX27_isKind_0 0 rfl rfl)
theorem dX27_isKind_1 : decode cX27_isKind 1 = .ok (.ifCond .lt 17, 3) := dk_155 0 17 (dk_at dksX27_isKind_0 1 rfl rfl)
theorem dX27_isKind_4 : decode cX27_isKind 4 = .ok (.aload_n 0, 1) := dk_42 (dk_at dksX27_isKind_0 4 rfl rfl)
theorem dX27_isKind_5 : decode cX27_isKind 5 = .ok (.getfield 9, 3) := dk_180 0 9 (dk_at dksX27_isKind_0 5 rfl rfl)
theorem dX27_isKind_8 : decode cX27_isKind 8 = .ok (.iload_n 1, 1) := dk_27 (dk_at dksX27_isKind_0 8 rfl rfl)
theorem dX27_isKind_9 : decode cX27_isKind 9 = .ok (.baload, 1) := dk_51 (dk_at dksX27_isKind_0 9 rfl rfl)
theorem dX27_isKind_10 : decode cX27_isKind 10 = .ok (.iload_n 2, 1) := dk_28 (dk_at dksX27_isKind_0 10 rfl rfl)
theorem dX27_isKind_11 : decode cX27_isKind 11 = .ok (.if_icmp .ne 7, 3) := dk_160 0 7 (dk_at dksX27_isKind_0 11 rfl rfl)
theorem dX27_isKind_14 : decode cX27_isKind 14 = .ok (.iconst 1, 1) := dk_4 (dk_at dksX27_isKind_0 14 rfl rfl)
theorem dX27_isKind_15 : decode cX27_isKind 15 = .ok (.goto 4, 3) := dk_167 0 4 (dk_at dksX27_isKind_0 15 rfl rfl)
theorem dX27_isKind_18 : decode cX27_isKind 18 = .ok (.iconst 0, 1) := dk_3 (dk_at dksX27_isKind_0 18 rfl rfl)
theorem dX27_isKind_19 : decode cX27_isKind 19 = .ok (.ireturn, 1) := dk_172 (dk_at dksX27_isKind_0 19 rfl rfl)
abbrev cX27_init : ByteArray := prog_30_method_1_code
def yX27_init : MethodName := ⟨RX27, "<init>", "()V"⟩
def dkwX27_init_3 : List UInt8 := [182, 0, 35, 177]
abbrev dktX27_init_3 : List UInt8 := dkwX27_init_3 ++ []
def dkwX27_init_2 : List UInt8 := [181, 0, 26, 42, 17, 78, 32, 188, 10, 181, 0, 29, 42, 17, 8, 0, 188, 10, 181, 0, 32, 42]
abbrev dktX27_init_2 : List UInt8 := dkwX27_init_2 ++ dktX27_init_3
def dkwX27_init_1 : List UInt8 := [17, 78, 32, 188, 10, 181, 0, 19, 42, 17, 78, 32, 188, 9, 181, 0, 22, 42, 17, 78, 32, 188, 8]
abbrev dktX27_init_1 : List UInt8 := dkwX27_init_1 ++ dktX27_init_2
def dkwX27_init_0 : List UInt8 := [42, 183, 0, 3, 42, 17, 78, 32, 188, 8, 181, 0, 9, 42, 17, 78, 32, 188, 10, 181, 0, 15, 42]
abbrev dktX27_init_0 : List UInt8 := dkwX27_init_0 ++ dktX27_init_1
theorem dksX27_init_0 : cX27_init.data.toList.drop 0 = dktX27_init_0 := by decide +kernel
theorem dksX27_init_1 : cX27_init.data.toList.drop 23 = dktX27_init_1 := dk_seg dksX27_init_0 23 rfl rfl
theorem dksX27_init_2 : cX27_init.data.toList.drop 46 = dktX27_init_2 := dk_seg dksX27_init_1 23 rfl rfl
theorem dksX27_init_3 : cX27_init.data.toList.drop 68 = dktX27_init_3 := dk_seg dksX27_init_2 22 rfl rfl
theorem dX27_init_0 : decode cX27_init 0 = .ok (.aload_n 0, 1) := dk_42 (dk_at dksX27_init_0 0 rfl rfl)
theorem dX27_init_1 : decode cX27_init 1 = .ok (.invokespecial 3, 3) := dk_183 0 3 (dk_at dksX27_init_0 1 rfl rfl)
theorem dX27_init_4 : decode cX27_init 4 = .ok (.aload_n 0, 1) := dk_42 (dk_at dksX27_init_0 4 rfl rfl)
theorem dX27_init_5 : decode cX27_init 5 = .ok (.sipush 20000, 3) := dk_17 78 32 (dk_at dksX27_init_0 5 rfl rfl)
theorem dX27_init_8 : decode cX27_init 8 = .ok (.newarray .byte, 2) := dk_188_8 (dk_at dksX27_init_0 8 rfl rfl)
theorem dX27_init_10 : decode cX27_init 10 = .ok (.putfield 9, 3) := dk_181 0 9 (dk_at dksX27_init_0 10 rfl rfl)
theorem dX27_init_13 : decode cX27_init 13 = .ok (.aload_n 0, 1) := dk_42 (dk_at dksX27_init_0 13 rfl rfl)
theorem dX27_init_14 : decode cX27_init 14 = .ok (.sipush 20000, 3) := dk_17 78 32 (dk_at dksX27_init_0 14 rfl rfl)
theorem dX27_init_17 : decode cX27_init 17 = .ok (.newarray .int, 2) := dk_188_10 (dk_at dksX27_init_0 17 rfl rfl)
theorem dX27_init_19 : decode cX27_init 19 = .ok (.putfield 15, 3) := dk_181 0 15 (dk_at dksX27_init_0 19 rfl rfl)
theorem dX27_init_22 : decode cX27_init 22 = .ok (.aload_n 0, 1) := dk_42 (dk_at dksX27_init_0 22 rfl rfl)
theorem dX27_init_23 : decode cX27_init 23 = .ok (.sipush 20000, 3) := dk_17 78 32 (dk_at dksX27_init_1 0 rfl rfl)
theorem dX27_init_26 : decode cX27_init 26 = .ok (.newarray .int, 2) := dk_188_10 (dk_at dksX27_init_1 3 rfl rfl)
theorem dX27_init_28 : decode cX27_init 28 = .ok (.putfield 19, 3) := dk_181 0 19 (dk_at dksX27_init_1 5 rfl rfl)
theorem dX27_init_31 : decode cX27_init 31 = .ok (.aload_n 0, 1) := dk_42 (dk_at dksX27_init_1 8 rfl rfl)
theorem dX27_init_32 : decode cX27_init 32 = .ok (.sipush 20000, 3) := dk_17 78 32 (dk_at dksX27_init_1 9 rfl rfl)
theorem dX27_init_35 : decode cX27_init 35 = .ok (.newarray .short, 2) := dk_188_9 (dk_at dksX27_init_1 12 rfl rfl)
theorem dX27_init_37 : decode cX27_init 37 = .ok (.putfield 22, 3) := dk_181 0 22 (dk_at dksX27_init_1 14 rfl rfl)
theorem dX27_init_40 : decode cX27_init 40 = .ok (.aload_n 0, 1) := dk_42 (dk_at dksX27_init_1 17 rfl rfl)
theorem dX27_init_41 : decode cX27_init 41 = .ok (.sipush 20000, 3) := dk_17 78 32 (dk_at dksX27_init_1 18 rfl rfl)
theorem dX27_init_44 : decode cX27_init 44 = .ok (.newarray .byte, 2) := dk_188_8 (dk_at dksX27_init_1 21 rfl rfl)
theorem dX27_init_46 : decode cX27_init 46 = .ok (.putfield 26, 3) := dk_181 0 26 (dk_at dksX27_init_2 0 rfl rfl)
theorem dX27_init_49 : decode cX27_init 49 = .ok (.aload_n 0, 1) := dk_42 (dk_at dksX27_init_2 3 rfl rfl)
theorem dX27_init_50 : decode cX27_init 50 = .ok (.sipush 20000, 3) := dk_17 78 32 (dk_at dksX27_init_2 4 rfl rfl)
theorem dX27_init_53 : decode cX27_init 53 = .ok (.newarray .int, 2) := dk_188_10 (dk_at dksX27_init_2 7 rfl rfl)
theorem dX27_init_55 : decode cX27_init 55 = .ok (.putfield 29, 3) := dk_181 0 29 (dk_at dksX27_init_2 9 rfl rfl)
theorem dX27_init_58 : decode cX27_init 58 = .ok (.aload_n 0, 1) := dk_42 (dk_at dksX27_init_2 12 rfl rfl)
theorem dX27_init_59 : decode cX27_init 59 = .ok (.sipush 2048, 3) := dk_17 8 0 (dk_at dksX27_init_2 13 rfl rfl)
theorem dX27_init_62 : decode cX27_init 62 = .ok (.newarray .int, 2) := dk_188_10 (dk_at dksX27_init_2 16 rfl rfl)
theorem dX27_init_64 : decode cX27_init 64 = .ok (.putfield 32, 3) := dk_181 0 32 (dk_at dksX27_init_2 18 rfl rfl)
theorem dX27_init_67 : decode cX27_init 67 = .ok (.aload_n 0, 1) := dk_42 (dk_at dksX27_init_2 21 rfl rfl)
theorem dX27_init_68 : decode cX27_init 68 = .ok (.invokevirtual 35, 3) := dk_182 0 35 (dk_at dksX27_init_3 0 rfl rfl)
theorem dX27_init_71 : decode cX27_init 71 = .ok (.return_, 1) := dk_177 (dk_at dksX27_init_3 3 rfl rfl)
theorem q394 : (Jvm.Cond.initialized "ContractLedgerModel$Types") ∈ lw_all := lw_g (lw_at lw_m1 37 rfl) rfl
theorem q3298 : (Jvm.Cond.instanceMethod ({ cls := "ContractLedgerModel$Types", name := "clear", desc := "()V" } : Jvm.MethodName)) ∈ lw_all := lw_g (lw_at lw_m13 61 rfl) rfl
theorem q3299 : (Jvm.Cond.selects "ContractLedgerModel$Types" ({ cls := "ContractLedgerModel$Types", name := "clear", desc := "()V" } : Jvm.MethodName) ({ cls := "ContractLedgerModel$Types", name := "clear", desc := "()V" } : Jvm.MethodName)) ∈ lw_all := lw_g (lw_at lw_m13 62 rfl) rfl
theorem q3300 : (Jvm.Cond.code ({ cls := "ContractLedgerModel$Types", name := "clear", desc := "()V" } : Jvm.MethodName) prog_30_method_2_code (3 : Nat) (Option.none : Option Jvm.ClassFile.FieldType)) ∈ lw_all := lw_g (lw_at lw_m13 63 rfl) rfl
theorem q3301 : (Jvm.Cond.methodLink "ContractLedgerModel$Types" (42 : Nat) ({ cls := "ContractLedgerModel$Types", name := "make", desc := "(III)I" } : Jvm.MethodName)) ∈ lw_all := lw_g (lw_at lw_m13 64 rfl) rfl
theorem q3302 : (Jvm.Cond.instanceMethod ({ cls := "ContractLedgerModel$Types", name := "make", desc := "(III)I" } : Jvm.MethodName)) ∈ lw_all := lw_g (lw_at lw_m13 65 rfl) rfl
theorem q3303 : (Jvm.Cond.selects "ContractLedgerModel$Types" ({ cls := "ContractLedgerModel$Types", name := "make", desc := "(III)I" } : Jvm.MethodName) ({ cls := "ContractLedgerModel$Types", name := "make", desc := "(III)I" } : Jvm.MethodName)) ∈ lw_all := lw_g (lw_at lw_m13 66 rfl) rfl
theorem q3304 : (Jvm.Cond.code ({ cls := "ContractLedgerModel$Types", name := "make", desc := "(III)I" } : Jvm.MethodName) prog_30_method_4_code (7 : Nat) (Option.some Jvm.ClassFile.FieldType.int)) ∈ lw_all := lw_g (lw_at lw_m13 67 rfl) rfl
theorem q3305 : (Jvm.Cond.constant "ContractLedgerModel$Types" (46 : Nat) (2147483647 : Int32)) ∈ lw_all := lw_g (lw_at lw_m13 68 rfl) rfl
theorem q3306 : (Jvm.Cond.methodLink "ContractLedgerModel$Types" (47 : Nat) ({ cls := "ContractLedgerModel$Types", name := "marksOf", desc := "(III)I" } : Jvm.MethodName)) ∈ lw_all := lw_g (lw_at lw_m13 69 rfl) rfl
theorem q3307 : (Jvm.Cond.privateMethod ({ cls := "ContractLedgerModel$Types", name := "marksOf", desc := "(III)I" } : Jvm.MethodName)) ∈ lw_tbl := lw_at lw_m13 70 rfl
theorem q3308 : (Jvm.Cond.instanceMethod ({ cls := "ContractLedgerModel$Types", name := "marksOf", desc := "(III)I" } : Jvm.MethodName)) ∈ lw_all := lw_g (lw_at lw_m13 71 rfl) rfl
theorem q3309 : (Jvm.Cond.instantiable "ContractLedgerModel$Types" (8 : Nat)) ∈ lw_all := lw_g (lw_at lw_m13 72 rfl) rfl
theorem q3310 : (Jvm.Cond.code ({ cls := "ContractLedgerModel$Types", name := "marksOf", desc := "(III)I" } : Jvm.MethodName) prog_30_method_3_code (5 : Nat) (Option.some Jvm.ClassFile.FieldType.int)) ∈ lw_all := lw_g (lw_at lw_m13 73 rfl) rfl
theorem q3331 : (Jvm.Cond.instanceMethod ({ cls := "ContractLedgerModel$Types", name := "tell", desc := "(LContractLedgerModel$Terms;I)I" } : Jvm.MethodName)) ∈ lw_all := lw_g (lw_at lw_m13 94 rfl) rfl
theorem q3332 : (Jvm.Cond.selects "ContractLedgerModel$Types" ({ cls := "ContractLedgerModel$Types", name := "tell", desc := "(LContractLedgerModel$Terms;I)I" } : Jvm.MethodName) ({ cls := "ContractLedgerModel$Types", name := "tell", desc := "(LContractLedgerModel$Terms;I)I" } : Jvm.MethodName)) ∈ lw_all := lw_g (lw_at lw_m13 95 rfl) rfl
theorem q3333 : (Jvm.Cond.code ({ cls := "ContractLedgerModel$Types", name := "tell", desc := "(LContractLedgerModel$Terms;I)I" } : Jvm.MethodName) prog_30_method_8_code (8 : Nat) (Option.some Jvm.ClassFile.FieldType.int)) ∈ lw_all := lw_g (lw_at lw_m13 96 rfl) rfl
theorem q3334 : (Jvm.Cond.methodLink "ContractLedgerModel$Types" (59 : Nat) ({ cls := "ContractLedgerModel$Types", name := "comb", desc := "(LContractLedgerModel$Terms;II)I" } : Jvm.MethodName)) ∈ lw_all := lw_g (lw_at lw_m13 97 rfl) rfl
theorem q3335 : (Jvm.Cond.privateMethod ({ cls := "ContractLedgerModel$Types", name := "comb", desc := "(LContractLedgerModel$Terms;II)I" } : Jvm.MethodName)) ∈ lw_tbl := lw_at lw_m13 98 rfl
theorem q3336 : (Jvm.Cond.instanceMethod ({ cls := "ContractLedgerModel$Types", name := "comb", desc := "(LContractLedgerModel$Terms;II)I" } : Jvm.MethodName)) ∈ lw_all := lw_g (lw_at lw_m13 99 rfl) rfl
theorem q3337 : (Jvm.Cond.code ({ cls := "ContractLedgerModel$Types", name := "comb", desc := "(LContractLedgerModel$Terms;II)I" } : Jvm.MethodName) prog_30_method_9_code (7 : Nat) (Option.some Jvm.ClassFile.FieldType.int)) ∈ lw_all := lw_g (lw_at lw_m13 100 rfl) rfl
theorem q3338 : (Jvm.Cond.methodLink "ContractLedgerModel$Types" (77 : Nat) ({ cls := "ContractLedgerModel$Terms", name := "child", desc := "(II)I" } : Jvm.MethodName)) ∈ lw_all := lw_g (lw_at lw_m13 101 rfl) rfl
theorem q3339 : (Jvm.Cond.methodLink "ContractLedgerModel$Types" (66 : Nat) ({ cls := "ContractLedgerModel$Types", name := "tell", desc := "(LContractLedgerModel$Terms;I)I" } : Jvm.MethodName)) ∈ lw_all := lw_g (lw_at lw_m13 102 rfl) rfl
theorem q3340 : (Jvm.Cond.methodLink "ContractLedgerModel$Types" (73 : Nat) ({ cls := "ContractLedgerModel$Types", name := "is", desc := "(II)Z" } : Jvm.MethodName)) ∈ lw_all := lw_g (lw_at lw_m13 103 rfl) rfl
theorem q3341 : (Jvm.Cond.instanceMethod ({ cls := "ContractLedgerModel$Types", name := "is", desc := "(II)Z" } : Jvm.MethodName)) ∈ lw_all := lw_g (lw_at lw_m13 104 rfl) rfl
theorem q3342 : (Jvm.Cond.selects "ContractLedgerModel$Types" ({ cls := "ContractLedgerModel$Types", name := "is", desc := "(II)Z" } : Jvm.MethodName) ({ cls := "ContractLedgerModel$Types", name := "is", desc := "(II)Z" } : Jvm.MethodName)) ∈ lw_all := lw_g (lw_at lw_m13 105 rfl) rfl
theorem q3343 : (Jvm.Cond.code ({ cls := "ContractLedgerModel$Types", name := "is", desc := "(II)Z" } : Jvm.MethodName) prog_30_method_6_code (3 : Nat) (Option.some Jvm.ClassFile.FieldType.boolean)) ∈ lw_all := lw_g (lw_at lw_m13 106 rfl) rfl
theorem q3368 : (Jvm.Cond.instanceMethod ({ cls := "ContractLedgerModel$Types", name := "one", desc := "(II)I" } : Jvm.MethodName)) ∈ lw_all := lw_g (lw_at lw_m13 131 rfl) rfl
theorem q3369 : (Jvm.Cond.selects "ContractLedgerModel$Types" ({ cls := "ContractLedgerModel$Types", name := "one", desc := "(II)I" } : Jvm.MethodName) ({ cls := "ContractLedgerModel$Types", name := "one", desc := "(II)I" } : Jvm.MethodName)) ∈ lw_all := lw_g (lw_at lw_m13 132 rfl) rfl
theorem q3370 : (Jvm.Cond.code ({ cls := "ContractLedgerModel$Types", name := "one", desc := "(II)I" } : Jvm.MethodName) prog_30_method_5_code (3 : Nat) (Option.some Jvm.ClassFile.FieldType.int)) ∈ lw_all := lw_g (lw_at lw_m13 133 rfl) rfl
theorem q3411 : (Jvm.Cond.instanceMethod ({ cls := "ContractLedgerModel$Types", name := "isKind", desc := "(II)Z" } : Jvm.MethodName)) ∈ lw_all := lw_g (lw_at lw_m13 174 rfl) rfl
theorem q3412 : (Jvm.Cond.selects "ContractLedgerModel$Types" ({ cls := "ContractLedgerModel$Types", name := "isKind", desc := "(II)Z" } : Jvm.MethodName) ({ cls := "ContractLedgerModel$Types", name := "isKind", desc := "(II)Z" } : Jvm.MethodName)) ∈ lw_all := lw_g (lw_at lw_m13 175 rfl) rfl
theorem q3413 : (Jvm.Cond.code ({ cls := "ContractLedgerModel$Types", name := "isKind", desc := "(II)Z" } : Jvm.MethodName) prog_30_method_7_code (3 : Nat) (Option.some Jvm.ClassFile.FieldType.boolean)) ∈ lw_all := lw_g (lw_at lw_m13 176 rfl) rfl
theorem q4102 : (Jvm.Cond.instanceMethod ({ cls := "ContractLedgerModel$Types", name := "<init>", desc := "()V" } : Jvm.MethodName)) ∈ lw_all := lw_g (lw_at lw_m16 145 rfl) rfl
theorem q4103 : (Jvm.Cond.code ({ cls := "ContractLedgerModel$Types", name := "<init>", desc := "()V" } : Jvm.MethodName) prog_30_method_1_code (1 : Nat) (Option.none : Option Jvm.ClassFile.FieldType)) ∈ lw_all := lw_g (lw_at lw_m16 146 rfl) rfl
theorem q4104 : (Jvm.Cond.methodLink "ContractLedgerModel$Types" (3 : Nat) ({ cls := "java/lang/Object", name := "<init>", desc := "()V" } : Jvm.MethodName)) ∈ lw_all := lw_g (lw_at lw_m16 147 rfl) rfl
theorem q4105 : (Jvm.Cond.methodLink "ContractLedgerModel$Types" (35 : Nat) ({ cls := "ContractLedgerModel$Types", name := "clear", desc := "()V" } : Jvm.MethodName)) ∈ lw_all := lw_g (lw_at lw_m16 148 rfl) rfl
theorem q4106 : (Jvm.Cond.fieldLink "ContractLedgerModel$Types" (9 : Nat) "ContractLedgerModel$Types" "kinds" "[B") ∈ lw_all := lw_g (lw_at lw_m16 149 rfl) rfl
theorem q4108 : (Jvm.Cond.fieldLink "ContractLedgerModel$Types" (15 : Nat) "ContractLedgerModel$Types" "lefts" "[I") ∈ lw_all := lw_g (lw_at lw_m16 151 rfl) rfl
theorem q4110 : (Jvm.Cond.fieldLink "ContractLedgerModel$Types" (19 : Nat) "ContractLedgerModel$Types" "rights" "[I") ∈ lw_all := lw_g (lw_at lw_m16 153 rfl) rfl
theorem q4112 : (Jvm.Cond.fieldLink "ContractLedgerModel$Types" (22 : Nat) "ContractLedgerModel$Types" "parts" "[S") ∈ lw_all := lw_g (lw_at lw_m16 155 rfl) rfl
theorem q4113 : (Jvm.Cond.fieldLink "ContractLedgerModel$Types" (26 : Nat) "ContractLedgerModel$Types" "marks" "[B") ∈ lw_all := lw_g (lw_at lw_m16 156 rfl) rfl
theorem q4114 : (Jvm.Cond.fieldLink "ContractLedgerModel$Types" (29 : Nat) "ContractLedgerModel$Types" "others" "[I") ∈ lw_all := lw_g (lw_at lw_m16 157 rfl) rfl
theorem q4115 : (Jvm.Cond.fieldLink "ContractLedgerModel$Types" (32 : Nat) "ContractLedgerModel$Types" "heads" "[I") ∈ lw_all := lw_g (lw_at lw_m16 158 rfl) rfl
theorem q4116 : (Jvm.Cond.fieldLink "ContractLedgerModel$Types" (38 : Nat) "ContractLedgerModel$Types" "count" "I") ∈ lw_all := lw_g (lw_at lw_m16 159 rfl) rfl
theorem q4117 : (Jvm.Cond.laysFinal "ContractLedgerModel$Types" "ContractLedgerModel$Types" "kinds" "[B") ∈ lw_all := lw_g (lw_at lw_m16 160 rfl) rfl
theorem q4118 : (Jvm.Cond.soleField "ContractLedgerModel$Types" "kinds") ∈ lw_all := lw_g (lw_at lw_m16 161 rfl) rfl
theorem q4119 : (Jvm.Cond.laysFinal "ContractLedgerModel$Types" "ContractLedgerModel$Types" "lefts" "[I") ∈ lw_all := lw_g (lw_at lw_m16 162 rfl) rfl
theorem q4120 : (Jvm.Cond.soleField "ContractLedgerModel$Types" "lefts") ∈ lw_all := lw_g (lw_at lw_m16 163 rfl) rfl
theorem q4121 : (Jvm.Cond.laysFinal "ContractLedgerModel$Types" "ContractLedgerModel$Types" "rights" "[I") ∈ lw_all := lw_g (lw_at lw_m16 164 rfl) rfl
theorem q4122 : (Jvm.Cond.soleField "ContractLedgerModel$Types" "rights") ∈ lw_all := lw_g (lw_at lw_m16 165 rfl) rfl
theorem q4123 : (Jvm.Cond.laysFinal "ContractLedgerModel$Types" "ContractLedgerModel$Types" "parts" "[S") ∈ lw_all := lw_g (lw_at lw_m16 166 rfl) rfl
theorem q4124 : (Jvm.Cond.soleField "ContractLedgerModel$Types" "parts") ∈ lw_all := lw_g (lw_at lw_m16 167 rfl) rfl
theorem q4125 : (Jvm.Cond.laysFinal "ContractLedgerModel$Types" "ContractLedgerModel$Types" "marks" "[B") ∈ lw_all := lw_g (lw_at lw_m16 168 rfl) rfl
theorem q4126 : (Jvm.Cond.soleField "ContractLedgerModel$Types" "marks") ∈ lw_all := lw_g (lw_at lw_m16 169 rfl) rfl
theorem q4127 : (Jvm.Cond.laysFinal "ContractLedgerModel$Types" "ContractLedgerModel$Types" "others" "[I") ∈ lw_all := lw_g (lw_at lw_m16 170 rfl) rfl
theorem q4128 : (Jvm.Cond.soleField "ContractLedgerModel$Types" "others") ∈ lw_all := lw_g (lw_at lw_m16 171 rfl) rfl
theorem q4129 : (Jvm.Cond.laysFinal "ContractLedgerModel$Types" "ContractLedgerModel$Types" "heads" "[I") ∈ lw_all := lw_g (lw_at lw_m16 172 rfl) rfl
theorem q4130 : (Jvm.Cond.soleField "ContractLedgerModel$Types" "heads") ∈ lw_all := lw_g (lw_at lw_m16 173 rfl) rfl
theorem q4131 : (Jvm.Cond.lays "ContractLedgerModel$Types" "ContractLedgerModel$Types" "count" "I") ∈ lw_all := lw_g (lw_at lw_m16 174 rfl) rfl
theorem q4132 : (Jvm.Cond.soleField "ContractLedgerModel$Types" "count") ∈ lw_all := lw_g (lw_at lw_m16 175 rfl) rfl
theorem q4133 : (Jvm.Cond.superclass "ContractLedgerModel$Types" "java/lang/Object") ∈ lw_all := lw_g (lw_at lw_m16 176 rfl) rfl
theorem q4159 : (Jvm.Cond.fieldLink "ContractLedgerModel$Types" (50 : Nat) "ContractLedgerModel$Terms" "kinds" "[B") ∈ lw_all := lw_g (lw_at lw_m16 202 rfl) rfl
theorem q4170 : (Jvm.Cond.fieldLink "ContractLedgerModel$Types" (63 : Nat) "ContractLedgerModel$Terms" "firsts" "[I") ∈ lw_all := lw_g (lw_at lw_m16 213 rfl) rfl
theorem q4173 : (Jvm.Cond.fieldLink "ContractLedgerModel$Types" (70 : Nat) "ContractLedgerModel$Terms" "nexts" "[I") ∈ lw_all := lw_g (lw_at lw_m16 216 rfl) rfl
theorem q4177 : (Jvm.Cond.fieldLink "ContractLedgerModel$Types" (56 : Nat) "ContractLedgerModel$Terms" "many" "[I") ∈ lw_all := lw_g (lw_at lw_m16 220 rfl) rfl
theorem q4180 : (Jvm.Cond.fieldLink "ContractLedgerModel$Types" (53 : Nat) "ContractLedgerModel$Terms" "codes" "[I") ∈ lw_all := lw_g (lw_at lw_m16 223 rfl) rfl
set_option maxRecDepth 100000
set_option maxRecDepth 100000 in
set_option maxRecDepth 100000 in
abbrev cX28_read : ByteArray := prog_29_method_13_code
def yX28_read : MethodName := ⟨RX28, "read", "()Z"⟩
def dkwX28_read_2 : List UInt8 := [3, 172]
abbrev dktX28_read_2 : List UInt8 := dkwX28_read_2 ++ []
def dkwX28_read_1 : List UInt8 := [182, 0, 121, 153, 0, 21, 42, 180, 0, 79, 153, 0, 10, 42, 182, 0, 125, 153, 0, 7, 4, 167, 0, 4]
abbrev dktX28_read_1 : List UInt8 := dkwX28_read_1 ++ dktX28_read_2
def dkwX28_read_0 : List UInt8 := [42, 3, 181, 0, 105, 42, 2, 181, 0, 102, 42, 3, 181, 0, 69, 42, 182, 0, 118, 42, 2, 3]
abbrev dktX28_read_0 : List UInt8 := dkwX28_read_0 ++ dktX28_read_1
theorem dksX28_read_0 : cX28_read.data.toList.drop 0 = dktX28_read_0 := by decide +kernel
theorem dksX28_read_1 : cX28_read.data.toList.drop 22 = dktX28_read_1 := dk_seg dksX28_read_0 22 rfl rfl
theorem dksX28_read_2 : cX28_read.data.toList.drop 46 = dktX28_read_2 := dk_seg dksX28_read_1 24 rfl rfl
theorem dX28_read_0 : decode cX28_read 0 = .ok (.aload_n 0, 1) := dk_42 (dk_at dksX28_read_0 0 rfl rfl)
theorem dX28_read_1 : decode cX28_read 1 = .ok (.iconst 0, 1) := dk_3 (dk_at dksX28_read_0 1 rfl rfl)
theorem dX28_read_2 : decode cX28_read 2 = .ok (.putfield 105, 3) := dk_181 0 105 (dk_at dksX28_read_0 2 rfl rfl)
theorem dX28_read_5 : decode cX28_read 5 = .ok (.aload_n 0, 1) := dk_42 (dk_at dksX28_read_0 5 rfl rfl)
theorem dX28_read_6 : decode cX28_read 6 = .ok (.iconst (-1), 1) := dk_2 (dk_at dksX28_read_0 6 rfl rfl)
theorem dX28_read_7 : decode cX28_read 7 = .ok (.putfield 102, 3) := dk_181 0 102 (dk_at dksX28_read_0 7 rfl rfl)
theorem dX28_read_10 : decode cX28_read 10 = .ok (.aload_n 0, 1) := dk_42 (dk_at dksX28_read_0 10 rfl rfl)
theorem dX28_read_11 : decode cX28_read 11 = .ok (.iconst 0, 1) := dk_3 (dk_at dksX28_read_0 11 rfl rfl)
theorem dX28_read_12 : decode cX28_read 12 = .ok (.putfield 69, 3) := dk_181 0 69 (dk_at dksX28_read_0 12 rfl rfl)
theorem dX28_read_15 : decode cX28_read 15 = .ok (.aload_n 0, 1) := dk_42 (dk_at dksX28_read_0 15 rfl rfl)
theorem dX28_read_16 : decode cX28_read 16 = .ok (.invokevirtual 118, 3) := dk_182 0 118 (dk_at dksX28_read_0 16 rfl rfl)
theorem dX28_read_19 : decode cX28_read 19 = .ok (.aload_n 0, 1) := dk_42 (dk_at dksX28_read_0 19 rfl rfl)
theorem dX28_read_20 : decode cX28_read 20 = .ok (.iconst (-1), 1) := dk_2 (dk_at dksX28_read_0 20 rfl rfl)
theorem dX28_read_21 : decode cX28_read 21 = .ok (.iconst 0, 1) := dk_3 (dk_at dksX28_read_0 21 rfl rfl)
theorem dX28_read_22 : decode cX28_read 22 = .ok (.invokevirtual 121, 3) := dk_182 0 121 (dk_at dksX28_read_1 0 rfl rfl)
theorem dX28_read_25 : decode cX28_read 25 = .ok (.ifCond .eq 21, 3) := dk_153 0 21 (dk_at dksX28_read_1 3 rfl rfl)
theorem dX28_read_28 : decode cX28_read 28 = .ok (.aload_n 0, 1) := dk_42 (dk_at dksX28_read_1 6 rfl rfl)
theorem dX28_read_29 : decode cX28_read 29 = .ok (.getfield 79, 3) := dk_180 0 79 (dk_at dksX28_read_1 7 rfl rfl)
theorem dX28_read_32 : decode cX28_read 32 = .ok (.ifCond .eq 10, 3) := dk_153 0 10 (dk_at dksX28_read_1 10 rfl rfl)
theorem dX28_read_35 : decode cX28_read 35 = .ok (.aload_n 0, 1) := dk_42 (dk_at dksX28_read_1 13 rfl rfl)
theorem dX28_read_36 : decode cX28_read 36 = .ok (.invokevirtual 125, 3) := dk_182 0 125 (dk_at dksX28_read_1 14 rfl rfl)
theorem dX28_read_39 : decode cX28_read 39 = .ok (.ifCond .eq 7, 3) := dk_153 0 7 (dk_at dksX28_read_1 17 rfl rfl)
theorem dX28_read_42 : decode cX28_read 42 = .ok (.iconst 1, 1) := dk_4 (dk_at dksX28_read_1 20 rfl rfl)
theorem dX28_read_43 : decode cX28_read 43 = .ok (.goto 4, 3) := dk_167 0 4 (dk_at dksX28_read_1 21 rfl rfl)
theorem dX28_read_46 : decode cX28_read 46 = .ok (.iconst 0, 1) := dk_3 (dk_at dksX28_read_2 0 rfl rfl)
theorem dX28_read_47 : decode cX28_read 47 = .ok (.ireturn, 1) := dk_172 (dk_at dksX28_read_2 1 rfl rfl)
abbrev cX28_next : ByteArray := prog_29_method_6_code
def yX28_next : MethodName := ⟨RX28, "next", "()V"⟩
def dkwX28_next_12 : List UInt8 := [180, 0, 69, 27, 4, 96, 164, 0, 7, 8, 167, 0, 4, 2, 181, 0, 79, 177]
abbrev dktX28_next_12 : List UInt8 := dkwX28_next_12 ++ []
def dkwX28_next_11 : List UInt8 := [42, 42, 27, 4, 96, 27, 16, 32, 96, 182, 0, 95, 181, 0, 69, 42, 28, 16, 37, 160, 0, 17, 42]
abbrev dktX28_next_11 : List UInt8 := dkwX28_next_11 ++ dktX28_next_12
def dkwX28_next_10 : List UInt8 := [153, 0, 24, 42, 7, 181, 0, 79, 42, 42, 27, 42, 180, 0, 65, 182, 0, 95, 181, 0, 69, 167, 0, 43]
abbrev dktX28_next_10 : List UInt8 := dkwX28_next_10 ++ dktX28_next_11
def dkwX28_next_9 : List UInt8 := [167, 0, 87, 28, 16, 34, 160, 0, 13, 42, 27, 4, 96, 182, 0, 89, 167, 0, 71, 28, 184, 0, 92]
abbrev dktX28_next_9 : List UInt8 := dkwX28_next_9 ++ dktX28_next_10
def dkwX28_next_8 : List UInt8 := [184, 0, 61, 153, 0, 23, 42, 28, 16, 45, 160, 0, 9, 27, 4, 96, 167, 0, 4, 27, 182, 0, 86]
abbrev dktX28_next_8 : List UInt8 := dkwX28_next_8 ++ dktX28_next_9
def dkwX28_next_7 : List UInt8 := [16, 120, 160, 0, 13, 42, 27, 5, 96, 182, 0, 82, 167, 0, 120, 28, 16, 45, 159, 0, 10, 28]
abbrev dktX28_next_7 : List UInt8 := dkwX28_next_7 ++ dktX28_next_8
def dkwX28_next_6 : List UInt8 := [181, 0, 79, 42, 27, 181, 0, 69, 167, 0, 148, 28, 16, 48, 160, 0, 25, 42, 27, 4, 96, 182, 0, 72]
abbrev dktX28_next_6 : List UInt8 := dkwX28_next_6 ++ dktX28_next_7
def dkwX28_next_5 : List UInt8 := [28, 181, 0, 79, 42, 27, 4, 96, 181, 0, 69, 167, 0, 169, 27, 42, 180, 0, 65, 161, 0, 16, 42, 3]
abbrev dktX28_next_5 : List UInt8 := dkwX28_next_5 ++ dktX28_next_6
def dkwX28_next_4 : List UInt8 := [16, 125, 159, 0, 21, 28, 16, 40, 159, 0, 15, 28, 16, 41, 159, 0, 9, 28, 16, 59, 160, 0, 18, 42]
abbrev dktX28_next_4 : List UInt8 := dkwX28_next_4 ++ dktX28_next_5
def dkwX28_next_3 : List UInt8 := [132, 1, 1, 42, 27, 182, 0, 72, 61, 167, 255, 186, 42, 27, 181, 0, 76, 28, 16, 123, 159, 0, 27, 28]
abbrev dktX28_next_3 : List UInt8 := dkwX28_next_3 ++ dktX28_next_4
def dkwX28_next_2 : List UInt8 := [42, 180, 0, 65, 162, 0, 23, 42, 180, 0, 9, 27, 51, 16, 10, 159, 0, 12, 132, 1, 1, 167, 255, 234]
abbrev dktX28_next_2 : List UInt8 := dkwX28_next_2 ++ dktX28_next_3
def dkwX28_next_1 : List UInt8 := [16, 13, 159, 0, 15, 28, 16, 10, 159, 0, 9, 28, 16, 35, 160, 0, 46, 28, 16, 35, 160, 0, 28, 27]
abbrev dktX28_next_1 : List UInt8 := dkwX28_next_1 ++ dktX28_next_2
def dkwX28_next_0 : List UInt8 := [42, 180, 0, 69, 60, 42, 27, 182, 0, 72, 61, 28, 16, 32, 159, 0, 27, 28, 16, 9, 159, 0, 21, 28]
abbrev dktX28_next_0 : List UInt8 := dkwX28_next_0 ++ dktX28_next_1
theorem dksX28_next_0 : cX28_next.data.toList.drop 0 = dktX28_next_0 := by decide +kernel
theorem dksX28_next_1 : cX28_next.data.toList.drop 24 = dktX28_next_1 := dk_seg dksX28_next_0 24 rfl rfl
theorem dksX28_next_2 : cX28_next.data.toList.drop 48 = dktX28_next_2 := dk_seg dksX28_next_1 24 rfl rfl
theorem dksX28_next_3 : cX28_next.data.toList.drop 72 = dktX28_next_3 := dk_seg dksX28_next_2 24 rfl rfl
theorem dksX28_next_4 : cX28_next.data.toList.drop 96 = dktX28_next_4 := dk_seg dksX28_next_3 24 rfl rfl
theorem dksX28_next_5 : cX28_next.data.toList.drop 120 = dktX28_next_5 := dk_seg dksX28_next_4 24 rfl rfl
theorem dksX28_next_6 : cX28_next.data.toList.drop 144 = dktX28_next_6 := dk_seg dksX28_next_5 24 rfl rfl
theorem dksX28_next_7 : cX28_next.data.toList.drop 168 = dktX28_next_7 := dk_seg dksX28_next_6 24 rfl rfl
theorem dksX28_next_8 : cX28_next.data.toList.drop 190 = dktX28_next_8 := dk_seg dksX28_next_7 22 rfl rfl
theorem dksX28_next_9 : cX28_next.data.toList.drop 213 = dktX28_next_9 := dk_seg dksX28_next_8 23 rfl rfl
theorem dksX28_next_10 : cX28_next.data.toList.drop 236 = dktX28_next_10 := dk_seg dksX28_next_9 23 rfl rfl
theorem dksX28_next_11 : cX28_next.data.toList.drop 260 = dktX28_next_11 := dk_seg dksX28_next_10 24 rfl rfl
theorem dksX28_next_12 : cX28_next.data.toList.drop 283 = dktX28_next_12 := dk_seg dksX28_next_11 23 rfl rfl
theorem dX28_next_0 : decode cX28_next 0 = .ok (.aload_n 0, 1) := dk_42 (dk_at dksX28_next_0 0 rfl rfl)
theorem dX28_next_1 : decode cX28_next 1 = .ok (.getfield 69, 3) := dk_180 0 69 (dk_at dksX28_next_0 1 rfl rfl)
theorem dX28_next_4 : decode cX28_next 4 = .ok (.istore_n 1, 1) := dk_60 (dk_at dksX28_next_0 4 rfl rfl)
theorem dX28_next_5 : decode cX28_next 5 = .ok (.aload_n 0, 1) := dk_42 (dk_at dksX28_next_0 5 rfl rfl)
theorem dX28_next_6 : decode cX28_next 6 = .ok (.iload_n 1, 1) := dk_27 (dk_at dksX28_next_0 6 rfl rfl)
theorem dX28_next_7 : decode cX28_next 7 = .ok (.invokevirtual 72, 3) := dk_182 0 72 (dk_at dksX28_next_0 7 rfl rfl)
theorem dX28_next_10 : decode cX28_next 10 = .ok (.istore_n 2, 1) := dk_61 (dk_at dksX28_next_0 10 rfl rfl)
theorem dX28_next_11 : decode cX28_next 11 = .ok (.iload_n 2, 1) := dk_28 (dk_at dksX28_next_0 11 rfl rfl)
theorem dX28_next_12 : decode cX28_next 12 = .ok (.bipush 32, 2) := dk_16 32 (dk_at dksX28_next_0 12 rfl rfl)
theorem dX28_next_14 : decode cX28_next 14 = .ok (.if_icmp .eq 27, 3) := dk_159 0 27 (dk_at dksX28_next_0 14 rfl rfl)
theorem dX28_next_17 : decode cX28_next 17 = .ok (.iload_n 2, 1) := dk_28 (dk_at dksX28_next_0 17 rfl rfl)
theorem dX28_next_18 : decode cX28_next 18 = .ok (.bipush 9, 2) := dk_16 9 (dk_at dksX28_next_0 18 rfl rfl)
theorem dX28_next_20 : decode cX28_next 20 = .ok (.if_icmp .eq 21, 3) := dk_159 0 21 (dk_at dksX28_next_0 20 rfl rfl)
theorem dX28_next_23 : decode cX28_next 23 = .ok (.iload_n 2, 1) := dk_28 (dk_at dksX28_next_0 23 rfl rfl)
theorem dX28_next_24 : decode cX28_next 24 = .ok (.bipush 13, 2) := dk_16 13 (dk_at dksX28_next_1 0 rfl rfl)
theorem dX28_next_26 : decode cX28_next 26 = .ok (.if_icmp .eq 15, 3) := dk_159 0 15 (dk_at dksX28_next_1 2 rfl rfl)
theorem dX28_next_29 : decode cX28_next 29 = .ok (.iload_n 2, 1) := dk_28 (dk_at dksX28_next_1 5 rfl rfl)
theorem dX28_next_30 : decode cX28_next 30 = .ok (.bipush 10, 2) := dk_16 10 (dk_at dksX28_next_1 6 rfl rfl)
theorem dX28_next_32 : decode cX28_next 32 = .ok (.if_icmp .eq 9, 3) := dk_159 0 9 (dk_at dksX28_next_1 8 rfl rfl)
theorem dX28_next_35 : decode cX28_next 35 = .ok (.iload_n 2, 1) := dk_28 (dk_at dksX28_next_1 11 rfl rfl)
theorem dX28_next_36 : decode cX28_next 36 = .ok (.bipush 35, 2) := dk_16 35 (dk_at dksX28_next_1 12 rfl rfl)
theorem dX28_next_38 : decode cX28_next 38 = .ok (.if_icmp .ne 46, 3) := dk_160 0 46 (dk_at dksX28_next_1 14 rfl rfl)
theorem dX28_next_41 : decode cX28_next 41 = .ok (.iload_n 2, 1) := dk_28 (dk_at dksX28_next_1 17 rfl rfl)
theorem dX28_next_42 : decode cX28_next 42 = .ok (.bipush 35, 2) := dk_16 35 (dk_at dksX28_next_1 18 rfl rfl)
theorem dX28_next_44 : decode cX28_next 44 = .ok (.if_icmp .ne 28, 3) := dk_160 0 28 (dk_at dksX28_next_1 20 rfl rfl)
theorem dX28_next_47 : decode cX28_next 47 = .ok (.iload_n 1, 1) := dk_27 (dk_at dksX28_next_1 23 rfl rfl)
theorem dX28_next_48 : decode cX28_next 48 = .ok (.aload_n 0, 1) := dk_42 (dk_at dksX28_next_2 0 rfl rfl)
theorem dX28_next_49 : decode cX28_next 49 = .ok (.getfield 65, 3) := dk_180 0 65 (dk_at dksX28_next_2 1 rfl rfl)
theorem dX28_next_52 : decode cX28_next 52 = .ok (.if_icmp .ge 23, 3) := dk_162 0 23 (dk_at dksX28_next_2 4 rfl rfl)
theorem dX28_next_55 : decode cX28_next 55 = .ok (.aload_n 0, 1) := dk_42 (dk_at dksX28_next_2 7 rfl rfl)
theorem dX28_next_56 : decode cX28_next 56 = .ok (.getfield 9, 3) := dk_180 0 9 (dk_at dksX28_next_2 8 rfl rfl)
theorem dX28_next_59 : decode cX28_next 59 = .ok (.iload_n 1, 1) := dk_27 (dk_at dksX28_next_2 11 rfl rfl)
theorem dX28_next_60 : decode cX28_next 60 = .ok (.baload, 1) := dk_51 (dk_at dksX28_next_2 12 rfl rfl)
theorem dX28_next_61 : decode cX28_next 61 = .ok (.bipush 10, 2) := dk_16 10 (dk_at dksX28_next_2 13 rfl rfl)
theorem dX28_next_63 : decode cX28_next 63 = .ok (.if_icmp .eq 12, 3) := dk_159 0 12 (dk_at dksX28_next_2 15 rfl rfl)
theorem dX28_next_66 : decode cX28_next 66 = .ok (.iinc 1 1, 3) := dk_132 1 1 (dk_at dksX28_next_2 18 rfl rfl)
theorem dX28_next_69 : decode cX28_next 69 = .ok (.goto (-22), 3) := dk_167 255 234 (dk_at dksX28_next_2 21 rfl rfl)
theorem dX28_next_72 : decode cX28_next 72 = .ok (.iinc 1 1, 3) := dk_132 1 1 (dk_at dksX28_next_3 0 rfl rfl)
theorem dX28_next_75 : decode cX28_next 75 = .ok (.aload_n 0, 1) := dk_42 (dk_at dksX28_next_3 3 rfl rfl)
theorem dX28_next_76 : decode cX28_next 76 = .ok (.iload_n 1, 1) := dk_27 (dk_at dksX28_next_3 4 rfl rfl)
theorem dX28_next_77 : decode cX28_next 77 = .ok (.invokevirtual 72, 3) := dk_182 0 72 (dk_at dksX28_next_3 5 rfl rfl)
theorem dX28_next_80 : decode cX28_next 80 = .ok (.istore_n 2, 1) := dk_61 (dk_at dksX28_next_3 8 rfl rfl)
theorem dX28_next_81 : decode cX28_next 81 = .ok (.goto (-70), 3) := dk_167 255 186 (dk_at dksX28_next_3 9 rfl rfl)
theorem dX28_next_84 : decode cX28_next 84 = .ok (.aload_n 0, 1) := dk_42 (dk_at dksX28_next_3 12 rfl rfl)
theorem dX28_next_85 : decode cX28_next 85 = .ok (.iload_n 1, 1) := dk_27 (dk_at dksX28_next_3 13 rfl rfl)
theorem dX28_next_86 : decode cX28_next 86 = .ok (.putfield 76, 3) := dk_181 0 76 (dk_at dksX28_next_3 14 rfl rfl)
theorem dX28_next_89 : decode cX28_next 89 = .ok (.iload_n 2, 1) := dk_28 (dk_at dksX28_next_3 17 rfl rfl)
theorem dX28_next_90 : decode cX28_next 90 = .ok (.bipush 123, 2) := dk_16 123 (dk_at dksX28_next_3 18 rfl rfl)
theorem dX28_next_92 : decode cX28_next 92 = .ok (.if_icmp .eq 27, 3) := dk_159 0 27 (dk_at dksX28_next_3 20 rfl rfl)
theorem dX28_next_95 : decode cX28_next 95 = .ok (.iload_n 2, 1) := dk_28 (dk_at dksX28_next_3 23 rfl rfl)
theorem dX28_next_96 : decode cX28_next 96 = .ok (.bipush 125, 2) := dk_16 125 (dk_at dksX28_next_4 0 rfl rfl)
theorem dX28_next_98 : decode cX28_next 98 = .ok (.if_icmp .eq 21, 3) := dk_159 0 21 (dk_at dksX28_next_4 2 rfl rfl)
theorem dX28_next_101 : decode cX28_next 101 = .ok (.iload_n 2, 1) := dk_28 (dk_at dksX28_next_4 5 rfl rfl)
theorem dX28_next_102 : decode cX28_next 102 = .ok (.bipush 40, 2) := dk_16 40 (dk_at dksX28_next_4 6 rfl rfl)
theorem dX28_next_104 : decode cX28_next 104 = .ok (.if_icmp .eq 15, 3) := dk_159 0 15 (dk_at dksX28_next_4 8 rfl rfl)
theorem dX28_next_107 : decode cX28_next 107 = .ok (.iload_n 2, 1) := dk_28 (dk_at dksX28_next_4 11 rfl rfl)
theorem dX28_next_108 : decode cX28_next 108 = .ok (.bipush 41, 2) := dk_16 41 (dk_at dksX28_next_4 12 rfl rfl)
theorem dX28_next_110 : decode cX28_next 110 = .ok (.if_icmp .eq 9, 3) := dk_159 0 9 (dk_at dksX28_next_4 14 rfl rfl)
theorem dX28_next_113 : decode cX28_next 113 = .ok (.iload_n 2, 1) := dk_28 (dk_at dksX28_next_4 17 rfl rfl)
theorem dX28_next_114 : decode cX28_next 114 = .ok (.bipush 59, 2) := dk_16 59 (dk_at dksX28_next_4 18 rfl rfl)
theorem dX28_next_116 : decode cX28_next 116 = .ok (.if_icmp .ne 18, 3) := dk_160 0 18 (dk_at dksX28_next_4 20 rfl rfl)
theorem dX28_next_119 : decode cX28_next 119 = .ok (.aload_n 0, 1) := dk_42 (dk_at dksX28_next_4 23 rfl rfl)
theorem dX28_next_120 : decode cX28_next 120 = .ok (.iload_n 2, 1) := dk_28 (dk_at dksX28_next_5 0 rfl rfl)
theorem dX28_next_121 : decode cX28_next 121 = .ok (.putfield 79, 3) := dk_181 0 79 (dk_at dksX28_next_5 1 rfl rfl)
theorem dX28_next_124 : decode cX28_next 124 = .ok (.aload_n 0, 1) := dk_42 (dk_at dksX28_next_5 4 rfl rfl)
theorem dX28_next_125 : decode cX28_next 125 = .ok (.iload_n 1, 1) := dk_27 (dk_at dksX28_next_5 5 rfl rfl)
theorem dX28_next_126 : decode cX28_next 126 = .ok (.iconst 1, 1) := dk_4 (dk_at dksX28_next_5 6 rfl rfl)
theorem dX28_next_127 : decode cX28_next 127 = .ok (.iadd, 1) := dk_96 (dk_at dksX28_next_5 7 rfl rfl)
theorem dX28_next_128 : decode cX28_next 128 = .ok (.putfield 69, 3) := dk_181 0 69 (dk_at dksX28_next_5 8 rfl rfl)
theorem dX28_next_131 : decode cX28_next 131 = .ok (.goto 169, 3) := dk_167 0 169 (dk_at dksX28_next_5 11 rfl rfl)
theorem dX28_next_134 : decode cX28_next 134 = .ok (.iload_n 1, 1) := dk_27 (dk_at dksX28_next_5 14 rfl rfl)
theorem dX28_next_135 : decode cX28_next 135 = .ok (.aload_n 0, 1) := dk_42 (dk_at dksX28_next_5 15 rfl rfl)
theorem dX28_next_136 : decode cX28_next 136 = .ok (.getfield 65, 3) := dk_180 0 65 (dk_at dksX28_next_5 16 rfl rfl)
theorem dX28_next_139 : decode cX28_next 139 = .ok (.if_icmp .lt 16, 3) := dk_161 0 16 (dk_at dksX28_next_5 19 rfl rfl)
theorem dX28_next_142 : decode cX28_next 142 = .ok (.aload_n 0, 1) := dk_42 (dk_at dksX28_next_5 22 rfl rfl)
theorem dX28_next_143 : decode cX28_next 143 = .ok (.iconst 0, 1) := dk_3 (dk_at dksX28_next_5 23 rfl rfl)
theorem dX28_next_144 : decode cX28_next 144 = .ok (.putfield 79, 3) := dk_181 0 79 (dk_at dksX28_next_6 0 rfl rfl)
theorem dX28_next_147 : decode cX28_next 147 = .ok (.aload_n 0, 1) := dk_42 (dk_at dksX28_next_6 3 rfl rfl)
theorem dX28_next_148 : decode cX28_next 148 = .ok (.iload_n 1, 1) := dk_27 (dk_at dksX28_next_6 4 rfl rfl)
theorem dX28_next_149 : decode cX28_next 149 = .ok (.putfield 69, 3) := dk_181 0 69 (dk_at dksX28_next_6 5 rfl rfl)
theorem dX28_next_152 : decode cX28_next 152 = .ok (.goto 148, 3) := dk_167 0 148 (dk_at dksX28_next_6 8 rfl rfl)
theorem dX28_next_155 : decode cX28_next 155 = .ok (.iload_n 2, 1) := dk_28 (dk_at dksX28_next_6 11 rfl rfl)
theorem dX28_next_156 : decode cX28_next 156 = .ok (.bipush 48, 2) := dk_16 48 (dk_at dksX28_next_6 12 rfl rfl)
theorem dX28_next_158 : decode cX28_next 158 = .ok (.if_icmp .ne 25, 3) := dk_160 0 25 (dk_at dksX28_next_6 14 rfl rfl)
theorem dX28_next_161 : decode cX28_next 161 = .ok (.aload_n 0, 1) := dk_42 (dk_at dksX28_next_6 17 rfl rfl)
theorem dX28_next_162 : decode cX28_next 162 = .ok (.iload_n 1, 1) := dk_27 (dk_at dksX28_next_6 18 rfl rfl)
theorem dX28_next_163 : decode cX28_next 163 = .ok (.iconst 1, 1) := dk_4 (dk_at dksX28_next_6 19 rfl rfl)
theorem dX28_next_164 : decode cX28_next 164 = .ok (.iadd, 1) := dk_96 (dk_at dksX28_next_6 20 rfl rfl)
theorem dX28_next_165 : decode cX28_next 165 = .ok (.invokevirtual 72, 3) := dk_182 0 72 (dk_at dksX28_next_6 21 rfl rfl)
theorem dX28_next_168 : decode cX28_next 168 = .ok (.bipush 120, 2) := dk_16 120 (dk_at dksX28_next_7 0 rfl rfl)
theorem dX28_next_170 : decode cX28_next 170 = .ok (.if_icmp .ne 13, 3) := dk_160 0 13 (dk_at dksX28_next_7 2 rfl rfl)
theorem dX28_next_173 : decode cX28_next 173 = .ok (.aload_n 0, 1) := dk_42 (dk_at dksX28_next_7 5 rfl rfl)
theorem dX28_next_174 : decode cX28_next 174 = .ok (.iload_n 1, 1) := dk_27 (dk_at dksX28_next_7 6 rfl rfl)
theorem dX28_next_175 : decode cX28_next 175 = .ok (.iconst 2, 1) := dk_5 (dk_at dksX28_next_7 7 rfl rfl)
theorem dX28_next_176 : decode cX28_next 176 = .ok (.iadd, 1) := dk_96 (dk_at dksX28_next_7 8 rfl rfl)
theorem dX28_next_177 : decode cX28_next 177 = .ok (.invokevirtual 82, 3) := dk_182 0 82 (dk_at dksX28_next_7 9 rfl rfl)
theorem dX28_next_180 : decode cX28_next 180 = .ok (.goto 120, 3) := dk_167 0 120 (dk_at dksX28_next_7 12 rfl rfl)
theorem dX28_next_183 : decode cX28_next 183 = .ok (.iload_n 2, 1) := dk_28 (dk_at dksX28_next_7 15 rfl rfl)
theorem dX28_next_184 : decode cX28_next 184 = .ok (.bipush 45, 2) := dk_16 45 (dk_at dksX28_next_7 16 rfl rfl)
theorem dX28_next_186 : decode cX28_next 186 = .ok (.if_icmp .eq 10, 3) := dk_159 0 10 (dk_at dksX28_next_7 18 rfl rfl)
theorem dX28_next_189 : decode cX28_next 189 = .ok (.iload_n 2, 1) := dk_28 (dk_at dksX28_next_7 21 rfl rfl)
theorem dX28_next_190 : decode cX28_next 190 = .ok (.invokestatic 61, 3) := dk_184 0 61 (dk_at dksX28_next_8 0 rfl rfl)
theorem dX28_next_193 : decode cX28_next 193 = .ok (.ifCond .eq 23, 3) := dk_153 0 23 (dk_at dksX28_next_8 3 rfl rfl)
theorem dX28_next_196 : decode cX28_next 196 = .ok (.aload_n 0, 1) := dk_42 (dk_at dksX28_next_8 6 rfl rfl)
theorem dX28_next_197 : decode cX28_next 197 = .ok (.iload_n 2, 1) := dk_28 (dk_at dksX28_next_8 7 rfl rfl)
theorem dX28_next_198 : decode cX28_next 198 = .ok (.bipush 45, 2) := dk_16 45 (dk_at dksX28_next_8 8 rfl rfl)
theorem dX28_next_200 : decode cX28_next 200 = .ok (.if_icmp .ne 9, 3) := dk_160 0 9 (dk_at dksX28_next_8 10 rfl rfl)
theorem dX28_next_203 : decode cX28_next 203 = .ok (.iload_n 1, 1) := dk_27 (dk_at dksX28_next_8 13 rfl rfl)
theorem dX28_next_204 : decode cX28_next 204 = .ok (.iconst 1, 1) := dk_4 (dk_at dksX28_next_8 14 rfl rfl)
theorem dX28_next_205 : decode cX28_next 205 = .ok (.iadd, 1) := dk_96 (dk_at dksX28_next_8 15 rfl rfl)
theorem dX28_next_206 : decode cX28_next 206 = .ok (.goto 4, 3) := dk_167 0 4 (dk_at dksX28_next_8 16 rfl rfl)
theorem dX28_next_209 : decode cX28_next 209 = .ok (.iload_n 1, 1) := dk_27 (dk_at dksX28_next_8 19 rfl rfl)
theorem dX28_next_210 : decode cX28_next 210 = .ok (.invokevirtual 86, 3) := dk_182 0 86 (dk_at dksX28_next_8 20 rfl rfl)
theorem dX28_next_213 : decode cX28_next 213 = .ok (.goto 87, 3) := dk_167 0 87 (dk_at dksX28_next_9 0 rfl rfl)
theorem dX28_next_216 : decode cX28_next 216 = .ok (.iload_n 2, 1) := dk_28 (dk_at dksX28_next_9 3 rfl rfl)
theorem dX28_next_217 : decode cX28_next 217 = .ok (.bipush 34, 2) := dk_16 34 (dk_at dksX28_next_9 4 rfl rfl)
theorem dX28_next_219 : decode cX28_next 219 = .ok (.if_icmp .ne 13, 3) := dk_160 0 13 (dk_at dksX28_next_9 6 rfl rfl)
theorem dX28_next_222 : decode cX28_next 222 = .ok (.aload_n 0, 1) := dk_42 (dk_at dksX28_next_9 9 rfl rfl)
theorem dX28_next_223 : decode cX28_next 223 = .ok (.iload_n 1, 1) := dk_27 (dk_at dksX28_next_9 10 rfl rfl)
theorem dX28_next_224 : decode cX28_next 224 = .ok (.iconst 1, 1) := dk_4 (dk_at dksX28_next_9 11 rfl rfl)
theorem dX28_next_225 : decode cX28_next 225 = .ok (.iadd, 1) := dk_96 (dk_at dksX28_next_9 12 rfl rfl)
theorem dX28_next_226 : decode cX28_next 226 = .ok (.invokevirtual 89, 3) := dk_182 0 89 (dk_at dksX28_next_9 13 rfl rfl)
theorem dX28_next_229 : decode cX28_next 229 = .ok (.goto 71, 3) := dk_167 0 71 (dk_at dksX28_next_9 16 rfl rfl)
theorem dX28_next_232 : decode cX28_next 232 = .ok (.iload_n 2, 1) := dk_28 (dk_at dksX28_next_9 19 rfl rfl)
theorem dX28_next_233 : decode cX28_next 233 = .ok (.invokestatic 92, 3) := dk_184 0 92 (dk_at dksX28_next_9 20 rfl rfl)
theorem dX28_next_236 : decode cX28_next 236 = .ok (.ifCond .eq 24, 3) := dk_153 0 24 (dk_at dksX28_next_10 0 rfl rfl)
theorem dX28_next_239 : decode cX28_next 239 = .ok (.aload_n 0, 1) := dk_42 (dk_at dksX28_next_10 3 rfl rfl)
theorem dX28_next_240 : decode cX28_next 240 = .ok (.iconst 4, 1) := dk_7 (dk_at dksX28_next_10 4 rfl rfl)
theorem dX28_next_241 : decode cX28_next 241 = .ok (.putfield 79, 3) := dk_181 0 79 (dk_at dksX28_next_10 5 rfl rfl)
theorem dX28_next_244 : decode cX28_next 244 = .ok (.aload_n 0, 1) := dk_42 (dk_at dksX28_next_10 8 rfl rfl)
theorem dX28_next_245 : decode cX28_next 245 = .ok (.aload_n 0, 1) := dk_42 (dk_at dksX28_next_10 9 rfl rfl)
theorem dX28_next_246 : decode cX28_next 246 = .ok (.iload_n 1, 1) := dk_27 (dk_at dksX28_next_10 10 rfl rfl)
theorem dX28_next_247 : decode cX28_next 247 = .ok (.aload_n 0, 1) := dk_42 (dk_at dksX28_next_10 11 rfl rfl)
theorem dX28_next_248 : decode cX28_next 248 = .ok (.getfield 65, 3) := dk_180 0 65 (dk_at dksX28_next_10 12 rfl rfl)
theorem dX28_next_251 : decode cX28_next 251 = .ok (.invokevirtual 95, 3) := dk_182 0 95 (dk_at dksX28_next_10 15 rfl rfl)
theorem dX28_next_254 : decode cX28_next 254 = .ok (.putfield 69, 3) := dk_181 0 69 (dk_at dksX28_next_10 18 rfl rfl)
theorem dX28_next_257 : decode cX28_next 257 = .ok (.goto 43, 3) := dk_167 0 43 (dk_at dksX28_next_10 21 rfl rfl)
theorem dX28_next_260 : decode cX28_next 260 = .ok (.aload_n 0, 1) := dk_42 (dk_at dksX28_next_11 0 rfl rfl)
theorem dX28_next_261 : decode cX28_next 261 = .ok (.aload_n 0, 1) := dk_42 (dk_at dksX28_next_11 1 rfl rfl)
theorem dX28_next_262 : decode cX28_next 262 = .ok (.iload_n 1, 1) := dk_27 (dk_at dksX28_next_11 2 rfl rfl)
theorem dX28_next_263 : decode cX28_next 263 = .ok (.iconst 1, 1) := dk_4 (dk_at dksX28_next_11 3 rfl rfl)
theorem dX28_next_264 : decode cX28_next 264 = .ok (.iadd, 1) := dk_96 (dk_at dksX28_next_11 4 rfl rfl)
theorem dX28_next_265 : decode cX28_next 265 = .ok (.iload_n 1, 1) := dk_27 (dk_at dksX28_next_11 5 rfl rfl)
theorem dX28_next_266 : decode cX28_next 266 = .ok (.bipush 32, 2) := dk_16 32 (dk_at dksX28_next_11 6 rfl rfl)
theorem dX28_next_268 : decode cX28_next 268 = .ok (.iadd, 1) := dk_96 (dk_at dksX28_next_11 8 rfl rfl)
theorem dX28_next_269 : decode cX28_next 269 = .ok (.invokevirtual 95, 3) := dk_182 0 95 (dk_at dksX28_next_11 9 rfl rfl)
theorem dX28_next_272 : decode cX28_next 272 = .ok (.putfield 69, 3) := dk_181 0 69 (dk_at dksX28_next_11 12 rfl rfl)
theorem dX28_next_275 : decode cX28_next 275 = .ok (.aload_n 0, 1) := dk_42 (dk_at dksX28_next_11 15 rfl rfl)
theorem dX28_next_276 : decode cX28_next 276 = .ok (.iload_n 2, 1) := dk_28 (dk_at dksX28_next_11 16 rfl rfl)
theorem dX28_next_277 : decode cX28_next 277 = .ok (.bipush 37, 2) := dk_16 37 (dk_at dksX28_next_11 17 rfl rfl)
theorem dX28_next_279 : decode cX28_next 279 = .ok (.if_icmp .ne 17, 3) := dk_160 0 17 (dk_at dksX28_next_11 19 rfl rfl)
theorem dX28_next_282 : decode cX28_next 282 = .ok (.aload_n 0, 1) := dk_42 (dk_at dksX28_next_11 22 rfl rfl)
theorem dX28_next_283 : decode cX28_next 283 = .ok (.getfield 69, 3) := dk_180 0 69 (dk_at dksX28_next_12 0 rfl rfl)
theorem dX28_next_286 : decode cX28_next 286 = .ok (.iload_n 1, 1) := dk_27 (dk_at dksX28_next_12 3 rfl rfl)
theorem dX28_next_287 : decode cX28_next 287 = .ok (.iconst 1, 1) := dk_4 (dk_at dksX28_next_12 4 rfl rfl)
theorem dX28_next_288 : decode cX28_next 288 = .ok (.iadd, 1) := dk_96 (dk_at dksX28_next_12 5 rfl rfl)
theorem dX28_next_289 : decode cX28_next 289 = .ok (.if_icmp .le 7, 3) := dk_164 0 7 (dk_at dksX28_next_12 6 rfl rfl)
theorem dX28_next_292 : decode cX28_next 292 = .ok (.iconst 5, 1) := dk_8 (dk_at dksX28_next_12 9 rfl rfl)
theorem dX28_next_293 : decode cX28_next 293 = .ok (.goto 4, 3) := dk_167 0 4 (dk_at dksX28_next_12 10 rfl rfl)
theorem dX28_next_296 : decode cX28_next 296 = .ok (.iconst (-1), 1) := dk_2 (dk_at dksX28_next_12 13 rfl rfl)
theorem dX28_next_297 : decode cX28_next 297 = .ok (.putfield 79, 3) := dk_181 0 79 (dk_at dksX28_next_12 14 rfl rfl)
theorem dX28_next_300 : decode cX28_next 300 = .ok (.return_, 1) := dk_177 (dk_at dksX28_next_12 17 rfl rfl)
abbrev cX28_look : ByteArray := prog_29_method_5_code
def yX28_look : MethodName := ⟨RX28, "look", "(I)I"⟩
def dkwX28_look_0 : List UInt8 := [27, 42, 180, 0, 65, 162, 0, 16, 42, 180, 0, 9, 27, 51, 17, 0, 255, 126, 167, 0, 4, 2, 172]
abbrev dktX28_look_0 : List UInt8 := dkwX28_look_0 ++ []
theorem dksX28_look_0 : cX28_look.data.toList.drop 0 = dktX28_look_0 := by decide +kernel
theorem dX28_look_0 : decode cX28_look 0 = .ok (.iload_n 1, 1) := dk_27 (dk_at dksX28_look_0 0 rfl rfl)
theorem dX28_look_1 : decode cX28_look 1 = .ok (.aload_n 0, 1) := dk_42 (dk_at dksX28_look_0 1 rfl rfl)
theorem dX28_look_2 : decode cX28_look 2 = .ok (.getfield 65, 3) := dk_180 0 65 (dk_at dksX28_look_0 2 rfl rfl)
theorem dX28_look_5 : decode cX28_look 5 = .ok (.if_icmp .ge 16, 3) := dk_162 0 16 (dk_at dksX28_look_0 5 rfl rfl)
theorem dX28_look_8 : decode cX28_look 8 = .ok (.aload_n 0, 1) := dk_42 (dk_at dksX28_look_0 8 rfl rfl)
theorem dX28_look_9 : decode cX28_look 9 = .ok (.getfield 9, 3) := dk_180 0 9 (dk_at dksX28_look_0 9 rfl rfl)
theorem dX28_look_12 : decode cX28_look 12 = .ok (.iload_n 1, 1) := dk_27 (dk_at dksX28_look_0 12 rfl rfl)
theorem dX28_look_13 : decode cX28_look 13 = .ok (.baload, 1) := dk_51 (dk_at dksX28_look_0 13 rfl rfl)
theorem dX28_look_14 : decode cX28_look 14 = .ok (.sipush 255, 3) := dk_17 0 255 (dk_at dksX28_look_0 14 rfl rfl)
theorem dX28_look_17 : decode cX28_look 17 = .ok (.iand, 1) := dk_126 (dk_at dksX28_look_0 17 rfl rfl)
theorem dX28_look_18 : decode cX28_look 18 = .ok (.goto 4, 3) := dk_167 0 4 (dk_at dksX28_look_0 18 rfl rfl)
theorem dX28_look_21 : decode cX28_look 21 = .ok (.iconst (-1), 1) := dk_2 (dk_at dksX28_look_0 21 rfl rfl)
theorem dX28_look_22 : decode cX28_look 22 = .ok (.ireturn, 1) := dk_172 (dk_at dksX28_look_0 22 rfl rfl)
abbrev cX28_bytes : ByteArray := prog_29_method_8_code
def yX28_bytes : MethodName := ⟨RX28, "bytes", "(I)V"⟩
def dkwX28_bytes_1 : List UInt8 := [112, 154, 0, 7, 6, 167, 0, 4, 2, 181, 0, 79, 42, 28, 181, 0, 69, 177]
abbrev dktX28_bytes_1 : List UInt8 := dkwX28_bytes_1 ++ []
def dkwX28_bytes_0 : List UInt8 := [27, 61, 42, 28, 182, 0, 72, 184, 0, 99, 155, 0, 9, 132, 2, 1, 167, 255, 242, 42, 28, 27, 100, 5]
abbrev dktX28_bytes_0 : List UInt8 := dkwX28_bytes_0 ++ dktX28_bytes_1
theorem dksX28_bytes_0 : cX28_bytes.data.toList.drop 0 = dktX28_bytes_0 := by decide +kernel
theorem dksX28_bytes_1 : cX28_bytes.data.toList.drop 24 = dktX28_bytes_1 := dk_seg dksX28_bytes_0 24 rfl rfl
theorem dX28_bytes_0 : decode cX28_bytes 0 = .ok (.iload_n 1, 1) := dk_27 (dk_at dksX28_bytes_0 0 rfl rfl)
theorem dX28_bytes_1 : decode cX28_bytes 1 = .ok (.istore_n 2, 1) := dk_61 (dk_at dksX28_bytes_0 1 rfl rfl)
theorem dX28_bytes_2 : decode cX28_bytes 2 = .ok (.aload_n 0, 1) := dk_42 (dk_at dksX28_bytes_0 2 rfl rfl)
theorem dX28_bytes_3 : decode cX28_bytes 3 = .ok (.iload_n 2, 1) := dk_28 (dk_at dksX28_bytes_0 3 rfl rfl)
theorem dX28_bytes_4 : decode cX28_bytes 4 = .ok (.invokevirtual 72, 3) := dk_182 0 72 (dk_at dksX28_bytes_0 4 rfl rfl)
theorem dX28_bytes_7 : decode cX28_bytes 7 = .ok (.invokestatic 99, 3) := dk_184 0 99 (dk_at dksX28_bytes_0 7 rfl rfl)
theorem dX28_bytes_10 : decode cX28_bytes 10 = .ok (.ifCond .lt 9, 3) := dk_155 0 9 (dk_at dksX28_bytes_0 10 rfl rfl)
theorem dX28_bytes_13 : decode cX28_bytes 13 = .ok (.iinc 2 1, 3) := dk_132 2 1 (dk_at dksX28_bytes_0 13 rfl rfl)
theorem dX28_bytes_16 : decode cX28_bytes 16 = .ok (.goto (-14), 3) := dk_167 255 242 (dk_at dksX28_bytes_0 16 rfl rfl)
theorem dX28_bytes_19 : decode cX28_bytes 19 = .ok (.aload_n 0, 1) := dk_42 (dk_at dksX28_bytes_0 19 rfl rfl)
theorem dX28_bytes_20 : decode cX28_bytes 20 = .ok (.iload_n 2, 1) := dk_28 (dk_at dksX28_bytes_0 20 rfl rfl)
theorem dX28_bytes_21 : decode cX28_bytes 21 = .ok (.iload_n 1, 1) := dk_27 (dk_at dksX28_bytes_0 21 rfl rfl)
theorem dX28_bytes_22 : decode cX28_bytes 22 = .ok (.isub, 1) := dk_100 (dk_at dksX28_bytes_0 22 rfl rfl)
theorem dX28_bytes_23 : decode cX28_bytes 23 = .ok (.iconst 2, 1) := dk_5 (dk_at dksX28_bytes_0 23 rfl rfl)
theorem dX28_bytes_24 : decode cX28_bytes 24 = .ok (.irem, 1) := dk_112 (dk_at dksX28_bytes_1 0 rfl rfl)
theorem dX28_bytes_25 : decode cX28_bytes 25 = .ok (.ifCond .ne 7, 3) := dk_154 0 7 (dk_at dksX28_bytes_1 1 rfl rfl)
theorem dX28_bytes_28 : decode cX28_bytes 28 = .ok (.iconst 3, 1) := dk_6 (dk_at dksX28_bytes_1 4 rfl rfl)
theorem dX28_bytes_29 : decode cX28_bytes 29 = .ok (.goto 4, 3) := dk_167 0 4 (dk_at dksX28_bytes_1 5 rfl rfl)
theorem dX28_bytes_32 : decode cX28_bytes 32 = .ok (.iconst (-1), 1) := dk_2 (dk_at dksX28_bytes_1 8 rfl rfl)
theorem dX28_bytes_33 : decode cX28_bytes 33 = .ok (.putfield 79, 3) := dk_181 0 79 (dk_at dksX28_bytes_1 9 rfl rfl)
theorem dX28_bytes_36 : decode cX28_bytes 36 = .ok (.aload_n 0, 1) := dk_42 (dk_at dksX28_bytes_1 12 rfl rfl)
theorem dX28_bytes_37 : decode cX28_bytes 37 = .ok (.iload_n 2, 1) := dk_28 (dk_at dksX28_bytes_1 13 rfl rfl)
theorem dX28_bytes_38 : decode cX28_bytes 38 = .ok (.putfield 69, 3) := dk_181 0 69 (dk_at dksX28_bytes_1 14 rfl rfl)
theorem dX28_bytes_41 : decode cX28_bytes 41 = .ok (.return_, 1) := dk_177 (dk_at dksX28_bytes_1 17 rfl rfl)
abbrev cX28_hex : ByteArray := prog_29_method_4_code
def yX28_hex : MethodName := ⟨RX28, "hex", "(I)I"⟩
def dkwX28_hex_2 : List UInt8 := [163, 0, 13, 26, 16, 65, 100, 16, 10, 96, 167, 0, 4, 2, 172]
abbrev dktX28_hex_2 : List UInt8 := dkwX28_hex_2 ++ []
def dkwX28_hex_1 : List UInt8 := [163, 0, 13, 26, 16, 97, 100, 16, 10, 96, 167, 0, 26, 26, 16, 65, 161, 0, 19, 26, 16, 70]
abbrev dktX28_hex_1 : List UInt8 := dkwX28_hex_1 ++ dktX28_hex_2
def dkwX28_hex_0 : List UInt8 := [26, 184, 0, 61, 153, 0, 10, 26, 16, 48, 100, 167, 0, 48, 26, 16, 97, 161, 0, 19, 26, 16, 102]
abbrev dktX28_hex_0 : List UInt8 := dkwX28_hex_0 ++ dktX28_hex_1
theorem dksX28_hex_0 : cX28_hex.data.toList.drop 0 = dktX28_hex_0 := by decide +kernel
theorem dksX28_hex_1 : cX28_hex.data.toList.drop 23 = dktX28_hex_1 := dk_seg dksX28_hex_0 23 rfl rfl
theorem dksX28_hex_2 : cX28_hex.data.toList.drop 45 = dktX28_hex_2 := dk_seg dksX28_hex_1 22 rfl rfl
theorem dX28_hex_0 : decode cX28_hex 0 = .ok (.iload_n 0, 1) := dk_26 (dk_at dksX28_hex_0 0 rfl rfl)
theorem dX28_hex_1 : decode cX28_hex 1 = .ok (.invokestatic 61, 3) := dk_184 0 61 (dk_at dksX28_hex_0 1 rfl rfl)
theorem dX28_hex_4 : decode cX28_hex 4 = .ok (.ifCond .eq 10, 3) := dk_153 0 10 (dk_at dksX28_hex_0 4 rfl rfl)
theorem dX28_hex_7 : decode cX28_hex 7 = .ok (.iload_n 0, 1) := dk_26 (dk_at dksX28_hex_0 7 rfl rfl)
theorem dX28_hex_8 : decode cX28_hex 8 = .ok (.bipush 48, 2) := dk_16 48 (dk_at dksX28_hex_0 8 rfl rfl)
theorem dX28_hex_10 : decode cX28_hex 10 = .ok (.isub, 1) := dk_100 (dk_at dksX28_hex_0 10 rfl rfl)
theorem dX28_hex_11 : decode cX28_hex 11 = .ok (.goto 48, 3) := dk_167 0 48 (dk_at dksX28_hex_0 11 rfl rfl)
theorem dX28_hex_14 : decode cX28_hex 14 = .ok (.iload_n 0, 1) := dk_26 (dk_at dksX28_hex_0 14 rfl rfl)
theorem dX28_hex_15 : decode cX28_hex 15 = .ok (.bipush 97, 2) := dk_16 97 (dk_at dksX28_hex_0 15 rfl rfl)
theorem dX28_hex_17 : decode cX28_hex 17 = .ok (.if_icmp .lt 19, 3) := dk_161 0 19 (dk_at dksX28_hex_0 17 rfl rfl)
theorem dX28_hex_20 : decode cX28_hex 20 = .ok (.iload_n 0, 1) := dk_26 (dk_at dksX28_hex_0 20 rfl rfl)
theorem dX28_hex_21 : decode cX28_hex 21 = .ok (.bipush 102, 2) := dk_16 102 (dk_at dksX28_hex_0 21 rfl rfl)
theorem dX28_hex_23 : decode cX28_hex 23 = .ok (.if_icmp .gt 13, 3) := dk_163 0 13 (dk_at dksX28_hex_1 0 rfl rfl)
theorem dX28_hex_26 : decode cX28_hex 26 = .ok (.iload_n 0, 1) := dk_26 (dk_at dksX28_hex_1 3 rfl rfl)
theorem dX28_hex_27 : decode cX28_hex 27 = .ok (.bipush 97, 2) := dk_16 97 (dk_at dksX28_hex_1 4 rfl rfl)
theorem dX28_hex_29 : decode cX28_hex 29 = .ok (.isub, 1) := dk_100 (dk_at dksX28_hex_1 6 rfl rfl)
theorem dX28_hex_30 : decode cX28_hex 30 = .ok (.bipush 10, 2) := dk_16 10 (dk_at dksX28_hex_1 7 rfl rfl)
theorem dX28_hex_32 : decode cX28_hex 32 = .ok (.iadd, 1) := dk_96 (dk_at dksX28_hex_1 9 rfl rfl)
theorem dX28_hex_33 : decode cX28_hex 33 = .ok (.goto 26, 3) := dk_167 0 26 (dk_at dksX28_hex_1 10 rfl rfl)
theorem dX28_hex_36 : decode cX28_hex 36 = .ok (.iload_n 0, 1) := dk_26 (dk_at dksX28_hex_1 13 rfl rfl)
theorem dX28_hex_37 : decode cX28_hex 37 = .ok (.bipush 65, 2) := dk_16 65 (dk_at dksX28_hex_1 14 rfl rfl)
theorem dX28_hex_39 : decode cX28_hex 39 = .ok (.if_icmp .lt 19, 3) := dk_161 0 19 (dk_at dksX28_hex_1 16 rfl rfl)
theorem dX28_hex_42 : decode cX28_hex 42 = .ok (.iload_n 0, 1) := dk_26 (dk_at dksX28_hex_1 19 rfl rfl)
theorem dX28_hex_43 : decode cX28_hex 43 = .ok (.bipush 70, 2) := dk_16 70 (dk_at dksX28_hex_1 20 rfl rfl)
theorem dX28_hex_45 : decode cX28_hex 45 = .ok (.if_icmp .gt 13, 3) := dk_163 0 13 (dk_at dksX28_hex_2 0 rfl rfl)
theorem dX28_hex_48 : decode cX28_hex 48 = .ok (.iload_n 0, 1) := dk_26 (dk_at dksX28_hex_2 3 rfl rfl)
theorem dX28_hex_49 : decode cX28_hex 49 = .ok (.bipush 65, 2) := dk_16 65 (dk_at dksX28_hex_2 4 rfl rfl)
theorem dX28_hex_51 : decode cX28_hex 51 = .ok (.isub, 1) := dk_100 (dk_at dksX28_hex_2 6 rfl rfl)
theorem dX28_hex_52 : decode cX28_hex 52 = .ok (.bipush 10, 2) := dk_16 10 (dk_at dksX28_hex_2 7 rfl rfl)
theorem dX28_hex_54 : decode cX28_hex 54 = .ok (.iadd, 1) := dk_96 (dk_at dksX28_hex_2 9 rfl rfl)
theorem dX28_hex_55 : decode cX28_hex 55 = .ok (.goto 4, 3) := dk_167 0 4 (dk_at dksX28_hex_2 10 rfl rfl)
theorem dX28_hex_58 : decode cX28_hex 58 = .ok (.iconst (-1), 1) := dk_2 (dk_at dksX28_hex_2 13 rfl rfl)
theorem dX28_hex_59 : decode cX28_hex 59 = .ok (.ireturn, 1) := dk_172 (dk_at dksX28_hex_2 14 rfl rfl)
abbrev cX28_isDigit : ByteArray := prog_29_method_3_code
def yX28_isDigit : MethodName := ⟨RX28, "isDigit", "(I)Z"⟩
def dkwX28_isDigit_0 : List UInt8 := [26, 16, 48, 161, 0, 13, 26, 16, 57, 163, 0, 7, 4, 167, 0, 4, 3, 172]
abbrev dktX28_isDigit_0 : List UInt8 := dkwX28_isDigit_0 ++ []
theorem dksX28_isDigit_0 : cX28_isDigit.data.toList.drop 0 = dktX28_isDigit_0 := by decide +kernel
theorem dX28_isDigit_0 : decode cX28_isDigit 0 = .ok (.iload_n 0, 1) := dk_26 (dk_at dksX28_isDigit_0 0 rfl rfl)
theorem dX28_isDigit_1 : decode cX28_isDigit 1 = .ok (.bipush 48, 2) := dk_16 48 (dk_at dksX28_isDigit_0 1 rfl rfl)
theorem dX28_isDigit_3 : decode cX28_isDigit 3 = .ok (.if_icmp .lt 13, 3) := dk_161 0 13 (dk_at dksX28_isDigit_0 3 rfl rfl)
theorem dX28_isDigit_6 : decode cX28_isDigit 6 = .ok (.iload_n 0, 1) := dk_26 (dk_at dksX28_isDigit_0 6 rfl rfl)
theorem dX28_isDigit_7 : decode cX28_isDigit 7 = .ok (.bipush 57, 2) := dk_16 57 (dk_at dksX28_isDigit_0 7 rfl rfl)
theorem dX28_isDigit_9 : decode cX28_isDigit 9 = .ok (.if_icmp .gt 7, 3) := dk_163 0 7 (dk_at dksX28_isDigit_0 9 rfl rfl)
theorem dX28_isDigit_12 : decode cX28_isDigit 12 = .ok (.iconst 1, 1) := dk_4 (dk_at dksX28_isDigit_0 12 rfl rfl)
theorem dX28_isDigit_13 : decode cX28_isDigit 13 = .ok (.goto 4, 3) := dk_167 0 4 (dk_at dksX28_isDigit_0 13 rfl rfl)
theorem dX28_isDigit_16 : decode cX28_isDigit 16 = .ok (.iconst 0, 1) := dk_3 (dk_at dksX28_isDigit_0 16 rfl rfl)
theorem dX28_isDigit_17 : decode cX28_isDigit 17 = .ok (.ireturn, 1) := dk_172 (dk_at dksX28_isDigit_0 17 rfl rfl)
abbrev cX28_digits : ByteArray := prog_29_method_9_code
def yX28_digits : MethodName := ⟨RX28, "digits", "(I)V"⟩
def dkwX28_digits_1 : List UInt8 := [164, 0, 7, 4, 167, 0, 4, 2, 181, 0, 79, 42, 28, 181, 0, 69, 177]
abbrev dktX28_digits_1 : List UInt8 := dkwX28_digits_1 ++ []
def dkwX28_digits_0 : List UInt8 := [27, 61, 42, 28, 182, 0, 72, 184, 0, 61, 153, 0, 9, 132, 2, 1, 167, 255, 242, 42, 28, 27]
abbrev dktX28_digits_0 : List UInt8 := dkwX28_digits_0 ++ dktX28_digits_1
theorem dksX28_digits_0 : cX28_digits.data.toList.drop 0 = dktX28_digits_0 := by decide +kernel
theorem dksX28_digits_1 : cX28_digits.data.toList.drop 22 = dktX28_digits_1 := dk_seg dksX28_digits_0 22 rfl rfl
theorem dX28_digits_0 : decode cX28_digits 0 = .ok (.iload_n 1, 1) := dk_27 (dk_at dksX28_digits_0 0 rfl rfl)
theorem dX28_digits_1 : decode cX28_digits 1 = .ok (.istore_n 2, 1) := dk_61 (dk_at dksX28_digits_0 1 rfl rfl)
theorem dX28_digits_2 : decode cX28_digits 2 = .ok (.aload_n 0, 1) := dk_42 (dk_at dksX28_digits_0 2 rfl rfl)
theorem dX28_digits_3 : decode cX28_digits 3 = .ok (.iload_n 2, 1) := dk_28 (dk_at dksX28_digits_0 3 rfl rfl)
theorem dX28_digits_4 : decode cX28_digits 4 = .ok (.invokevirtual 72, 3) := dk_182 0 72 (dk_at dksX28_digits_0 4 rfl rfl)
theorem dX28_digits_7 : decode cX28_digits 7 = .ok (.invokestatic 61, 3) := dk_184 0 61 (dk_at dksX28_digits_0 7 rfl rfl)
theorem dX28_digits_10 : decode cX28_digits 10 = .ok (.ifCond .eq 9, 3) := dk_153 0 9 (dk_at dksX28_digits_0 10 rfl rfl)
theorem dX28_digits_13 : decode cX28_digits 13 = .ok (.iinc 2 1, 3) := dk_132 2 1 (dk_at dksX28_digits_0 13 rfl rfl)
theorem dX28_digits_16 : decode cX28_digits 16 = .ok (.goto (-14), 3) := dk_167 255 242 (dk_at dksX28_digits_0 16 rfl rfl)
theorem dX28_digits_19 : decode cX28_digits 19 = .ok (.aload_n 0, 1) := dk_42 (dk_at dksX28_digits_0 19 rfl rfl)
theorem dX28_digits_20 : decode cX28_digits 20 = .ok (.iload_n 2, 1) := dk_28 (dk_at dksX28_digits_0 20 rfl rfl)
theorem dX28_digits_21 : decode cX28_digits 21 = .ok (.iload_n 1, 1) := dk_27 (dk_at dksX28_digits_0 21 rfl rfl)
theorem dX28_digits_22 : decode cX28_digits 22 = .ok (.if_icmp .le 7, 3) := dk_164 0 7 (dk_at dksX28_digits_1 0 rfl rfl)
theorem dX28_digits_25 : decode cX28_digits 25 = .ok (.iconst 1, 1) := dk_4 (dk_at dksX28_digits_1 3 rfl rfl)
theorem dX28_digits_26 : decode cX28_digits 26 = .ok (.goto 4, 3) := dk_167 0 4 (dk_at dksX28_digits_1 4 rfl rfl)
theorem dX28_digits_29 : decode cX28_digits 29 = .ok (.iconst (-1), 1) := dk_2 (dk_at dksX28_digits_1 7 rfl rfl)
theorem dX28_digits_30 : decode cX28_digits 30 = .ok (.putfield 79, 3) := dk_181 0 79 (dk_at dksX28_digits_1 8 rfl rfl)
theorem dX28_digits_33 : decode cX28_digits 33 = .ok (.aload_n 0, 1) := dk_42 (dk_at dksX28_digits_1 11 rfl rfl)
theorem dX28_digits_34 : decode cX28_digits 34 = .ok (.iload_n 2, 1) := dk_28 (dk_at dksX28_digits_1 12 rfl rfl)
theorem dX28_digits_35 : decode cX28_digits 35 = .ok (.putfield 69, 3) := dk_181 0 69 (dk_at dksX28_digits_1 13 rfl rfl)
theorem dX28_digits_38 : decode cX28_digits 38 = .ok (.return_, 1) := dk_177 (dk_at dksX28_digits_1 16 rfl rfl)
abbrev cX28_string : ByteArray := prog_29_method_10_code
def yX28_string : MethodName := ⟨RX28, "string", "(I)V"⟩
def dkwX28_string_5 : List UInt8 := [167, 0, 6, 28, 4, 96, 61, 167, 255, 142, 42, 28, 4, 96, 181, 0, 69, 177]
abbrev dktX28_string_5 : List UInt8 := dkwX28_string_5 ++ []
def dkwX28_string_4 : List UInt8 := [29, 16, 92, 159, 0, 7, 5, 167, 0, 4, 2, 181, 0, 79, 21, 5, 153, 0, 9, 28, 5, 96]
abbrev dktX28_string_4 : List UInt8 := dkwX28_string_4 ++ dktX28_string_5
def dkwX28_string_3 : List UInt8 := [167, 0, 4, 3, 54, 5, 42, 21, 5, 154, 0, 21, 29, 16, 32, 161, 0, 19, 29, 16, 126, 163, 0, 13]
abbrev dktX28_string_3 : List UInt8 := dkwX28_string_3 ++ dktX28_string_4
def dkwX28_string_2 : List UInt8 := [21, 4, 16, 92, 159, 0, 17, 21, 4, 16, 34, 159, 0, 10, 21, 4, 16, 110, 160, 0, 7, 4]
abbrev dktX28_string_2 : List UInt8 := dkwX28_string_2 ++ dktX28_string_3
def dkwX28_string_1 : List UInt8 := [159, 0, 102, 42, 28, 182, 0, 72, 62, 42, 28, 4, 96, 182, 0, 72, 54, 4, 29, 16, 92, 160, 0, 28]
abbrev dktX28_string_1 : List UInt8 := dkwX28_string_1 ++ dktX28_string_2
def dkwX28_string_0 : List UInt8 := [27, 61, 42, 5, 181, 0, 79, 42, 180, 0, 79, 5, 160, 0, 112, 42, 28, 182, 0, 72, 16, 34]
abbrev dktX28_string_0 : List UInt8 := dkwX28_string_0 ++ dktX28_string_1
theorem dksX28_string_0 : cX28_string.data.toList.drop 0 = dktX28_string_0 := by decide +kernel
theorem dksX28_string_1 : cX28_string.data.toList.drop 22 = dktX28_string_1 := dk_seg dksX28_string_0 22 rfl rfl
theorem dksX28_string_2 : cX28_string.data.toList.drop 46 = dktX28_string_2 := dk_seg dksX28_string_1 24 rfl rfl
theorem dksX28_string_3 : cX28_string.data.toList.drop 68 = dktX28_string_3 := dk_seg dksX28_string_2 22 rfl rfl
theorem dksX28_string_4 : cX28_string.data.toList.drop 92 = dktX28_string_4 := dk_seg dksX28_string_3 24 rfl rfl
theorem dksX28_string_5 : cX28_string.data.toList.drop 114 = dktX28_string_5 := dk_seg dksX28_string_4 22 rfl rfl
theorem dX28_string_0 : decode cX28_string 0 = .ok (.iload_n 1, 1) := dk_27 (dk_at dksX28_string_0 0 rfl rfl)
theorem dX28_string_1 : decode cX28_string 1 = .ok (.istore_n 2, 1) := dk_61 (dk_at dksX28_string_0 1 rfl rfl)
theorem dX28_string_2 : decode cX28_string 2 = .ok (.aload_n 0, 1) := dk_42 (dk_at dksX28_string_0 2 rfl rfl)
theorem dX28_string_3 : decode cX28_string 3 = .ok (.iconst 2, 1) := dk_5 (dk_at dksX28_string_0 3 rfl rfl)
theorem dX28_string_4 : decode cX28_string 4 = .ok (.putfield 79, 3) := dk_181 0 79 (dk_at dksX28_string_0 4 rfl rfl)
theorem dX28_string_7 : decode cX28_string 7 = .ok (.aload_n 0, 1) := dk_42 (dk_at dksX28_string_0 7 rfl rfl)
theorem dX28_string_8 : decode cX28_string 8 = .ok (.getfield 79, 3) := dk_180 0 79 (dk_at dksX28_string_0 8 rfl rfl)
theorem dX28_string_11 : decode cX28_string 11 = .ok (.iconst 2, 1) := dk_5 (dk_at dksX28_string_0 11 rfl rfl)
theorem dX28_string_12 : decode cX28_string 12 = .ok (.if_icmp .ne 112, 3) := dk_160 0 112 (dk_at dksX28_string_0 12 rfl rfl)
theorem dX28_string_15 : decode cX28_string 15 = .ok (.aload_n 0, 1) := dk_42 (dk_at dksX28_string_0 15 rfl rfl)
theorem dX28_string_16 : decode cX28_string 16 = .ok (.iload_n 2, 1) := dk_28 (dk_at dksX28_string_0 16 rfl rfl)
theorem dX28_string_17 : decode cX28_string 17 = .ok (.invokevirtual 72, 3) := dk_182 0 72 (dk_at dksX28_string_0 17 rfl rfl)
theorem dX28_string_20 : decode cX28_string 20 = .ok (.bipush 34, 2) := dk_16 34 (dk_at dksX28_string_0 20 rfl rfl)
theorem dX28_string_22 : decode cX28_string 22 = .ok (.if_icmp .eq 102, 3) := dk_159 0 102 (dk_at dksX28_string_1 0 rfl rfl)
theorem dX28_string_25 : decode cX28_string 25 = .ok (.aload_n 0, 1) := dk_42 (dk_at dksX28_string_1 3 rfl rfl)
theorem dX28_string_26 : decode cX28_string 26 = .ok (.iload_n 2, 1) := dk_28 (dk_at dksX28_string_1 4 rfl rfl)
theorem dX28_string_27 : decode cX28_string 27 = .ok (.invokevirtual 72, 3) := dk_182 0 72 (dk_at dksX28_string_1 5 rfl rfl)
theorem dX28_string_30 : decode cX28_string 30 = .ok (.istore_n 3, 1) := dk_62 (dk_at dksX28_string_1 8 rfl rfl)
theorem dX28_string_31 : decode cX28_string 31 = .ok (.aload_n 0, 1) := dk_42 (dk_at dksX28_string_1 9 rfl rfl)
theorem dX28_string_32 : decode cX28_string 32 = .ok (.iload_n 2, 1) := dk_28 (dk_at dksX28_string_1 10 rfl rfl)
theorem dX28_string_33 : decode cX28_string 33 = .ok (.iconst 1, 1) := dk_4 (dk_at dksX28_string_1 11 rfl rfl)
theorem dX28_string_34 : decode cX28_string 34 = .ok (.iadd, 1) := dk_96 (dk_at dksX28_string_1 12 rfl rfl)
theorem dX28_string_35 : decode cX28_string 35 = .ok (.invokevirtual 72, 3) := dk_182 0 72 (dk_at dksX28_string_1 13 rfl rfl)
theorem dX28_string_38 : decode cX28_string 38 = .ok (.istore 4, 2) := dk_54 4 (dk_at dksX28_string_1 16 rfl rfl)
theorem dX28_string_40 : decode cX28_string 40 = .ok (.iload_n 3, 1) := dk_29 (dk_at dksX28_string_1 18 rfl rfl)
theorem dX28_string_41 : decode cX28_string 41 = .ok (.bipush 92, 2) := dk_16 92 (dk_at dksX28_string_1 19 rfl rfl)
theorem dX28_string_43 : decode cX28_string 43 = .ok (.if_icmp .ne 28, 3) := dk_160 0 28 (dk_at dksX28_string_1 21 rfl rfl)
theorem dX28_string_46 : decode cX28_string 46 = .ok (.iload 4, 2) := dk_21 4 (dk_at dksX28_string_2 0 rfl rfl)
theorem dX28_string_48 : decode cX28_string 48 = .ok (.bipush 92, 2) := dk_16 92 (dk_at dksX28_string_2 2 rfl rfl)
theorem dX28_string_50 : decode cX28_string 50 = .ok (.if_icmp .eq 17, 3) := dk_159 0 17 (dk_at dksX28_string_2 4 rfl rfl)
theorem dX28_string_53 : decode cX28_string 53 = .ok (.iload 4, 2) := dk_21 4 (dk_at dksX28_string_2 7 rfl rfl)
theorem dX28_string_55 : decode cX28_string 55 = .ok (.bipush 34, 2) := dk_16 34 (dk_at dksX28_string_2 9 rfl rfl)
theorem dX28_string_57 : decode cX28_string 57 = .ok (.if_icmp .eq 10, 3) := dk_159 0 10 (dk_at dksX28_string_2 11 rfl rfl)
theorem dX28_string_60 : decode cX28_string 60 = .ok (.iload 4, 2) := dk_21 4 (dk_at dksX28_string_2 14 rfl rfl)
theorem dX28_string_62 : decode cX28_string 62 = .ok (.bipush 110, 2) := dk_16 110 (dk_at dksX28_string_2 16 rfl rfl)
theorem dX28_string_64 : decode cX28_string 64 = .ok (.if_icmp .ne 7, 3) := dk_160 0 7 (dk_at dksX28_string_2 18 rfl rfl)
theorem dX28_string_67 : decode cX28_string 67 = .ok (.iconst 1, 1) := dk_4 (dk_at dksX28_string_2 21 rfl rfl)
theorem dX28_string_68 : decode cX28_string 68 = .ok (.goto 4, 3) := dk_167 0 4 (dk_at dksX28_string_3 0 rfl rfl)
theorem dX28_string_71 : decode cX28_string 71 = .ok (.iconst 0, 1) := dk_3 (dk_at dksX28_string_3 3 rfl rfl)
theorem dX28_string_72 : decode cX28_string 72 = .ok (.istore 5, 2) := dk_54 5 (dk_at dksX28_string_3 4 rfl rfl)
theorem dX28_string_74 : decode cX28_string 74 = .ok (.aload_n 0, 1) := dk_42 (dk_at dksX28_string_3 6 rfl rfl)
theorem dX28_string_75 : decode cX28_string 75 = .ok (.iload 5, 2) := dk_21 5 (dk_at dksX28_string_3 7 rfl rfl)
theorem dX28_string_77 : decode cX28_string 77 = .ok (.ifCond .ne 21, 3) := dk_154 0 21 (dk_at dksX28_string_3 9 rfl rfl)
theorem dX28_string_80 : decode cX28_string 80 = .ok (.iload_n 3, 1) := dk_29 (dk_at dksX28_string_3 12 rfl rfl)
theorem dX28_string_81 : decode cX28_string 81 = .ok (.bipush 32, 2) := dk_16 32 (dk_at dksX28_string_3 13 rfl rfl)
theorem dX28_string_83 : decode cX28_string 83 = .ok (.if_icmp .lt 19, 3) := dk_161 0 19 (dk_at dksX28_string_3 15 rfl rfl)
theorem dX28_string_86 : decode cX28_string 86 = .ok (.iload_n 3, 1) := dk_29 (dk_at dksX28_string_3 18 rfl rfl)
theorem dX28_string_87 : decode cX28_string 87 = .ok (.bipush 126, 2) := dk_16 126 (dk_at dksX28_string_3 19 rfl rfl)
theorem dX28_string_89 : decode cX28_string 89 = .ok (.if_icmp .gt 13, 3) := dk_163 0 13 (dk_at dksX28_string_3 21 rfl rfl)
theorem dX28_string_92 : decode cX28_string 92 = .ok (.iload_n 3, 1) := dk_29 (dk_at dksX28_string_4 0 rfl rfl)
theorem dX28_string_93 : decode cX28_string 93 = .ok (.bipush 92, 2) := dk_16 92 (dk_at dksX28_string_4 1 rfl rfl)
theorem dX28_string_95 : decode cX28_string 95 = .ok (.if_icmp .eq 7, 3) := dk_159 0 7 (dk_at dksX28_string_4 3 rfl rfl)
theorem dX28_string_98 : decode cX28_string 98 = .ok (.iconst 2, 1) := dk_5 (dk_at dksX28_string_4 6 rfl rfl)
theorem dX28_string_99 : decode cX28_string 99 = .ok (.goto 4, 3) := dk_167 0 4 (dk_at dksX28_string_4 7 rfl rfl)
theorem dX28_string_102 : decode cX28_string 102 = .ok (.iconst (-1), 1) := dk_2 (dk_at dksX28_string_4 10 rfl rfl)
theorem dX28_string_103 : decode cX28_string 103 = .ok (.putfield 79, 3) := dk_181 0 79 (dk_at dksX28_string_4 11 rfl rfl)
theorem dX28_string_106 : decode cX28_string 106 = .ok (.iload 5, 2) := dk_21 5 (dk_at dksX28_string_4 14 rfl rfl)
theorem dX28_string_108 : decode cX28_string 108 = .ok (.ifCond .eq 9, 3) := dk_153 0 9 (dk_at dksX28_string_4 16 rfl rfl)
theorem dX28_string_111 : decode cX28_string 111 = .ok (.iload_n 2, 1) := dk_28 (dk_at dksX28_string_4 19 rfl rfl)
theorem dX28_string_112 : decode cX28_string 112 = .ok (.iconst 2, 1) := dk_5 (dk_at dksX28_string_4 20 rfl rfl)
theorem dX28_string_113 : decode cX28_string 113 = .ok (.iadd, 1) := dk_96 (dk_at dksX28_string_4 21 rfl rfl)
theorem dX28_string_114 : decode cX28_string 114 = .ok (.goto 6, 3) := dk_167 0 6 (dk_at dksX28_string_5 0 rfl rfl)
theorem dX28_string_117 : decode cX28_string 117 = .ok (.iload_n 2, 1) := dk_28 (dk_at dksX28_string_5 3 rfl rfl)
theorem dX28_string_118 : decode cX28_string 118 = .ok (.iconst 1, 1) := dk_4 (dk_at dksX28_string_5 4 rfl rfl)
theorem dX28_string_119 : decode cX28_string 119 = .ok (.iadd, 1) := dk_96 (dk_at dksX28_string_5 5 rfl rfl)
theorem dX28_string_120 : decode cX28_string 120 = .ok (.istore_n 2, 1) := dk_61 (dk_at dksX28_string_5 6 rfl rfl)
theorem dX28_string_121 : decode cX28_string 121 = .ok (.goto (-114), 3) := dk_167 255 142 (dk_at dksX28_string_5 7 rfl rfl)
theorem dX28_string_124 : decode cX28_string 124 = .ok (.aload_n 0, 1) := dk_42 (dk_at dksX28_string_5 10 rfl rfl)
theorem dX28_string_125 : decode cX28_string 125 = .ok (.iload_n 2, 1) := dk_28 (dk_at dksX28_string_5 11 rfl rfl)
theorem dX28_string_126 : decode cX28_string 126 = .ok (.iconst 1, 1) := dk_4 (dk_at dksX28_string_5 12 rfl rfl)
theorem dX28_string_127 : decode cX28_string 127 = .ok (.iadd, 1) := dk_96 (dk_at dksX28_string_5 13 rfl rfl)
theorem dX28_string_128 : decode cX28_string 128 = .ok (.putfield 69, 3) := dk_181 0 69 (dk_at dksX28_string_5 14 rfl rfl)
theorem dX28_string_131 : decode cX28_string 131 = .ok (.return_, 1) := dk_177 (dk_at dksX28_string_5 17 rfl rfl)
abbrev cX28_isLetter : ByteArray := prog_29_method_2_code
def yX28_isLetter : MethodName := ⟨RX28, "isLetter", "(I)Z"⟩
def dkwX28_isLetter_1 : List UInt8 := [26, 16, 95, 160, 0, 7, 4, 167, 0, 4, 3, 172]
abbrev dktX28_isLetter_1 : List UInt8 := dkwX28_isLetter_1 ++ []
def dkwX28_isLetter_0 : List UInt8 := [26, 16, 97, 161, 0, 9, 26, 16, 122, 164, 0, 21, 26, 16, 65, 161, 0, 9, 26, 16, 90, 164, 0, 9]
abbrev dktX28_isLetter_0 : List UInt8 := dkwX28_isLetter_0 ++ dktX28_isLetter_1
theorem dksX28_isLetter_0 : cX28_isLetter.data.toList.drop 0 = dktX28_isLetter_0 := by decide +kernel
theorem dksX28_isLetter_1 : cX28_isLetter.data.toList.drop 24 = dktX28_isLetter_1 := dk_seg dksX28_isLetter_0 24 rfl rfl
theorem dX28_isLetter_0 : decode cX28_isLetter 0 = .ok (.iload_n 0, 1) := dk_26 (dk_at dksX28_isLetter_0 0 rfl rfl)
theorem dX28_isLetter_1 : decode cX28_isLetter 1 = .ok (.bipush 97, 2) := dk_16 97 (dk_at dksX28_isLetter_0 1 rfl rfl)
theorem dX28_isLetter_3 : decode cX28_isLetter 3 = .ok (.if_icmp .lt 9, 3) := dk_161 0 9 (dk_at dksX28_isLetter_0 3 rfl rfl)
theorem dX28_isLetter_6 : decode cX28_isLetter 6 = .ok (.iload_n 0, 1) := dk_26 (dk_at dksX28_isLetter_0 6 rfl rfl)
theorem dX28_isLetter_7 : decode cX28_isLetter 7 = .ok (.bipush 122, 2) := dk_16 122 (dk_at dksX28_isLetter_0 7 rfl rfl)
theorem dX28_isLetter_9 : decode cX28_isLetter 9 = .ok (.if_icmp .le 21, 3) := dk_164 0 21 (dk_at dksX28_isLetter_0 9 rfl rfl)
theorem dX28_isLetter_12 : decode cX28_isLetter 12 = .ok (.iload_n 0, 1) := dk_26 (dk_at dksX28_isLetter_0 12 rfl rfl)
theorem dX28_isLetter_13 : decode cX28_isLetter 13 = .ok (.bipush 65, 2) := dk_16 65 (dk_at dksX28_isLetter_0 13 rfl rfl)
theorem dX28_isLetter_15 : decode cX28_isLetter 15 = .ok (.if_icmp .lt 9, 3) := dk_161 0 9 (dk_at dksX28_isLetter_0 15 rfl rfl)
theorem dX28_isLetter_18 : decode cX28_isLetter 18 = .ok (.iload_n 0, 1) := dk_26 (dk_at dksX28_isLetter_0 18 rfl rfl)
theorem dX28_isLetter_19 : decode cX28_isLetter 19 = .ok (.bipush 90, 2) := dk_16 90 (dk_at dksX28_isLetter_0 19 rfl rfl)
theorem dX28_isLetter_21 : decode cX28_isLetter 21 = .ok (.if_icmp .le 9, 3) := dk_164 0 9 (dk_at dksX28_isLetter_0 21 rfl rfl)
theorem dX28_isLetter_24 : decode cX28_isLetter 24 = .ok (.iload_n 0, 1) := dk_26 (dk_at dksX28_isLetter_1 0 rfl rfl)
theorem dX28_isLetter_25 : decode cX28_isLetter 25 = .ok (.bipush 95, 2) := dk_16 95 (dk_at dksX28_isLetter_1 1 rfl rfl)
theorem dX28_isLetter_27 : decode cX28_isLetter 27 = .ok (.if_icmp .ne 7, 3) := dk_160 0 7 (dk_at dksX28_isLetter_1 3 rfl rfl)
theorem dX28_isLetter_30 : decode cX28_isLetter 30 = .ok (.iconst 1, 1) := dk_4 (dk_at dksX28_isLetter_1 6 rfl rfl)
theorem dX28_isLetter_31 : decode cX28_isLetter 31 = .ok (.goto 4, 3) := dk_167 0 4 (dk_at dksX28_isLetter_1 7 rfl rfl)
theorem dX28_isLetter_34 : decode cX28_isLetter 34 = .ok (.iconst 0, 1) := dk_3 (dk_at dksX28_isLetter_1 10 rfl rfl)
theorem dX28_isLetter_35 : decode cX28_isLetter 35 = .ok (.ireturn, 1) := dk_172 (dk_at dksX28_isLetter_1 11 rfl rfl)
abbrev cX28_named : ByteArray := prog_29_method_7_code
def yX28_named : MethodName := ⟨RX28, "named", "(II)I"⟩
def dkwX28_named_1 : List UInt8 := [184, 0, 61, 153, 0, 9, 132, 3, 1, 167, 255, 226, 29, 172]
abbrev dktX28_named_1 : List UInt8 := dkwX28_named_1 ++ []
def dkwX28_named_0 : List UInt8 := [27, 62, 29, 28, 162, 0, 31, 42, 29, 182, 0, 72, 184, 0, 92, 154, 0, 14, 42, 29, 182, 0, 72]
abbrev dktX28_named_0 : List UInt8 := dkwX28_named_0 ++ dktX28_named_1
theorem dksX28_named_0 : cX28_named.data.toList.drop 0 = dktX28_named_0 := by decide +kernel
theorem dksX28_named_1 : cX28_named.data.toList.drop 23 = dktX28_named_1 := dk_seg dksX28_named_0 23 rfl rfl
theorem dX28_named_0 : decode cX28_named 0 = .ok (.iload_n 1, 1) := dk_27 (dk_at dksX28_named_0 0 rfl rfl)
theorem dX28_named_1 : decode cX28_named 1 = .ok (.istore_n 3, 1) := dk_62 (dk_at dksX28_named_0 1 rfl rfl)
theorem dX28_named_2 : decode cX28_named 2 = .ok (.iload_n 3, 1) := dk_29 (dk_at dksX28_named_0 2 rfl rfl)
theorem dX28_named_3 : decode cX28_named 3 = .ok (.iload_n 2, 1) := dk_28 (dk_at dksX28_named_0 3 rfl rfl)
theorem dX28_named_4 : decode cX28_named 4 = .ok (.if_icmp .ge 31, 3) := dk_162 0 31 (dk_at dksX28_named_0 4 rfl rfl)
theorem dX28_named_7 : decode cX28_named 7 = .ok (.aload_n 0, 1) := dk_42 (dk_at dksX28_named_0 7 rfl rfl)
theorem dX28_named_8 : decode cX28_named 8 = .ok (.iload_n 3, 1) := dk_29 (dk_at dksX28_named_0 8 rfl rfl)
theorem dX28_named_9 : decode cX28_named 9 = .ok (.invokevirtual 72, 3) := dk_182 0 72 (dk_at dksX28_named_0 9 rfl rfl)
theorem dX28_named_12 : decode cX28_named 12 = .ok (.invokestatic 92, 3) := dk_184 0 92 (dk_at dksX28_named_0 12 rfl rfl)
theorem dX28_named_15 : decode cX28_named 15 = .ok (.ifCond .ne 14, 3) := dk_154 0 14 (dk_at dksX28_named_0 15 rfl rfl)
theorem dX28_named_18 : decode cX28_named 18 = .ok (.aload_n 0, 1) := dk_42 (dk_at dksX28_named_0 18 rfl rfl)
theorem dX28_named_19 : decode cX28_named 19 = .ok (.iload_n 3, 1) := dk_29 (dk_at dksX28_named_0 19 rfl rfl)
theorem dX28_named_20 : decode cX28_named 20 = .ok (.invokevirtual 72, 3) := dk_182 0 72 (dk_at dksX28_named_0 20 rfl rfl)
theorem dX28_named_23 : decode cX28_named 23 = .ok (.invokestatic 61, 3) := dk_184 0 61 (dk_at dksX28_named_1 0 rfl rfl)
theorem dX28_named_26 : decode cX28_named 26 = .ok (.ifCond .eq 9, 3) := dk_153 0 9 (dk_at dksX28_named_1 3 rfl rfl)
theorem dX28_named_29 : decode cX28_named 29 = .ok (.iinc 3 1, 3) := dk_132 3 1 (dk_at dksX28_named_1 6 rfl rfl)
theorem dX28_named_32 : decode cX28_named 32 = .ok (.goto (-30), 3) := dk_167 255 226 (dk_at dksX28_named_1 9 rfl rfl)
theorem dX28_named_35 : decode cX28_named 35 = .ok (.iload_n 3, 1) := dk_29 (dk_at dksX28_named_1 12 rfl rfl)
theorem dX28_named_36 : decode cX28_named 36 = .ok (.ireturn, 1) := dk_172 (dk_at dksX28_named_1 13 rfl rfl)
abbrev cX28_item : ByteArray := prog_29_method_15_code
def yX28_item : MethodName := ⟨RX28, "item", "(II)Z"⟩
def dkwX28_item_3 : List UInt8 := [172]
abbrev dktX28_item_3 : List UInt8 := dkwX28_item_3 ++ []
def dkwX28_item_2 : List UInt8 := [167, 0, 24, 42, 180, 0, 79, 7, 160, 0, 12, 42, 27, 28, 182, 0, 139, 167, 0, 7, 42, 182, 0, 125]
abbrev dktX28_item_2 : List UInt8 := dkwX28_item_2 ++ dktX28_item_3
def dkwX28_item_1 : List UInt8 := [42, 27, 28, 182, 0, 133, 172, 42, 180, 0, 79, 16, 123, 160, 0, 12, 42, 27, 28, 182, 0, 136]
abbrev dktX28_item_1 : List UInt8 := dkwX28_item_1 ++ dktX28_item_2
def dkwX28_item_0 : List UInt8 := [42, 180, 0, 79, 4, 159, 0, 19, 42, 180, 0, 79, 5, 159, 0, 11, 42, 180, 0, 79, 6, 160, 0, 10]
abbrev dktX28_item_0 : List UInt8 := dkwX28_item_0 ++ dktX28_item_1
theorem dksX28_item_0 : cX28_item.data.toList.drop 0 = dktX28_item_0 := by decide +kernel
theorem dksX28_item_1 : cX28_item.data.toList.drop 24 = dktX28_item_1 := dk_seg dksX28_item_0 24 rfl rfl
theorem dksX28_item_2 : cX28_item.data.toList.drop 46 = dktX28_item_2 := dk_seg dksX28_item_1 22 rfl rfl
theorem dksX28_item_3 : cX28_item.data.toList.drop 70 = dktX28_item_3 := dk_seg dksX28_item_2 24 rfl rfl
theorem dX28_item_0 : decode cX28_item 0 = .ok (.aload_n 0, 1) := dk_42 (dk_at dksX28_item_0 0 rfl rfl)
theorem dX28_item_1 : decode cX28_item 1 = .ok (.getfield 79, 3) := dk_180 0 79 (dk_at dksX28_item_0 1 rfl rfl)
theorem dX28_item_4 : decode cX28_item 4 = .ok (.iconst 1, 1) := dk_4 (dk_at dksX28_item_0 4 rfl rfl)
theorem dX28_item_5 : decode cX28_item 5 = .ok (.if_icmp .eq 19, 3) := dk_159 0 19 (dk_at dksX28_item_0 5 rfl rfl)
theorem dX28_item_8 : decode cX28_item 8 = .ok (.aload_n 0, 1) := dk_42 (dk_at dksX28_item_0 8 rfl rfl)
theorem dX28_item_9 : decode cX28_item 9 = .ok (.getfield 79, 3) := dk_180 0 79 (dk_at dksX28_item_0 9 rfl rfl)
theorem dX28_item_12 : decode cX28_item 12 = .ok (.iconst 2, 1) := dk_5 (dk_at dksX28_item_0 12 rfl rfl)
theorem dX28_item_13 : decode cX28_item 13 = .ok (.if_icmp .eq 11, 3) := dk_159 0 11 (dk_at dksX28_item_0 13 rfl rfl)
theorem dX28_item_16 : decode cX28_item 16 = .ok (.aload_n 0, 1) := dk_42 (dk_at dksX28_item_0 16 rfl rfl)
theorem dX28_item_17 : decode cX28_item 17 = .ok (.getfield 79, 3) := dk_180 0 79 (dk_at dksX28_item_0 17 rfl rfl)
theorem dX28_item_20 : decode cX28_item 20 = .ok (.iconst 3, 1) := dk_6 (dk_at dksX28_item_0 20 rfl rfl)
theorem dX28_item_21 : decode cX28_item 21 = .ok (.if_icmp .ne 10, 3) := dk_160 0 10 (dk_at dksX28_item_0 21 rfl rfl)
theorem dX28_item_24 : decode cX28_item 24 = .ok (.aload_n 0, 1) := dk_42 (dk_at dksX28_item_1 0 rfl rfl)
theorem dX28_item_25 : decode cX28_item 25 = .ok (.iload_n 1, 1) := dk_27 (dk_at dksX28_item_1 1 rfl rfl)
theorem dX28_item_26 : decode cX28_item 26 = .ok (.iload_n 2, 1) := dk_28 (dk_at dksX28_item_1 2 rfl rfl)
theorem dX28_item_27 : decode cX28_item 27 = .ok (.invokevirtual 133, 3) := dk_182 0 133 (dk_at dksX28_item_1 3 rfl rfl)
theorem dX28_item_30 : decode cX28_item 30 = .ok (.ireturn, 1) := dk_172 (dk_at dksX28_item_1 6 rfl rfl)
theorem dX28_item_31 : decode cX28_item 31 = .ok (.aload_n 0, 1) := dk_42 (dk_at dksX28_item_1 7 rfl rfl)
theorem dX28_item_32 : decode cX28_item 32 = .ok (.getfield 79, 3) := dk_180 0 79 (dk_at dksX28_item_1 8 rfl rfl)
theorem dX28_item_35 : decode cX28_item 35 = .ok (.bipush 123, 2) := dk_16 123 (dk_at dksX28_item_1 11 rfl rfl)
theorem dX28_item_37 : decode cX28_item 37 = .ok (.if_icmp .ne 12, 3) := dk_160 0 12 (dk_at dksX28_item_1 13 rfl rfl)
theorem dX28_item_40 : decode cX28_item 40 = .ok (.aload_n 0, 1) := dk_42 (dk_at dksX28_item_1 16 rfl rfl)
theorem dX28_item_41 : decode cX28_item 41 = .ok (.iload_n 1, 1) := dk_27 (dk_at dksX28_item_1 17 rfl rfl)
theorem dX28_item_42 : decode cX28_item 42 = .ok (.iload_n 2, 1) := dk_28 (dk_at dksX28_item_1 18 rfl rfl)
theorem dX28_item_43 : decode cX28_item 43 = .ok (.invokevirtual 136, 3) := dk_182 0 136 (dk_at dksX28_item_1 19 rfl rfl)
theorem dX28_item_46 : decode cX28_item 46 = .ok (.goto 24, 3) := dk_167 0 24 (dk_at dksX28_item_2 0 rfl rfl)
theorem dX28_item_49 : decode cX28_item 49 = .ok (.aload_n 0, 1) := dk_42 (dk_at dksX28_item_2 3 rfl rfl)
theorem dX28_item_50 : decode cX28_item 50 = .ok (.getfield 79, 3) := dk_180 0 79 (dk_at dksX28_item_2 4 rfl rfl)
theorem dX28_item_53 : decode cX28_item 53 = .ok (.iconst 4, 1) := dk_7 (dk_at dksX28_item_2 7 rfl rfl)
theorem dX28_item_54 : decode cX28_item 54 = .ok (.if_icmp .ne 12, 3) := dk_160 0 12 (dk_at dksX28_item_2 8 rfl rfl)
theorem dX28_item_57 : decode cX28_item 57 = .ok (.aload_n 0, 1) := dk_42 (dk_at dksX28_item_2 11 rfl rfl)
theorem dX28_item_58 : decode cX28_item 58 = .ok (.iload_n 1, 1) := dk_27 (dk_at dksX28_item_2 12 rfl rfl)
theorem dX28_item_59 : decode cX28_item 59 = .ok (.iload_n 2, 1) := dk_28 (dk_at dksX28_item_2 13 rfl rfl)
theorem dX28_item_60 : decode cX28_item 60 = .ok (.invokevirtual 139, 3) := dk_182 0 139 (dk_at dksX28_item_2 14 rfl rfl)
theorem dX28_item_63 : decode cX28_item 63 = .ok (.goto 7, 3) := dk_167 0 7 (dk_at dksX28_item_2 17 rfl rfl)
theorem dX28_item_66 : decode cX28_item 66 = .ok (.aload_n 0, 1) := dk_42 (dk_at dksX28_item_2 20 rfl rfl)
theorem dX28_item_67 : decode cX28_item 67 = .ok (.invokevirtual 125, 3) := dk_182 0 125 (dk_at dksX28_item_2 21 rfl rfl)
theorem dX28_item_70 : decode cX28_item 70 = .ok (.ireturn, 1) := dk_172 (dk_at dksX28_item_3 0 rfl rfl)
abbrev cX28_leaf : ByteArray := prog_29_method_14_code
def yX28_leaf : MethodName := ⟨RX28, "leaf", "(II)Z"⟩
def dkwX28_leaf_1 : List UInt8 := [182, 0, 118, 29, 155, 0, 7, 4, 167, 0, 4, 3, 172]
abbrev dktX28_leaf_1 : List UInt8 := dkwX28_leaf_1 ++ []
def dkwX28_leaf_0 : List UInt8 := [42, 42, 180, 0, 79, 7, 160, 0, 7, 8, 167, 0, 7, 42, 180, 0, 79, 27, 28, 182, 0, 129, 62, 42]
abbrev dktX28_leaf_0 : List UInt8 := dkwX28_leaf_0 ++ dktX28_leaf_1
theorem dksX28_leaf_0 : cX28_leaf.data.toList.drop 0 = dktX28_leaf_0 := by decide +kernel
theorem dksX28_leaf_1 : cX28_leaf.data.toList.drop 24 = dktX28_leaf_1 := dk_seg dksX28_leaf_0 24 rfl rfl
theorem dX28_leaf_0 : decode cX28_leaf 0 = .ok (.aload_n 0, 1) := dk_42 (dk_at dksX28_leaf_0 0 rfl rfl)
theorem dX28_leaf_1 : decode cX28_leaf 1 = .ok (.aload_n 0, 1) := dk_42 (dk_at dksX28_leaf_0 1 rfl rfl)
theorem dX28_leaf_2 : decode cX28_leaf 2 = .ok (.getfield 79, 3) := dk_180 0 79 (dk_at dksX28_leaf_0 2 rfl rfl)
theorem dX28_leaf_5 : decode cX28_leaf 5 = .ok (.iconst 4, 1) := dk_7 (dk_at dksX28_leaf_0 5 rfl rfl)
theorem dX28_leaf_6 : decode cX28_leaf 6 = .ok (.if_icmp .ne 7, 3) := dk_160 0 7 (dk_at dksX28_leaf_0 6 rfl rfl)
theorem dX28_leaf_9 : decode cX28_leaf 9 = .ok (.iconst 5, 1) := dk_8 (dk_at dksX28_leaf_0 9 rfl rfl)
theorem dX28_leaf_10 : decode cX28_leaf 10 = .ok (.goto 7, 3) := dk_167 0 7 (dk_at dksX28_leaf_0 10 rfl rfl)
theorem dX28_leaf_13 : decode cX28_leaf 13 = .ok (.aload_n 0, 1) := dk_42 (dk_at dksX28_leaf_0 13 rfl rfl)
theorem dX28_leaf_14 : decode cX28_leaf 14 = .ok (.getfield 79, 3) := dk_180 0 79 (dk_at dksX28_leaf_0 14 rfl rfl)
theorem dX28_leaf_17 : decode cX28_leaf 17 = .ok (.iload_n 1, 1) := dk_27 (dk_at dksX28_leaf_0 17 rfl rfl)
theorem dX28_leaf_18 : decode cX28_leaf 18 = .ok (.iload_n 2, 1) := dk_28 (dk_at dksX28_leaf_0 18 rfl rfl)
theorem dX28_leaf_19 : decode cX28_leaf 19 = .ok (.invokevirtual 129, 3) := dk_182 0 129 (dk_at dksX28_leaf_0 19 rfl rfl)
theorem dX28_leaf_22 : decode cX28_leaf 22 = .ok (.istore_n 3, 1) := dk_62 (dk_at dksX28_leaf_0 22 rfl rfl)
theorem dX28_leaf_23 : decode cX28_leaf 23 = .ok (.aload_n 0, 1) := dk_42 (dk_at dksX28_leaf_0 23 rfl rfl)
theorem dX28_leaf_24 : decode cX28_leaf 24 = .ok (.invokevirtual 118, 3) := dk_182 0 118 (dk_at dksX28_leaf_1 0 rfl rfl)
theorem dX28_leaf_27 : decode cX28_leaf 27 = .ok (.iload_n 3, 1) := dk_29 (dk_at dksX28_leaf_1 3 rfl rfl)
theorem dX28_leaf_28 : decode cX28_leaf 28 = .ok (.ifCond .lt 7, 3) := dk_155 0 7 (dk_at dksX28_leaf_1 4 rfl rfl)
theorem dX28_leaf_31 : decode cX28_leaf 31 = .ok (.iconst 1, 1) := dk_4 (dk_at dksX28_leaf_1 7 rfl rfl)
theorem dX28_leaf_32 : decode cX28_leaf 32 = .ok (.goto 4, 3) := dk_167 0 4 (dk_at dksX28_leaf_1 8 rfl rfl)
theorem dX28_leaf_35 : decode cX28_leaf 35 = .ok (.iconst 0, 1) := dk_3 (dk_at dksX28_leaf_1 11 rfl rfl)
theorem dX28_leaf_36 : decode cX28_leaf 36 = .ok (.ireturn, 1) := dk_172 (dk_at dksX28_leaf_1 12 rfl rfl)
abbrev cX28_term : ByteArray := prog_29_method_12_code
def yX28_term : MethodName := ⟨RX28, "term", "(III)I"⟩
def dkwX28_term_10 : List UInt8 := [21, 4, 79, 42, 180, 0, 40, 28, 92, 46, 4, 96, 79, 21, 4, 172]
abbrev dktX28_term_10 : List UInt8 := dkwX28_term_10 ++ []
def dkwX28_term_9 : List UInt8 := [21, 4, 79, 167, 0, 16, 42, 180, 0, 34, 42, 180, 0, 37, 28, 46, 21, 4, 79, 42, 180, 0, 37, 28]
abbrev dktX28_term_9 : List UInt8 := dkwX28_term_9 ++ dktX28_term_10
def dkwX28_term_8 : List UInt8 := [167, 0, 4, 2, 79, 28, 155, 0, 54, 42, 180, 0, 31, 28, 46, 156, 0, 14, 42, 180, 0, 31, 28]
abbrev dktX28_term_8 : List UInt8 := dkwX28_term_8 ++ dktX28_term_9
def dkwX28_term_7 : List UInt8 := [160, 0, 25, 42, 180, 0, 57, 42, 180, 0, 9, 42, 180, 0, 76, 42, 180, 0, 69, 182, 0, 112]
abbrev dktX28_term_7 : List UInt8 := dkwX28_term_7 ++ dktX28_term_8
def dkwX28_term_6 : List UInt8 := [180, 0, 40, 21, 4, 3, 79, 42, 180, 0, 46, 21, 4, 3, 84, 42, 180, 0, 43, 21, 4, 27, 8]
abbrev dktX28_term_6 : List UInt8 := dkwX28_term_6 ++ dktX28_term_7
def dkwX28_term_5 : List UInt8 := [180, 0, 31, 21, 4, 2, 79, 42, 180, 0, 34, 21, 4, 2, 79, 42, 180, 0, 37, 21, 4, 2, 79, 42]
abbrev dktX28_term_5 : List UInt8 := dkwX28_term_5 ++ dktX28_term_6
def dkwX28_term_4 : List UInt8 := [21, 4, 42, 180, 0, 69, 79, 42, 180, 0, 25, 21, 4, 2, 79, 42, 180, 0, 28, 21, 4, 2, 79, 42]
abbrev dktX28_term_4 : List UInt8 := dkwX28_term_4 ++ dktX28_term_5
def dkwX28_term_3 : List UInt8 := [42, 180, 0, 15, 21, 4, 27, 145, 84, 42, 180, 0, 18, 21, 4, 42, 180, 0, 76, 79, 42, 180, 0, 22]
abbrev dktX28_term_3 : List UInt8 := dkwX28_term_3 ++ dktX28_term_4
def dkwX28_term_2 : List UInt8 := [180, 0, 76, 181, 0, 102, 2, 172, 42, 180, 0, 105, 54, 4, 42, 89, 180, 0, 105, 4, 96, 181, 0, 105]
abbrev dktX28_term_2 : List UInt8 := dkwX28_term_2 ++ dktX28_term_3
def dkwX28_term_1 : List UInt8 := [180, 0, 53, 42, 180, 0, 9, 42, 180, 0, 76, 42, 180, 0, 69, 182, 0, 108, 154, 0, 13, 42, 42]
abbrev dktX28_term_1 : List UInt8 := dkwX28_term_1 ++ dktX28_term_2
def dkwX28_term_0 : List UInt8 := [42, 180, 0, 105, 17, 16, 0, 159, 0, 36, 29, 16, 60, 162, 0, 30, 27, 4, 160, 0, 35, 42]
abbrev dktX28_term_0 : List UInt8 := dkwX28_term_0 ++ dktX28_term_1
theorem dksX28_term_0 : cX28_term.data.toList.drop 0 = dktX28_term_0 := by decide +kernel
theorem dksX28_term_1 : cX28_term.data.toList.drop 22 = dktX28_term_1 := dk_seg dksX28_term_0 22 rfl rfl
theorem dksX28_term_2 : cX28_term.data.toList.drop 45 = dktX28_term_2 := dk_seg dksX28_term_1 23 rfl rfl
theorem dksX28_term_3 : cX28_term.data.toList.drop 69 = dktX28_term_3 := dk_seg dksX28_term_2 24 rfl rfl
theorem dksX28_term_4 : cX28_term.data.toList.drop 93 = dktX28_term_4 := dk_seg dksX28_term_3 24 rfl rfl
theorem dksX28_term_5 : cX28_term.data.toList.drop 117 = dktX28_term_5 := dk_seg dksX28_term_4 24 rfl rfl
theorem dksX28_term_6 : cX28_term.data.toList.drop 141 = dktX28_term_6 := dk_seg dksX28_term_5 24 rfl rfl
theorem dksX28_term_7 : cX28_term.data.toList.drop 164 = dktX28_term_7 := dk_seg dksX28_term_6 23 rfl rfl
theorem dksX28_term_8 : cX28_term.data.toList.drop 186 = dktX28_term_8 := dk_seg dksX28_term_7 22 rfl rfl
theorem dksX28_term_9 : cX28_term.data.toList.drop 209 = dktX28_term_9 := dk_seg dksX28_term_8 23 rfl rfl
theorem dksX28_term_10 : cX28_term.data.toList.drop 233 = dktX28_term_10 := dk_seg dksX28_term_9 24 rfl rfl
theorem dX28_term_0 : decode cX28_term 0 = .ok (.aload_n 0, 1) := dk_42 (dk_at dksX28_term_0 0 rfl rfl)
theorem dX28_term_1 : decode cX28_term 1 = .ok (.getfield 105, 3) := dk_180 0 105 (dk_at dksX28_term_0 1 rfl rfl)
theorem dX28_term_4 : decode cX28_term 4 = .ok (.sipush 4096, 3) := dk_17 16 0 (dk_at dksX28_term_0 4 rfl rfl)
theorem dX28_term_7 : decode cX28_term 7 = .ok (.if_icmp .eq 36, 3) := dk_159 0 36 (dk_at dksX28_term_0 7 rfl rfl)
theorem dX28_term_10 : decode cX28_term 10 = .ok (.iload_n 3, 1) := dk_29 (dk_at dksX28_term_0 10 rfl rfl)
theorem dX28_term_11 : decode cX28_term 11 = .ok (.bipush 60, 2) := dk_16 60 (dk_at dksX28_term_0 11 rfl rfl)
theorem dX28_term_13 : decode cX28_term 13 = .ok (.if_icmp .ge 30, 3) := dk_162 0 30 (dk_at dksX28_term_0 13 rfl rfl)
theorem dX28_term_16 : decode cX28_term 16 = .ok (.iload_n 1, 1) := dk_27 (dk_at dksX28_term_0 16 rfl rfl)
theorem dX28_term_17 : decode cX28_term 17 = .ok (.iconst 1, 1) := dk_4 (dk_at dksX28_term_0 17 rfl rfl)
theorem dX28_term_18 : decode cX28_term 18 = .ok (.if_icmp .ne 35, 3) := dk_160 0 35 (dk_at dksX28_term_0 18 rfl rfl)
theorem dX28_term_21 : decode cX28_term 21 = .ok (.aload_n 0, 1) := dk_42 (dk_at dksX28_term_0 21 rfl rfl)
theorem dX28_term_22 : decode cX28_term 22 = .ok (.getfield 53, 3) := dk_180 0 53 (dk_at dksX28_term_1 0 rfl rfl)
theorem dX28_term_25 : decode cX28_term 25 = .ok (.aload_n 0, 1) := dk_42 (dk_at dksX28_term_1 3 rfl rfl)
theorem dX28_term_26 : decode cX28_term 26 = .ok (.getfield 9, 3) := dk_180 0 9 (dk_at dksX28_term_1 4 rfl rfl)
theorem dX28_term_29 : decode cX28_term 29 = .ok (.aload_n 0, 1) := dk_42 (dk_at dksX28_term_1 7 rfl rfl)
theorem dX28_term_30 : decode cX28_term 30 = .ok (.getfield 76, 3) := dk_180 0 76 (dk_at dksX28_term_1 8 rfl rfl)
theorem dX28_term_33 : decode cX28_term 33 = .ok (.aload_n 0, 1) := dk_42 (dk_at dksX28_term_1 11 rfl rfl)
theorem dX28_term_34 : decode cX28_term 34 = .ok (.getfield 69, 3) := dk_180 0 69 (dk_at dksX28_term_1 12 rfl rfl)
theorem dX28_term_37 : decode cX28_term 37 = .ok (.invokevirtual 108, 3) := dk_182 0 108 (dk_at dksX28_term_1 15 rfl rfl)
theorem dX28_term_40 : decode cX28_term 40 = .ok (.ifCond .ne 13, 3) := dk_154 0 13 (dk_at dksX28_term_1 18 rfl rfl)
theorem dX28_term_43 : decode cX28_term 43 = .ok (.aload_n 0, 1) := dk_42 (dk_at dksX28_term_1 21 rfl rfl)
theorem dX28_term_44 : decode cX28_term 44 = .ok (.aload_n 0, 1) := dk_42 (dk_at dksX28_term_1 22 rfl rfl)
theorem dX28_term_45 : decode cX28_term 45 = .ok (.getfield 76, 3) := dk_180 0 76 (dk_at dksX28_term_2 0 rfl rfl)
theorem dX28_term_48 : decode cX28_term 48 = .ok (.putfield 102, 3) := dk_181 0 102 (dk_at dksX28_term_2 3 rfl rfl)
theorem dX28_term_51 : decode cX28_term 51 = .ok (.iconst (-1), 1) := dk_2 (dk_at dksX28_term_2 6 rfl rfl)
theorem dX28_term_52 : decode cX28_term 52 = .ok (.ireturn, 1) := dk_172 (dk_at dksX28_term_2 7 rfl rfl)
theorem dX28_term_53 : decode cX28_term 53 = .ok (.aload_n 0, 1) := dk_42 (dk_at dksX28_term_2 8 rfl rfl)
theorem dX28_term_54 : decode cX28_term 54 = .ok (.getfield 105, 3) := dk_180 0 105 (dk_at dksX28_term_2 9 rfl rfl)
theorem dX28_term_57 : decode cX28_term 57 = .ok (.istore 4, 2) := dk_54 4 (dk_at dksX28_term_2 12 rfl rfl)
theorem dX28_term_59 : decode cX28_term 59 = .ok (.aload_n 0, 1) := dk_42 (dk_at dksX28_term_2 14 rfl rfl)
theorem dX28_term_60 : decode cX28_term 60 = .ok (.dup, 1) := dk_89 (dk_at dksX28_term_2 15 rfl rfl)
theorem dX28_term_61 : decode cX28_term 61 = .ok (.getfield 105, 3) := dk_180 0 105 (dk_at dksX28_term_2 16 rfl rfl)
theorem dX28_term_64 : decode cX28_term 64 = .ok (.iconst 1, 1) := dk_4 (dk_at dksX28_term_2 19 rfl rfl)
theorem dX28_term_65 : decode cX28_term 65 = .ok (.iadd, 1) := dk_96 (dk_at dksX28_term_2 20 rfl rfl)
theorem dX28_term_66 : decode cX28_term 66 = .ok (.putfield 105, 3) := dk_181 0 105 (dk_at dksX28_term_2 21 rfl rfl)
theorem dX28_term_69 : decode cX28_term 69 = .ok (.aload_n 0, 1) := dk_42 (dk_at dksX28_term_3 0 rfl rfl)
theorem dX28_term_70 : decode cX28_term 70 = .ok (.getfield 15, 3) := dk_180 0 15 (dk_at dksX28_term_3 1 rfl rfl)
theorem dX28_term_73 : decode cX28_term 73 = .ok (.iload 4, 2) := dk_21 4 (dk_at dksX28_term_3 4 rfl rfl)
theorem dX28_term_75 : decode cX28_term 75 = .ok (.iload_n 1, 1) := dk_27 (dk_at dksX28_term_3 6 rfl rfl)
theorem dX28_term_76 : decode cX28_term 76 = .ok (.i2b, 1) := dk_145 (dk_at dksX28_term_3 7 rfl rfl)
theorem dX28_term_77 : decode cX28_term 77 = .ok (.bastore, 1) := dk_84 (dk_at dksX28_term_3 8 rfl rfl)
theorem dX28_term_78 : decode cX28_term 78 = .ok (.aload_n 0, 1) := dk_42 (dk_at dksX28_term_3 9 rfl rfl)
theorem dX28_term_79 : decode cX28_term 79 = .ok (.getfield 18, 3) := dk_180 0 18 (dk_at dksX28_term_3 10 rfl rfl)
theorem dX28_term_82 : decode cX28_term 82 = .ok (.iload 4, 2) := dk_21 4 (dk_at dksX28_term_3 13 rfl rfl)
theorem dX28_term_84 : decode cX28_term 84 = .ok (.aload_n 0, 1) := dk_42 (dk_at dksX28_term_3 15 rfl rfl)
theorem dX28_term_85 : decode cX28_term 85 = .ok (.getfield 76, 3) := dk_180 0 76 (dk_at dksX28_term_3 16 rfl rfl)
theorem dX28_term_88 : decode cX28_term 88 = .ok (.iastore, 1) := dk_79 (dk_at dksX28_term_3 19 rfl rfl)
theorem dX28_term_89 : decode cX28_term 89 = .ok (.aload_n 0, 1) := dk_42 (dk_at dksX28_term_3 20 rfl rfl)
theorem dX28_term_90 : decode cX28_term 90 = .ok (.getfield 22, 3) := dk_180 0 22 (dk_at dksX28_term_3 21 rfl rfl)
theorem dX28_term_93 : decode cX28_term 93 = .ok (.iload 4, 2) := dk_21 4 (dk_at dksX28_term_4 0 rfl rfl)
theorem dX28_term_95 : decode cX28_term 95 = .ok (.aload_n 0, 1) := dk_42 (dk_at dksX28_term_4 2 rfl rfl)
theorem dX28_term_96 : decode cX28_term 96 = .ok (.getfield 69, 3) := dk_180 0 69 (dk_at dksX28_term_4 3 rfl rfl)
theorem dX28_term_99 : decode cX28_term 99 = .ok (.iastore, 1) := dk_79 (dk_at dksX28_term_4 6 rfl rfl)
theorem dX28_term_100 : decode cX28_term 100 = .ok (.aload_n 0, 1) := dk_42 (dk_at dksX28_term_4 7 rfl rfl)
theorem dX28_term_101 : decode cX28_term 101 = .ok (.getfield 25, 3) := dk_180 0 25 (dk_at dksX28_term_4 8 rfl rfl)
theorem dX28_term_104 : decode cX28_term 104 = .ok (.iload 4, 2) := dk_21 4 (dk_at dksX28_term_4 11 rfl rfl)
theorem dX28_term_106 : decode cX28_term 106 = .ok (.iconst (-1), 1) := dk_2 (dk_at dksX28_term_4 13 rfl rfl)
theorem dX28_term_107 : decode cX28_term 107 = .ok (.iastore, 1) := dk_79 (dk_at dksX28_term_4 14 rfl rfl)
theorem dX28_term_108 : decode cX28_term 108 = .ok (.aload_n 0, 1) := dk_42 (dk_at dksX28_term_4 15 rfl rfl)
theorem dX28_term_109 : decode cX28_term 109 = .ok (.getfield 28, 3) := dk_180 0 28 (dk_at dksX28_term_4 16 rfl rfl)
theorem dX28_term_112 : decode cX28_term 112 = .ok (.iload 4, 2) := dk_21 4 (dk_at dksX28_term_4 19 rfl rfl)
theorem dX28_term_114 : decode cX28_term 114 = .ok (.iconst (-1), 1) := dk_2 (dk_at dksX28_term_4 21 rfl rfl)
theorem dX28_term_115 : decode cX28_term 115 = .ok (.iastore, 1) := dk_79 (dk_at dksX28_term_4 22 rfl rfl)
theorem dX28_term_116 : decode cX28_term 116 = .ok (.aload_n 0, 1) := dk_42 (dk_at dksX28_term_4 23 rfl rfl)
theorem dX28_term_117 : decode cX28_term 117 = .ok (.getfield 31, 3) := dk_180 0 31 (dk_at dksX28_term_5 0 rfl rfl)
theorem dX28_term_120 : decode cX28_term 120 = .ok (.iload 4, 2) := dk_21 4 (dk_at dksX28_term_5 3 rfl rfl)
theorem dX28_term_122 : decode cX28_term 122 = .ok (.iconst (-1), 1) := dk_2 (dk_at dksX28_term_5 5 rfl rfl)
theorem dX28_term_123 : decode cX28_term 123 = .ok (.iastore, 1) := dk_79 (dk_at dksX28_term_5 6 rfl rfl)
theorem dX28_term_124 : decode cX28_term 124 = .ok (.aload_n 0, 1) := dk_42 (dk_at dksX28_term_5 7 rfl rfl)
theorem dX28_term_125 : decode cX28_term 125 = .ok (.getfield 34, 3) := dk_180 0 34 (dk_at dksX28_term_5 8 rfl rfl)
theorem dX28_term_128 : decode cX28_term 128 = .ok (.iload 4, 2) := dk_21 4 (dk_at dksX28_term_5 11 rfl rfl)
theorem dX28_term_130 : decode cX28_term 130 = .ok (.iconst (-1), 1) := dk_2 (dk_at dksX28_term_5 13 rfl rfl)
theorem dX28_term_131 : decode cX28_term 131 = .ok (.iastore, 1) := dk_79 (dk_at dksX28_term_5 14 rfl rfl)
theorem dX28_term_132 : decode cX28_term 132 = .ok (.aload_n 0, 1) := dk_42 (dk_at dksX28_term_5 15 rfl rfl)
theorem dX28_term_133 : decode cX28_term 133 = .ok (.getfield 37, 3) := dk_180 0 37 (dk_at dksX28_term_5 16 rfl rfl)
theorem dX28_term_136 : decode cX28_term 136 = .ok (.iload 4, 2) := dk_21 4 (dk_at dksX28_term_5 19 rfl rfl)
theorem dX28_term_138 : decode cX28_term 138 = .ok (.iconst (-1), 1) := dk_2 (dk_at dksX28_term_5 21 rfl rfl)
theorem dX28_term_139 : decode cX28_term 139 = .ok (.iastore, 1) := dk_79 (dk_at dksX28_term_5 22 rfl rfl)
theorem dX28_term_140 : decode cX28_term 140 = .ok (.aload_n 0, 1) := dk_42 (dk_at dksX28_term_5 23 rfl rfl)
theorem dX28_term_141 : decode cX28_term 141 = .ok (.getfield 40, 3) := dk_180 0 40 (dk_at dksX28_term_6 0 rfl rfl)
theorem dX28_term_144 : decode cX28_term 144 = .ok (.iload 4, 2) := dk_21 4 (dk_at dksX28_term_6 3 rfl rfl)
theorem dX28_term_146 : decode cX28_term 146 = .ok (.iconst 0, 1) := dk_3 (dk_at dksX28_term_6 5 rfl rfl)
theorem dX28_term_147 : decode cX28_term 147 = .ok (.iastore, 1) := dk_79 (dk_at dksX28_term_6 6 rfl rfl)
theorem dX28_term_148 : decode cX28_term 148 = .ok (.aload_n 0, 1) := dk_42 (dk_at dksX28_term_6 7 rfl rfl)
theorem dX28_term_149 : decode cX28_term 149 = .ok (.getfield 46, 3) := dk_180 0 46 (dk_at dksX28_term_6 8 rfl rfl)
theorem dX28_term_152 : decode cX28_term 152 = .ok (.iload 4, 2) := dk_21 4 (dk_at dksX28_term_6 11 rfl rfl)
theorem dX28_term_154 : decode cX28_term 154 = .ok (.iconst 0, 1) := dk_3 (dk_at dksX28_term_6 13 rfl rfl)
theorem dX28_term_155 : decode cX28_term 155 = .ok (.bastore, 1) := dk_84 (dk_at dksX28_term_6 14 rfl rfl)
theorem dX28_term_156 : decode cX28_term 156 = .ok (.aload_n 0, 1) := dk_42 (dk_at dksX28_term_6 15 rfl rfl)
theorem dX28_term_157 : decode cX28_term 157 = .ok (.getfield 43, 3) := dk_180 0 43 (dk_at dksX28_term_6 16 rfl rfl)
theorem dX28_term_160 : decode cX28_term 160 = .ok (.iload 4, 2) := dk_21 4 (dk_at dksX28_term_6 19 rfl rfl)
theorem dX28_term_162 : decode cX28_term 162 = .ok (.iload_n 1, 1) := dk_27 (dk_at dksX28_term_6 21 rfl rfl)
theorem dX28_term_163 : decode cX28_term 163 = .ok (.iconst 5, 1) := dk_8 (dk_at dksX28_term_6 22 rfl rfl)
theorem dX28_term_164 : decode cX28_term 164 = .ok (.if_icmp .ne 25, 3) := dk_160 0 25 (dk_at dksX28_term_7 0 rfl rfl)
theorem dX28_term_167 : decode cX28_term 167 = .ok (.aload_n 0, 1) := dk_42 (dk_at dksX28_term_7 3 rfl rfl)
theorem dX28_term_168 : decode cX28_term 168 = .ok (.getfield 57, 3) := dk_180 0 57 (dk_at dksX28_term_7 4 rfl rfl)
theorem dX28_term_171 : decode cX28_term 171 = .ok (.aload_n 0, 1) := dk_42 (dk_at dksX28_term_7 7 rfl rfl)
theorem dX28_term_172 : decode cX28_term 172 = .ok (.getfield 9, 3) := dk_180 0 9 (dk_at dksX28_term_7 8 rfl rfl)
theorem dX28_term_175 : decode cX28_term 175 = .ok (.aload_n 0, 1) := dk_42 (dk_at dksX28_term_7 11 rfl rfl)
theorem dX28_term_176 : decode cX28_term 176 = .ok (.getfield 76, 3) := dk_180 0 76 (dk_at dksX28_term_7 12 rfl rfl)
theorem dX28_term_179 : decode cX28_term 179 = .ok (.aload_n 0, 1) := dk_42 (dk_at dksX28_term_7 15 rfl rfl)
theorem dX28_term_180 : decode cX28_term 180 = .ok (.getfield 69, 3) := dk_180 0 69 (dk_at dksX28_term_7 16 rfl rfl)
theorem dX28_term_183 : decode cX28_term 183 = .ok (.invokevirtual 112, 3) := dk_182 0 112 (dk_at dksX28_term_7 19 rfl rfl)
theorem dX28_term_186 : decode cX28_term 186 = .ok (.goto 4, 3) := dk_167 0 4 (dk_at dksX28_term_8 0 rfl rfl)
theorem dX28_term_189 : decode cX28_term 189 = .ok (.iconst (-1), 1) := dk_2 (dk_at dksX28_term_8 3 rfl rfl)
theorem dX28_term_190 : decode cX28_term 190 = .ok (.iastore, 1) := dk_79 (dk_at dksX28_term_8 4 rfl rfl)
theorem dX28_term_191 : decode cX28_term 191 = .ok (.iload_n 2, 1) := dk_28 (dk_at dksX28_term_8 5 rfl rfl)
theorem dX28_term_192 : decode cX28_term 192 = .ok (.ifCond .lt 54, 3) := dk_155 0 54 (dk_at dksX28_term_8 6 rfl rfl)
theorem dX28_term_195 : decode cX28_term 195 = .ok (.aload_n 0, 1) := dk_42 (dk_at dksX28_term_8 9 rfl rfl)
theorem dX28_term_196 : decode cX28_term 196 = .ok (.getfield 31, 3) := dk_180 0 31 (dk_at dksX28_term_8 10 rfl rfl)
theorem dX28_term_199 : decode cX28_term 199 = .ok (.iload_n 2, 1) := dk_28 (dk_at dksX28_term_8 13 rfl rfl)
theorem dX28_term_200 : decode cX28_term 200 = .ok (.iaload, 1) := dk_46 (dk_at dksX28_term_8 14 rfl rfl)
theorem dX28_term_201 : decode cX28_term 201 = .ok (.ifCond .ge 14, 3) := dk_156 0 14 (dk_at dksX28_term_8 15 rfl rfl)
theorem dX28_term_204 : decode cX28_term 204 = .ok (.aload_n 0, 1) := dk_42 (dk_at dksX28_term_8 18 rfl rfl)
theorem dX28_term_205 : decode cX28_term 205 = .ok (.getfield 31, 3) := dk_180 0 31 (dk_at dksX28_term_8 19 rfl rfl)
theorem dX28_term_208 : decode cX28_term 208 = .ok (.iload_n 2, 1) := dk_28 (dk_at dksX28_term_8 22 rfl rfl)
theorem dX28_term_209 : decode cX28_term 209 = .ok (.iload 4, 2) := dk_21 4 (dk_at dksX28_term_9 0 rfl rfl)
theorem dX28_term_211 : decode cX28_term 211 = .ok (.iastore, 1) := dk_79 (dk_at dksX28_term_9 2 rfl rfl)
theorem dX28_term_212 : decode cX28_term 212 = .ok (.goto 16, 3) := dk_167 0 16 (dk_at dksX28_term_9 3 rfl rfl)
theorem dX28_term_215 : decode cX28_term 215 = .ok (.aload_n 0, 1) := dk_42 (dk_at dksX28_term_9 6 rfl rfl)
theorem dX28_term_216 : decode cX28_term 216 = .ok (.getfield 34, 3) := dk_180 0 34 (dk_at dksX28_term_9 7 rfl rfl)
theorem dX28_term_219 : decode cX28_term 219 = .ok (.aload_n 0, 1) := dk_42 (dk_at dksX28_term_9 10 rfl rfl)
theorem dX28_term_220 : decode cX28_term 220 = .ok (.getfield 37, 3) := dk_180 0 37 (dk_at dksX28_term_9 11 rfl rfl)
theorem dX28_term_223 : decode cX28_term 223 = .ok (.iload_n 2, 1) := dk_28 (dk_at dksX28_term_9 14 rfl rfl)
theorem dX28_term_224 : decode cX28_term 224 = .ok (.iaload, 1) := dk_46 (dk_at dksX28_term_9 15 rfl rfl)
theorem dX28_term_225 : decode cX28_term 225 = .ok (.iload 4, 2) := dk_21 4 (dk_at dksX28_term_9 16 rfl rfl)
theorem dX28_term_227 : decode cX28_term 227 = .ok (.iastore, 1) := dk_79 (dk_at dksX28_term_9 18 rfl rfl)
theorem dX28_term_228 : decode cX28_term 228 = .ok (.aload_n 0, 1) := dk_42 (dk_at dksX28_term_9 19 rfl rfl)
theorem dX28_term_229 : decode cX28_term 229 = .ok (.getfield 37, 3) := dk_180 0 37 (dk_at dksX28_term_9 20 rfl rfl)
theorem dX28_term_232 : decode cX28_term 232 = .ok (.iload_n 2, 1) := dk_28 (dk_at dksX28_term_9 23 rfl rfl)
theorem dX28_term_233 : decode cX28_term 233 = .ok (.iload 4, 2) := dk_21 4 (dk_at dksX28_term_10 0 rfl rfl)
theorem dX28_term_235 : decode cX28_term 235 = .ok (.iastore, 1) := dk_79 (dk_at dksX28_term_10 2 rfl rfl)
theorem dX28_term_236 : decode cX28_term 236 = .ok (.aload_n 0, 1) := dk_42 (dk_at dksX28_term_10 3 rfl rfl)
theorem dX28_term_237 : decode cX28_term 237 = .ok (.getfield 40, 3) := dk_180 0 40 (dk_at dksX28_term_10 4 rfl rfl)
theorem dX28_term_240 : decode cX28_term 240 = .ok (.iload_n 2, 1) := dk_28 (dk_at dksX28_term_10 7 rfl rfl)
theorem dX28_term_241 : decode cX28_term 241 = .ok (.dup2, 1) := dk_92 (dk_at dksX28_term_10 8 rfl rfl)
theorem dX28_term_242 : decode cX28_term 242 = .ok (.iaload, 1) := dk_46 (dk_at dksX28_term_10 9 rfl rfl)
theorem dX28_term_243 : decode cX28_term 243 = .ok (.iconst 1, 1) := dk_4 (dk_at dksX28_term_10 10 rfl rfl)
theorem dX28_term_244 : decode cX28_term 244 = .ok (.iadd, 1) := dk_96 (dk_at dksX28_term_10 11 rfl rfl)
theorem dX28_term_245 : decode cX28_term 245 = .ok (.iastore, 1) := dk_79 (dk_at dksX28_term_10 12 rfl rfl)
theorem dX28_term_246 : decode cX28_term 246 = .ok (.iload 4, 2) := dk_21 4 (dk_at dksX28_term_10 13 rfl rfl)
theorem dX28_term_248 : decode cX28_term 248 = .ok (.ireturn, 1) := dk_172 (dk_at dksX28_term_10 15 rfl rfl)
abbrev cX28_sequence : ByteArray := prog_29_method_16_code
def yX28_sequence : MethodName := ⟨RX28, "sequence", "(II)Z"⟩
def dkwX28_sequence_3 : List UInt8 := [42, 180, 0, 22, 29, 42, 180, 0, 69, 79, 42, 182, 0, 118, 4, 172]
abbrev dktX28_sequence_3 : List UInt8 := dkwX28_sequence_3 ++ []
def dkwX28_sequence_2 : List UInt8 := [160, 0, 10, 42, 182, 0, 118, 167, 255, 221, 42, 180, 0, 79, 16, 125, 159, 255, 212, 42, 182, 0, 125, 172]
abbrev dktX28_sequence_2 : List UInt8 := dkwX28_sequence_2 ++ dktX28_sequence_3
def dkwX28_sequence_1 : List UInt8 := [159, 0, 46, 42, 29, 28, 4, 96, 182, 0, 121, 154, 0, 5, 3, 172, 42, 180, 0, 79, 16, 59]
abbrev dktX28_sequence_1 : List UInt8 := dkwX28_sequence_1 ++ dktX28_sequence_2
def dkwX28_sequence_0 : List UInt8 := [42, 7, 27, 28, 182, 0, 129, 62, 29, 156, 0, 5, 3, 172, 42, 182, 0, 118, 42, 180, 0, 79, 16, 125]
abbrev dktX28_sequence_0 : List UInt8 := dkwX28_sequence_0 ++ dktX28_sequence_1
theorem dksX28_sequence_0 : cX28_sequence.data.toList.drop 0 = dktX28_sequence_0 := by decide +kernel
theorem dksX28_sequence_1 : cX28_sequence.data.toList.drop 24 = dktX28_sequence_1 := dk_seg dksX28_sequence_0 24 rfl rfl
theorem dksX28_sequence_2 : cX28_sequence.data.toList.drop 46 = dktX28_sequence_2 := dk_seg dksX28_sequence_1 22 rfl rfl
theorem dksX28_sequence_3 : cX28_sequence.data.toList.drop 70 = dktX28_sequence_3 := dk_seg dksX28_sequence_2 24 rfl rfl
theorem dX28_sequence_0 : decode cX28_sequence 0 = .ok (.aload_n 0, 1) := dk_42 (dk_at dksX28_sequence_0 0 rfl rfl)
theorem dX28_sequence_1 : decode cX28_sequence 1 = .ok (.iconst 4, 1) := dk_7 (dk_at dksX28_sequence_0 1 rfl rfl)
theorem dX28_sequence_2 : decode cX28_sequence 2 = .ok (.iload_n 1, 1) := dk_27 (dk_at dksX28_sequence_0 2 rfl rfl)
theorem dX28_sequence_3 : decode cX28_sequence 3 = .ok (.iload_n 2, 1) := dk_28 (dk_at dksX28_sequence_0 3 rfl rfl)
theorem dX28_sequence_4 : decode cX28_sequence 4 = .ok (.invokevirtual 129, 3) := dk_182 0 129 (dk_at dksX28_sequence_0 4 rfl rfl)
theorem dX28_sequence_7 : decode cX28_sequence 7 = .ok (.istore_n 3, 1) := dk_62 (dk_at dksX28_sequence_0 7 rfl rfl)
theorem dX28_sequence_8 : decode cX28_sequence 8 = .ok (.iload_n 3, 1) := dk_29 (dk_at dksX28_sequence_0 8 rfl rfl)
theorem dX28_sequence_9 : decode cX28_sequence 9 = .ok (.ifCond .ge 5, 3) := dk_156 0 5 (dk_at dksX28_sequence_0 9 rfl rfl)
theorem dX28_sequence_12 : decode cX28_sequence 12 = .ok (.iconst 0, 1) := dk_3 (dk_at dksX28_sequence_0 12 rfl rfl)
theorem dX28_sequence_13 : decode cX28_sequence 13 = .ok (.ireturn, 1) := dk_172 (dk_at dksX28_sequence_0 13 rfl rfl)
theorem dX28_sequence_14 : decode cX28_sequence 14 = .ok (.aload_n 0, 1) := dk_42 (dk_at dksX28_sequence_0 14 rfl rfl)
theorem dX28_sequence_15 : decode cX28_sequence 15 = .ok (.invokevirtual 118, 3) := dk_182 0 118 (dk_at dksX28_sequence_0 15 rfl rfl)
theorem dX28_sequence_18 : decode cX28_sequence 18 = .ok (.aload_n 0, 1) := dk_42 (dk_at dksX28_sequence_0 18 rfl rfl)
theorem dX28_sequence_19 : decode cX28_sequence 19 = .ok (.getfield 79, 3) := dk_180 0 79 (dk_at dksX28_sequence_0 19 rfl rfl)
theorem dX28_sequence_22 : decode cX28_sequence 22 = .ok (.bipush 125, 2) := dk_16 125 (dk_at dksX28_sequence_0 22 rfl rfl)
theorem dX28_sequence_24 : decode cX28_sequence 24 = .ok (.if_icmp .eq 46, 3) := dk_159 0 46 (dk_at dksX28_sequence_1 0 rfl rfl)
theorem dX28_sequence_27 : decode cX28_sequence 27 = .ok (.aload_n 0, 1) := dk_42 (dk_at dksX28_sequence_1 3 rfl rfl)
theorem dX28_sequence_28 : decode cX28_sequence 28 = .ok (.iload_n 3, 1) := dk_29 (dk_at dksX28_sequence_1 4 rfl rfl)
theorem dX28_sequence_29 : decode cX28_sequence 29 = .ok (.iload_n 2, 1) := dk_28 (dk_at dksX28_sequence_1 5 rfl rfl)
theorem dX28_sequence_30 : decode cX28_sequence 30 = .ok (.iconst 1, 1) := dk_4 (dk_at dksX28_sequence_1 6 rfl rfl)
theorem dX28_sequence_31 : decode cX28_sequence 31 = .ok (.iadd, 1) := dk_96 (dk_at dksX28_sequence_1 7 rfl rfl)
theorem dX28_sequence_32 : decode cX28_sequence 32 = .ok (.invokevirtual 121, 3) := dk_182 0 121 (dk_at dksX28_sequence_1 8 rfl rfl)
theorem dX28_sequence_35 : decode cX28_sequence 35 = .ok (.ifCond .ne 5, 3) := dk_154 0 5 (dk_at dksX28_sequence_1 11 rfl rfl)
theorem dX28_sequence_38 : decode cX28_sequence 38 = .ok (.iconst 0, 1) := dk_3 (dk_at dksX28_sequence_1 14 rfl rfl)
theorem dX28_sequence_39 : decode cX28_sequence 39 = .ok (.ireturn, 1) := dk_172 (dk_at dksX28_sequence_1 15 rfl rfl)
theorem dX28_sequence_40 : decode cX28_sequence 40 = .ok (.aload_n 0, 1) := dk_42 (dk_at dksX28_sequence_1 16 rfl rfl)
theorem dX28_sequence_41 : decode cX28_sequence 41 = .ok (.getfield 79, 3) := dk_180 0 79 (dk_at dksX28_sequence_1 17 rfl rfl)
theorem dX28_sequence_44 : decode cX28_sequence 44 = .ok (.bipush 59, 2) := dk_16 59 (dk_at dksX28_sequence_1 20 rfl rfl)
theorem dX28_sequence_46 : decode cX28_sequence 46 = .ok (.if_icmp .ne 10, 3) := dk_160 0 10 (dk_at dksX28_sequence_2 0 rfl rfl)
theorem dX28_sequence_49 : decode cX28_sequence 49 = .ok (.aload_n 0, 1) := dk_42 (dk_at dksX28_sequence_2 3 rfl rfl)
theorem dX28_sequence_50 : decode cX28_sequence 50 = .ok (.invokevirtual 118, 3) := dk_182 0 118 (dk_at dksX28_sequence_2 4 rfl rfl)
theorem dX28_sequence_53 : decode cX28_sequence 53 = .ok (.goto (-35), 3) := dk_167 255 221 (dk_at dksX28_sequence_2 7 rfl rfl)
theorem dX28_sequence_56 : decode cX28_sequence 56 = .ok (.aload_n 0, 1) := dk_42 (dk_at dksX28_sequence_2 10 rfl rfl)
theorem dX28_sequence_57 : decode cX28_sequence 57 = .ok (.getfield 79, 3) := dk_180 0 79 (dk_at dksX28_sequence_2 11 rfl rfl)
theorem dX28_sequence_60 : decode cX28_sequence 60 = .ok (.bipush 125, 2) := dk_16 125 (dk_at dksX28_sequence_2 14 rfl rfl)
theorem dX28_sequence_62 : decode cX28_sequence 62 = .ok (.if_icmp .eq (-44), 3) := dk_159 255 212 (dk_at dksX28_sequence_2 16 rfl rfl)
theorem dX28_sequence_65 : decode cX28_sequence 65 = .ok (.aload_n 0, 1) := dk_42 (dk_at dksX28_sequence_2 19 rfl rfl)
theorem dX28_sequence_66 : decode cX28_sequence 66 = .ok (.invokevirtual 125, 3) := dk_182 0 125 (dk_at dksX28_sequence_2 20 rfl rfl)
theorem dX28_sequence_69 : decode cX28_sequence 69 = .ok (.ireturn, 1) := dk_172 (dk_at dksX28_sequence_2 23 rfl rfl)
theorem dX28_sequence_70 : decode cX28_sequence 70 = .ok (.aload_n 0, 1) := dk_42 (dk_at dksX28_sequence_3 0 rfl rfl)
theorem dX28_sequence_71 : decode cX28_sequence 71 = .ok (.getfield 22, 3) := dk_180 0 22 (dk_at dksX28_sequence_3 1 rfl rfl)
theorem dX28_sequence_74 : decode cX28_sequence 74 = .ok (.iload_n 3, 1) := dk_29 (dk_at dksX28_sequence_3 4 rfl rfl)
theorem dX28_sequence_75 : decode cX28_sequence 75 = .ok (.aload_n 0, 1) := dk_42 (dk_at dksX28_sequence_3 5 rfl rfl)
theorem dX28_sequence_76 : decode cX28_sequence 76 = .ok (.getfield 69, 3) := dk_180 0 69 (dk_at dksX28_sequence_3 6 rfl rfl)
theorem dX28_sequence_79 : decode cX28_sequence 79 = .ok (.iastore, 1) := dk_79 (dk_at dksX28_sequence_3 9 rfl rfl)
theorem dX28_sequence_80 : decode cX28_sequence 80 = .ok (.aload_n 0, 1) := dk_42 (dk_at dksX28_sequence_3 10 rfl rfl)
theorem dX28_sequence_81 : decode cX28_sequence 81 = .ok (.invokevirtual 118, 3) := dk_182 0 118 (dk_at dksX28_sequence_3 11 rfl rfl)
theorem dX28_sequence_84 : decode cX28_sequence 84 = .ok (.iconst 1, 1) := dk_4 (dk_at dksX28_sequence_3 14 rfl rfl)
theorem dX28_sequence_85 : decode cX28_sequence 85 = .ok (.ireturn, 1) := dk_172 (dk_at dksX28_sequence_3 15 rfl rfl)
abbrev cX28_fail : ByteArray := prog_29_method_11_code
def yX28_fail : MethodName := ⟨RX28, "fail", "()Z"⟩
def dkwX28_fail_0 : List UInt8 := [42, 42, 180, 0, 76, 181, 0, 102, 3, 172]
abbrev dktX28_fail_0 : List UInt8 := dkwX28_fail_0 ++ []
theorem dksX28_fail_0 : cX28_fail.data.toList.drop 0 = dktX28_fail_0 := by decide +kernel
theorem dX28_fail_0 : decode cX28_fail 0 = .ok (.aload_n 0, 1) := dk_42 (dk_at dksX28_fail_0 0 rfl rfl)
theorem dX28_fail_1 : decode cX28_fail 1 = .ok (.aload_n 0, 1) := dk_42 (dk_at dksX28_fail_0 1 rfl rfl)
theorem dX28_fail_2 : decode cX28_fail 2 = .ok (.getfield 76, 3) := dk_180 0 76 (dk_at dksX28_fail_0 2 rfl rfl)
theorem dX28_fail_5 : decode cX28_fail 5 = .ok (.putfield 102, 3) := dk_181 0 102 (dk_at dksX28_fail_0 5 rfl rfl)
theorem dX28_fail_8 : decode cX28_fail 8 = .ok (.iconst 0, 1) := dk_3 (dk_at dksX28_fail_0 8 rfl rfl)
theorem dX28_fail_9 : decode cX28_fail 9 = .ok (.ireturn, 1) := dk_172 (dk_at dksX28_fail_0 9 rfl rfl)
abbrev cX28_application : ByteArray := prog_29_method_17_code
def yX28_application : MethodName := ⟨RX28, "application", "(II)Z"⟩
def dkwX28_application_9 : List UInt8 := [167, 255, 103, 21, 4, 172]
abbrev dktX28_application_9 : List UInt8 := dkwX28_application_9 ++ []
def dkwX28_application_8 : List UInt8 := [182, 0, 125, 54, 4, 167, 255, 121, 21, 4, 153, 255, 116, 42, 182, 0, 118, 167, 255, 109, 3, 54, 5]
abbrev dktX28_application_8 : List UInt8 := dkwX28_application_8 ++ dktX28_application_9
def dkwX28_application_7 : List UInt8 := [167, 0, 7, 42, 182, 0, 125, 54, 4, 21, 4, 153, 0, 21, 42, 180, 0, 79, 16, 41, 159, 0, 12, 42]
abbrev dktX28_application_7 : List UInt8 := dkwX28_application_7 ++ dktX28_application_8
def dkwX28_application_6 : List UInt8 := [160, 0, 67, 42, 182, 0, 118, 42, 180, 0, 79, 7, 160, 0, 14, 42, 29, 28, 4, 96, 182, 0, 139]
abbrev dktX28_application_6 : List UInt8 := dkwX28_application_6 ++ dktX28_application_7
def dkwX28_application_5 : List UInt8 := [16, 123, 160, 0, 16, 42, 29, 28, 4, 96, 182, 0, 136, 54, 4, 167, 255, 182, 42, 180, 0, 79, 16, 40]
abbrev dktX28_application_5 : List UInt8 := dkwX28_application_5 ++ dktX28_application_6
def dkwX28_application_4 : List UInt8 := [180, 0, 79, 7, 160, 0, 16, 42, 29, 28, 4, 96, 182, 0, 133, 54, 4, 167, 255, 204, 42, 180, 0, 79]
abbrev dktX28_application_4 : List UInt8 := dkwX28_application_4 ++ dktX28_application_5
def dkwX28_application_3 : List UInt8 := [180, 0, 79, 4, 159, 0, 27, 42, 180, 0, 79, 5, 159, 0, 19, 42, 180, 0, 79, 6, 159, 0, 11, 42]
abbrev dktX28_application_3 : List UInt8 := dkwX28_application_3 ++ dktX28_application_4
def dkwX28_application_2 : List UInt8 := [79, 42, 182, 0, 118, 4, 54, 4, 4, 54, 5, 21, 4, 153, 0, 154, 21, 5, 153, 0, 149, 42]
abbrev dktX28_application_2 : List UInt8 := dkwX28_application_2 ++ dktX28_application_3
def dkwX28_application_1 : List UInt8 := [160, 0, 29, 42, 180, 0, 25, 29, 42, 180, 0, 76, 4, 96, 79, 42, 180, 0, 28, 29, 42, 180, 0, 69]
abbrev dktX28_application_1 : List UInt8 := dkwX28_application_1 ++ dktX28_application_2
def dkwX28_application_0 : List UInt8 := [42, 8, 27, 28, 182, 0, 129, 62, 29, 156, 0, 5, 3, 172, 42, 182, 0, 118, 42, 180, 0, 79, 8]
abbrev dktX28_application_0 : List UInt8 := dkwX28_application_0 ++ dktX28_application_1
theorem dksX28_application_0 : cX28_application.data.toList.drop 0 = dktX28_application_0 := by decide +kernel
theorem dksX28_application_1 : cX28_application.data.toList.drop 23 = dktX28_application_1 := dk_seg dksX28_application_0 23 rfl rfl
theorem dksX28_application_2 : cX28_application.data.toList.drop 47 = dktX28_application_2 := dk_seg dksX28_application_1 24 rfl rfl
theorem dksX28_application_3 : cX28_application.data.toList.drop 69 = dktX28_application_3 := dk_seg dksX28_application_2 22 rfl rfl
theorem dksX28_application_4 : cX28_application.data.toList.drop 93 = dktX28_application_4 := dk_seg dksX28_application_3 24 rfl rfl
theorem dksX28_application_5 : cX28_application.data.toList.drop 117 = dktX28_application_5 := dk_seg dksX28_application_4 24 rfl rfl
theorem dksX28_application_6 : cX28_application.data.toList.drop 141 = dktX28_application_6 := dk_seg dksX28_application_5 24 rfl rfl
theorem dksX28_application_7 : cX28_application.data.toList.drop 164 = dktX28_application_7 := dk_seg dksX28_application_6 23 rfl rfl
theorem dksX28_application_8 : cX28_application.data.toList.drop 188 = dktX28_application_8 := dk_seg dksX28_application_7 24 rfl rfl
theorem dksX28_application_9 : cX28_application.data.toList.drop 211 = dktX28_application_9 := dk_seg dksX28_application_8 23 rfl rfl
theorem dX28_application_0 : decode cX28_application 0 = .ok (.aload_n 0, 1) := dk_42 (dk_at dksX28_application_0 0 rfl rfl)
theorem dX28_application_1 : decode cX28_application 1 = .ok (.iconst 5, 1) := dk_8 (dk_at dksX28_application_0 1 rfl rfl)
theorem dX28_application_2 : decode cX28_application 2 = .ok (.iload_n 1, 1) := dk_27 (dk_at dksX28_application_0 2 rfl rfl)
theorem dX28_application_3 : decode cX28_application 3 = .ok (.iload_n 2, 1) := dk_28 (dk_at dksX28_application_0 3 rfl rfl)
theorem dX28_application_4 : decode cX28_application 4 = .ok (.invokevirtual 129, 3) := dk_182 0 129 (dk_at dksX28_application_0 4 rfl rfl)
theorem dX28_application_7 : decode cX28_application 7 = .ok (.istore_n 3, 1) := dk_62 (dk_at dksX28_application_0 7 rfl rfl)
theorem dX28_application_8 : decode cX28_application 8 = .ok (.iload_n 3, 1) := dk_29 (dk_at dksX28_application_0 8 rfl rfl)
theorem dX28_application_9 : decode cX28_application 9 = .ok (.ifCond .ge 5, 3) := dk_156 0 5 (dk_at dksX28_application_0 9 rfl rfl)
theorem dX28_application_12 : decode cX28_application 12 = .ok (.iconst 0, 1) := dk_3 (dk_at dksX28_application_0 12 rfl rfl)
theorem dX28_application_13 : decode cX28_application 13 = .ok (.ireturn, 1) := dk_172 (dk_at dksX28_application_0 13 rfl rfl)
theorem dX28_application_14 : decode cX28_application 14 = .ok (.aload_n 0, 1) := dk_42 (dk_at dksX28_application_0 14 rfl rfl)
theorem dX28_application_15 : decode cX28_application 15 = .ok (.invokevirtual 118, 3) := dk_182 0 118 (dk_at dksX28_application_0 15 rfl rfl)
theorem dX28_application_18 : decode cX28_application 18 = .ok (.aload_n 0, 1) := dk_42 (dk_at dksX28_application_0 18 rfl rfl)
theorem dX28_application_19 : decode cX28_application 19 = .ok (.getfield 79, 3) := dk_180 0 79 (dk_at dksX28_application_0 19 rfl rfl)
theorem dX28_application_22 : decode cX28_application 22 = .ok (.iconst 5, 1) := dk_8 (dk_at dksX28_application_0 22 rfl rfl)
theorem dX28_application_23 : decode cX28_application 23 = .ok (.if_icmp .ne 29, 3) := dk_160 0 29 (dk_at dksX28_application_1 0 rfl rfl)
theorem dX28_application_26 : decode cX28_application 26 = .ok (.aload_n 0, 1) := dk_42 (dk_at dksX28_application_1 3 rfl rfl)
theorem dX28_application_27 : decode cX28_application 27 = .ok (.getfield 25, 3) := dk_180 0 25 (dk_at dksX28_application_1 4 rfl rfl)
theorem dX28_application_30 : decode cX28_application 30 = .ok (.iload_n 3, 1) := dk_29 (dk_at dksX28_application_1 7 rfl rfl)
theorem dX28_application_31 : decode cX28_application 31 = .ok (.aload_n 0, 1) := dk_42 (dk_at dksX28_application_1 8 rfl rfl)
theorem dX28_application_32 : decode cX28_application 32 = .ok (.getfield 76, 3) := dk_180 0 76 (dk_at dksX28_application_1 9 rfl rfl)
theorem dX28_application_35 : decode cX28_application 35 = .ok (.iconst 1, 1) := dk_4 (dk_at dksX28_application_1 12 rfl rfl)
theorem dX28_application_36 : decode cX28_application 36 = .ok (.iadd, 1) := dk_96 (dk_at dksX28_application_1 13 rfl rfl)
theorem dX28_application_37 : decode cX28_application 37 = .ok (.iastore, 1) := dk_79 (dk_at dksX28_application_1 14 rfl rfl)
theorem dX28_application_38 : decode cX28_application 38 = .ok (.aload_n 0, 1) := dk_42 (dk_at dksX28_application_1 15 rfl rfl)
theorem dX28_application_39 : decode cX28_application 39 = .ok (.getfield 28, 3) := dk_180 0 28 (dk_at dksX28_application_1 16 rfl rfl)
theorem dX28_application_42 : decode cX28_application 42 = .ok (.iload_n 3, 1) := dk_29 (dk_at dksX28_application_1 19 rfl rfl)
theorem dX28_application_43 : decode cX28_application 43 = .ok (.aload_n 0, 1) := dk_42 (dk_at dksX28_application_1 20 rfl rfl)
theorem dX28_application_44 : decode cX28_application 44 = .ok (.getfield 69, 3) := dk_180 0 69 (dk_at dksX28_application_1 21 rfl rfl)
theorem dX28_application_47 : decode cX28_application 47 = .ok (.iastore, 1) := dk_79 (dk_at dksX28_application_2 0 rfl rfl)
theorem dX28_application_48 : decode cX28_application 48 = .ok (.aload_n 0, 1) := dk_42 (dk_at dksX28_application_2 1 rfl rfl)
theorem dX28_application_49 : decode cX28_application 49 = .ok (.invokevirtual 118, 3) := dk_182 0 118 (dk_at dksX28_application_2 2 rfl rfl)
theorem dX28_application_52 : decode cX28_application 52 = .ok (.iconst 1, 1) := dk_4 (dk_at dksX28_application_2 5 rfl rfl)
theorem dX28_application_53 : decode cX28_application 53 = .ok (.istore 4, 2) := dk_54 4 (dk_at dksX28_application_2 6 rfl rfl)
theorem dX28_application_55 : decode cX28_application 55 = .ok (.iconst 1, 1) := dk_4 (dk_at dksX28_application_2 8 rfl rfl)
theorem dX28_application_56 : decode cX28_application 56 = .ok (.istore 5, 2) := dk_54 5 (dk_at dksX28_application_2 9 rfl rfl)
theorem dX28_application_58 : decode cX28_application 58 = .ok (.iload 4, 2) := dk_21 4 (dk_at dksX28_application_2 11 rfl rfl)
theorem dX28_application_60 : decode cX28_application 60 = .ok (.ifCond .eq 154, 3) := dk_153 0 154 (dk_at dksX28_application_2 13 rfl rfl)
theorem dX28_application_63 : decode cX28_application 63 = .ok (.iload 5, 2) := dk_21 5 (dk_at dksX28_application_2 16 rfl rfl)
theorem dX28_application_65 : decode cX28_application 65 = .ok (.ifCond .eq 149, 3) := dk_153 0 149 (dk_at dksX28_application_2 18 rfl rfl)
theorem dX28_application_68 : decode cX28_application 68 = .ok (.aload_n 0, 1) := dk_42 (dk_at dksX28_application_2 21 rfl rfl)
theorem dX28_application_69 : decode cX28_application 69 = .ok (.getfield 79, 3) := dk_180 0 79 (dk_at dksX28_application_3 0 rfl rfl)
theorem dX28_application_72 : decode cX28_application 72 = .ok (.iconst 1, 1) := dk_4 (dk_at dksX28_application_3 3 rfl rfl)
theorem dX28_application_73 : decode cX28_application 73 = .ok (.if_icmp .eq 27, 3) := dk_159 0 27 (dk_at dksX28_application_3 4 rfl rfl)
theorem dX28_application_76 : decode cX28_application 76 = .ok (.aload_n 0, 1) := dk_42 (dk_at dksX28_application_3 7 rfl rfl)
theorem dX28_application_77 : decode cX28_application 77 = .ok (.getfield 79, 3) := dk_180 0 79 (dk_at dksX28_application_3 8 rfl rfl)
theorem dX28_application_80 : decode cX28_application 80 = .ok (.iconst 2, 1) := dk_5 (dk_at dksX28_application_3 11 rfl rfl)
theorem dX28_application_81 : decode cX28_application 81 = .ok (.if_icmp .eq 19, 3) := dk_159 0 19 (dk_at dksX28_application_3 12 rfl rfl)
theorem dX28_application_84 : decode cX28_application 84 = .ok (.aload_n 0, 1) := dk_42 (dk_at dksX28_application_3 15 rfl rfl)
theorem dX28_application_85 : decode cX28_application 85 = .ok (.getfield 79, 3) := dk_180 0 79 (dk_at dksX28_application_3 16 rfl rfl)
theorem dX28_application_88 : decode cX28_application 88 = .ok (.iconst 3, 1) := dk_6 (dk_at dksX28_application_3 19 rfl rfl)
theorem dX28_application_89 : decode cX28_application 89 = .ok (.if_icmp .eq 11, 3) := dk_159 0 11 (dk_at dksX28_application_3 20 rfl rfl)
theorem dX28_application_92 : decode cX28_application 92 = .ok (.aload_n 0, 1) := dk_42 (dk_at dksX28_application_3 23 rfl rfl)
theorem dX28_application_93 : decode cX28_application 93 = .ok (.getfield 79, 3) := dk_180 0 79 (dk_at dksX28_application_4 0 rfl rfl)
theorem dX28_application_96 : decode cX28_application 96 = .ok (.iconst 4, 1) := dk_7 (dk_at dksX28_application_4 3 rfl rfl)
theorem dX28_application_97 : decode cX28_application 97 = .ok (.if_icmp .ne 16, 3) := dk_160 0 16 (dk_at dksX28_application_4 4 rfl rfl)
theorem dX28_application_100 : decode cX28_application 100 = .ok (.aload_n 0, 1) := dk_42 (dk_at dksX28_application_4 7 rfl rfl)
theorem dX28_application_101 : decode cX28_application 101 = .ok (.iload_n 3, 1) := dk_29 (dk_at dksX28_application_4 8 rfl rfl)
theorem dX28_application_102 : decode cX28_application 102 = .ok (.iload_n 2, 1) := dk_28 (dk_at dksX28_application_4 9 rfl rfl)
theorem dX28_application_103 : decode cX28_application 103 = .ok (.iconst 1, 1) := dk_4 (dk_at dksX28_application_4 10 rfl rfl)
theorem dX28_application_104 : decode cX28_application 104 = .ok (.iadd, 1) := dk_96 (dk_at dksX28_application_4 11 rfl rfl)
theorem dX28_application_105 : decode cX28_application 105 = .ok (.invokevirtual 133, 3) := dk_182 0 133 (dk_at dksX28_application_4 12 rfl rfl)
theorem dX28_application_108 : decode cX28_application 108 = .ok (.istore 4, 2) := dk_54 4 (dk_at dksX28_application_4 15 rfl rfl)
theorem dX28_application_110 : decode cX28_application 110 = .ok (.goto (-52), 3) := dk_167 255 204 (dk_at dksX28_application_4 17 rfl rfl)
theorem dX28_application_113 : decode cX28_application 113 = .ok (.aload_n 0, 1) := dk_42 (dk_at dksX28_application_4 20 rfl rfl)
theorem dX28_application_114 : decode cX28_application 114 = .ok (.getfield 79, 3) := dk_180 0 79 (dk_at dksX28_application_4 21 rfl rfl)
theorem dX28_application_117 : decode cX28_application 117 = .ok (.bipush 123, 2) := dk_16 123 (dk_at dksX28_application_5 0 rfl rfl)
theorem dX28_application_119 : decode cX28_application 119 = .ok (.if_icmp .ne 16, 3) := dk_160 0 16 (dk_at dksX28_application_5 2 rfl rfl)
theorem dX28_application_122 : decode cX28_application 122 = .ok (.aload_n 0, 1) := dk_42 (dk_at dksX28_application_5 5 rfl rfl)
theorem dX28_application_123 : decode cX28_application 123 = .ok (.iload_n 3, 1) := dk_29 (dk_at dksX28_application_5 6 rfl rfl)
theorem dX28_application_124 : decode cX28_application 124 = .ok (.iload_n 2, 1) := dk_28 (dk_at dksX28_application_5 7 rfl rfl)
theorem dX28_application_125 : decode cX28_application 125 = .ok (.iconst 1, 1) := dk_4 (dk_at dksX28_application_5 8 rfl rfl)
theorem dX28_application_126 : decode cX28_application 126 = .ok (.iadd, 1) := dk_96 (dk_at dksX28_application_5 9 rfl rfl)
theorem dX28_application_127 : decode cX28_application 127 = .ok (.invokevirtual 136, 3) := dk_182 0 136 (dk_at dksX28_application_5 10 rfl rfl)
theorem dX28_application_130 : decode cX28_application 130 = .ok (.istore 4, 2) := dk_54 4 (dk_at dksX28_application_5 13 rfl rfl)
theorem dX28_application_132 : decode cX28_application 132 = .ok (.goto (-74), 3) := dk_167 255 182 (dk_at dksX28_application_5 15 rfl rfl)
theorem dX28_application_135 : decode cX28_application 135 = .ok (.aload_n 0, 1) := dk_42 (dk_at dksX28_application_5 18 rfl rfl)
theorem dX28_application_136 : decode cX28_application 136 = .ok (.getfield 79, 3) := dk_180 0 79 (dk_at dksX28_application_5 19 rfl rfl)
theorem dX28_application_139 : decode cX28_application 139 = .ok (.bipush 40, 2) := dk_16 40 (dk_at dksX28_application_5 22 rfl rfl)
theorem dX28_application_141 : decode cX28_application 141 = .ok (.if_icmp .ne 67, 3) := dk_160 0 67 (dk_at dksX28_application_6 0 rfl rfl)
theorem dX28_application_144 : decode cX28_application 144 = .ok (.aload_n 0, 1) := dk_42 (dk_at dksX28_application_6 3 rfl rfl)
theorem dX28_application_145 : decode cX28_application 145 = .ok (.invokevirtual 118, 3) := dk_182 0 118 (dk_at dksX28_application_6 4 rfl rfl)
theorem dX28_application_148 : decode cX28_application 148 = .ok (.aload_n 0, 1) := dk_42 (dk_at dksX28_application_6 7 rfl rfl)
theorem dX28_application_149 : decode cX28_application 149 = .ok (.getfield 79, 3) := dk_180 0 79 (dk_at dksX28_application_6 8 rfl rfl)
theorem dX28_application_152 : decode cX28_application 152 = .ok (.iconst 4, 1) := dk_7 (dk_at dksX28_application_6 11 rfl rfl)
theorem dX28_application_153 : decode cX28_application 153 = .ok (.if_icmp .ne 14, 3) := dk_160 0 14 (dk_at dksX28_application_6 12 rfl rfl)
theorem dX28_application_156 : decode cX28_application 156 = .ok (.aload_n 0, 1) := dk_42 (dk_at dksX28_application_6 15 rfl rfl)
theorem dX28_application_157 : decode cX28_application 157 = .ok (.iload_n 3, 1) := dk_29 (dk_at dksX28_application_6 16 rfl rfl)
theorem dX28_application_158 : decode cX28_application 158 = .ok (.iload_n 2, 1) := dk_28 (dk_at dksX28_application_6 17 rfl rfl)
theorem dX28_application_159 : decode cX28_application 159 = .ok (.iconst 1, 1) := dk_4 (dk_at dksX28_application_6 18 rfl rfl)
theorem dX28_application_160 : decode cX28_application 160 = .ok (.iadd, 1) := dk_96 (dk_at dksX28_application_6 19 rfl rfl)
theorem dX28_application_161 : decode cX28_application 161 = .ok (.invokevirtual 139, 3) := dk_182 0 139 (dk_at dksX28_application_6 20 rfl rfl)
theorem dX28_application_164 : decode cX28_application 164 = .ok (.goto 7, 3) := dk_167 0 7 (dk_at dksX28_application_7 0 rfl rfl)
theorem dX28_application_167 : decode cX28_application 167 = .ok (.aload_n 0, 1) := dk_42 (dk_at dksX28_application_7 3 rfl rfl)
theorem dX28_application_168 : decode cX28_application 168 = .ok (.invokevirtual 125, 3) := dk_182 0 125 (dk_at dksX28_application_7 4 rfl rfl)
theorem dX28_application_171 : decode cX28_application 171 = .ok (.istore 4, 2) := dk_54 4 (dk_at dksX28_application_7 7 rfl rfl)
theorem dX28_application_173 : decode cX28_application 173 = .ok (.iload 4, 2) := dk_21 4 (dk_at dksX28_application_7 9 rfl rfl)
theorem dX28_application_175 : decode cX28_application 175 = .ok (.ifCond .eq 21, 3) := dk_153 0 21 (dk_at dksX28_application_7 11 rfl rfl)
theorem dX28_application_178 : decode cX28_application 178 = .ok (.aload_n 0, 1) := dk_42 (dk_at dksX28_application_7 14 rfl rfl)
theorem dX28_application_179 : decode cX28_application 179 = .ok (.getfield 79, 3) := dk_180 0 79 (dk_at dksX28_application_7 15 rfl rfl)
theorem dX28_application_182 : decode cX28_application 182 = .ok (.bipush 41, 2) := dk_16 41 (dk_at dksX28_application_7 18 rfl rfl)
theorem dX28_application_184 : decode cX28_application 184 = .ok (.if_icmp .eq 12, 3) := dk_159 0 12 (dk_at dksX28_application_7 20 rfl rfl)
theorem dX28_application_187 : decode cX28_application 187 = .ok (.aload_n 0, 1) := dk_42 (dk_at dksX28_application_7 23 rfl rfl)
theorem dX28_application_188 : decode cX28_application 188 = .ok (.invokevirtual 125, 3) := dk_182 0 125 (dk_at dksX28_application_8 0 rfl rfl)
theorem dX28_application_191 : decode cX28_application 191 = .ok (.istore 4, 2) := dk_54 4 (dk_at dksX28_application_8 3 rfl rfl)
theorem dX28_application_193 : decode cX28_application 193 = .ok (.goto (-135), 3) := dk_167 255 121 (dk_at dksX28_application_8 5 rfl rfl)
theorem dX28_application_196 : decode cX28_application 196 = .ok (.iload 4, 2) := dk_21 4 (dk_at dksX28_application_8 8 rfl rfl)
theorem dX28_application_198 : decode cX28_application 198 = .ok (.ifCond .eq (-140), 3) := dk_153 255 116 (dk_at dksX28_application_8 10 rfl rfl)
theorem dX28_application_201 : decode cX28_application 201 = .ok (.aload_n 0, 1) := dk_42 (dk_at dksX28_application_8 13 rfl rfl)
theorem dX28_application_202 : decode cX28_application 202 = .ok (.invokevirtual 118, 3) := dk_182 0 118 (dk_at dksX28_application_8 14 rfl rfl)
theorem dX28_application_205 : decode cX28_application 205 = .ok (.goto (-147), 3) := dk_167 255 109 (dk_at dksX28_application_8 17 rfl rfl)
theorem dX28_application_208 : decode cX28_application 208 = .ok (.iconst 0, 1) := dk_3 (dk_at dksX28_application_8 20 rfl rfl)
theorem dX28_application_209 : decode cX28_application 209 = .ok (.istore 5, 2) := dk_54 5 (dk_at dksX28_application_8 21 rfl rfl)
theorem dX28_application_211 : decode cX28_application 211 = .ok (.goto (-153), 3) := dk_167 255 103 (dk_at dksX28_application_9 0 rfl rfl)
theorem dX28_application_214 : decode cX28_application 214 = .ok (.iload 4, 2) := dk_21 4 (dk_at dksX28_application_9 3 rfl rfl)
theorem dX28_application_216 : decode cX28_application 216 = .ok (.ireturn, 1) := dk_172 (dk_at dksX28_application_9 5 rfl rfl)
abbrev cX28_isSequence : ByteArray := prog_29_method_19_code
def yX28_isSequence : MethodName := ⟨RX28, "isSequence", "(I)Z"⟩
def dkwX28_isSequence_0 : List UInt8 := [42, 180, 0, 15, 27, 51, 7, 160, 0, 7, 4, 167, 0, 4, 3, 172]
abbrev dktX28_isSequence_0 : List UInt8 := dkwX28_isSequence_0 ++ []
theorem dksX28_isSequence_0 : cX28_isSequence.data.toList.drop 0 = dktX28_isSequence_0 := by decide +kernel
theorem dX28_isSequence_0 : decode cX28_isSequence 0 = .ok (.aload_n 0, 1) := dk_42 (dk_at dksX28_isSequence_0 0 rfl rfl)
theorem dX28_isSequence_1 : decode cX28_isSequence 1 = .ok (.getfield 15, 3) := dk_180 0 15 (dk_at dksX28_isSequence_0 1 rfl rfl)
theorem dX28_isSequence_4 : decode cX28_isSequence 4 = .ok (.iload_n 1, 1) := dk_27 (dk_at dksX28_isSequence_0 4 rfl rfl)
theorem dX28_isSequence_5 : decode cX28_isSequence 5 = .ok (.baload, 1) := dk_51 (dk_at dksX28_isSequence_0 5 rfl rfl)
theorem dX28_isSequence_6 : decode cX28_isSequence 6 = .ok (.iconst 4, 1) := dk_7 (dk_at dksX28_isSequence_0 6 rfl rfl)
theorem dX28_isSequence_7 : decode cX28_isSequence 7 = .ok (.if_icmp .ne 7, 3) := dk_160 0 7 (dk_at dksX28_isSequence_0 7 rfl rfl)
theorem dX28_isSequence_10 : decode cX28_isSequence 10 = .ok (.iconst 1, 1) := dk_4 (dk_at dksX28_isSequence_0 10 rfl rfl)
theorem dX28_isSequence_11 : decode cX28_isSequence 11 = .ok (.goto 4, 3) := dk_167 0 4 (dk_at dksX28_isSequence_0 11 rfl rfl)
theorem dX28_isSequence_14 : decode cX28_isSequence 14 = .ok (.iconst 0, 1) := dk_3 (dk_at dksX28_isSequence_0 14 rfl rfl)
theorem dX28_isSequence_15 : decode cX28_isSequence 15 = .ok (.ireturn, 1) := dk_172 (dk_at dksX28_isSequence_0 15 rfl rfl)
abbrev cX28_child : ByteArray := prog_29_method_18_code
def yX28_child : MethodName := ⟨RX28, "child", "(II)I"⟩
def dkwX28_child_1 : List UInt8 := [132, 4, 1, 167, 255, 240, 29, 172]
abbrev dktX28_child_1 : List UInt8 := dkwX28_child_1 ++ []
def dkwX28_child_0 : List UInt8 := [42, 180, 0, 31, 27, 46, 62, 3, 54, 4, 21, 4, 28, 162, 0, 16, 42, 180, 0, 34, 29, 46, 62]
abbrev dktX28_child_0 : List UInt8 := dkwX28_child_0 ++ dktX28_child_1
theorem dksX28_child_0 : cX28_child.data.toList.drop 0 = dktX28_child_0 := by decide +kernel
theorem dksX28_child_1 : cX28_child.data.toList.drop 23 = dktX28_child_1 := dk_seg dksX28_child_0 23 rfl rfl
theorem dX28_child_0 : decode cX28_child 0 = .ok (.aload_n 0, 1) := dk_42 (dk_at dksX28_child_0 0 rfl rfl)
theorem dX28_child_1 : decode cX28_child 1 = .ok (.getfield 31, 3) := dk_180 0 31 (dk_at dksX28_child_0 1 rfl rfl)
theorem dX28_child_4 : decode cX28_child 4 = .ok (.iload_n 1, 1) := dk_27 (dk_at dksX28_child_0 4 rfl rfl)
theorem dX28_child_5 : decode cX28_child 5 = .ok (.iaload, 1) := dk_46 (dk_at dksX28_child_0 5 rfl rfl)
theorem dX28_child_6 : decode cX28_child 6 = .ok (.istore_n 3, 1) := dk_62 (dk_at dksX28_child_0 6 rfl rfl)
theorem dX28_child_7 : decode cX28_child 7 = .ok (.iconst 0, 1) := dk_3 (dk_at dksX28_child_0 7 rfl rfl)
theorem dX28_child_8 : decode cX28_child 8 = .ok (.istore 4, 2) := dk_54 4 (dk_at dksX28_child_0 8 rfl rfl)
theorem dX28_child_10 : decode cX28_child 10 = .ok (.iload 4, 2) := dk_21 4 (dk_at dksX28_child_0 10 rfl rfl)
theorem dX28_child_12 : decode cX28_child 12 = .ok (.iload_n 2, 1) := dk_28 (dk_at dksX28_child_0 12 rfl rfl)
theorem dX28_child_13 : decode cX28_child 13 = .ok (.if_icmp .ge 16, 3) := dk_162 0 16 (dk_at dksX28_child_0 13 rfl rfl)
theorem dX28_child_16 : decode cX28_child 16 = .ok (.aload_n 0, 1) := dk_42 (dk_at dksX28_child_0 16 rfl rfl)
theorem dX28_child_17 : decode cX28_child 17 = .ok (.getfield 34, 3) := dk_180 0 34 (dk_at dksX28_child_0 17 rfl rfl)
theorem dX28_child_20 : decode cX28_child 20 = .ok (.iload_n 3, 1) := dk_29 (dk_at dksX28_child_0 20 rfl rfl)
theorem dX28_child_21 : decode cX28_child 21 = .ok (.iaload, 1) := dk_46 (dk_at dksX28_child_0 21 rfl rfl)
theorem dX28_child_22 : decode cX28_child 22 = .ok (.istore_n 3, 1) := dk_62 (dk_at dksX28_child_0 22 rfl rfl)
theorem dX28_child_23 : decode cX28_child 23 = .ok (.iinc 4 1, 3) := dk_132 4 1 (dk_at dksX28_child_1 0 rfl rfl)
theorem dX28_child_26 : decode cX28_child 26 = .ok (.goto (-16), 3) := dk_167 255 240 (dk_at dksX28_child_1 3 rfl rfl)
theorem dX28_child_29 : decode cX28_child 29 = .ok (.iload_n 3, 1) := dk_29 (dk_at dksX28_child_1 6 rfl rfl)
theorem dX28_child_30 : decode cX28_child 30 = .ok (.ireturn, 1) := dk_172 (dk_at dksX28_child_1 7 rfl rfl)
abbrev cX28_hasMark : ByteArray := prog_29_method_21_code
def yX28_hasMark : MethodName := ⟨RX28, "hasMark", "(I)Z"⟩
def dkwX28_hasMark_0 : List UInt8 := [42, 180, 0, 25, 27, 46, 155, 0, 7, 4, 167, 0, 4, 3, 172]
abbrev dktX28_hasMark_0 : List UInt8 := dkwX28_hasMark_0 ++ []
theorem dksX28_hasMark_0 : cX28_hasMark.data.toList.drop 0 = dktX28_hasMark_0 := by decide +kernel
theorem dX28_hasMark_0 : decode cX28_hasMark 0 = .ok (.aload_n 0, 1) := dk_42 (dk_at dksX28_hasMark_0 0 rfl rfl)
theorem dX28_hasMark_1 : decode cX28_hasMark 1 = .ok (.getfield 25, 3) := dk_180 0 25 (dk_at dksX28_hasMark_0 1 rfl rfl)
theorem dX28_hasMark_4 : decode cX28_hasMark 4 = .ok (.iload_n 1, 1) := dk_27 (dk_at dksX28_hasMark_0 4 rfl rfl)
theorem dX28_hasMark_5 : decode cX28_hasMark 5 = .ok (.iaload, 1) := dk_46 (dk_at dksX28_hasMark_0 5 rfl rfl)
theorem dX28_hasMark_6 : decode cX28_hasMark 6 = .ok (.ifCond .lt 7, 3) := dk_155 0 7 (dk_at dksX28_hasMark_0 6 rfl rfl)
theorem dX28_hasMark_9 : decode cX28_hasMark 9 = .ok (.iconst 1, 1) := dk_4 (dk_at dksX28_hasMark_0 9 rfl rfl)
theorem dX28_hasMark_10 : decode cX28_hasMark 10 = .ok (.goto 4, 3) := dk_167 0 4 (dk_at dksX28_hasMark_0 10 rfl rfl)
theorem dX28_hasMark_13 : decode cX28_hasMark 13 = .ok (.iconst 0, 1) := dk_3 (dk_at dksX28_hasMark_0 13 rfl rfl)
theorem dX28_hasMark_14 : decode cX28_hasMark 14 = .ok (.ireturn, 1) := dk_172 (dk_at dksX28_hasMark_0 14 rfl rfl)
abbrev cX28_isWord : ByteArray := prog_29_method_20_code
def yX28_isWord : MethodName := ⟨RX28, "isWord", "(II)Z"⟩
def dkwX28_isWord_1 : List UInt8 := [3, 172]
abbrev dktX28_isWord_1 : List UInt8 := dkwX28_isWord_1 ++ []
def dkwX28_isWord_0 : List UInt8 := [42, 180, 0, 15, 27, 51, 8, 160, 0, 17, 42, 180, 0, 43, 27, 46, 28, 160, 0, 7, 4, 167, 0, 4]
abbrev dktX28_isWord_0 : List UInt8 := dkwX28_isWord_0 ++ dktX28_isWord_1
theorem dksX28_isWord_0 : cX28_isWord.data.toList.drop 0 = dktX28_isWord_0 := by decide +kernel
theorem dksX28_isWord_1 : cX28_isWord.data.toList.drop 24 = dktX28_isWord_1 := dk_seg dksX28_isWord_0 24 rfl rfl
theorem dX28_isWord_0 : decode cX28_isWord 0 = .ok (.aload_n 0, 1) := dk_42 (dk_at dksX28_isWord_0 0 rfl rfl)
theorem dX28_isWord_1 : decode cX28_isWord 1 = .ok (.getfield 15, 3) := dk_180 0 15 (dk_at dksX28_isWord_0 1 rfl rfl)
theorem dX28_isWord_4 : decode cX28_isWord 4 = .ok (.iload_n 1, 1) := dk_27 (dk_at dksX28_isWord_0 4 rfl rfl)
theorem dX28_isWord_5 : decode cX28_isWord 5 = .ok (.baload, 1) := dk_51 (dk_at dksX28_isWord_0 5 rfl rfl)
theorem dX28_isWord_6 : decode cX28_isWord 6 = .ok (.iconst 5, 1) := dk_8 (dk_at dksX28_isWord_0 6 rfl rfl)
theorem dX28_isWord_7 : decode cX28_isWord 7 = .ok (.if_icmp .ne 17, 3) := dk_160 0 17 (dk_at dksX28_isWord_0 7 rfl rfl)
theorem dX28_isWord_10 : decode cX28_isWord 10 = .ok (.aload_n 0, 1) := dk_42 (dk_at dksX28_isWord_0 10 rfl rfl)
theorem dX28_isWord_11 : decode cX28_isWord 11 = .ok (.getfield 43, 3) := dk_180 0 43 (dk_at dksX28_isWord_0 11 rfl rfl)
theorem dX28_isWord_14 : decode cX28_isWord 14 = .ok (.iload_n 1, 1) := dk_27 (dk_at dksX28_isWord_0 14 rfl rfl)
theorem dX28_isWord_15 : decode cX28_isWord 15 = .ok (.iaload, 1) := dk_46 (dk_at dksX28_isWord_0 15 rfl rfl)
theorem dX28_isWord_16 : decode cX28_isWord 16 = .ok (.iload_n 2, 1) := dk_28 (dk_at dksX28_isWord_0 16 rfl rfl)
theorem dX28_isWord_17 : decode cX28_isWord 17 = .ok (.if_icmp .ne 7, 3) := dk_160 0 7 (dk_at dksX28_isWord_0 17 rfl rfl)
theorem dX28_isWord_20 : decode cX28_isWord 20 = .ok (.iconst 1, 1) := dk_4 (dk_at dksX28_isWord_0 20 rfl rfl)
theorem dX28_isWord_21 : decode cX28_isWord 21 = .ok (.goto 4, 3) := dk_167 0 4 (dk_at dksX28_isWord_0 21 rfl rfl)
theorem dX28_isWord_24 : decode cX28_isWord 24 = .ok (.iconst 0, 1) := dk_3 (dk_at dksX28_isWord_1 0 rfl rfl)
theorem dX28_isWord_25 : decode cX28_isWord 25 = .ok (.ireturn, 1) := dk_172 (dk_at dksX28_isWord_1 1 rfl rfl)
abbrev cX28_isMark : ByteArray := prog_29_method_22_code
def yX28_isMark : MethodName := ⟨RX28, "isMark", "(I[BII)Z"⟩
def dkwX28_isMark_3 : List UInt8 := [29, 21, 5, 96, 21, 4, 160, 0, 7, 4, 167, 0, 4, 3, 172]
abbrev dktX28_isMark_3 : List UInt8 := dkwX28_isMark_3 ++ []
def dkwX28_isMark_2 : List UInt8 := [180, 0, 25, 27, 46, 21, 5, 96, 51, 44, 29, 21, 5, 96, 51, 160, 0, 9, 132, 5, 1, 167, 255, 221]
abbrev dktX28_isMark_2 : List UInt8 := dkwX28_isMark_2 ++ dktX28_isMark_3
def dkwX28_isMark_1 : List UInt8 := [100, 159, 0, 5, 3, 172, 3, 54, 5, 29, 21, 5, 96, 21, 4, 162, 0, 32, 42, 180, 0, 9, 42]
abbrev dktX28_isMark_1 : List UInt8 := dkwX28_isMark_1 ++ dktX28_isMark_2
def dkwX28_isMark_0 : List UInt8 := [42, 27, 182, 0, 142, 153, 0, 23, 42, 180, 0, 28, 27, 46, 42, 180, 0, 25, 27, 46, 100, 21, 4, 29]
abbrev dktX28_isMark_0 : List UInt8 := dkwX28_isMark_0 ++ dktX28_isMark_1
theorem dksX28_isMark_0 : cX28_isMark.data.toList.drop 0 = dktX28_isMark_0 := by decide +kernel
theorem dksX28_isMark_1 : cX28_isMark.data.toList.drop 24 = dktX28_isMark_1 := dk_seg dksX28_isMark_0 24 rfl rfl
theorem dksX28_isMark_2 : cX28_isMark.data.toList.drop 47 = dktX28_isMark_2 := dk_seg dksX28_isMark_1 23 rfl rfl
theorem dksX28_isMark_3 : cX28_isMark.data.toList.drop 71 = dktX28_isMark_3 := dk_seg dksX28_isMark_2 24 rfl rfl
theorem dX28_isMark_0 : decode cX28_isMark 0 = .ok (.aload_n 0, 1) := dk_42 (dk_at dksX28_isMark_0 0 rfl rfl)
theorem dX28_isMark_1 : decode cX28_isMark 1 = .ok (.iload_n 1, 1) := dk_27 (dk_at dksX28_isMark_0 1 rfl rfl)
theorem dX28_isMark_2 : decode cX28_isMark 2 = .ok (.invokevirtual 142, 3) := dk_182 0 142 (dk_at dksX28_isMark_0 2 rfl rfl)
theorem dX28_isMark_5 : decode cX28_isMark 5 = .ok (.ifCond .eq 23, 3) := dk_153 0 23 (dk_at dksX28_isMark_0 5 rfl rfl)
theorem dX28_isMark_8 : decode cX28_isMark 8 = .ok (.aload_n 0, 1) := dk_42 (dk_at dksX28_isMark_0 8 rfl rfl)
theorem dX28_isMark_9 : decode cX28_isMark 9 = .ok (.getfield 28, 3) := dk_180 0 28 (dk_at dksX28_isMark_0 9 rfl rfl)
theorem dX28_isMark_12 : decode cX28_isMark 12 = .ok (.iload_n 1, 1) := dk_27 (dk_at dksX28_isMark_0 12 rfl rfl)
theorem dX28_isMark_13 : decode cX28_isMark 13 = .ok (.iaload, 1) := dk_46 (dk_at dksX28_isMark_0 13 rfl rfl)
theorem dX28_isMark_14 : decode cX28_isMark 14 = .ok (.aload_n 0, 1) := dk_42 (dk_at dksX28_isMark_0 14 rfl rfl)
theorem dX28_isMark_15 : decode cX28_isMark 15 = .ok (.getfield 25, 3) := dk_180 0 25 (dk_at dksX28_isMark_0 15 rfl rfl)
theorem dX28_isMark_18 : decode cX28_isMark 18 = .ok (.iload_n 1, 1) := dk_27 (dk_at dksX28_isMark_0 18 rfl rfl)
theorem dX28_isMark_19 : decode cX28_isMark 19 = .ok (.iaload, 1) := dk_46 (dk_at dksX28_isMark_0 19 rfl rfl)
theorem dX28_isMark_20 : decode cX28_isMark 20 = .ok (.isub, 1) := dk_100 (dk_at dksX28_isMark_0 20 rfl rfl)
theorem dX28_isMark_21 : decode cX28_isMark 21 = .ok (.iload 4, 2) := dk_21 4 (dk_at dksX28_isMark_0 21 rfl rfl)
theorem dX28_isMark_23 : decode cX28_isMark 23 = .ok (.iload_n 3, 1) := dk_29 (dk_at dksX28_isMark_0 23 rfl rfl)
theorem dX28_isMark_24 : decode cX28_isMark 24 = .ok (.isub, 1) := dk_100 (dk_at dksX28_isMark_1 0 rfl rfl)
theorem dX28_isMark_25 : decode cX28_isMark 25 = .ok (.if_icmp .eq 5, 3) := dk_159 0 5 (dk_at dksX28_isMark_1 1 rfl rfl)
theorem dX28_isMark_28 : decode cX28_isMark 28 = .ok (.iconst 0, 1) := dk_3 (dk_at dksX28_isMark_1 4 rfl rfl)
theorem dX28_isMark_29 : decode cX28_isMark 29 = .ok (.ireturn, 1) := dk_172 (dk_at dksX28_isMark_1 5 rfl rfl)
theorem dX28_isMark_30 : decode cX28_isMark 30 = .ok (.iconst 0, 1) := dk_3 (dk_at dksX28_isMark_1 6 rfl rfl)
theorem dX28_isMark_31 : decode cX28_isMark 31 = .ok (.istore 5, 2) := dk_54 5 (dk_at dksX28_isMark_1 7 rfl rfl)
theorem dX28_isMark_33 : decode cX28_isMark 33 = .ok (.iload_n 3, 1) := dk_29 (dk_at dksX28_isMark_1 9 rfl rfl)
theorem dX28_isMark_34 : decode cX28_isMark 34 = .ok (.iload 5, 2) := dk_21 5 (dk_at dksX28_isMark_1 10 rfl rfl)
theorem dX28_isMark_36 : decode cX28_isMark 36 = .ok (.iadd, 1) := dk_96 (dk_at dksX28_isMark_1 12 rfl rfl)
theorem dX28_isMark_37 : decode cX28_isMark 37 = .ok (.iload 4, 2) := dk_21 4 (dk_at dksX28_isMark_1 13 rfl rfl)
theorem dX28_isMark_39 : decode cX28_isMark 39 = .ok (.if_icmp .ge 32, 3) := dk_162 0 32 (dk_at dksX28_isMark_1 15 rfl rfl)
theorem dX28_isMark_42 : decode cX28_isMark 42 = .ok (.aload_n 0, 1) := dk_42 (dk_at dksX28_isMark_1 18 rfl rfl)
theorem dX28_isMark_43 : decode cX28_isMark 43 = .ok (.getfield 9, 3) := dk_180 0 9 (dk_at dksX28_isMark_1 19 rfl rfl)
theorem dX28_isMark_46 : decode cX28_isMark 46 = .ok (.aload_n 0, 1) := dk_42 (dk_at dksX28_isMark_1 22 rfl rfl)
theorem dX28_isMark_47 : decode cX28_isMark 47 = .ok (.getfield 25, 3) := dk_180 0 25 (dk_at dksX28_isMark_2 0 rfl rfl)
theorem dX28_isMark_50 : decode cX28_isMark 50 = .ok (.iload_n 1, 1) := dk_27 (dk_at dksX28_isMark_2 3 rfl rfl)
theorem dX28_isMark_51 : decode cX28_isMark 51 = .ok (.iaload, 1) := dk_46 (dk_at dksX28_isMark_2 4 rfl rfl)
theorem dX28_isMark_52 : decode cX28_isMark 52 = .ok (.iload 5, 2) := dk_21 5 (dk_at dksX28_isMark_2 5 rfl rfl)
theorem dX28_isMark_54 : decode cX28_isMark 54 = .ok (.iadd, 1) := dk_96 (dk_at dksX28_isMark_2 7 rfl rfl)
theorem dX28_isMark_55 : decode cX28_isMark 55 = .ok (.baload, 1) := dk_51 (dk_at dksX28_isMark_2 8 rfl rfl)
theorem dX28_isMark_56 : decode cX28_isMark 56 = .ok (.aload_n 2, 1) := dk_44 (dk_at dksX28_isMark_2 9 rfl rfl)
theorem dX28_isMark_57 : decode cX28_isMark 57 = .ok (.iload_n 3, 1) := dk_29 (dk_at dksX28_isMark_2 10 rfl rfl)
theorem dX28_isMark_58 : decode cX28_isMark 58 = .ok (.iload 5, 2) := dk_21 5 (dk_at dksX28_isMark_2 11 rfl rfl)
theorem dX28_isMark_60 : decode cX28_isMark 60 = .ok (.iadd, 1) := dk_96 (dk_at dksX28_isMark_2 13 rfl rfl)
theorem dX28_isMark_61 : decode cX28_isMark 61 = .ok (.baload, 1) := dk_51 (dk_at dksX28_isMark_2 14 rfl rfl)
theorem dX28_isMark_62 : decode cX28_isMark 62 = .ok (.if_icmp .ne 9, 3) := dk_160 0 9 (dk_at dksX28_isMark_2 15 rfl rfl)
theorem dX28_isMark_65 : decode cX28_isMark 65 = .ok (.iinc 5 1, 3) := dk_132 5 1 (dk_at dksX28_isMark_2 18 rfl rfl)
theorem dX28_isMark_68 : decode cX28_isMark 68 = .ok (.goto (-35), 3) := dk_167 255 221 (dk_at dksX28_isMark_2 21 rfl rfl)
theorem dX28_isMark_71 : decode cX28_isMark 71 = .ok (.iload_n 3, 1) := dk_29 (dk_at dksX28_isMark_3 0 rfl rfl)
theorem dX28_isMark_72 : decode cX28_isMark 72 = .ok (.iload 5, 2) := dk_21 5 (dk_at dksX28_isMark_3 1 rfl rfl)
theorem dX28_isMark_74 : decode cX28_isMark 74 = .ok (.iadd, 1) := dk_96 (dk_at dksX28_isMark_3 3 rfl rfl)
theorem dX28_isMark_75 : decode cX28_isMark 75 = .ok (.iload 4, 2) := dk_21 4 (dk_at dksX28_isMark_3 4 rfl rfl)
theorem dX28_isMark_77 : decode cX28_isMark 77 = .ok (.if_icmp .ne 7, 3) := dk_160 0 7 (dk_at dksX28_isMark_3 6 rfl rfl)
theorem dX28_isMark_80 : decode cX28_isMark 80 = .ok (.iconst 1, 1) := dk_4 (dk_at dksX28_isMark_3 9 rfl rfl)
theorem dX28_isMark_81 : decode cX28_isMark 81 = .ok (.goto 4, 3) := dk_167 0 4 (dk_at dksX28_isMark_3 10 rfl rfl)
theorem dX28_isMark_84 : decode cX28_isMark 84 = .ok (.iconst 0, 1) := dk_3 (dk_at dksX28_isMark_3 13 rfl rfl)
theorem dX28_isMark_85 : decode cX28_isMark 85 = .ok (.ireturn, 1) := dk_172 (dk_at dksX28_isMark_3 14 rfl rfl)
abbrev cX28_small : ByteArray := prog_29_method_23_code
def yX28_small : MethodName := ⟨RX28, "small", "(I)I"⟩
def dkwX28_small_3 : List UInt8 := [157, 0, 14, 42, 180, 0, 53, 182, 0, 153, 136, 167, 0, 4, 2, 172]
abbrev dktX28_small_3 : List UInt8 := dkwX28_small_3 ++ []
def dkwX28_small_2 : List UInt8 := [180, 0, 53, 182, 0, 149, 16, 20, 162, 0, 28, 42, 180, 0, 53, 182, 0, 153, 20, 0, 157, 148]
abbrev dktX28_small_2 : List UInt8 := dkwX28_small_2 ++ dktX28_small_3
def dkwX28_small_1 : List UInt8 := [42, 180, 0, 22, 27, 46, 182, 0, 108, 153, 0, 50, 42, 180, 0, 53, 180, 0, 145, 154, 0, 40, 42]
abbrev dktX28_small_1 : List UInt8 := dkwX28_small_1 ++ dktX28_small_2
def dkwX28_small_0 : List UInt8 := [42, 180, 0, 15, 27, 51, 4, 160, 0, 76, 42, 180, 0, 53, 42, 180, 0, 9, 42, 180, 0, 18, 27, 46]
abbrev dktX28_small_0 : List UInt8 := dkwX28_small_0 ++ dktX28_small_1
theorem dksX28_small_0 : cX28_small.data.toList.drop 0 = dktX28_small_0 := by decide +kernel
theorem dksX28_small_1 : cX28_small.data.toList.drop 24 = dktX28_small_1 := dk_seg dksX28_small_0 24 rfl rfl
theorem dksX28_small_2 : cX28_small.data.toList.drop 47 = dktX28_small_2 := dk_seg dksX28_small_1 23 rfl rfl
theorem dksX28_small_3 : cX28_small.data.toList.drop 69 = dktX28_small_3 := dk_seg dksX28_small_2 22 rfl rfl
theorem dX28_small_0 : decode cX28_small 0 = .ok (.aload_n 0, 1) := dk_42 (dk_at dksX28_small_0 0 rfl rfl)
theorem dX28_small_1 : decode cX28_small 1 = .ok (.getfield 15, 3) := dk_180 0 15 (dk_at dksX28_small_0 1 rfl rfl)
theorem dX28_small_4 : decode cX28_small 4 = .ok (.iload_n 1, 1) := dk_27 (dk_at dksX28_small_0 4 rfl rfl)
theorem dX28_small_5 : decode cX28_small 5 = .ok (.baload, 1) := dk_51 (dk_at dksX28_small_0 5 rfl rfl)
theorem dX28_small_6 : decode cX28_small 6 = .ok (.iconst 1, 1) := dk_4 (dk_at dksX28_small_0 6 rfl rfl)
theorem dX28_small_7 : decode cX28_small 7 = .ok (.if_icmp .ne 76, 3) := dk_160 0 76 (dk_at dksX28_small_0 7 rfl rfl)
theorem dX28_small_10 : decode cX28_small 10 = .ok (.aload_n 0, 1) := dk_42 (dk_at dksX28_small_0 10 rfl rfl)
theorem dX28_small_11 : decode cX28_small 11 = .ok (.getfield 53, 3) := dk_180 0 53 (dk_at dksX28_small_0 11 rfl rfl)
theorem dX28_small_14 : decode cX28_small 14 = .ok (.aload_n 0, 1) := dk_42 (dk_at dksX28_small_0 14 rfl rfl)
theorem dX28_small_15 : decode cX28_small 15 = .ok (.getfield 9, 3) := dk_180 0 9 (dk_at dksX28_small_0 15 rfl rfl)
theorem dX28_small_18 : decode cX28_small 18 = .ok (.aload_n 0, 1) := dk_42 (dk_at dksX28_small_0 18 rfl rfl)
theorem dX28_small_19 : decode cX28_small 19 = .ok (.getfield 18, 3) := dk_180 0 18 (dk_at dksX28_small_0 19 rfl rfl)
theorem dX28_small_22 : decode cX28_small 22 = .ok (.iload_n 1, 1) := dk_27 (dk_at dksX28_small_0 22 rfl rfl)
theorem dX28_small_23 : decode cX28_small 23 = .ok (.iaload, 1) := dk_46 (dk_at dksX28_small_0 23 rfl rfl)
theorem dX28_small_24 : decode cX28_small 24 = .ok (.aload_n 0, 1) := dk_42 (dk_at dksX28_small_1 0 rfl rfl)
theorem dX28_small_25 : decode cX28_small 25 = .ok (.getfield 22, 3) := dk_180 0 22 (dk_at dksX28_small_1 1 rfl rfl)
theorem dX28_small_28 : decode cX28_small 28 = .ok (.iload_n 1, 1) := dk_27 (dk_at dksX28_small_1 4 rfl rfl)
theorem dX28_small_29 : decode cX28_small 29 = .ok (.iaload, 1) := dk_46 (dk_at dksX28_small_1 5 rfl rfl)
theorem dX28_small_30 : decode cX28_small 30 = .ok (.invokevirtual 108, 3) := dk_182 0 108 (dk_at dksX28_small_1 6 rfl rfl)
theorem dX28_small_33 : decode cX28_small 33 = .ok (.ifCond .eq 50, 3) := dk_153 0 50 (dk_at dksX28_small_1 9 rfl rfl)
theorem dX28_small_36 : decode cX28_small 36 = .ok (.aload_n 0, 1) := dk_42 (dk_at dksX28_small_1 12 rfl rfl)
theorem dX28_small_37 : decode cX28_small 37 = .ok (.getfield 53, 3) := dk_180 0 53 (dk_at dksX28_small_1 13 rfl rfl)
theorem dX28_small_40 : decode cX28_small 40 = .ok (.getfield 145, 3) := dk_180 0 145 (dk_at dksX28_small_1 16 rfl rfl)
theorem dX28_small_43 : decode cX28_small 43 = .ok (.ifCond .ne 40, 3) := dk_154 0 40 (dk_at dksX28_small_1 19 rfl rfl)
theorem dX28_small_46 : decode cX28_small 46 = .ok (.aload_n 0, 1) := dk_42 (dk_at dksX28_small_1 22 rfl rfl)
theorem dX28_small_47 : decode cX28_small 47 = .ok (.getfield 53, 3) := dk_180 0 53 (dk_at dksX28_small_2 0 rfl rfl)
theorem dX28_small_50 : decode cX28_small 50 = .ok (.invokevirtual 149, 3) := dk_182 0 149 (dk_at dksX28_small_2 3 rfl rfl)
theorem dX28_small_53 : decode cX28_small 53 = .ok (.bipush 20, 2) := dk_16 20 (dk_at dksX28_small_2 6 rfl rfl)
theorem dX28_small_55 : decode cX28_small 55 = .ok (.if_icmp .ge 28, 3) := dk_162 0 28 (dk_at dksX28_small_2 8 rfl rfl)
theorem dX28_small_58 : decode cX28_small 58 = .ok (.aload_n 0, 1) := dk_42 (dk_at dksX28_small_2 11 rfl rfl)
theorem dX28_small_59 : decode cX28_small 59 = .ok (.getfield 53, 3) := dk_180 0 53 (dk_at dksX28_small_2 12 rfl rfl)
theorem dX28_small_62 : decode cX28_small 62 = .ok (.invokevirtual 153, 3) := dk_182 0 153 (dk_at dksX28_small_2 15 rfl rfl)
theorem dX28_small_65 : decode cX28_small 65 = .ok (.ldc2_w 157, 3) := dk_20 0 157 (dk_at dksX28_small_2 18 rfl rfl)
theorem dX28_small_68 : decode cX28_small 68 = .ok (.lcmp, 1) := dk_148 (dk_at dksX28_small_2 21 rfl rfl)
theorem dX28_small_69 : decode cX28_small 69 = .ok (.ifCond .gt 14, 3) := dk_157 0 14 (dk_at dksX28_small_3 0 rfl rfl)
theorem dX28_small_72 : decode cX28_small 72 = .ok (.aload_n 0, 1) := dk_42 (dk_at dksX28_small_3 3 rfl rfl)
theorem dX28_small_73 : decode cX28_small 73 = .ok (.getfield 53, 3) := dk_180 0 53 (dk_at dksX28_small_3 4 rfl rfl)
theorem dX28_small_76 : decode cX28_small 76 = .ok (.invokevirtual 153, 3) := dk_182 0 153 (dk_at dksX28_small_3 7 rfl rfl)
theorem dX28_small_79 : decode cX28_small 79 = .ok (.l2i, 1) := dk_136 (dk_at dksX28_small_3 10 rfl rfl)
theorem dX28_small_80 : decode cX28_small 80 = .ok (.goto 4, 3) := dk_167 0 4 (dk_at dksX28_small_3 11 rfl rfl)
theorem dX28_small_83 : decode cX28_small 83 = .ok (.iconst (-1), 1) := dk_2 (dk_at dksX28_small_3 14 rfl rfl)
theorem dX28_small_84 : decode cX28_small 84 = .ok (.ireturn, 1) := dk_172 (dk_at dksX28_small_3 15 rfl rfl)
abbrev cX28_init : ByteArray := prog_29_method_1_code
def yX28_init : MethodName := ⟨RX28, "<init>", "(LContractLedgerModel$Words;)V"⟩
def dkwX28_init_5 : List UInt8 := [187, 0, 50, 89, 183, 0, 52, 181, 0, 53, 42, 43, 181, 0, 57, 177]
abbrev dktX28_init_5 : List UInt8 := dkwX28_init_5 ++ []
def dkwX28_init_4 : List UInt8 := [181, 0, 40, 42, 17, 16, 0, 188, 10, 181, 0, 43, 42, 17, 16, 0, 188, 4, 181, 0, 46, 42]
abbrev dktX28_init_4 : List UInt8 := dkwX28_init_4 ++ dktX28_init_5
def dkwX28_init_3 : List UInt8 := [17, 16, 0, 188, 10, 181, 0, 34, 42, 17, 16, 0, 188, 10, 181, 0, 37, 42, 17, 16, 0, 188, 10]
abbrev dktX28_init_3 : List UInt8 := dkwX28_init_3 ++ dktX28_init_4
def dkwX28_init_2 : List UInt8 := [181, 0, 25, 42, 17, 16, 0, 188, 10, 181, 0, 28, 42, 17, 16, 0, 188, 10, 181, 0, 31, 42]
abbrev dktX28_init_2 : List UInt8 := dkwX28_init_2 ++ dktX28_init_3
def dkwX28_init_1 : List UInt8 := [17, 16, 0, 188, 10, 181, 0, 18, 42, 17, 16, 0, 188, 10, 181, 0, 22, 42, 17, 16, 0, 188, 10]
abbrev dktX28_init_1 : List UInt8 := dkwX28_init_1 ++ dktX28_init_2
def dkwX28_init_0 : List UInt8 := [42, 183, 0, 3, 42, 17, 64, 0, 188, 8, 181, 0, 9, 42, 17, 16, 0, 188, 8, 181, 0, 15, 42]
abbrev dktX28_init_0 : List UInt8 := dkwX28_init_0 ++ dktX28_init_1
theorem dksX28_init_0 : cX28_init.data.toList.drop 0 = dktX28_init_0 := by decide +kernel
theorem dksX28_init_1 : cX28_init.data.toList.drop 23 = dktX28_init_1 := dk_seg dksX28_init_0 23 rfl rfl
theorem dksX28_init_2 : cX28_init.data.toList.drop 46 = dktX28_init_2 := dk_seg dksX28_init_1 23 rfl rfl
theorem dksX28_init_3 : cX28_init.data.toList.drop 68 = dktX28_init_3 := dk_seg dksX28_init_2 22 rfl rfl
theorem dksX28_init_4 : cX28_init.data.toList.drop 91 = dktX28_init_4 := dk_seg dksX28_init_3 23 rfl rfl
theorem dksX28_init_5 : cX28_init.data.toList.drop 113 = dktX28_init_5 := dk_seg dksX28_init_4 22 rfl rfl
theorem dX28_init_0 : decode cX28_init 0 = .ok (.aload_n 0, 1) := dk_42 (dk_at dksX28_init_0 0 rfl rfl)
theorem dX28_init_1 : decode cX28_init 1 = .ok (.invokespecial 3, 3) := dk_183 0 3 (dk_at dksX28_init_0 1 rfl rfl)
theorem dX28_init_4 : decode cX28_init 4 = .ok (.aload_n 0, 1) := dk_42 (dk_at dksX28_init_0 4 rfl rfl)
theorem dX28_init_5 : decode cX28_init 5 = .ok (.sipush 16384, 3) := dk_17 64 0 (dk_at dksX28_init_0 5 rfl rfl)
theorem dX28_init_8 : decode cX28_init 8 = .ok (.newarray .byte, 2) := dk_188_8 (dk_at dksX28_init_0 8 rfl rfl)
theorem dX28_init_10 : decode cX28_init 10 = .ok (.putfield 9, 3) := dk_181 0 9 (dk_at dksX28_init_0 10 rfl rfl)
theorem dX28_init_13 : decode cX28_init 13 = .ok (.aload_n 0, 1) := dk_42 (dk_at dksX28_init_0 13 rfl rfl)
theorem dX28_init_14 : decode cX28_init 14 = .ok (.sipush 4096, 3) := dk_17 16 0 (dk_at dksX28_init_0 14 rfl rfl)
theorem dX28_init_17 : decode cX28_init 17 = .ok (.newarray .byte, 2) := dk_188_8 (dk_at dksX28_init_0 17 rfl rfl)
theorem dX28_init_19 : decode cX28_init 19 = .ok (.putfield 15, 3) := dk_181 0 15 (dk_at dksX28_init_0 19 rfl rfl)
theorem dX28_init_22 : decode cX28_init 22 = .ok (.aload_n 0, 1) := dk_42 (dk_at dksX28_init_0 22 rfl rfl)
theorem dX28_init_23 : decode cX28_init 23 = .ok (.sipush 4096, 3) := dk_17 16 0 (dk_at dksX28_init_1 0 rfl rfl)
theorem dX28_init_26 : decode cX28_init 26 = .ok (.newarray .int, 2) := dk_188_10 (dk_at dksX28_init_1 3 rfl rfl)
theorem dX28_init_28 : decode cX28_init 28 = .ok (.putfield 18, 3) := dk_181 0 18 (dk_at dksX28_init_1 5 rfl rfl)
theorem dX28_init_31 : decode cX28_init 31 = .ok (.aload_n 0, 1) := dk_42 (dk_at dksX28_init_1 8 rfl rfl)
theorem dX28_init_32 : decode cX28_init 32 = .ok (.sipush 4096, 3) := dk_17 16 0 (dk_at dksX28_init_1 9 rfl rfl)
theorem dX28_init_35 : decode cX28_init 35 = .ok (.newarray .int, 2) := dk_188_10 (dk_at dksX28_init_1 12 rfl rfl)
theorem dX28_init_37 : decode cX28_init 37 = .ok (.putfield 22, 3) := dk_181 0 22 (dk_at dksX28_init_1 14 rfl rfl)
theorem dX28_init_40 : decode cX28_init 40 = .ok (.aload_n 0, 1) := dk_42 (dk_at dksX28_init_1 17 rfl rfl)
theorem dX28_init_41 : decode cX28_init 41 = .ok (.sipush 4096, 3) := dk_17 16 0 (dk_at dksX28_init_1 18 rfl rfl)
theorem dX28_init_44 : decode cX28_init 44 = .ok (.newarray .int, 2) := dk_188_10 (dk_at dksX28_init_1 21 rfl rfl)
theorem dX28_init_46 : decode cX28_init 46 = .ok (.putfield 25, 3) := dk_181 0 25 (dk_at dksX28_init_2 0 rfl rfl)
theorem dX28_init_49 : decode cX28_init 49 = .ok (.aload_n 0, 1) := dk_42 (dk_at dksX28_init_2 3 rfl rfl)
theorem dX28_init_50 : decode cX28_init 50 = .ok (.sipush 4096, 3) := dk_17 16 0 (dk_at dksX28_init_2 4 rfl rfl)
theorem dX28_init_53 : decode cX28_init 53 = .ok (.newarray .int, 2) := dk_188_10 (dk_at dksX28_init_2 7 rfl rfl)
theorem dX28_init_55 : decode cX28_init 55 = .ok (.putfield 28, 3) := dk_181 0 28 (dk_at dksX28_init_2 9 rfl rfl)
theorem dX28_init_58 : decode cX28_init 58 = .ok (.aload_n 0, 1) := dk_42 (dk_at dksX28_init_2 12 rfl rfl)
theorem dX28_init_59 : decode cX28_init 59 = .ok (.sipush 4096, 3) := dk_17 16 0 (dk_at dksX28_init_2 13 rfl rfl)
theorem dX28_init_62 : decode cX28_init 62 = .ok (.newarray .int, 2) := dk_188_10 (dk_at dksX28_init_2 16 rfl rfl)
theorem dX28_init_64 : decode cX28_init 64 = .ok (.putfield 31, 3) := dk_181 0 31 (dk_at dksX28_init_2 18 rfl rfl)
theorem dX28_init_67 : decode cX28_init 67 = .ok (.aload_n 0, 1) := dk_42 (dk_at dksX28_init_2 21 rfl rfl)
theorem dX28_init_68 : decode cX28_init 68 = .ok (.sipush 4096, 3) := dk_17 16 0 (dk_at dksX28_init_3 0 rfl rfl)
theorem dX28_init_71 : decode cX28_init 71 = .ok (.newarray .int, 2) := dk_188_10 (dk_at dksX28_init_3 3 rfl rfl)
theorem dX28_init_73 : decode cX28_init 73 = .ok (.putfield 34, 3) := dk_181 0 34 (dk_at dksX28_init_3 5 rfl rfl)
theorem dX28_init_76 : decode cX28_init 76 = .ok (.aload_n 0, 1) := dk_42 (dk_at dksX28_init_3 8 rfl rfl)
theorem dX28_init_77 : decode cX28_init 77 = .ok (.sipush 4096, 3) := dk_17 16 0 (dk_at dksX28_init_3 9 rfl rfl)
theorem dX28_init_80 : decode cX28_init 80 = .ok (.newarray .int, 2) := dk_188_10 (dk_at dksX28_init_3 12 rfl rfl)
theorem dX28_init_82 : decode cX28_init 82 = .ok (.putfield 37, 3) := dk_181 0 37 (dk_at dksX28_init_3 14 rfl rfl)
theorem dX28_init_85 : decode cX28_init 85 = .ok (.aload_n 0, 1) := dk_42 (dk_at dksX28_init_3 17 rfl rfl)
theorem dX28_init_86 : decode cX28_init 86 = .ok (.sipush 4096, 3) := dk_17 16 0 (dk_at dksX28_init_3 18 rfl rfl)
theorem dX28_init_89 : decode cX28_init 89 = .ok (.newarray .int, 2) := dk_188_10 (dk_at dksX28_init_3 21 rfl rfl)
theorem dX28_init_91 : decode cX28_init 91 = .ok (.putfield 40, 3) := dk_181 0 40 (dk_at dksX28_init_4 0 rfl rfl)
theorem dX28_init_94 : decode cX28_init 94 = .ok (.aload_n 0, 1) := dk_42 (dk_at dksX28_init_4 3 rfl rfl)
theorem dX28_init_95 : decode cX28_init 95 = .ok (.sipush 4096, 3) := dk_17 16 0 (dk_at dksX28_init_4 4 rfl rfl)
theorem dX28_init_98 : decode cX28_init 98 = .ok (.newarray .int, 2) := dk_188_10 (dk_at dksX28_init_4 7 rfl rfl)
theorem dX28_init_100 : decode cX28_init 100 = .ok (.putfield 43, 3) := dk_181 0 43 (dk_at dksX28_init_4 9 rfl rfl)
theorem dX28_init_103 : decode cX28_init 103 = .ok (.aload_n 0, 1) := dk_42 (dk_at dksX28_init_4 12 rfl rfl)
theorem dX28_init_104 : decode cX28_init 104 = .ok (.sipush 4096, 3) := dk_17 16 0 (dk_at dksX28_init_4 13 rfl rfl)
theorem dX28_init_107 : decode cX28_init 107 = .ok (.newarray .boolean, 2) := dk_188_4 (dk_at dksX28_init_4 16 rfl rfl)
theorem dX28_init_109 : decode cX28_init 109 = .ok (.putfield 46, 3) := dk_181 0 46 (dk_at dksX28_init_4 18 rfl rfl)
theorem dX28_init_112 : decode cX28_init 112 = .ok (.aload_n 0, 1) := dk_42 (dk_at dksX28_init_4 21 rfl rfl)
theorem dX28_init_113 : decode cX28_init 113 = .ok (.new 50, 3) := dk_187 0 50 (dk_at dksX28_init_5 0 rfl rfl)
theorem dX28_init_116 : decode cX28_init 116 = .ok (.dup, 1) := dk_89 (dk_at dksX28_init_5 3 rfl rfl)
theorem dX28_init_117 : decode cX28_init 117 = .ok (.invokespecial 52, 3) := dk_183 0 52 (dk_at dksX28_init_5 4 rfl rfl)
theorem dX28_init_120 : decode cX28_init 120 = .ok (.putfield 53, 3) := dk_181 0 53 (dk_at dksX28_init_5 7 rfl rfl)
theorem dX28_init_123 : decode cX28_init 123 = .ok (.aload_n 0, 1) := dk_42 (dk_at dksX28_init_5 10 rfl rfl)
theorem dX28_init_124 : decode cX28_init 124 = .ok (.aload_n 1, 1) := dk_43 (dk_at dksX28_init_5 11 rfl rfl)
theorem dX28_init_125 : decode cX28_init 125 = .ok (.putfield 57, 3) := dk_181 0 57 (dk_at dksX28_init_5 12 rfl rfl)
theorem dX28_init_128 : decode cX28_init 128 = .ok (.return_, 1) := dk_177 (dk_at dksX28_init_5 15 rfl rfl)
theorem q395 : (Jvm.Cond.initialized "ContractLedgerModel$Terms") ∈ lw_all := lw_g (lw_at lw_m1 38 rfl) rfl
theorem q3164 : (Jvm.Cond.instanceMethod ({ cls := "ContractLedgerModel$Terms", name := "read", desc := "()Z" } : Jvm.MethodName)) ∈ lw_all := lw_g (lw_at lw_m12 167 rfl) rfl
theorem q3165 : (Jvm.Cond.selects "ContractLedgerModel$Terms" ({ cls := "ContractLedgerModel$Terms", name := "read", desc := "()Z" } : Jvm.MethodName) ({ cls := "ContractLedgerModel$Terms", name := "read", desc := "()Z" } : Jvm.MethodName)) ∈ lw_all := lw_g (lw_at lw_m12 168 rfl) rfl
theorem q3166 : (Jvm.Cond.code ({ cls := "ContractLedgerModel$Terms", name := "read", desc := "()Z" } : Jvm.MethodName) prog_29_method_13_code (1 : Nat) (Option.some Jvm.ClassFile.FieldType.boolean)) ∈ lw_all := lw_g (lw_at lw_m12 169 rfl) rfl
theorem q3167 : (Jvm.Cond.methodLink "ContractLedgerModel$Terms" (118 : Nat) ({ cls := "ContractLedgerModel$Terms", name := "next", desc := "()V" } : Jvm.MethodName)) ∈ lw_all := lw_g (lw_at lw_m12 170 rfl) rfl
theorem q3168 : (Jvm.Cond.privateMethod ({ cls := "ContractLedgerModel$Terms", name := "next", desc := "()V" } : Jvm.MethodName)) ∈ lw_tbl := lw_at lw_m12 171 rfl
theorem q3169 : (Jvm.Cond.instanceMethod ({ cls := "ContractLedgerModel$Terms", name := "next", desc := "()V" } : Jvm.MethodName)) ∈ lw_all := lw_g (lw_at lw_m12 172 rfl) rfl
theorem q3170 : (Jvm.Cond.instantiable "ContractLedgerModel$Terms" (20 : Nat)) ∈ lw_all := lw_g (lw_at lw_m12 173 rfl) rfl
theorem q3171 : (Jvm.Cond.code ({ cls := "ContractLedgerModel$Terms", name := "next", desc := "()V" } : Jvm.MethodName) prog_29_method_6_code (3 : Nat) (Option.none : Option Jvm.ClassFile.FieldType)) ∈ lw_all := lw_g (lw_at lw_m12 174 rfl) rfl
theorem q3172 : (Jvm.Cond.methodLink "ContractLedgerModel$Terms" (72 : Nat) ({ cls := "ContractLedgerModel$Terms", name := "look", desc := "(I)I" } : Jvm.MethodName)) ∈ lw_all := lw_g (lw_at lw_m12 175 rfl) rfl
theorem q3173 : (Jvm.Cond.privateMethod ({ cls := "ContractLedgerModel$Terms", name := "look", desc := "(I)I" } : Jvm.MethodName)) ∈ lw_tbl := lw_at lw_m12 176 rfl
theorem q3174 : (Jvm.Cond.instanceMethod ({ cls := "ContractLedgerModel$Terms", name := "look", desc := "(I)I" } : Jvm.MethodName)) ∈ lw_all := lw_g (lw_at lw_m12 177 rfl) rfl
theorem q3175 : (Jvm.Cond.code ({ cls := "ContractLedgerModel$Terms", name := "look", desc := "(I)I" } : Jvm.MethodName) prog_29_method_5_code (2 : Nat) (Option.some Jvm.ClassFile.FieldType.int)) ∈ lw_all := lw_g (lw_at lw_m12 178 rfl) rfl
theorem q3176 : (Jvm.Cond.methodLink "ContractLedgerModel$Terms" (82 : Nat) ({ cls := "ContractLedgerModel$Terms", name := "bytes", desc := "(I)V" } : Jvm.MethodName)) ∈ lw_all := lw_g (lw_at lw_m12 179 rfl) rfl
theorem q3177 : (Jvm.Cond.privateMethod ({ cls := "ContractLedgerModel$Terms", name := "bytes", desc := "(I)V" } : Jvm.MethodName)) ∈ lw_tbl := lw_at lw_m12 180 rfl
theorem q3178 : (Jvm.Cond.instanceMethod ({ cls := "ContractLedgerModel$Terms", name := "bytes", desc := "(I)V" } : Jvm.MethodName)) ∈ lw_all := lw_g (lw_at lw_m12 181 rfl) rfl
theorem q3179 : (Jvm.Cond.code ({ cls := "ContractLedgerModel$Terms", name := "bytes", desc := "(I)V" } : Jvm.MethodName) prog_29_method_8_code (3 : Nat) (Option.none : Option Jvm.ClassFile.FieldType)) ∈ lw_all := lw_g (lw_at lw_m12 182 rfl) rfl
theorem q3180 : (Jvm.Cond.methodLink "ContractLedgerModel$Terms" (99 : Nat) ({ cls := "ContractLedgerModel$Terms", name := "hex", desc := "(I)I" } : Jvm.MethodName)) ∈ lw_all := lw_g (lw_at lw_m12 183 rfl) rfl
theorem q3181 : (Jvm.Cond.static ({ cls := "ContractLedgerModel$Terms", name := "hex", desc := "(I)I" } : Jvm.MethodName)) ∈ lw_all := lw_g (lw_at lw_m12 184 rfl) rfl
theorem q3182 : (Jvm.Cond.code ({ cls := "ContractLedgerModel$Terms", name := "hex", desc := "(I)I" } : Jvm.MethodName) prog_29_method_4_code (1 : Nat) (Option.some Jvm.ClassFile.FieldType.int)) ∈ lw_all := lw_g (lw_at lw_m12 185 rfl) rfl
theorem q3183 : (Jvm.Cond.methodLink "ContractLedgerModel$Terms" (61 : Nat) ({ cls := "ContractLedgerModel$Terms", name := "isDigit", desc := "(I)Z" } : Jvm.MethodName)) ∈ lw_all := lw_g (lw_at lw_m12 186 rfl) rfl
theorem q3184 : (Jvm.Cond.static ({ cls := "ContractLedgerModel$Terms", name := "isDigit", desc := "(I)Z" } : Jvm.MethodName)) ∈ lw_all := lw_g (lw_at lw_m12 187 rfl) rfl
theorem q3185 : (Jvm.Cond.code ({ cls := "ContractLedgerModel$Terms", name := "isDigit", desc := "(I)Z" } : Jvm.MethodName) prog_29_method_3_code (1 : Nat) (Option.some Jvm.ClassFile.FieldType.boolean)) ∈ lw_all := lw_g (lw_at lw_m12 188 rfl) rfl
theorem q3186 : (Jvm.Cond.methodLink "ContractLedgerModel$Terms" (86 : Nat) ({ cls := "ContractLedgerModel$Terms", name := "digits", desc := "(I)V" } : Jvm.MethodName)) ∈ lw_all := lw_g (lw_at lw_m12 189 rfl) rfl
theorem q3187 : (Jvm.Cond.privateMethod ({ cls := "ContractLedgerModel$Terms", name := "digits", desc := "(I)V" } : Jvm.MethodName)) ∈ lw_tbl := lw_at lw_m12 190 rfl
theorem q3188 : (Jvm.Cond.instanceMethod ({ cls := "ContractLedgerModel$Terms", name := "digits", desc := "(I)V" } : Jvm.MethodName)) ∈ lw_all := lw_g (lw_at lw_m12 191 rfl) rfl
theorem q3189 : (Jvm.Cond.code ({ cls := "ContractLedgerModel$Terms", name := "digits", desc := "(I)V" } : Jvm.MethodName) prog_29_method_9_code (3 : Nat) (Option.none : Option Jvm.ClassFile.FieldType)) ∈ lw_all := lw_g (lw_at lw_m12 192 rfl) rfl
theorem q3190 : (Jvm.Cond.methodLink "ContractLedgerModel$Terms" (89 : Nat) ({ cls := "ContractLedgerModel$Terms", name := "string", desc := "(I)V" } : Jvm.MethodName)) ∈ lw_all := lw_g (lw_at lw_m12 193 rfl) rfl
theorem q3191 : (Jvm.Cond.privateMethod ({ cls := "ContractLedgerModel$Terms", name := "string", desc := "(I)V" } : Jvm.MethodName)) ∈ lw_tbl := lw_at lw_m12 194 rfl
theorem q3192 : (Jvm.Cond.instanceMethod ({ cls := "ContractLedgerModel$Terms", name := "string", desc := "(I)V" } : Jvm.MethodName)) ∈ lw_all := lw_g (lw_at lw_m12 195 rfl) rfl
theorem q3193 : (Jvm.Cond.code ({ cls := "ContractLedgerModel$Terms", name := "string", desc := "(I)V" } : Jvm.MethodName) prog_29_method_10_code (6 : Nat) (Option.none : Option Jvm.ClassFile.FieldType)) ∈ lw_all := lw_g (lw_at lw_m12 196 rfl) rfl
theorem q3194 : (Jvm.Cond.methodLink "ContractLedgerModel$Terms" (92 : Nat) ({ cls := "ContractLedgerModel$Terms", name := "isLetter", desc := "(I)Z" } : Jvm.MethodName)) ∈ lw_all := lw_g (lw_at lw_m12 197 rfl) rfl
theorem q3195 : (Jvm.Cond.static ({ cls := "ContractLedgerModel$Terms", name := "isLetter", desc := "(I)Z" } : Jvm.MethodName)) ∈ lw_all := lw_g (lw_at lw_m12 198 rfl) rfl
theorem q3196 : (Jvm.Cond.code ({ cls := "ContractLedgerModel$Terms", name := "isLetter", desc := "(I)Z" } : Jvm.MethodName) prog_29_method_2_code (1 : Nat) (Option.some Jvm.ClassFile.FieldType.boolean)) ∈ lw_all := lw_g (lw_at lw_m12 199 rfl) rfl
theorem q3197 : (Jvm.Cond.methodLink "ContractLedgerModel$Terms" (95 : Nat) ({ cls := "ContractLedgerModel$Terms", name := "named", desc := "(II)I" } : Jvm.MethodName)) ∈ lw_all := lw_g (lw_at lw_m12 200 rfl) rfl
theorem q3198 : (Jvm.Cond.privateMethod ({ cls := "ContractLedgerModel$Terms", name := "named", desc := "(II)I" } : Jvm.MethodName)) ∈ lw_tbl := lw_at lw_m12 201 rfl
theorem q3199 : (Jvm.Cond.instanceMethod ({ cls := "ContractLedgerModel$Terms", name := "named", desc := "(II)I" } : Jvm.MethodName)) ∈ lw_all := lw_g (lw_at lw_m12 202 rfl) rfl
theorem q3200 : (Jvm.Cond.code ({ cls := "ContractLedgerModel$Terms", name := "named", desc := "(II)I" } : Jvm.MethodName) prog_29_method_7_code (4 : Nat) (Option.some Jvm.ClassFile.FieldType.int)) ∈ lw_all := lw_g (lw_at lw_m12 203 rfl) rfl
theorem q3201 : (Jvm.Cond.methodLink "ContractLedgerModel$Terms" (121 : Nat) ({ cls := "ContractLedgerModel$Terms", name := "item", desc := "(II)Z" } : Jvm.MethodName)) ∈ lw_all := lw_g (lw_at lw_m12 204 rfl) rfl
theorem q3202 : (Jvm.Cond.privateMethod ({ cls := "ContractLedgerModel$Terms", name := "item", desc := "(II)Z" } : Jvm.MethodName)) ∈ lw_tbl := lw_at lw_m12 205 rfl
theorem q3203 : (Jvm.Cond.instanceMethod ({ cls := "ContractLedgerModel$Terms", name := "item", desc := "(II)Z" } : Jvm.MethodName)) ∈ lw_all := lw_g (lw_at lw_m12 206 rfl) rfl
theorem q3204 : (Jvm.Cond.code ({ cls := "ContractLedgerModel$Terms", name := "item", desc := "(II)Z" } : Jvm.MethodName) prog_29_method_15_code (3 : Nat) (Option.some Jvm.ClassFile.FieldType.boolean)) ∈ lw_all := lw_g (lw_at lw_m12 207 rfl) rfl
theorem q3205 : (Jvm.Cond.methodLink "ContractLedgerModel$Terms" (133 : Nat) ({ cls := "ContractLedgerModel$Terms", name := "leaf", desc := "(II)Z" } : Jvm.MethodName)) ∈ lw_all := lw_g (lw_at lw_m12 208 rfl) rfl
theorem q3206 : (Jvm.Cond.privateMethod ({ cls := "ContractLedgerModel$Terms", name := "leaf", desc := "(II)Z" } : Jvm.MethodName)) ∈ lw_tbl := lw_at lw_m12 209 rfl
theorem q3207 : (Jvm.Cond.instanceMethod ({ cls := "ContractLedgerModel$Terms", name := "leaf", desc := "(II)Z" } : Jvm.MethodName)) ∈ lw_all := lw_g (lw_at lw_m12 210 rfl) rfl
theorem q3208 : (Jvm.Cond.code ({ cls := "ContractLedgerModel$Terms", name := "leaf", desc := "(II)Z" } : Jvm.MethodName) prog_29_method_14_code (4 : Nat) (Option.some Jvm.ClassFile.FieldType.boolean)) ∈ lw_all := lw_g (lw_at lw_m12 211 rfl) rfl
theorem q3209 : (Jvm.Cond.methodLink "ContractLedgerModel$Terms" (129 : Nat) ({ cls := "ContractLedgerModel$Terms", name := "term", desc := "(III)I" } : Jvm.MethodName)) ∈ lw_all := lw_g (lw_at lw_m12 212 rfl) rfl
theorem q3210 : (Jvm.Cond.privateMethod ({ cls := "ContractLedgerModel$Terms", name := "term", desc := "(III)I" } : Jvm.MethodName)) ∈ lw_tbl := lw_at lw_m12 213 rfl
theorem q3211 : (Jvm.Cond.instanceMethod ({ cls := "ContractLedgerModel$Terms", name := "term", desc := "(III)I" } : Jvm.MethodName)) ∈ lw_all := lw_g (lw_at lw_m12 214 rfl) rfl
theorem q3212 : (Jvm.Cond.code ({ cls := "ContractLedgerModel$Terms", name := "term", desc := "(III)I" } : Jvm.MethodName) prog_29_method_12_code (5 : Nat) (Option.some Jvm.ClassFile.FieldType.int)) ∈ lw_all := lw_g (lw_at lw_m12 215 rfl) rfl
theorem q3213 : (Jvm.Cond.methodLink "ContractLedgerModel$Terms" (108 : Nat) ({ cls := "ContractLedgerModel$Num", name := "read", desc := "([BII)Z" } : Jvm.MethodName)) ∈ lw_all := lw_g (lw_at lw_m12 216 rfl) rfl
theorem q3238 : (Jvm.Cond.methodLink "ContractLedgerModel$Terms" (112 : Nat) ({ cls := "ContractLedgerModel$Words", name := "find", desc := "([BII)I" } : Jvm.MethodName)) ∈ lw_all := lw_g (lw_at lw_m13 1 rfl) rfl
theorem q3244 : (Jvm.Cond.methodLink "ContractLedgerModel$Terms" (136 : Nat) ({ cls := "ContractLedgerModel$Terms", name := "sequence", desc := "(II)Z" } : Jvm.MethodName)) ∈ lw_all := lw_g (lw_at lw_m13 7 rfl) rfl
theorem q3245 : (Jvm.Cond.privateMethod ({ cls := "ContractLedgerModel$Terms", name := "sequence", desc := "(II)Z" } : Jvm.MethodName)) ∈ lw_tbl := lw_at lw_m13 8 rfl
theorem q3246 : (Jvm.Cond.instanceMethod ({ cls := "ContractLedgerModel$Terms", name := "sequence", desc := "(II)Z" } : Jvm.MethodName)) ∈ lw_all := lw_g (lw_at lw_m13 9 rfl) rfl
theorem q3247 : (Jvm.Cond.code ({ cls := "ContractLedgerModel$Terms", name := "sequence", desc := "(II)Z" } : Jvm.MethodName) prog_29_method_16_code (4 : Nat) (Option.some Jvm.ClassFile.FieldType.boolean)) ∈ lw_all := lw_g (lw_at lw_m13 10 rfl) rfl
theorem q3248 : (Jvm.Cond.methodLink "ContractLedgerModel$Terms" (125 : Nat) ({ cls := "ContractLedgerModel$Terms", name := "fail", desc := "()Z" } : Jvm.MethodName)) ∈ lw_all := lw_g (lw_at lw_m13 11 rfl) rfl
theorem q3249 : (Jvm.Cond.privateMethod ({ cls := "ContractLedgerModel$Terms", name := "fail", desc := "()Z" } : Jvm.MethodName)) ∈ lw_tbl := lw_at lw_m13 12 rfl
theorem q3250 : (Jvm.Cond.instanceMethod ({ cls := "ContractLedgerModel$Terms", name := "fail", desc := "()Z" } : Jvm.MethodName)) ∈ lw_all := lw_g (lw_at lw_m13 13 rfl) rfl
theorem q3251 : (Jvm.Cond.code ({ cls := "ContractLedgerModel$Terms", name := "fail", desc := "()Z" } : Jvm.MethodName) prog_29_method_11_code (1 : Nat) (Option.some Jvm.ClassFile.FieldType.boolean)) ∈ lw_all := lw_g (lw_at lw_m13 14 rfl) rfl
theorem q3252 : (Jvm.Cond.methodLink "ContractLedgerModel$Terms" (139 : Nat) ({ cls := "ContractLedgerModel$Terms", name := "application", desc := "(II)Z" } : Jvm.MethodName)) ∈ lw_all := lw_g (lw_at lw_m13 15 rfl) rfl
theorem q3253 : (Jvm.Cond.privateMethod ({ cls := "ContractLedgerModel$Terms", name := "application", desc := "(II)Z" } : Jvm.MethodName)) ∈ lw_tbl := lw_at lw_m13 16 rfl
theorem q3254 : (Jvm.Cond.instanceMethod ({ cls := "ContractLedgerModel$Terms", name := "application", desc := "(II)Z" } : Jvm.MethodName)) ∈ lw_all := lw_g (lw_at lw_m13 17 rfl) rfl
theorem q3255 : (Jvm.Cond.code ({ cls := "ContractLedgerModel$Terms", name := "application", desc := "(II)Z" } : Jvm.MethodName) prog_29_method_17_code (6 : Nat) (Option.some Jvm.ClassFile.FieldType.boolean)) ∈ lw_all := lw_g (lw_at lw_m13 18 rfl) rfl
theorem q3258 : (Jvm.Cond.instanceMethod ({ cls := "ContractLedgerModel$Terms", name := "isSequence", desc := "(I)Z" } : Jvm.MethodName)) ∈ lw_all := lw_g (lw_at lw_m13 21 rfl) rfl
theorem q3259 : (Jvm.Cond.selects "ContractLedgerModel$Terms" ({ cls := "ContractLedgerModel$Terms", name := "isSequence", desc := "(I)Z" } : Jvm.MethodName) ({ cls := "ContractLedgerModel$Terms", name := "isSequence", desc := "(I)Z" } : Jvm.MethodName)) ∈ lw_all := lw_g (lw_at lw_m13 22 rfl) rfl
theorem q3260 : (Jvm.Cond.code ({ cls := "ContractLedgerModel$Terms", name := "isSequence", desc := "(I)Z" } : Jvm.MethodName) prog_29_method_19_code (2 : Nat) (Option.some Jvm.ClassFile.FieldType.boolean)) ∈ lw_all := lw_g (lw_at lw_m13 23 rfl) rfl
theorem q3320 : (Jvm.Cond.instanceMethod ({ cls := "ContractLedgerModel$Terms", name := "child", desc := "(II)I" } : Jvm.MethodName)) ∈ lw_all := lw_g (lw_at lw_m13 83 rfl) rfl
theorem q3321 : (Jvm.Cond.selects "ContractLedgerModel$Terms" ({ cls := "ContractLedgerModel$Terms", name := "child", desc := "(II)I" } : Jvm.MethodName) ({ cls := "ContractLedgerModel$Terms", name := "child", desc := "(II)I" } : Jvm.MethodName)) ∈ lw_all := lw_g (lw_at lw_m13 84 rfl) rfl
theorem q3322 : (Jvm.Cond.code ({ cls := "ContractLedgerModel$Terms", name := "child", desc := "(II)I" } : Jvm.MethodName) prog_29_method_18_code (5 : Nat) (Option.some Jvm.ClassFile.FieldType.int)) ∈ lw_all := lw_g (lw_at lw_m13 85 rfl) rfl
theorem q3327 : (Jvm.Cond.instanceMethod ({ cls := "ContractLedgerModel$Terms", name := "hasMark", desc := "(I)Z" } : Jvm.MethodName)) ∈ lw_all := lw_g (lw_at lw_m13 90 rfl) rfl
theorem q3328 : (Jvm.Cond.selects "ContractLedgerModel$Terms" ({ cls := "ContractLedgerModel$Terms", name := "hasMark", desc := "(I)Z" } : Jvm.MethodName) ({ cls := "ContractLedgerModel$Terms", name := "hasMark", desc := "(I)Z" } : Jvm.MethodName)) ∈ lw_all := lw_g (lw_at lw_m13 91 rfl) rfl
theorem q3329 : (Jvm.Cond.code ({ cls := "ContractLedgerModel$Terms", name := "hasMark", desc := "(I)Z" } : Jvm.MethodName) prog_29_method_21_code (2 : Nat) (Option.some Jvm.ClassFile.FieldType.boolean)) ∈ lw_all := lw_g (lw_at lw_m13 92 rfl) rfl
theorem q3354 : (Jvm.Cond.instanceMethod ({ cls := "ContractLedgerModel$Terms", name := "isWord", desc := "(II)Z" } : Jvm.MethodName)) ∈ lw_all := lw_g (lw_at lw_m13 117 rfl) rfl
theorem q3355 : (Jvm.Cond.selects "ContractLedgerModel$Terms" ({ cls := "ContractLedgerModel$Terms", name := "isWord", desc := "(II)Z" } : Jvm.MethodName) ({ cls := "ContractLedgerModel$Terms", name := "isWord", desc := "(II)Z" } : Jvm.MethodName)) ∈ lw_all := lw_g (lw_at lw_m13 118 rfl) rfl
theorem q3356 : (Jvm.Cond.code ({ cls := "ContractLedgerModel$Terms", name := "isWord", desc := "(II)Z" } : Jvm.MethodName) prog_29_method_20_code (3 : Nat) (Option.some Jvm.ClassFile.FieldType.boolean)) ∈ lw_all := lw_g (lw_at lw_m13 119 rfl) rfl
theorem q3358 : (Jvm.Cond.instanceMethod ({ cls := "ContractLedgerModel$Terms", name := "isMark", desc := "(I[BII)Z" } : Jvm.MethodName)) ∈ lw_all := lw_g (lw_at lw_m13 121 rfl) rfl
theorem q3359 : (Jvm.Cond.selects "ContractLedgerModel$Terms" ({ cls := "ContractLedgerModel$Terms", name := "isMark", desc := "(I[BII)Z" } : Jvm.MethodName) ({ cls := "ContractLedgerModel$Terms", name := "isMark", desc := "(I[BII)Z" } : Jvm.MethodName)) ∈ lw_all := lw_g (lw_at lw_m13 122 rfl) rfl
theorem q3360 : (Jvm.Cond.code ({ cls := "ContractLedgerModel$Terms", name := "isMark", desc := "(I[BII)Z" } : Jvm.MethodName) prog_29_method_22_code (6 : Nat) (Option.some Jvm.ClassFile.FieldType.boolean)) ∈ lw_all := lw_g (lw_at lw_m13 123 rfl) rfl
theorem q3361 : (Jvm.Cond.methodLink "ContractLedgerModel$Terms" (142 : Nat) ({ cls := "ContractLedgerModel$Terms", name := "hasMark", desc := "(I)Z" } : Jvm.MethodName)) ∈ lw_all := lw_g (lw_at lw_m13 124 rfl) rfl
theorem q3392 : (Jvm.Cond.instanceMethod ({ cls := "ContractLedgerModel$Terms", name := "small", desc := "(I)I" } : Jvm.MethodName)) ∈ lw_all := lw_g (lw_at lw_m13 155 rfl) rfl
theorem q3393 : (Jvm.Cond.selects "ContractLedgerModel$Terms" ({ cls := "ContractLedgerModel$Terms", name := "small", desc := "(I)I" } : Jvm.MethodName) ({ cls := "ContractLedgerModel$Terms", name := "small", desc := "(I)I" } : Jvm.MethodName)) ∈ lw_all := lw_g (lw_at lw_m13 156 rfl) rfl
theorem q3394 : (Jvm.Cond.code ({ cls := "ContractLedgerModel$Terms", name := "small", desc := "(I)I" } : Jvm.MethodName) prog_29_method_23_code (2 : Nat) (Option.some Jvm.ClassFile.FieldType.int)) ∈ lw_all := lw_g (lw_at lw_m13 157 rfl) rfl
theorem q3395 : (Jvm.Cond.methodLink "ContractLedgerModel$Terms" (149 : Nat) ({ cls := "ContractLedgerModel$Num", name := "bits", desc := "()I" } : Jvm.MethodName)) ∈ lw_all := lw_g (lw_at lw_m13 158 rfl) rfl
theorem q3396 : (Jvm.Cond.methodLink "ContractLedgerModel$Terms" (153 : Nat) ({ cls := "ContractLedgerModel$Num", name := "value", desc := "()J" } : Jvm.MethodName)) ∈ lw_all := lw_g (lw_at lw_m13 159 rfl) rfl
theorem q3401 : (Jvm.Cond.constantLong "ContractLedgerModel$Terms" (157 : Nat) (200 : Int64)) ∈ lw_all := lw_g (lw_at lw_m13 164 rfl) rfl
theorem q4091 : (Jvm.Cond.fieldLink "ContractLedgerModel$Terms" (145 : Nat) "ContractLedgerModel$Num" "minus" "Z") ∈ lw_all := lw_g (lw_at lw_m16 134 rfl) rfl
theorem q4149 : (Jvm.Cond.instanceMethod ({ cls := "ContractLedgerModel$Terms", name := "<init>", desc := "(LContractLedgerModel$Words;)V" } : Jvm.MethodName)) ∈ lw_all := lw_g (lw_at lw_m16 192 rfl) rfl
theorem q4150 : (Jvm.Cond.code ({ cls := "ContractLedgerModel$Terms", name := "<init>", desc := "(LContractLedgerModel$Words;)V" } : Jvm.MethodName) prog_29_method_1_code (2 : Nat) (Option.none : Option Jvm.ClassFile.FieldType)) ∈ lw_all := lw_g (lw_at lw_m16 193 rfl) rfl
theorem q4151 : (Jvm.Cond.methodLink "ContractLedgerModel$Terms" (3 : Nat) ({ cls := "java/lang/Object", name := "<init>", desc := "()V" } : Jvm.MethodName)) ∈ lw_all := lw_g (lw_at lw_m16 194 rfl) rfl
theorem q4152 : (Jvm.Cond.classLink "ContractLedgerModel$Terms" (50 : Nat) "ContractLedgerModel$Num") ∈ lw_all := lw_g (lw_at lw_m16 195 rfl) rfl
theorem q4153 : (Jvm.Cond.methodLinkNest "ContractLedgerModel$Terms" (52 : Nat) ({ cls := "ContractLedgerModel$Num", name := "<init>", desc := "()V" } : Jvm.MethodName) "ContractLedgerModel") ∈ lw_tbl := lw_at lw_m16 196 rfl
theorem q4154 : (Jvm.Cond.fieldLink "ContractLedgerModel$Terms" (9 : Nat) "ContractLedgerModel$Terms" "text" "[B") ∈ lw_all := lw_g (lw_at lw_m16 197 rfl) rfl
theorem q4156 : (Jvm.Cond.fieldLink "ContractLedgerModel$Terms" (65 : Nat) "ContractLedgerModel$Terms" "size" "I") ∈ lw_all := lw_g (lw_at lw_m16 199 rfl) rfl
theorem q4158 : (Jvm.Cond.fieldLink "ContractLedgerModel$Terms" (15 : Nat) "ContractLedgerModel$Terms" "kinds" "[B") ∈ lw_all := lw_g (lw_at lw_m16 201 rfl) rfl
theorem q4161 : (Jvm.Cond.fieldLink "ContractLedgerModel$Terms" (18 : Nat) "ContractLedgerModel$Terms" "begins" "[I") ∈ lw_all := lw_g (lw_at lw_m16 204 rfl) rfl
theorem q4163 : (Jvm.Cond.fieldLink "ContractLedgerModel$Terms" (22 : Nat) "ContractLedgerModel$Terms" "ends" "[I") ∈ lw_all := lw_g (lw_at lw_m16 206 rfl) rfl
theorem q4165 : (Jvm.Cond.fieldLink "ContractLedgerModel$Terms" (25 : Nat) "ContractLedgerModel$Terms" "markBegins" "[I") ∈ lw_all := lw_g (lw_at lw_m16 208 rfl) rfl
theorem q4167 : (Jvm.Cond.fieldLink "ContractLedgerModel$Terms" (28 : Nat) "ContractLedgerModel$Terms" "markEnds" "[I") ∈ lw_all := lw_g (lw_at lw_m16 210 rfl) rfl
theorem q4169 : (Jvm.Cond.fieldLink "ContractLedgerModel$Terms" (31 : Nat) "ContractLedgerModel$Terms" "firsts" "[I") ∈ lw_all := lw_g (lw_at lw_m16 212 rfl) rfl
theorem q4172 : (Jvm.Cond.fieldLink "ContractLedgerModel$Terms" (34 : Nat) "ContractLedgerModel$Terms" "nexts" "[I") ∈ lw_all := lw_g (lw_at lw_m16 215 rfl) rfl
theorem q4175 : (Jvm.Cond.fieldLink "ContractLedgerModel$Terms" (37 : Nat) "ContractLedgerModel$Terms" "lasts" "[I") ∈ lw_all := lw_g (lw_at lw_m16 218 rfl) rfl
theorem q4176 : (Jvm.Cond.fieldLink "ContractLedgerModel$Terms" (40 : Nat) "ContractLedgerModel$Terms" "many" "[I") ∈ lw_all := lw_g (lw_at lw_m16 219 rfl) rfl
theorem q4179 : (Jvm.Cond.fieldLink "ContractLedgerModel$Terms" (43 : Nat) "ContractLedgerModel$Terms" "codes" "[I") ∈ lw_all := lw_g (lw_at lw_m16 222 rfl) rfl
theorem q4182 : (Jvm.Cond.fieldLink "ContractLedgerModel$Terms" (46 : Nat) "ContractLedgerModel$Terms" "ofBytes" "[Z") ∈ lw_all := lw_g (lw_at lw_m16 225 rfl) rfl
theorem q4185 : (Jvm.Cond.fieldLink "ContractLedgerModel$Terms" (105 : Nat) "ContractLedgerModel$Terms" "count" "I") ∈ lw_all := lw_g (lw_at lw_m16 228 rfl) rfl
theorem q4186 : (Jvm.Cond.fieldLink "ContractLedgerModel$Terms" (102 : Nat) "ContractLedgerModel$Terms" "place" "I") ∈ lw_all := lw_g (lw_at lw_m16 229 rfl) rfl
theorem q4188 : (Jvm.Cond.fieldLink "ContractLedgerModel$Terms" (79 : Nat) "ContractLedgerModel$Terms" "token" "I") ∈ lw_all := lw_g (lw_at lw_m16 231 rfl) rfl
theorem q4189 : (Jvm.Cond.fieldLink "ContractLedgerModel$Terms" (76 : Nat) "ContractLedgerModel$Terms" "from" "I") ∈ lw_all := lw_g (lw_at lw_m16 232 rfl) rfl
theorem q4190 : (Jvm.Cond.fieldLink "ContractLedgerModel$Terms" (69 : Nat) "ContractLedgerModel$Terms" "to" "I") ∈ lw_all := lw_g (lw_at lw_m16 233 rfl) rfl
theorem q4191 : (Jvm.Cond.fieldLink "ContractLedgerModel$Terms" (57 : Nat) "ContractLedgerModel$Terms" "words" "LContractLedgerModel$Words;") ∈ lw_all := lw_g (lw_at lw_m16 234 rfl) rfl
theorem q4192 : (Jvm.Cond.fieldLink "ContractLedgerModel$Terms" (53 : Nat) "ContractLedgerModel$Terms" "number" "LContractLedgerModel$Num;") ∈ lw_all := lw_g (lw_at lw_m16 235 rfl) rfl
theorem q4193 : (Jvm.Cond.laysFinal "ContractLedgerModel$Terms" "ContractLedgerModel$Terms" "text" "[B") ∈ lw_all := lw_g (lw_at lw_m16 236 rfl) rfl
theorem q4194 : (Jvm.Cond.soleField "ContractLedgerModel$Terms" "text") ∈ lw_all := lw_g (lw_at lw_m16 237 rfl) rfl
theorem q4195 : (Jvm.Cond.lays "ContractLedgerModel$Terms" "ContractLedgerModel$Terms" "size" "I") ∈ lw_all := lw_g (lw_at lw_m16 238 rfl) rfl
theorem q4196 : (Jvm.Cond.soleField "ContractLedgerModel$Terms" "size") ∈ lw_all := lw_g (lw_at lw_m16 239 rfl) rfl
theorem q4197 : (Jvm.Cond.laysFinal "ContractLedgerModel$Terms" "ContractLedgerModel$Terms" "kinds" "[B") ∈ lw_all := lw_g (lw_at lw_m17 0 rfl) rfl
theorem q4198 : (Jvm.Cond.soleField "ContractLedgerModel$Terms" "kinds") ∈ lw_all := lw_g (lw_at lw_m17 1 rfl) rfl
theorem q4199 : (Jvm.Cond.laysFinal "ContractLedgerModel$Terms" "ContractLedgerModel$Terms" "begins" "[I") ∈ lw_all := lw_g (lw_at lw_m17 2 rfl) rfl
theorem q4200 : (Jvm.Cond.soleField "ContractLedgerModel$Terms" "begins") ∈ lw_all := lw_g (lw_at lw_m17 3 rfl) rfl
theorem q4201 : (Jvm.Cond.laysFinal "ContractLedgerModel$Terms" "ContractLedgerModel$Terms" "ends" "[I") ∈ lw_all := lw_g (lw_at lw_m17 4 rfl) rfl
theorem q4202 : (Jvm.Cond.soleField "ContractLedgerModel$Terms" "ends") ∈ lw_all := lw_g (lw_at lw_m17 5 rfl) rfl
theorem q4203 : (Jvm.Cond.laysFinal "ContractLedgerModel$Terms" "ContractLedgerModel$Terms" "markBegins" "[I") ∈ lw_all := lw_g (lw_at lw_m17 6 rfl) rfl
theorem q4204 : (Jvm.Cond.soleField "ContractLedgerModel$Terms" "markBegins") ∈ lw_all := lw_g (lw_at lw_m17 7 rfl) rfl
theorem q4205 : (Jvm.Cond.laysFinal "ContractLedgerModel$Terms" "ContractLedgerModel$Terms" "markEnds" "[I") ∈ lw_all := lw_g (lw_at lw_m17 8 rfl) rfl
theorem q4206 : (Jvm.Cond.soleField "ContractLedgerModel$Terms" "markEnds") ∈ lw_all := lw_g (lw_at lw_m17 9 rfl) rfl
theorem q4207 : (Jvm.Cond.laysFinal "ContractLedgerModel$Terms" "ContractLedgerModel$Terms" "firsts" "[I") ∈ lw_all := lw_g (lw_at lw_m17 10 rfl) rfl
theorem q4208 : (Jvm.Cond.soleField "ContractLedgerModel$Terms" "firsts") ∈ lw_all := lw_g (lw_at lw_m17 11 rfl) rfl
theorem q4209 : (Jvm.Cond.laysFinal "ContractLedgerModel$Terms" "ContractLedgerModel$Terms" "nexts" "[I") ∈ lw_all := lw_g (lw_at lw_m17 12 rfl) rfl
theorem q4210 : (Jvm.Cond.soleField "ContractLedgerModel$Terms" "nexts") ∈ lw_all := lw_g (lw_at lw_m17 13 rfl) rfl
theorem q4211 : (Jvm.Cond.laysFinal "ContractLedgerModel$Terms" "ContractLedgerModel$Terms" "lasts" "[I") ∈ lw_all := lw_g (lw_at lw_m17 14 rfl) rfl
theorem q4212 : (Jvm.Cond.soleField "ContractLedgerModel$Terms" "lasts") ∈ lw_all := lw_g (lw_at lw_m17 15 rfl) rfl
theorem q4213 : (Jvm.Cond.laysFinal "ContractLedgerModel$Terms" "ContractLedgerModel$Terms" "many" "[I") ∈ lw_all := lw_g (lw_at lw_m17 16 rfl) rfl
theorem q4214 : (Jvm.Cond.soleField "ContractLedgerModel$Terms" "many") ∈ lw_all := lw_g (lw_at lw_m17 17 rfl) rfl
theorem q4215 : (Jvm.Cond.laysFinal "ContractLedgerModel$Terms" "ContractLedgerModel$Terms" "codes" "[I") ∈ lw_all := lw_g (lw_at lw_m17 18 rfl) rfl
theorem q4216 : (Jvm.Cond.soleField "ContractLedgerModel$Terms" "codes") ∈ lw_all := lw_g (lw_at lw_m17 19 rfl) rfl
theorem q4217 : (Jvm.Cond.laysFinal "ContractLedgerModel$Terms" "ContractLedgerModel$Terms" "ofBytes" "[Z") ∈ lw_all := lw_g (lw_at lw_m17 20 rfl) rfl
theorem q4218 : (Jvm.Cond.soleField "ContractLedgerModel$Terms" "ofBytes") ∈ lw_all := lw_g (lw_at lw_m17 21 rfl) rfl
theorem q4219 : (Jvm.Cond.lays "ContractLedgerModel$Terms" "ContractLedgerModel$Terms" "count" "I") ∈ lw_all := lw_g (lw_at lw_m17 22 rfl) rfl
theorem q4220 : (Jvm.Cond.soleField "ContractLedgerModel$Terms" "count") ∈ lw_all := lw_g (lw_at lw_m17 23 rfl) rfl
theorem q4221 : (Jvm.Cond.lays "ContractLedgerModel$Terms" "ContractLedgerModel$Terms" "place" "I") ∈ lw_all := lw_g (lw_at lw_m17 24 rfl) rfl
theorem q4222 : (Jvm.Cond.soleField "ContractLedgerModel$Terms" "place") ∈ lw_all := lw_g (lw_at lw_m17 25 rfl) rfl
theorem q4223 : (Jvm.Cond.lays "ContractLedgerModel$Terms" "ContractLedgerModel$Terms" "token" "I") ∈ lw_all := lw_g (lw_at lw_m17 26 rfl) rfl
theorem q4224 : (Jvm.Cond.soleField "ContractLedgerModel$Terms" "token") ∈ lw_all := lw_g (lw_at lw_m17 27 rfl) rfl
theorem q4225 : (Jvm.Cond.lays "ContractLedgerModel$Terms" "ContractLedgerModel$Terms" "from" "I") ∈ lw_all := lw_g (lw_at lw_m17 28 rfl) rfl
theorem q4226 : (Jvm.Cond.soleField "ContractLedgerModel$Terms" "from") ∈ lw_all := lw_g (lw_at lw_m17 29 rfl) rfl
theorem q4227 : (Jvm.Cond.lays "ContractLedgerModel$Terms" "ContractLedgerModel$Terms" "to" "I") ∈ lw_all := lw_g (lw_at lw_m17 30 rfl) rfl
theorem q4228 : (Jvm.Cond.soleField "ContractLedgerModel$Terms" "to") ∈ lw_all := lw_g (lw_at lw_m17 31 rfl) rfl
theorem q4229 : (Jvm.Cond.laysFinal "ContractLedgerModel$Terms" "ContractLedgerModel$Terms" "words" "LContractLedgerModel$Words;") ∈ lw_all := lw_g (lw_at lw_m17 32 rfl) rfl
theorem q4230 : (Jvm.Cond.soleField "ContractLedgerModel$Terms" "words") ∈ lw_all := lw_g (lw_at lw_m17 33 rfl) rfl
theorem q4231 : (Jvm.Cond.laysFinal "ContractLedgerModel$Terms" "ContractLedgerModel$Terms" "number" "LContractLedgerModel$Num;") ∈ lw_all := lw_g (lw_at lw_m17 34 rfl) rfl
theorem q4232 : (Jvm.Cond.soleField "ContractLedgerModel$Terms" "number") ∈ lw_all := lw_g (lw_at lw_m17 35 rfl) rfl
theorem q4233 : (Jvm.Cond.superclass "ContractLedgerModel$Terms" "java/lang/Object") ∈ lw_all := lw_g (lw_at lw_m17 36 rfl) rfl
set_option maxRecDepth 100000
abbrev cX29_find : ByteArray := prog_31_method_2_code
def yX29_find : MethodName := ⟨RX29, "find", "([BII)I"⟩
def dkwX29_find_4 : List UInt8 := [132, 6, 1, 167, 255, 222, 21, 6, 21, 5, 160, 0, 6, 21, 4, 172, 132, 4, 1, 167, 255, 149, 2, 172]
abbrev dktX29_find_4 : List UInt8 := dkwX29_find_4 ++ []
def dkwX29_find_3 : List UInt8 := [21, 6, 96, 51, 18, 15, 42, 180, 0, 9, 21, 4, 46, 21, 6, 96, 182, 0, 23, 160, 0, 9]
abbrev dktX29_find_3 : List UInt8 := dkwX29_find_3 ++ dktX29_find_4
def dkwX29_find_2 : List UInt8 := [180, 0, 9, 21, 4, 46, 182, 0, 23, 160, 0, 53, 4, 54, 6, 21, 6, 21, 5, 162, 0, 33, 43, 28]
abbrev dktX29_find_2 : List UInt8 := dkwX29_find_2 ++ dktX29_find_3
def dkwX29_find_1 : List UInt8 := [21, 4, 46, 100, 4, 100, 54, 5, 21, 5, 29, 28, 100, 160, 0, 71, 43, 28, 51, 18, 15, 42]
abbrev dktX29_find_1 : List UInt8 := dkwX29_find_1 ++ dktX29_find_2
def dkwX29_find_0 : List UInt8 := [3, 54, 4, 21, 4, 16, 107, 162, 0, 106, 42, 180, 0, 9, 21, 4, 4, 96, 46, 42, 180, 0, 9]
abbrev dktX29_find_0 : List UInt8 := dkwX29_find_0 ++ dktX29_find_1
theorem dksX29_find_0 : cX29_find.data.toList.drop 0 = dktX29_find_0 := by decide +kernel
theorem dksX29_find_1 : cX29_find.data.toList.drop 23 = dktX29_find_1 := dk_seg dksX29_find_0 23 rfl rfl
theorem dksX29_find_2 : cX29_find.data.toList.drop 45 = dktX29_find_2 := dk_seg dksX29_find_1 22 rfl rfl
theorem dksX29_find_3 : cX29_find.data.toList.drop 69 = dktX29_find_3 := dk_seg dksX29_find_2 24 rfl rfl
theorem dksX29_find_4 : cX29_find.data.toList.drop 91 = dktX29_find_4 := dk_seg dksX29_find_3 22 rfl rfl
theorem dX29_find_0 : decode cX29_find 0 = .ok (.iconst 0, 1) := dk_3 (dk_at dksX29_find_0 0 rfl rfl)
theorem dX29_find_1 : decode cX29_find 1 = .ok (.istore 4, 2) := dk_54 4 (dk_at dksX29_find_0 1 rfl rfl)
theorem dX29_find_3 : decode cX29_find 3 = .ok (.iload 4, 2) := dk_21 4 (dk_at dksX29_find_0 3 rfl rfl)
theorem dX29_find_5 : decode cX29_find 5 = .ok (.bipush 107, 2) := dk_16 107 (dk_at dksX29_find_0 5 rfl rfl)
theorem dX29_find_7 : decode cX29_find 7 = .ok (.if_icmp .ge 106, 3) := dk_162 0 106 (dk_at dksX29_find_0 7 rfl rfl)
theorem dX29_find_10 : decode cX29_find 10 = .ok (.aload_n 0, 1) := dk_42 (dk_at dksX29_find_0 10 rfl rfl)
theorem dX29_find_11 : decode cX29_find 11 = .ok (.getfield 9, 3) := dk_180 0 9 (dk_at dksX29_find_0 11 rfl rfl)
theorem dX29_find_14 : decode cX29_find 14 = .ok (.iload 4, 2) := dk_21 4 (dk_at dksX29_find_0 14 rfl rfl)
theorem dX29_find_16 : decode cX29_find 16 = .ok (.iconst 1, 1) := dk_4 (dk_at dksX29_find_0 16 rfl rfl)
theorem dX29_find_17 : decode cX29_find 17 = .ok (.iadd, 1) := dk_96 (dk_at dksX29_find_0 17 rfl rfl)
theorem dX29_find_18 : decode cX29_find 18 = .ok (.iaload, 1) := dk_46 (dk_at dksX29_find_0 18 rfl rfl)
theorem dX29_find_19 : decode cX29_find 19 = .ok (.aload_n 0, 1) := dk_42 (dk_at dksX29_find_0 19 rfl rfl)
theorem dX29_find_20 : decode cX29_find 20 = .ok (.getfield 9, 3) := dk_180 0 9 (dk_at dksX29_find_0 20 rfl rfl)
theorem dX29_find_23 : decode cX29_find 23 = .ok (.iload 4, 2) := dk_21 4 (dk_at dksX29_find_1 0 rfl rfl)
theorem dX29_find_25 : decode cX29_find 25 = .ok (.iaload, 1) := dk_46 (dk_at dksX29_find_1 2 rfl rfl)
theorem dX29_find_26 : decode cX29_find 26 = .ok (.isub, 1) := dk_100 (dk_at dksX29_find_1 3 rfl rfl)
theorem dX29_find_27 : decode cX29_find 27 = .ok (.iconst 1, 1) := dk_4 (dk_at dksX29_find_1 4 rfl rfl)
theorem dX29_find_28 : decode cX29_find 28 = .ok (.isub, 1) := dk_100 (dk_at dksX29_find_1 5 rfl rfl)
theorem dX29_find_29 : decode cX29_find 29 = .ok (.istore 5, 2) := dk_54 5 (dk_at dksX29_find_1 6 rfl rfl)
theorem dX29_find_31 : decode cX29_find 31 = .ok (.iload 5, 2) := dk_21 5 (dk_at dksX29_find_1 8 rfl rfl)
theorem dX29_find_33 : decode cX29_find 33 = .ok (.iload_n 3, 1) := dk_29 (dk_at dksX29_find_1 10 rfl rfl)
theorem dX29_find_34 : decode cX29_find 34 = .ok (.iload_n 2, 1) := dk_28 (dk_at dksX29_find_1 11 rfl rfl)
theorem dX29_find_35 : decode cX29_find 35 = .ok (.isub, 1) := dk_100 (dk_at dksX29_find_1 12 rfl rfl)
theorem dX29_find_36 : decode cX29_find 36 = .ok (.if_icmp .ne 71, 3) := dk_160 0 71 (dk_at dksX29_find_1 13 rfl rfl)
theorem dX29_find_39 : decode cX29_find 39 = .ok (.aload_n 1, 1) := dk_43 (dk_at dksX29_find_1 16 rfl rfl)
theorem dX29_find_40 : decode cX29_find 40 = .ok (.iload_n 2, 1) := dk_28 (dk_at dksX29_find_1 17 rfl rfl)
theorem dX29_find_41 : decode cX29_find 41 = .ok (.baload, 1) := dk_51 (dk_at dksX29_find_1 18 rfl rfl)
theorem dX29_find_42 : decode cX29_find 42 = .ok (.ldc 15, 2) := dk_18 15 (dk_at dksX29_find_1 19 rfl rfl)
theorem dX29_find_44 : decode cX29_find 44 = .ok (.aload_n 0, 1) := dk_42 (dk_at dksX29_find_1 21 rfl rfl)
theorem dX29_find_45 : decode cX29_find 45 = .ok (.getfield 9, 3) := dk_180 0 9 (dk_at dksX29_find_2 0 rfl rfl)
theorem dX29_find_48 : decode cX29_find 48 = .ok (.iload 4, 2) := dk_21 4 (dk_at dksX29_find_2 3 rfl rfl)
theorem dX29_find_50 : decode cX29_find 50 = .ok (.iaload, 1) := dk_46 (dk_at dksX29_find_2 5 rfl rfl)
theorem dX29_find_51 : decode cX29_find 51 = .ok (.invokevirtual 23, 3) := dk_182 0 23 (dk_at dksX29_find_2 6 rfl rfl)
theorem dX29_find_54 : decode cX29_find 54 = .ok (.if_icmp .ne 53, 3) := dk_160 0 53 (dk_at dksX29_find_2 9 rfl rfl)
theorem dX29_find_57 : decode cX29_find 57 = .ok (.iconst 1, 1) := dk_4 (dk_at dksX29_find_2 12 rfl rfl)
theorem dX29_find_58 : decode cX29_find 58 = .ok (.istore 6, 2) := dk_54 6 (dk_at dksX29_find_2 13 rfl rfl)
theorem dX29_find_60 : decode cX29_find 60 = .ok (.iload 6, 2) := dk_21 6 (dk_at dksX29_find_2 15 rfl rfl)
theorem dX29_find_62 : decode cX29_find 62 = .ok (.iload 5, 2) := dk_21 5 (dk_at dksX29_find_2 17 rfl rfl)
theorem dX29_find_64 : decode cX29_find 64 = .ok (.if_icmp .ge 33, 3) := dk_162 0 33 (dk_at dksX29_find_2 19 rfl rfl)
theorem dX29_find_67 : decode cX29_find 67 = .ok (.aload_n 1, 1) := dk_43 (dk_at dksX29_find_2 22 rfl rfl)
theorem dX29_find_68 : decode cX29_find 68 = .ok (.iload_n 2, 1) := dk_28 (dk_at dksX29_find_2 23 rfl rfl)
theorem dX29_find_69 : decode cX29_find 69 = .ok (.iload 6, 2) := dk_21 6 (dk_at dksX29_find_3 0 rfl rfl)
theorem dX29_find_71 : decode cX29_find 71 = .ok (.iadd, 1) := dk_96 (dk_at dksX29_find_3 2 rfl rfl)
theorem dX29_find_72 : decode cX29_find 72 = .ok (.baload, 1) := dk_51 (dk_at dksX29_find_3 3 rfl rfl)
theorem dX29_find_73 : decode cX29_find 73 = .ok (.ldc 15, 2) := dk_18 15 (dk_at dksX29_find_3 4 rfl rfl)
theorem dX29_find_75 : decode cX29_find 75 = .ok (.aload_n 0, 1) := dk_42 (dk_at dksX29_find_3 6 rfl rfl)
theorem dX29_find_76 : decode cX29_find 76 = .ok (.getfield 9, 3) := dk_180 0 9 (dk_at dksX29_find_3 7 rfl rfl)
theorem dX29_find_79 : decode cX29_find 79 = .ok (.iload 4, 2) := dk_21 4 (dk_at dksX29_find_3 10 rfl rfl)
theorem dX29_find_81 : decode cX29_find 81 = .ok (.iaload, 1) := dk_46 (dk_at dksX29_find_3 12 rfl rfl)
theorem dX29_find_82 : decode cX29_find 82 = .ok (.iload 6, 2) := dk_21 6 (dk_at dksX29_find_3 13 rfl rfl)
theorem dX29_find_84 : decode cX29_find 84 = .ok (.iadd, 1) := dk_96 (dk_at dksX29_find_3 15 rfl rfl)
theorem dX29_find_85 : decode cX29_find 85 = .ok (.invokevirtual 23, 3) := dk_182 0 23 (dk_at dksX29_find_3 16 rfl rfl)
theorem dX29_find_88 : decode cX29_find 88 = .ok (.if_icmp .ne 9, 3) := dk_160 0 9 (dk_at dksX29_find_3 19 rfl rfl)
theorem dX29_find_91 : decode cX29_find 91 = .ok (.iinc 6 1, 3) := dk_132 6 1 (dk_at dksX29_find_4 0 rfl rfl)
theorem dX29_find_94 : decode cX29_find 94 = .ok (.goto (-34), 3) := dk_167 255 222 (dk_at dksX29_find_4 3 rfl rfl)
theorem dX29_find_97 : decode cX29_find 97 = .ok (.iload 6, 2) := dk_21 6 (dk_at dksX29_find_4 6 rfl rfl)
theorem dX29_find_99 : decode cX29_find 99 = .ok (.iload 5, 2) := dk_21 5 (dk_at dksX29_find_4 8 rfl rfl)
theorem dX29_find_101 : decode cX29_find 101 = .ok (.if_icmp .ne 6, 3) := dk_160 0 6 (dk_at dksX29_find_4 10 rfl rfl)
theorem dX29_find_104 : decode cX29_find 104 = .ok (.iload 4, 2) := dk_21 4 (dk_at dksX29_find_4 13 rfl rfl)
theorem dX29_find_106 : decode cX29_find 106 = .ok (.ireturn, 1) := dk_172 (dk_at dksX29_find_4 15 rfl rfl)
theorem dX29_find_107 : decode cX29_find 107 = .ok (.iinc 4 1, 3) := dk_132 4 1 (dk_at dksX29_find_4 16 rfl rfl)
theorem dX29_find_110 : decode cX29_find 110 = .ok (.goto (-107), 3) := dk_167 255 149 (dk_at dksX29_find_4 19 rfl rfl)
theorem dX29_find_113 : decode cX29_find 113 = .ok (.iconst (-1), 1) := dk_2 (dk_at dksX29_find_4 22 rfl rfl)
theorem dX29_find_114 : decode cX29_find 114 = .ok (.ireturn, 1) := dk_172 (dk_at dksX29_find_4 23 rfl rfl)
abbrev cX29_init : ByteArray := prog_31_method_1_code
def yX29_init : MethodName := ⟨RX29, "<init>", "()V"⟩
def dkwX29_init_2 : List UInt8 := [29, 4, 96, 61, 132, 3, 1, 167, 255, 219, 42, 180, 0, 9, 27, 28, 79, 177]
abbrev dktX29_init_2 : List UInt8 := dkwX29_init_2 ++ []
def dkwX29_init_1 : List UInt8 := [162, 0, 34, 18, 15, 29, 182, 0, 23, 16, 32, 160, 0, 17, 42, 180, 0, 9, 27, 28, 79, 132, 1, 1]
abbrev dktX29_init_1 : List UInt8 := dkwX29_init_1 ++ dktX29_init_2
def dkwX29_init_0 : List UInt8 := [42, 183, 0, 3, 42, 16, 108, 188, 10, 181, 0, 9, 3, 60, 3, 61, 3, 62, 29, 18, 15, 182, 0, 17]
abbrev dktX29_init_0 : List UInt8 := dkwX29_init_0 ++ dktX29_init_1
theorem dksX29_init_0 : cX29_init.data.toList.drop 0 = dktX29_init_0 := by decide +kernel
theorem dksX29_init_1 : cX29_init.data.toList.drop 24 = dktX29_init_1 := dk_seg dksX29_init_0 24 rfl rfl
theorem dksX29_init_2 : cX29_init.data.toList.drop 48 = dktX29_init_2 := dk_seg dksX29_init_1 24 rfl rfl
theorem dX29_init_0 : decode cX29_init 0 = .ok (.aload_n 0, 1) := dk_42 (dk_at dksX29_init_0 0 rfl rfl)
theorem dX29_init_1 : decode cX29_init 1 = .ok (.invokespecial 3, 3) := dk_183 0 3 (dk_at dksX29_init_0 1 rfl rfl)
theorem dX29_init_4 : decode cX29_init 4 = .ok (.aload_n 0, 1) := dk_42 (dk_at dksX29_init_0 4 rfl rfl)
theorem dX29_init_5 : decode cX29_init 5 = .ok (.bipush 108, 2) := dk_16 108 (dk_at dksX29_init_0 5 rfl rfl)
theorem dX29_init_7 : decode cX29_init 7 = .ok (.newarray .int, 2) := dk_188_10 (dk_at dksX29_init_0 7 rfl rfl)
theorem dX29_init_9 : decode cX29_init 9 = .ok (.putfield 9, 3) := dk_181 0 9 (dk_at dksX29_init_0 9 rfl rfl)
theorem dX29_init_12 : decode cX29_init 12 = .ok (.iconst 0, 1) := dk_3 (dk_at dksX29_init_0 12 rfl rfl)
theorem dX29_init_13 : decode cX29_init 13 = .ok (.istore_n 1, 1) := dk_60 (dk_at dksX29_init_0 13 rfl rfl)
theorem dX29_init_14 : decode cX29_init 14 = .ok (.iconst 0, 1) := dk_3 (dk_at dksX29_init_0 14 rfl rfl)
theorem dX29_init_15 : decode cX29_init 15 = .ok (.istore_n 2, 1) := dk_61 (dk_at dksX29_init_0 15 rfl rfl)
theorem dX29_init_16 : decode cX29_init 16 = .ok (.iconst 0, 1) := dk_3 (dk_at dksX29_init_0 16 rfl rfl)
theorem dX29_init_17 : decode cX29_init 17 = .ok (.istore_n 3, 1) := dk_62 (dk_at dksX29_init_0 17 rfl rfl)
theorem dX29_init_18 : decode cX29_init 18 = .ok (.iload_n 3, 1) := dk_29 (dk_at dksX29_init_0 18 rfl rfl)
theorem dX29_init_19 : decode cX29_init 19 = .ok (.ldc 15, 2) := dk_18 15 (dk_at dksX29_init_0 19 rfl rfl)
theorem dX29_init_21 : decode cX29_init 21 = .ok (.invokevirtual 17, 3) := dk_182 0 17 (dk_at dksX29_init_0 21 rfl rfl)
theorem dX29_init_24 : decode cX29_init 24 = .ok (.if_icmp .ge 34, 3) := dk_162 0 34 (dk_at dksX29_init_1 0 rfl rfl)
theorem dX29_init_27 : decode cX29_init 27 = .ok (.ldc 15, 2) := dk_18 15 (dk_at dksX29_init_1 3 rfl rfl)
theorem dX29_init_29 : decode cX29_init 29 = .ok (.iload_n 3, 1) := dk_29 (dk_at dksX29_init_1 5 rfl rfl)
theorem dX29_init_30 : decode cX29_init 30 = .ok (.invokevirtual 23, 3) := dk_182 0 23 (dk_at dksX29_init_1 6 rfl rfl)
theorem dX29_init_33 : decode cX29_init 33 = .ok (.bipush 32, 2) := dk_16 32 (dk_at dksX29_init_1 9 rfl rfl)
theorem dX29_init_35 : decode cX29_init 35 = .ok (.if_icmp .ne 17, 3) := dk_160 0 17 (dk_at dksX29_init_1 11 rfl rfl)
theorem dX29_init_38 : decode cX29_init 38 = .ok (.aload_n 0, 1) := dk_42 (dk_at dksX29_init_1 14 rfl rfl)
theorem dX29_init_39 : decode cX29_init 39 = .ok (.getfield 9, 3) := dk_180 0 9 (dk_at dksX29_init_1 15 rfl rfl)
theorem dX29_init_42 : decode cX29_init 42 = .ok (.iload_n 1, 1) := dk_27 (dk_at dksX29_init_1 18 rfl rfl)
theorem dX29_init_43 : decode cX29_init 43 = .ok (.iload_n 2, 1) := dk_28 (dk_at dksX29_init_1 19 rfl rfl)
theorem dX29_init_44 : decode cX29_init 44 = .ok (.iastore, 1) := dk_79 (dk_at dksX29_init_1 20 rfl rfl)
theorem dX29_init_45 : decode cX29_init 45 = .ok (.iinc 1 1, 3) := dk_132 1 1 (dk_at dksX29_init_1 21 rfl rfl)
theorem dX29_init_48 : decode cX29_init 48 = .ok (.iload_n 3, 1) := dk_29 (dk_at dksX29_init_2 0 rfl rfl)
theorem dX29_init_49 : decode cX29_init 49 = .ok (.iconst 1, 1) := dk_4 (dk_at dksX29_init_2 1 rfl rfl)
theorem dX29_init_50 : decode cX29_init 50 = .ok (.iadd, 1) := dk_96 (dk_at dksX29_init_2 2 rfl rfl)
theorem dX29_init_51 : decode cX29_init 51 = .ok (.istore_n 2, 1) := dk_61 (dk_at dksX29_init_2 3 rfl rfl)
theorem dX29_init_52 : decode cX29_init 52 = .ok (.iinc 3 1, 3) := dk_132 3 1 (dk_at dksX29_init_2 4 rfl rfl)
theorem dX29_init_55 : decode cX29_init 55 = .ok (.goto (-37), 3) := dk_167 255 219 (dk_at dksX29_init_2 7 rfl rfl)
theorem dX29_init_58 : decode cX29_init 58 = .ok (.aload_n 0, 1) := dk_42 (dk_at dksX29_init_2 10 rfl rfl)
theorem dX29_init_59 : decode cX29_init 59 = .ok (.getfield 9, 3) := dk_180 0 9 (dk_at dksX29_init_2 11 rfl rfl)
theorem dX29_init_62 : decode cX29_init 62 = .ok (.iload_n 1, 1) := dk_27 (dk_at dksX29_init_2 14 rfl rfl)
theorem dX29_init_63 : decode cX29_init 63 = .ok (.iload_n 2, 1) := dk_28 (dk_at dksX29_init_2 15 rfl rfl)
theorem dX29_init_64 : decode cX29_init 64 = .ok (.iastore, 1) := dk_79 (dk_at dksX29_init_2 16 rfl rfl)
theorem dX29_init_65 : decode cX29_init 65 = .ok (.return_, 1) := dk_177 (dk_at dksX29_init_2 17 rfl rfl)
theorem q396 : (Jvm.Cond.initialized "ContractLedgerModel$Words") ∈ lw_all := lw_g (lw_at lw_m1 39 rfl) rfl
theorem q3239 : (Jvm.Cond.instanceMethod ({ cls := "ContractLedgerModel$Words", name := "find", desc := "([BII)I" } : Jvm.MethodName)) ∈ lw_all := lw_g (lw_at lw_m13 2 rfl) rfl
theorem q3240 : (Jvm.Cond.selects "ContractLedgerModel$Words" ({ cls := "ContractLedgerModel$Words", name := "find", desc := "([BII)I" } : Jvm.MethodName) ({ cls := "ContractLedgerModel$Words", name := "find", desc := "([BII)I" } : Jvm.MethodName)) ∈ lw_all := lw_g (lw_at lw_m13 3 rfl) rfl
theorem q3241 : (Jvm.Cond.code ({ cls := "ContractLedgerModel$Words", name := "find", desc := "([BII)I" } : Jvm.MethodName) prog_31_method_2_code (7 : Nat) (Option.some Jvm.ClassFile.FieldType.int)) ∈ lw_all := lw_g (lw_at lw_m13 4 rfl) rfl
theorem q3242 : (Jvm.Cond.stringRef "ContractLedgerModel$Words" (15 : Nat) "unit bool int nat mutez string bytes address timestamp operation option list set contract or map big_map lambda pair parameter storage code Unit True False None Some Left Right Pair Elt DROP DUP SWAP DIG DUG PUSH DIP UNIT PAIR UNPAIR CAR CDR SOME NONE LEFT RIGHT NIL CONS EMPTY_SET EMPTY_MAP EMPTY_BIG_MAP IF IF_NONE IF_LEFT IF_CONS LOOP LOOP_LEFT ITER MAP FAILWITH LAMBDA EXEC APPLY ADD SUB SUB_MUTEZ MUL EDIV NEG ABS INT ISNAT AND OR XOR NOT LSL LSR COMPARE EQ NEQ LT GT LE GE CONCAT SLICE SIZE MEM GET UPDATE GET_AND_UPDATE PACK UNPACK AMOUNT BALANCE SENDER SOURCE SELF_ADDRESS NOW LEVEL SELF ADDRESS CONTRACT TRANSFER_TOKENS CREATE_CONTRACT ") ∈ lw_tbl := lw_at lw_m13 5 rfl
theorem q3243 : (Jvm.Cond.methodLink "ContractLedgerModel$Words" (23 : Nat) ({ cls := "java/lang/String", name := "charAt", desc := "(I)C" } : Jvm.MethodName)) ∈ lw_all := lw_g (lw_at lw_m13 6 rfl) rfl
theorem q4138 : (Jvm.Cond.instantiable "ContractLedgerModel$Words" (1 : Nat)) ∈ lw_all := lw_g (lw_at lw_m16 181 rfl) rfl
theorem q4140 : (Jvm.Cond.instanceMethod ({ cls := "ContractLedgerModel$Words", name := "<init>", desc := "()V" } : Jvm.MethodName)) ∈ lw_all := lw_g (lw_at lw_m16 183 rfl) rfl
theorem q4141 : (Jvm.Cond.code ({ cls := "ContractLedgerModel$Words", name := "<init>", desc := "()V" } : Jvm.MethodName) prog_31_method_1_code (4 : Nat) (Option.none : Option Jvm.ClassFile.FieldType)) ∈ lw_all := lw_g (lw_at lw_m16 184 rfl) rfl
theorem q4142 : (Jvm.Cond.methodLink "ContractLedgerModel$Words" (3 : Nat) ({ cls := "java/lang/Object", name := "<init>", desc := "()V" } : Jvm.MethodName)) ∈ lw_all := lw_g (lw_at lw_m16 185 rfl) rfl
theorem q4143 : (Jvm.Cond.methodLink "ContractLedgerModel$Words" (17 : Nat) ({ cls := "java/lang/String", name := "length", desc := "()I" } : Jvm.MethodName)) ∈ lw_all := lw_g (lw_at lw_m16 186 rfl) rfl
theorem q4144 : (Jvm.Cond.fieldLink "ContractLedgerModel$Words" (9 : Nat) "ContractLedgerModel$Words" "begins" "[I") ∈ lw_all := lw_g (lw_at lw_m16 187 rfl) rfl
theorem q4145 : (Jvm.Cond.laysFinal "ContractLedgerModel$Words" "ContractLedgerModel$Words" "begins" "[I") ∈ lw_all := lw_g (lw_at lw_m16 188 rfl) rfl
theorem q4146 : (Jvm.Cond.soleField "ContractLedgerModel$Words" "begins") ∈ lw_all := lw_g (lw_at lw_m16 189 rfl) rfl
theorem q4147 : (Jvm.Cond.superclass "ContractLedgerModel$Words" "java/lang/Object") ∈ lw_all := lw_g (lw_at lw_m16 190 rfl) rfl
set_option maxRecDepth 100000
abbrev cX30_isBlank : ByteArray := prog_17_method_2_code
def yX30_isBlank : MethodName := ⟨RX30, "isBlank", "(I)Z"⟩
def dkwX30_isBlank_1 : List UInt8 := [4, 167, 0, 4, 3, 172]
abbrev dktX30_isBlank_1 : List UInt8 := dkwX30_isBlank_1 ++ []
def dkwX30_isBlank_0 : List UInt8 := [26, 16, 32, 159, 0, 21, 26, 16, 9, 159, 0, 15, 26, 16, 10, 159, 0, 9, 26, 16, 13, 160, 0, 7]
abbrev dktX30_isBlank_0 : List UInt8 := dkwX30_isBlank_0 ++ dktX30_isBlank_1
theorem dksX30_isBlank_0 : cX30_isBlank.data.toList.drop 0 = dktX30_isBlank_0 := by decide +kernel
theorem dksX30_isBlank_1 : cX30_isBlank.data.toList.drop 24 = dktX30_isBlank_1 := dk_seg dksX30_isBlank_0 24 rfl rfl
theorem dX30_isBlank_0 : decode cX30_isBlank 0 = .ok (.iload_n 0, 1) := dk_26 (dk_at dksX30_isBlank_0 0 rfl rfl)
theorem dX30_isBlank_1 : decode cX30_isBlank 1 = .ok (.bipush 32, 2) := dk_16 32 (dk_at dksX30_isBlank_0 1 rfl rfl)
theorem dX30_isBlank_3 : decode cX30_isBlank 3 = .ok (.if_icmp .eq 21, 3) := dk_159 0 21 (dk_at dksX30_isBlank_0 3 rfl rfl)
theorem dX30_isBlank_6 : decode cX30_isBlank 6 = .ok (.iload_n 0, 1) := dk_26 (dk_at dksX30_isBlank_0 6 rfl rfl)
theorem dX30_isBlank_7 : decode cX30_isBlank 7 = .ok (.bipush 9, 2) := dk_16 9 (dk_at dksX30_isBlank_0 7 rfl rfl)
theorem dX30_isBlank_9 : decode cX30_isBlank 9 = .ok (.if_icmp .eq 15, 3) := dk_159 0 15 (dk_at dksX30_isBlank_0 9 rfl rfl)
theorem dX30_isBlank_12 : decode cX30_isBlank 12 = .ok (.iload_n 0, 1) := dk_26 (dk_at dksX30_isBlank_0 12 rfl rfl)
theorem dX30_isBlank_13 : decode cX30_isBlank 13 = .ok (.bipush 10, 2) := dk_16 10 (dk_at dksX30_isBlank_0 13 rfl rfl)
theorem dX30_isBlank_15 : decode cX30_isBlank 15 = .ok (.if_icmp .eq 9, 3) := dk_159 0 9 (dk_at dksX30_isBlank_0 15 rfl rfl)
theorem dX30_isBlank_18 : decode cX30_isBlank 18 = .ok (.iload_n 0, 1) := dk_26 (dk_at dksX30_isBlank_0 18 rfl rfl)
theorem dX30_isBlank_19 : decode cX30_isBlank 19 = .ok (.bipush 13, 2) := dk_16 13 (dk_at dksX30_isBlank_0 19 rfl rfl)
theorem dX30_isBlank_21 : decode cX30_isBlank 21 = .ok (.if_icmp .ne 7, 3) := dk_160 0 7 (dk_at dksX30_isBlank_0 21 rfl rfl)
theorem dX30_isBlank_24 : decode cX30_isBlank 24 = .ok (.iconst 1, 1) := dk_4 (dk_at dksX30_isBlank_1 0 rfl rfl)
theorem dX30_isBlank_25 : decode cX30_isBlank 25 = .ok (.goto 4, 3) := dk_167 0 4 (dk_at dksX30_isBlank_1 1 rfl rfl)
theorem dX30_isBlank_28 : decode cX30_isBlank 28 = .ok (.iconst 0, 1) := dk_3 (dk_at dksX30_isBlank_1 4 rfl rfl)
theorem dX30_isBlank_29 : decode cX30_isBlank 29 = .ok (.ireturn, 1) := dk_172 (dk_at dksX30_isBlank_1 5 rfl rfl)
abbrev cX30_hex : ByteArray := prog_17_method_6_code
def yX30_hex : MethodName := ⟨RX30, "hex", "(I)I"⟩
def dkwX30_hex_2 : List UInt8 := [163, 0, 13, 26, 16, 65, 100, 16, 10, 96, 167, 0, 4, 2, 172]
abbrev dktX30_hex_2 : List UInt8 := dkwX30_hex_2 ++ []
def dkwX30_hex_1 : List UInt8 := [163, 0, 13, 26, 16, 97, 100, 16, 10, 96, 167, 0, 26, 26, 16, 65, 161, 0, 19, 26, 16, 70]
abbrev dktX30_hex_1 : List UInt8 := dkwX30_hex_1 ++ dktX30_hex_2
def dkwX30_hex_0 : List UInt8 := [26, 184, 0, 15, 153, 0, 10, 26, 16, 48, 100, 167, 0, 48, 26, 16, 97, 161, 0, 19, 26, 16, 102]
abbrev dktX30_hex_0 : List UInt8 := dkwX30_hex_0 ++ dktX30_hex_1
theorem dksX30_hex_0 : cX30_hex.data.toList.drop 0 = dktX30_hex_0 := by decide +kernel
theorem dksX30_hex_1 : cX30_hex.data.toList.drop 23 = dktX30_hex_1 := dk_seg dksX30_hex_0 23 rfl rfl
theorem dksX30_hex_2 : cX30_hex.data.toList.drop 45 = dktX30_hex_2 := dk_seg dksX30_hex_1 22 rfl rfl
theorem dX30_hex_0 : decode cX30_hex 0 = .ok (.iload_n 0, 1) := dk_26 (dk_at dksX30_hex_0 0 rfl rfl)
theorem dX30_hex_1 : decode cX30_hex 1 = .ok (.invokestatic 15, 3) := dk_184 0 15 (dk_at dksX30_hex_0 1 rfl rfl)
theorem dX30_hex_4 : decode cX30_hex 4 = .ok (.ifCond .eq 10, 3) := dk_153 0 10 (dk_at dksX30_hex_0 4 rfl rfl)
theorem dX30_hex_7 : decode cX30_hex 7 = .ok (.iload_n 0, 1) := dk_26 (dk_at dksX30_hex_0 7 rfl rfl)
theorem dX30_hex_8 : decode cX30_hex 8 = .ok (.bipush 48, 2) := dk_16 48 (dk_at dksX30_hex_0 8 rfl rfl)
theorem dX30_hex_10 : decode cX30_hex 10 = .ok (.isub, 1) := dk_100 (dk_at dksX30_hex_0 10 rfl rfl)
theorem dX30_hex_11 : decode cX30_hex 11 = .ok (.goto 48, 3) := dk_167 0 48 (dk_at dksX30_hex_0 11 rfl rfl)
theorem dX30_hex_14 : decode cX30_hex 14 = .ok (.iload_n 0, 1) := dk_26 (dk_at dksX30_hex_0 14 rfl rfl)
theorem dX30_hex_15 : decode cX30_hex 15 = .ok (.bipush 97, 2) := dk_16 97 (dk_at dksX30_hex_0 15 rfl rfl)
theorem dX30_hex_17 : decode cX30_hex 17 = .ok (.if_icmp .lt 19, 3) := dk_161 0 19 (dk_at dksX30_hex_0 17 rfl rfl)
theorem dX30_hex_20 : decode cX30_hex 20 = .ok (.iload_n 0, 1) := dk_26 (dk_at dksX30_hex_0 20 rfl rfl)
theorem dX30_hex_21 : decode cX30_hex 21 = .ok (.bipush 102, 2) := dk_16 102 (dk_at dksX30_hex_0 21 rfl rfl)
theorem dX30_hex_23 : decode cX30_hex 23 = .ok (.if_icmp .gt 13, 3) := dk_163 0 13 (dk_at dksX30_hex_1 0 rfl rfl)
theorem dX30_hex_26 : decode cX30_hex 26 = .ok (.iload_n 0, 1) := dk_26 (dk_at dksX30_hex_1 3 rfl rfl)
theorem dX30_hex_27 : decode cX30_hex 27 = .ok (.bipush 97, 2) := dk_16 97 (dk_at dksX30_hex_1 4 rfl rfl)
theorem dX30_hex_29 : decode cX30_hex 29 = .ok (.isub, 1) := dk_100 (dk_at dksX30_hex_1 6 rfl rfl)
theorem dX30_hex_30 : decode cX30_hex 30 = .ok (.bipush 10, 2) := dk_16 10 (dk_at dksX30_hex_1 7 rfl rfl)
theorem dX30_hex_32 : decode cX30_hex 32 = .ok (.iadd, 1) := dk_96 (dk_at dksX30_hex_1 9 rfl rfl)
theorem dX30_hex_33 : decode cX30_hex 33 = .ok (.goto 26, 3) := dk_167 0 26 (dk_at dksX30_hex_1 10 rfl rfl)
theorem dX30_hex_36 : decode cX30_hex 36 = .ok (.iload_n 0, 1) := dk_26 (dk_at dksX30_hex_1 13 rfl rfl)
theorem dX30_hex_37 : decode cX30_hex 37 = .ok (.bipush 65, 2) := dk_16 65 (dk_at dksX30_hex_1 14 rfl rfl)
theorem dX30_hex_39 : decode cX30_hex 39 = .ok (.if_icmp .lt 19, 3) := dk_161 0 19 (dk_at dksX30_hex_1 16 rfl rfl)
theorem dX30_hex_42 : decode cX30_hex 42 = .ok (.iload_n 0, 1) := dk_26 (dk_at dksX30_hex_1 19 rfl rfl)
theorem dX30_hex_43 : decode cX30_hex 43 = .ok (.bipush 70, 2) := dk_16 70 (dk_at dksX30_hex_1 20 rfl rfl)
theorem dX30_hex_45 : decode cX30_hex 45 = .ok (.if_icmp .gt 13, 3) := dk_163 0 13 (dk_at dksX30_hex_2 0 rfl rfl)
theorem dX30_hex_48 : decode cX30_hex 48 = .ok (.iload_n 0, 1) := dk_26 (dk_at dksX30_hex_2 3 rfl rfl)
theorem dX30_hex_49 : decode cX30_hex 49 = .ok (.bipush 65, 2) := dk_16 65 (dk_at dksX30_hex_2 4 rfl rfl)
theorem dX30_hex_51 : decode cX30_hex 51 = .ok (.isub, 1) := dk_100 (dk_at dksX30_hex_2 6 rfl rfl)
theorem dX30_hex_52 : decode cX30_hex 52 = .ok (.bipush 10, 2) := dk_16 10 (dk_at dksX30_hex_2 7 rfl rfl)
theorem dX30_hex_54 : decode cX30_hex 54 = .ok (.iadd, 1) := dk_96 (dk_at dksX30_hex_2 9 rfl rfl)
theorem dX30_hex_55 : decode cX30_hex 55 = .ok (.goto 4, 3) := dk_167 0 4 (dk_at dksX30_hex_2 10 rfl rfl)
theorem dX30_hex_58 : decode cX30_hex 58 = .ok (.iconst (-1), 1) := dk_2 (dk_at dksX30_hex_2 13 rfl rfl)
theorem dX30_hex_59 : decode cX30_hex 59 = .ok (.ireturn, 1) := dk_172 (dk_at dksX30_hex_2 14 rfl rfl)
abbrev cX30_isDigit : ByteArray := prog_17_method_3_code
def yX30_isDigit : MethodName := ⟨RX30, "isDigit", "(I)Z"⟩
def dkwX30_isDigit_0 : List UInt8 := [26, 16, 48, 161, 0, 13, 26, 16, 57, 163, 0, 7, 4, 167, 0, 4, 3, 172]
abbrev dktX30_isDigit_0 : List UInt8 := dkwX30_isDigit_0 ++ []
theorem dksX30_isDigit_0 : cX30_isDigit.data.toList.drop 0 = dktX30_isDigit_0 := by decide +kernel
theorem dX30_isDigit_0 : decode cX30_isDigit 0 = .ok (.iload_n 0, 1) := dk_26 (dk_at dksX30_isDigit_0 0 rfl rfl)
theorem dX30_isDigit_1 : decode cX30_isDigit 1 = .ok (.bipush 48, 2) := dk_16 48 (dk_at dksX30_isDigit_0 1 rfl rfl)
theorem dX30_isDigit_3 : decode cX30_isDigit 3 = .ok (.if_icmp .lt 13, 3) := dk_161 0 13 (dk_at dksX30_isDigit_0 3 rfl rfl)
theorem dX30_isDigit_6 : decode cX30_isDigit 6 = .ok (.iload_n 0, 1) := dk_26 (dk_at dksX30_isDigit_0 6 rfl rfl)
theorem dX30_isDigit_7 : decode cX30_isDigit 7 = .ok (.bipush 57, 2) := dk_16 57 (dk_at dksX30_isDigit_0 7 rfl rfl)
theorem dX30_isDigit_9 : decode cX30_isDigit 9 = .ok (.if_icmp .gt 7, 3) := dk_163 0 7 (dk_at dksX30_isDigit_0 9 rfl rfl)
theorem dX30_isDigit_12 : decode cX30_isDigit 12 = .ok (.iconst 1, 1) := dk_4 (dk_at dksX30_isDigit_0 12 rfl rfl)
theorem dX30_isDigit_13 : decode cX30_isDigit 13 = .ok (.goto 4, 3) := dk_167 0 4 (dk_at dksX30_isDigit_0 13 rfl rfl)
theorem dX30_isDigit_16 : decode cX30_isDigit 16 = .ok (.iconst 0, 1) := dk_3 (dk_at dksX30_isDigit_0 16 rfl rfl)
theorem dX30_isDigit_17 : decode cX30_isDigit 17 = .ok (.ireturn, 1) := dk_172 (dk_at dksX30_isDigit_0 17 rfl rfl)
abbrev cX30_isPlain : ByteArray := prog_17_method_7_code
def yX30_isPlain : MethodName := ⟨RX30, "isPlain", "(I)Z"⟩
def dkwX30_isPlain_0 : List UInt8 := [26, 16, 32, 161, 0, 13, 26, 16, 126, 163, 0, 7, 4, 167, 0, 4, 3, 172]
abbrev dktX30_isPlain_0 : List UInt8 := dkwX30_isPlain_0 ++ []
theorem dksX30_isPlain_0 : cX30_isPlain.data.toList.drop 0 = dktX30_isPlain_0 := by decide +kernel
theorem dX30_isPlain_0 : decode cX30_isPlain 0 = .ok (.iload_n 0, 1) := dk_26 (dk_at dksX30_isPlain_0 0 rfl rfl)
theorem dX30_isPlain_1 : decode cX30_isPlain 1 = .ok (.bipush 32, 2) := dk_16 32 (dk_at dksX30_isPlain_0 1 rfl rfl)
theorem dX30_isPlain_3 : decode cX30_isPlain 3 = .ok (.if_icmp .lt 13, 3) := dk_161 0 13 (dk_at dksX30_isPlain_0 3 rfl rfl)
theorem dX30_isPlain_6 : decode cX30_isPlain 6 = .ok (.iload_n 0, 1) := dk_26 (dk_at dksX30_isPlain_0 6 rfl rfl)
theorem dX30_isPlain_7 : decode cX30_isPlain 7 = .ok (.bipush 126, 2) := dk_16 126 (dk_at dksX30_isPlain_0 7 rfl rfl)
theorem dX30_isPlain_9 : decode cX30_isPlain 9 = .ok (.if_icmp .gt 7, 3) := dk_163 0 7 (dk_at dksX30_isPlain_0 9 rfl rfl)
theorem dX30_isPlain_12 : decode cX30_isPlain 12 = .ok (.iconst 1, 1) := dk_4 (dk_at dksX30_isPlain_0 12 rfl rfl)
theorem dX30_isPlain_13 : decode cX30_isPlain 13 = .ok (.goto 4, 3) := dk_167 0 4 (dk_at dksX30_isPlain_0 13 rfl rfl)
theorem dX30_isPlain_16 : decode cX30_isPlain 16 = .ok (.iconst 0, 1) := dk_3 (dk_at dksX30_isPlain_0 16 rfl rfl)
theorem dX30_isPlain_17 : decode cX30_isPlain 17 = .ok (.ireturn, 1) := dk_172 (dk_at dksX30_isPlain_0 17 rfl rfl)
abbrev cX30_isLetter : ByteArray := prog_17_method_4_code
def yX30_isLetter : MethodName := ⟨RX30, "isLetter", "(I)Z"⟩
def dkwX30_isLetter_1 : List UInt8 := [4, 167, 0, 4, 3, 172]
abbrev dktX30_isLetter_1 : List UInt8 := dkwX30_isLetter_1 ++ []
def dkwX30_isLetter_0 : List UInt8 := [26, 16, 97, 161, 0, 9, 26, 16, 122, 164, 0, 15, 26, 16, 65, 161, 0, 13, 26, 16, 90, 163, 0, 7]
abbrev dktX30_isLetter_0 : List UInt8 := dkwX30_isLetter_0 ++ dktX30_isLetter_1
theorem dksX30_isLetter_0 : cX30_isLetter.data.toList.drop 0 = dktX30_isLetter_0 := by decide +kernel
theorem dksX30_isLetter_1 : cX30_isLetter.data.toList.drop 24 = dktX30_isLetter_1 := dk_seg dksX30_isLetter_0 24 rfl rfl
theorem dX30_isLetter_0 : decode cX30_isLetter 0 = .ok (.iload_n 0, 1) := dk_26 (dk_at dksX30_isLetter_0 0 rfl rfl)
theorem dX30_isLetter_1 : decode cX30_isLetter 1 = .ok (.bipush 97, 2) := dk_16 97 (dk_at dksX30_isLetter_0 1 rfl rfl)
theorem dX30_isLetter_3 : decode cX30_isLetter 3 = .ok (.if_icmp .lt 9, 3) := dk_161 0 9 (dk_at dksX30_isLetter_0 3 rfl rfl)
theorem dX30_isLetter_6 : decode cX30_isLetter 6 = .ok (.iload_n 0, 1) := dk_26 (dk_at dksX30_isLetter_0 6 rfl rfl)
theorem dX30_isLetter_7 : decode cX30_isLetter 7 = .ok (.bipush 122, 2) := dk_16 122 (dk_at dksX30_isLetter_0 7 rfl rfl)
theorem dX30_isLetter_9 : decode cX30_isLetter 9 = .ok (.if_icmp .le 15, 3) := dk_164 0 15 (dk_at dksX30_isLetter_0 9 rfl rfl)
theorem dX30_isLetter_12 : decode cX30_isLetter 12 = .ok (.iload_n 0, 1) := dk_26 (dk_at dksX30_isLetter_0 12 rfl rfl)
theorem dX30_isLetter_13 : decode cX30_isLetter 13 = .ok (.bipush 65, 2) := dk_16 65 (dk_at dksX30_isLetter_0 13 rfl rfl)
theorem dX30_isLetter_15 : decode cX30_isLetter 15 = .ok (.if_icmp .lt 13, 3) := dk_161 0 13 (dk_at dksX30_isLetter_0 15 rfl rfl)
theorem dX30_isLetter_18 : decode cX30_isLetter 18 = .ok (.iload_n 0, 1) := dk_26 (dk_at dksX30_isLetter_0 18 rfl rfl)
theorem dX30_isLetter_19 : decode cX30_isLetter 19 = .ok (.bipush 90, 2) := dk_16 90 (dk_at dksX30_isLetter_0 19 rfl rfl)
theorem dX30_isLetter_21 : decode cX30_isLetter 21 = .ok (.if_icmp .gt 7, 3) := dk_163 0 7 (dk_at dksX30_isLetter_0 21 rfl rfl)
theorem dX30_isLetter_24 : decode cX30_isLetter 24 = .ok (.iconst 1, 1) := dk_4 (dk_at dksX30_isLetter_1 0 rfl rfl)
theorem dX30_isLetter_25 : decode cX30_isLetter 25 = .ok (.goto 4, 3) := dk_167 0 4 (dk_at dksX30_isLetter_1 1 rfl rfl)
theorem dX30_isLetter_28 : decode cX30_isLetter 28 = .ok (.iconst 0, 1) := dk_3 (dk_at dksX30_isLetter_1 4 rfl rfl)
theorem dX30_isLetter_29 : decode cX30_isLetter 29 = .ok (.ireturn, 1) := dk_172 (dk_at dksX30_isLetter_1 5 rfl rfl)
abbrev cX30_isPart : ByteArray := prog_17_method_5_code
def yX30_isPart : MethodName := ⟨RX30, "isPart", "(I)Z"⟩
def dkwX30_isPart_1 : List UInt8 := [3, 172]
abbrev dktX30_isPart_1 : List UInt8 := dkwX30_isPart_1 ++ []
def dkwX30_isPart_0 : List UInt8 := [26, 184, 0, 9, 154, 0, 16, 26, 184, 0, 15, 154, 0, 9, 26, 16, 95, 160, 0, 7, 4, 167, 0, 4]
abbrev dktX30_isPart_0 : List UInt8 := dkwX30_isPart_0 ++ dktX30_isPart_1
theorem dksX30_isPart_0 : cX30_isPart.data.toList.drop 0 = dktX30_isPart_0 := by decide +kernel
theorem dksX30_isPart_1 : cX30_isPart.data.toList.drop 24 = dktX30_isPart_1 := dk_seg dksX30_isPart_0 24 rfl rfl
theorem dX30_isPart_0 : decode cX30_isPart 0 = .ok (.iload_n 0, 1) := dk_26 (dk_at dksX30_isPart_0 0 rfl rfl)
theorem dX30_isPart_1 : decode cX30_isPart 1 = .ok (.invokestatic 9, 3) := dk_184 0 9 (dk_at dksX30_isPart_0 1 rfl rfl)
theorem dX30_isPart_4 : decode cX30_isPart 4 = .ok (.ifCond .ne 16, 3) := dk_154 0 16 (dk_at dksX30_isPart_0 4 rfl rfl)
theorem dX30_isPart_7 : decode cX30_isPart 7 = .ok (.iload_n 0, 1) := dk_26 (dk_at dksX30_isPart_0 7 rfl rfl)
theorem dX30_isPart_8 : decode cX30_isPart 8 = .ok (.invokestatic 15, 3) := dk_184 0 15 (dk_at dksX30_isPart_0 8 rfl rfl)
theorem dX30_isPart_11 : decode cX30_isPart 11 = .ok (.ifCond .ne 9, 3) := dk_154 0 9 (dk_at dksX30_isPart_0 11 rfl rfl)
theorem dX30_isPart_14 : decode cX30_isPart 14 = .ok (.iload_n 0, 1) := dk_26 (dk_at dksX30_isPart_0 14 rfl rfl)
theorem dX30_isPart_15 : decode cX30_isPart 15 = .ok (.bipush 95, 2) := dk_16 95 (dk_at dksX30_isPart_0 15 rfl rfl)
theorem dX30_isPart_17 : decode cX30_isPart 17 = .ok (.if_icmp .ne 7, 3) := dk_160 0 7 (dk_at dksX30_isPart_0 17 rfl rfl)
theorem dX30_isPart_20 : decode cX30_isPart 20 = .ok (.iconst 1, 1) := dk_4 (dk_at dksX30_isPart_0 20 rfl rfl)
theorem dX30_isPart_21 : decode cX30_isPart 21 = .ok (.goto 4, 3) := dk_167 0 4 (dk_at dksX30_isPart_0 21 rfl rfl)
theorem dX30_isPart_24 : decode cX30_isPart 24 = .ok (.iconst 0, 1) := dk_3 (dk_at dksX30_isPart_1 0 rfl rfl)
theorem dX30_isPart_25 : decode cX30_isPart 25 = .ok (.ireturn, 1) := dk_172 (dk_at dksX30_isPart_1 1 rfl rfl)
theorem q398 : (Jvm.Cond.initialized "ContractLedger$Signs") ∈ lw_all := lw_g (lw_at lw_m1 41 rfl) rfl
theorem q1696 : (Jvm.Cond.static ({ cls := "ContractLedger$Signs", name := "isBlank", desc := "(I)Z" } : Jvm.MethodName)) ∈ lw_all := lw_g (lw_at lw_m6 139 rfl) rfl
theorem q1697 : (Jvm.Cond.code ({ cls := "ContractLedger$Signs", name := "isBlank", desc := "(I)Z" } : Jvm.MethodName) prog_17_method_2_code (1 : Nat) (Option.some Jvm.ClassFile.FieldType.boolean)) ∈ lw_all := lw_g (lw_at lw_m6 140 rfl) rfl
theorem q1703 : (Jvm.Cond.static ({ cls := "ContractLedger$Signs", name := "hex", desc := "(I)I" } : Jvm.MethodName)) ∈ lw_all := lw_g (lw_at lw_m6 146 rfl) rfl
theorem q1704 : (Jvm.Cond.code ({ cls := "ContractLedger$Signs", name := "hex", desc := "(I)I" } : Jvm.MethodName) prog_17_method_6_code (1 : Nat) (Option.some Jvm.ClassFile.FieldType.int)) ∈ lw_all := lw_g (lw_at lw_m6 147 rfl) rfl
theorem q1705 : (Jvm.Cond.methodLink "ContractLedger$Signs" (15 : Nat) ({ cls := "ContractLedger$Signs", name := "isDigit", desc := "(I)Z" } : Jvm.MethodName)) ∈ lw_all := lw_g (lw_at lw_m6 148 rfl) rfl
theorem q1706 : (Jvm.Cond.static ({ cls := "ContractLedger$Signs", name := "isDigit", desc := "(I)Z" } : Jvm.MethodName)) ∈ lw_all := lw_g (lw_at lw_m6 149 rfl) rfl
theorem q1707 : (Jvm.Cond.code ({ cls := "ContractLedger$Signs", name := "isDigit", desc := "(I)Z" } : Jvm.MethodName) prog_17_method_3_code (1 : Nat) (Option.some Jvm.ClassFile.FieldType.boolean)) ∈ lw_all := lw_g (lw_at lw_m6 150 rfl) rfl
theorem q1718 : (Jvm.Cond.static ({ cls := "ContractLedger$Signs", name := "isPlain", desc := "(I)Z" } : Jvm.MethodName)) ∈ lw_all := lw_g (lw_at lw_m6 161 rfl) rfl
theorem q1719 : (Jvm.Cond.code ({ cls := "ContractLedger$Signs", name := "isPlain", desc := "(I)Z" } : Jvm.MethodName) prog_17_method_7_code (1 : Nat) (Option.some Jvm.ClassFile.FieldType.boolean)) ∈ lw_all := lw_g (lw_at lw_m6 162 rfl) rfl
theorem q1721 : (Jvm.Cond.static ({ cls := "ContractLedger$Signs", name := "isLetter", desc := "(I)Z" } : Jvm.MethodName)) ∈ lw_all := lw_g (lw_at lw_m6 164 rfl) rfl
theorem q1722 : (Jvm.Cond.code ({ cls := "ContractLedger$Signs", name := "isLetter", desc := "(I)Z" } : Jvm.MethodName) prog_17_method_4_code (1 : Nat) (Option.some Jvm.ClassFile.FieldType.boolean)) ∈ lw_all := lw_g (lw_at lw_m6 165 rfl) rfl
theorem q1724 : (Jvm.Cond.static ({ cls := "ContractLedger$Signs", name := "isPart", desc := "(I)Z" } : Jvm.MethodName)) ∈ lw_all := lw_g (lw_at lw_m6 167 rfl) rfl
theorem q1725 : (Jvm.Cond.code ({ cls := "ContractLedger$Signs", name := "isPart", desc := "(I)Z" } : Jvm.MethodName) prog_17_method_5_code (1 : Nat) (Option.some Jvm.ClassFile.FieldType.boolean)) ∈ lw_all := lw_g (lw_at lw_m6 168 rfl) rfl
theorem q1726 : (Jvm.Cond.methodLink "ContractLedger$Signs" (9 : Nat) ({ cls := "ContractLedger$Signs", name := "isLetter", desc := "(I)Z" } : Jvm.MethodName)) ∈ lw_all := lw_g (lw_at lw_m6 169 rfl) rfl

set_option maxRecDepth 100000
abbrev cL_law : ByteArray := code
def dkwL_law_37 : List UInt8 := [182, 0, 133, 44, 182, 0, 137, 159, 0, 5, 3, 172, 132, 4, 6, 167, 252, 76, 4, 172]
abbrev dktL_law_37 : List UInt8 := dkwL_law_37 ++ []
def dkwL_law_36 : List UInt8 := [46, 182, 0, 128, 159, 0, 31, 3, 172, 43, 182, 0, 129, 44, 182, 0, 132, 159, 0, 18, 3, 172, 43]
abbrev dktL_law_36 : List UInt8 := dkwL_law_36 ++ dktL_law_37
def dkwL_law_35 : List UInt8 := [182, 0, 124, 159, 0, 56, 3, 172, 43, 42, 21, 4, 4, 96, 46, 182, 0, 125, 44, 42, 21, 4, 4, 96]
abbrev dktL_law_35 : List UInt8 := dkwL_law_35 ++ dktL_law_36
def dkwL_law_34 : List UInt8 := [46, 182, 0, 117, 44, 42, 21, 4, 4, 96, 46, 182, 0, 120, 159, 0, 69, 3, 172, 43, 182, 0, 121, 44]
abbrev dktL_law_34 : List UInt8 := dkwL_law_34 ++ dktL_law_35
def dkwL_law_33 : List UInt8 := [153, 0, 107, 3, 172, 43, 182, 0, 113, 44, 182, 0, 116, 159, 0, 94, 3, 172, 43, 42, 21, 4, 4, 96]
abbrev dktL_law_33 : List UInt8 := dkwL_law_33 ++ dktL_law_34
def dkwL_law_32 : List UInt8 := [3, 172, 43, 42, 21, 4, 4, 96, 46, 182, 0, 108, 44, 42, 21, 4, 4, 96, 46, 182, 0, 112, 148]
abbrev dktL_law_32 : List UInt8 := dkwL_law_32 ++ dktL_law_33
def dkwL_law_31 : List UInt8 := [172, 43, 42, 21, 4, 4, 96, 46, 182, 0, 104, 44, 42, 21, 4, 4, 96, 46, 182, 0, 107, 159, 0, 133]
abbrev dktL_law_31 : List UInt8 := dkwL_law_31 ++ dktL_law_32
def dkwL_law_30 : List UInt8 := [43, 42, 21, 4, 4, 96, 46, 182, 0, 100, 44, 42, 21, 4, 4, 96, 46, 182, 0, 103, 159, 0, 158, 3]
abbrev dktL_law_30 : List UInt8 := dkwL_law_30 ++ dktL_law_31
def dkwL_law_29 : List UInt8 := [46, 153, 0, 7, 4, 167, 0, 4, 3, 42, 21, 4, 5, 96, 46, 182, 0, 99, 148, 153, 0, 183, 3, 172]
abbrev dktL_law_29 : List UInt8 := dkwL_law_29 ++ dktL_law_30
def dkwL_law_28 : List UInt8 := [46, 153, 0, 7, 4, 167, 0, 4, 3, 42, 21, 4, 5, 96, 46, 182, 0, 95, 44, 42, 21, 4, 4, 96]
abbrev dktL_law_28 : List UInt8 := dkwL_law_28 ++ dktL_law_29
def dkwL_law_27 : List UInt8 := [159, 0, 250, 3, 172, 43, 182, 0, 91, 44, 182, 0, 94, 159, 0, 237, 3, 172, 43, 42, 21, 4, 4, 96]
abbrev dktL_law_27 : List UInt8 := dkwL_law_27 ++ dktL_law_28
def dkwL_law_26 : List UInt8 := [46, 42, 21, 4, 5, 96, 46, 182, 0, 86, 159, 1, 7, 3, 172, 43, 182, 0, 87, 44, 182, 0, 90]
abbrev dktL_law_26 : List UInt8 := dkwL_law_26 ++ dktL_law_27
def dkwL_law_25 : List UInt8 := [3, 172, 43, 42, 21, 4, 4, 96, 46, 42, 21, 4, 5, 96, 46, 182, 0, 82, 44, 42, 21, 4, 4, 96]
abbrev dktL_law_25 : List UInt8 := dkwL_law_25 ++ dktL_law_26
def dkwL_law_24 : List UInt8 := [20, 0, 51, 127, 129, 182, 0, 77, 159, 1, 57, 3, 172, 43, 182, 0, 78, 44, 182, 0, 81, 159, 1, 44]
abbrev dktL_law_24 : List UInt8 := dkwL_law_24 ++ dktL_law_25
def dkwL_law_23 : List UInt8 := [4, 167, 0, 4, 3, 42, 21, 4, 5, 96, 46, 133, 16, 32, 121, 42, 21, 4, 6, 96, 46, 133]
abbrev dktL_law_23 : List UInt8 := dkwL_law_23 ++ dktL_law_24
def dkwL_law_22 : List UInt8 := [21, 4, 6, 96, 46, 133, 20, 0, 51, 127, 129, 182, 0, 73, 44, 42, 21, 4, 4, 96, 46, 153, 0, 7]
abbrev dktL_law_22 : List UInt8 := dkwL_law_22 ++ dktL_law_23
def dkwL_law_21 : List UInt8 := [21, 4, 4, 96, 46, 153, 0, 7, 4, 167, 0, 4, 3, 42, 21, 4, 5, 96, 46, 133, 16, 32, 121, 42]
abbrev dktL_law_21 : List UInt8 := dkwL_law_21 ++ dktL_law_22
def dkwL_law_20 : List UInt8 := [127, 129, 42, 21, 4, 6, 96, 46, 42, 21, 4, 7, 96, 46, 182, 0, 72, 159, 1, 142, 3, 172, 43, 42]
abbrev dktL_law_20 : List UInt8 := dkwL_law_20 ++ dktL_law_21
def dkwL_law_19 : List UInt8 := [182, 0, 68, 44, 42, 21, 4, 4, 96, 46, 133, 16, 32, 121, 42, 21, 4, 5, 96, 46, 133, 20, 0, 51]
abbrev dktL_law_19 : List UInt8 := dkwL_law_19 ++ dktL_law_20
def dkwL_law_18 : List UInt8 := [21, 4, 5, 96, 46, 133, 20, 0, 51, 127, 129, 42, 21, 4, 6, 96, 46, 42, 21, 4, 7, 96, 46]
abbrev dktL_law_18 : List UInt8 := dkwL_law_18 ++ dktL_law_19
def dkwL_law_17 : List UInt8 := [5, 96, 46, 182, 0, 67, 159, 1, 223, 3, 172, 43, 42, 21, 4, 4, 96, 46, 133, 16, 32, 121, 42]
abbrev dktL_law_17 : List UInt8 := dkwL_law_17 ++ dktL_law_18
def dkwL_law_16 : List UInt8 := [21, 4, 4, 96, 46, 42, 21, 4, 5, 96, 46, 182, 0, 63, 44, 42, 21, 4, 4, 96, 46, 42, 21, 4]
abbrev dktL_law_16 : List UInt8 := dkwL_law_16 ++ dktL_law_17
def dkwL_law_15 : List UInt8 := [46, 133, 20, 0, 51, 127, 129, 42, 21, 4, 6, 96, 46, 182, 0, 62, 159, 2, 4, 3, 172, 43, 42]
abbrev dktL_law_15 : List UInt8 := dkwL_law_15 ++ dktL_law_16
def dkwL_law_14 : List UInt8 := [21, 4, 6, 96, 46, 182, 0, 58, 44, 42, 21, 4, 4, 96, 46, 133, 16, 32, 121, 42, 21, 4, 5, 96]
abbrev dktL_law_14 : List UInt8 := dkwL_law_14 ++ dktL_law_15
def dkwL_law_13 : List UInt8 := [42, 21, 4, 4, 96, 46, 133, 16, 32, 121, 42, 21, 4, 5, 96, 46, 133, 20, 0, 51, 127, 129, 42]
abbrev dktL_law_13 : List UInt8 := dkwL_law_13 ++ dktL_law_14
def dkwL_law_12 : List UInt8 := [16, 32, 121, 42, 21, 4, 5, 96, 46, 133, 20, 0, 51, 127, 129, 182, 0, 57, 159, 2, 73, 3, 172, 43]
abbrev dktL_law_12 : List UInt8 := dkwL_law_12 ++ dktL_law_13
def dkwL_law_11 : List UInt8 := [121, 42, 21, 4, 5, 96, 46, 133, 20, 0, 51, 127, 129, 182, 0, 53, 44, 42, 21, 4, 4, 96, 46, 133]
abbrev dktL_law_11 : List UInt8 := dkwL_law_11 ++ dktL_law_12
def dkwL_law_10 : List UInt8 := [172, 43, 182, 0, 47, 44, 182, 0, 50, 159, 2, 130, 3, 172, 43, 42, 21, 4, 4, 96, 46, 133, 16, 32]
abbrev dktL_law_10 : List UInt8 := dkwL_law_10 ++ dktL_law_11
def dkwL_law_9 : List UInt8 := [182, 0, 39, 44, 182, 0, 42, 159, 2, 156, 3, 172, 43, 182, 0, 43, 44, 182, 0, 46, 159, 2, 143, 3]
abbrev dktL_law_9 : List UInt8 := dkwL_law_9 ++ dktL_law_10
def dkwL_law_8 : List UInt8 := [172, 21, 5, 154, 0, 15, 45, 3, 47, 21, 6, 133, 148, 153, 0, 5, 3, 172, 167, 2, 167, 43]
abbrev dktL_law_8 : List UInt8 := dkwL_law_8 ++ dktL_law_9
def dkwL_law_7 : List UInt8 := [54, 5, 44, 42, 21, 4, 4, 96, 46, 182, 0, 38, 54, 6, 44, 182, 0, 31, 21, 5, 159, 0, 5, 3]
abbrev dktL_law_7 : List UInt8 := dkwL_law_7 ++ dktL_law_8
def dkwL_law_6 : List UInt8 := [182, 0, 31, 21, 5, 159, 0, 5, 3, 172, 167, 2, 223, 43, 42, 21, 4, 4, 96, 46, 45, 184, 0, 35]
abbrev dktL_law_6 : List UInt8 := dkwL_law_6 ++ dktL_law_7
def dkwL_law_5 : List UInt8 := [46, 42, 21, 4, 6, 96, 46, 42, 21, 4, 7, 96, 46, 42, 21, 4, 8, 96, 46, 182, 0, 30, 44]
abbrev dktL_law_5 : List UInt8 := dkwL_law_5 ++ dktL_law_6
def dkwL_law_4 : List UInt8 := [46, 42, 21, 4, 8, 96, 46, 184, 0, 25, 54, 5, 44, 42, 21, 4, 4, 96, 46, 42, 21, 4, 5, 96]
abbrev dktL_law_4 : List UInt8 := dkwL_law_4 ++ dktL_law_5
def dkwL_law_3 : List UInt8 := [43, 42, 21, 4, 4, 96, 46, 42, 21, 4, 5, 96, 46, 42, 21, 4, 6, 96, 46, 42, 21, 4, 7, 96]
abbrev dktL_law_3 : List UInt8 := dkwL_law_3 ++ dktL_law_4
def dkwL_law_2 : List UInt8 := [170, 0, 0, 0, 0, 0, 3, 160, 0, 0, 0, 0, 0, 0, 0, 23, 0, 0, 0, 112, 0, 0, 0, 196, 0, 0, 0, 252, 0, 0, 1, 9, 0, 0, 1, 22, 0, 0, 1, 35, 0, 0, 1, 92, 0, 0, 1, 161, 0, 0, 1, 198, 0, 0, 2, 23, 0, 0, 2, 108, 0, 0, 2, 121, 0, 0, 2, 158, 0, 0, 2, 171, 0, 0, 2, 184, 0, 0, 2, 238, 0, 0, 3, 7, 0, 0, 3, 32, 0, 0, 3, 58, 0, 0, 3, 71, 0, 0, 3, 96, 0, 0, 3, 109, 0, 0, 3, 134, 0, 0, 3, 147]
abbrev dktL_law_2 : List UInt8 := dkwL_law_2 ++ dktL_law_3
def dkwL_law_1 : List UInt8 := [21, 4, 42, 190, 16, 6, 100, 163, 3, 176, 42, 21, 4, 46, 16, 31, 126]
abbrev dktL_law_1 : List UInt8 := dkwL_law_1 ++ dktL_law_2
def dkwL_law_0 : List UInt8 := [187, 0, 8, 89, 183, 0, 21, 76, 187, 0, 22, 89, 183, 0, 24, 77, 4, 188, 11, 78, 3, 54, 4]
abbrev dktL_law_0 : List UInt8 := dkwL_law_0 ++ dktL_law_1
theorem dksL_law_0 : cL_law.data.toList.drop 0 = dktL_law_0 := by decide +kernel
theorem dksL_law_1 : cL_law.data.toList.drop 23 = dktL_law_1 := dk_seg dksL_law_0 23 rfl rfl
theorem dksL_law_2 : cL_law.data.toList.drop 40 = dktL_law_2 := dk_seg dksL_law_1 17 rfl rfl
theorem dksL_law_3 : cL_law.data.toList.drop 152 = dktL_law_3 := dk_seg dksL_law_2 112 rfl rfl
theorem dksL_law_4 : cL_law.data.toList.drop 176 = dktL_law_4 := dk_seg dksL_law_3 24 rfl rfl
theorem dksL_law_5 : cL_law.data.toList.drop 200 = dktL_law_5 := dk_seg dksL_law_4 24 rfl rfl
theorem dksL_law_6 : cL_law.data.toList.drop 223 = dktL_law_6 := dk_seg dksL_law_5 23 rfl rfl
theorem dksL_law_7 : cL_law.data.toList.drop 247 = dktL_law_7 := dk_seg dksL_law_6 24 rfl rfl
theorem dksL_law_8 : cL_law.data.toList.drop 271 = dktL_law_8 := dk_seg dksL_law_7 24 rfl rfl
theorem dksL_law_9 : cL_law.data.toList.drop 293 = dktL_law_9 := dk_seg dksL_law_8 22 rfl rfl
theorem dksL_law_10 : cL_law.data.toList.drop 317 = dktL_law_10 := dk_seg dksL_law_9 24 rfl rfl
theorem dksL_law_11 : cL_law.data.toList.drop 341 = dktL_law_11 := dk_seg dksL_law_10 24 rfl rfl
theorem dksL_law_12 : cL_law.data.toList.drop 365 = dktL_law_12 := dk_seg dksL_law_11 24 rfl rfl
theorem dksL_law_13 : cL_law.data.toList.drop 389 = dktL_law_13 := dk_seg dksL_law_12 24 rfl rfl
theorem dksL_law_14 : cL_law.data.toList.drop 412 = dktL_law_14 := dk_seg dksL_law_13 23 rfl rfl
theorem dksL_law_15 : cL_law.data.toList.drop 436 = dktL_law_15 := dk_seg dksL_law_14 24 rfl rfl
theorem dksL_law_16 : cL_law.data.toList.drop 459 = dktL_law_16 := dk_seg dksL_law_15 23 rfl rfl
theorem dksL_law_17 : cL_law.data.toList.drop 483 = dktL_law_17 := dk_seg dksL_law_16 24 rfl rfl
theorem dksL_law_18 : cL_law.data.toList.drop 506 = dktL_law_18 := dk_seg dksL_law_17 23 rfl rfl
theorem dksL_law_19 : cL_law.data.toList.drop 529 = dktL_law_19 := dk_seg dksL_law_18 23 rfl rfl
theorem dksL_law_20 : cL_law.data.toList.drop 553 = dktL_law_20 := dk_seg dksL_law_19 24 rfl rfl
theorem dksL_law_21 : cL_law.data.toList.drop 577 = dktL_law_21 := dk_seg dksL_law_20 24 rfl rfl
theorem dksL_law_22 : cL_law.data.toList.drop 601 = dktL_law_22 := dk_seg dksL_law_21 24 rfl rfl
theorem dksL_law_23 : cL_law.data.toList.drop 625 = dktL_law_23 := dk_seg dksL_law_22 24 rfl rfl
theorem dksL_law_24 : cL_law.data.toList.drop 647 = dktL_law_24 := dk_seg dksL_law_23 22 rfl rfl
theorem dksL_law_25 : cL_law.data.toList.drop 671 = dktL_law_25 := dk_seg dksL_law_24 24 rfl rfl
theorem dksL_law_26 : cL_law.data.toList.drop 695 = dktL_law_26 := dk_seg dksL_law_25 24 rfl rfl
theorem dksL_law_27 : cL_law.data.toList.drop 718 = dktL_law_27 := dk_seg dksL_law_26 23 rfl rfl
theorem dksL_law_28 : cL_law.data.toList.drop 742 = dktL_law_28 := dk_seg dksL_law_27 24 rfl rfl
theorem dksL_law_29 : cL_law.data.toList.drop 766 = dktL_law_29 := dk_seg dksL_law_28 24 rfl rfl
theorem dksL_law_30 : cL_law.data.toList.drop 790 = dktL_law_30 := dk_seg dksL_law_29 24 rfl rfl
theorem dksL_law_31 : cL_law.data.toList.drop 814 = dktL_law_31 := dk_seg dksL_law_30 24 rfl rfl
theorem dksL_law_32 : cL_law.data.toList.drop 838 = dktL_law_32 := dk_seg dksL_law_31 24 rfl rfl
theorem dksL_law_33 : cL_law.data.toList.drop 861 = dktL_law_33 := dk_seg dksL_law_32 23 rfl rfl
theorem dksL_law_34 : cL_law.data.toList.drop 885 = dktL_law_34 := dk_seg dksL_law_33 24 rfl rfl
theorem dksL_law_35 : cL_law.data.toList.drop 909 = dktL_law_35 := dk_seg dksL_law_34 24 rfl rfl
theorem dksL_law_36 : cL_law.data.toList.drop 933 = dktL_law_36 := dk_seg dksL_law_35 24 rfl rfl
theorem dksL_law_37 : cL_law.data.toList.drop 956 = dktL_law_37 := dk_seg dksL_law_36 23 rfl rfl
theorem dL_law_0 : decode cL_law 0 = .ok (.new 8, 3) := dk_187 0 8 (dk_at dksL_law_0 0 rfl rfl)
theorem dL_law_3 : decode cL_law 3 = .ok (.dup, 1) := dk_89 (dk_at dksL_law_0 3 rfl rfl)
theorem dL_law_4 : decode cL_law 4 = .ok (.invokespecial 21, 3) := dk_183 0 21 (dk_at dksL_law_0 4 rfl rfl)
theorem dL_law_7 : decode cL_law 7 = .ok (.astore_n 1, 1) := dk_76 (dk_at dksL_law_0 7 rfl rfl)
theorem dL_law_8 : decode cL_law 8 = .ok (.new 22, 3) := dk_187 0 22 (dk_at dksL_law_0 8 rfl rfl)
theorem dL_law_11 : decode cL_law 11 = .ok (.dup, 1) := dk_89 (dk_at dksL_law_0 11 rfl rfl)
theorem dL_law_12 : decode cL_law 12 = .ok (.invokespecial 24, 3) := dk_183 0 24 (dk_at dksL_law_0 12 rfl rfl)
theorem dL_law_15 : decode cL_law 15 = .ok (.astore_n 2, 1) := dk_77 (dk_at dksL_law_0 15 rfl rfl)
theorem dL_law_16 : decode cL_law 16 = .ok (.iconst 1, 1) := dk_4 (dk_at dksL_law_0 16 rfl rfl)
theorem dL_law_17 : decode cL_law 17 = .ok (.newarray .long, 2) := dk_188_11 (dk_at dksL_law_0 17 rfl rfl)
theorem dL_law_19 : decode cL_law 19 = .ok (.astore_n 3, 1) := dk_78 (dk_at dksL_law_0 19 rfl rfl)
theorem dL_law_20 : decode cL_law 20 = .ok (.iconst 0, 1) := dk_3 (dk_at dksL_law_0 20 rfl rfl)
theorem dL_law_21 : decode cL_law 21 = .ok (.istore 4, 2) := dk_54 4 (dk_at dksL_law_0 21 rfl rfl)
theorem dL_law_23 : decode cL_law 23 = .ok (.iload 4, 2) := dk_21 4 (dk_at dksL_law_1 0 rfl rfl)
theorem dL_law_25 : decode cL_law 25 = .ok (.aload_n 0, 1) := dk_42 (dk_at dksL_law_1 2 rfl rfl)
theorem dL_law_26 : decode cL_law 26 = .ok (.arraylength, 1) := dk_190 (dk_at dksL_law_1 3 rfl rfl)
theorem dL_law_27 : decode cL_law 27 = .ok (.bipush 6, 2) := dk_16 6 (dk_at dksL_law_1 4 rfl rfl)
theorem dL_law_29 : decode cL_law 29 = .ok (.isub, 1) := dk_100 (dk_at dksL_law_1 6 rfl rfl)
theorem dL_law_30 : decode cL_law 30 = .ok (.if_icmp .gt 944, 3) := dk_163 3 176 (dk_at dksL_law_1 7 rfl rfl)
theorem dL_law_33 : decode cL_law 33 = .ok (.aload_n 0, 1) := dk_42 (dk_at dksL_law_1 10 rfl rfl)
theorem dL_law_34 : decode cL_law 34 = .ok (.iload 4, 2) := dk_21 4 (dk_at dksL_law_1 11 rfl rfl)
theorem dL_law_36 : decode cL_law 36 = .ok (.iaload, 1) := dk_46 (dk_at dksL_law_1 13 rfl rfl)
theorem dL_law_37 : decode cL_law 37 = .ok (.bipush 31, 2) := dk_16 31 (dk_at dksL_law_1 14 rfl rfl)
theorem dL_law_39 : decode cL_law 39 = .ok (.iand, 1) := dk_126 (dk_at dksL_law_1 16 rfl rfl)
theorem dL_law_40 : decode cL_law 40 = .ok (.tableswitch 928 0 23 #[112, 196, 252, 265, 278, 291, 348, 417, 454, 535, 620, 633, 670, 683, 696, 750, 775, 800, 826, 839, 864, 877, 902, 915], 112) := by decide +kernel
theorem dL_law_152 : decode cL_law 152 = .ok (.aload_n 1, 1) := dk_43 (dk_at dksL_law_3 0 rfl rfl)
theorem dL_law_153 : decode cL_law 153 = .ok (.aload_n 0, 1) := dk_42 (dk_at dksL_law_3 1 rfl rfl)
theorem dL_law_154 : decode cL_law 154 = .ok (.iload 4, 2) := dk_21 4 (dk_at dksL_law_3 2 rfl rfl)
theorem dL_law_156 : decode cL_law 156 = .ok (.iconst 1, 1) := dk_4 (dk_at dksL_law_3 4 rfl rfl)
theorem dL_law_157 : decode cL_law 157 = .ok (.iadd, 1) := dk_96 (dk_at dksL_law_3 5 rfl rfl)
theorem dL_law_158 : decode cL_law 158 = .ok (.iaload, 1) := dk_46 (dk_at dksL_law_3 6 rfl rfl)
theorem dL_law_159 : decode cL_law 159 = .ok (.aload_n 0, 1) := dk_42 (dk_at dksL_law_3 7 rfl rfl)
theorem dL_law_160 : decode cL_law 160 = .ok (.iload 4, 2) := dk_21 4 (dk_at dksL_law_3 8 rfl rfl)
theorem dL_law_162 : decode cL_law 162 = .ok (.iconst 2, 1) := dk_5 (dk_at dksL_law_3 10 rfl rfl)
theorem dL_law_163 : decode cL_law 163 = .ok (.iadd, 1) := dk_96 (dk_at dksL_law_3 11 rfl rfl)
theorem dL_law_164 : decode cL_law 164 = .ok (.iaload, 1) := dk_46 (dk_at dksL_law_3 12 rfl rfl)
theorem dL_law_165 : decode cL_law 165 = .ok (.aload_n 0, 1) := dk_42 (dk_at dksL_law_3 13 rfl rfl)
theorem dL_law_166 : decode cL_law 166 = .ok (.iload 4, 2) := dk_21 4 (dk_at dksL_law_3 14 rfl rfl)
theorem dL_law_168 : decode cL_law 168 = .ok (.iconst 3, 1) := dk_6 (dk_at dksL_law_3 16 rfl rfl)
theorem dL_law_169 : decode cL_law 169 = .ok (.iadd, 1) := dk_96 (dk_at dksL_law_3 17 rfl rfl)
theorem dL_law_170 : decode cL_law 170 = .ok (.iaload, 1) := dk_46 (dk_at dksL_law_3 18 rfl rfl)
theorem dL_law_171 : decode cL_law 171 = .ok (.aload_n 0, 1) := dk_42 (dk_at dksL_law_3 19 rfl rfl)
theorem dL_law_172 : decode cL_law 172 = .ok (.iload 4, 2) := dk_21 4 (dk_at dksL_law_3 20 rfl rfl)
theorem dL_law_174 : decode cL_law 174 = .ok (.iconst 4, 1) := dk_7 (dk_at dksL_law_3 22 rfl rfl)
theorem dL_law_175 : decode cL_law 175 = .ok (.iadd, 1) := dk_96 (dk_at dksL_law_3 23 rfl rfl)
theorem dL_law_176 : decode cL_law 176 = .ok (.iaload, 1) := dk_46 (dk_at dksL_law_4 0 rfl rfl)
theorem dL_law_177 : decode cL_law 177 = .ok (.aload_n 0, 1) := dk_42 (dk_at dksL_law_4 1 rfl rfl)
theorem dL_law_178 : decode cL_law 178 = .ok (.iload 4, 2) := dk_21 4 (dk_at dksL_law_4 2 rfl rfl)
theorem dL_law_180 : decode cL_law 180 = .ok (.iconst 5, 1) := dk_8 (dk_at dksL_law_4 4 rfl rfl)
theorem dL_law_181 : decode cL_law 181 = .ok (.iadd, 1) := dk_96 (dk_at dksL_law_4 5 rfl rfl)
theorem dL_law_182 : decode cL_law 182 = .ok (.iaload, 1) := dk_46 (dk_at dksL_law_4 6 rfl rfl)
theorem dL_law_183 : decode cL_law 183 = .ok (.invokestatic 25, 3) := dk_184 0 25 (dk_at dksL_law_4 7 rfl rfl)
theorem dL_law_186 : decode cL_law 186 = .ok (.istore 5, 2) := dk_54 5 (dk_at dksL_law_4 10 rfl rfl)
theorem dL_law_188 : decode cL_law 188 = .ok (.aload_n 2, 1) := dk_44 (dk_at dksL_law_4 12 rfl rfl)
theorem dL_law_189 : decode cL_law 189 = .ok (.aload_n 0, 1) := dk_42 (dk_at dksL_law_4 13 rfl rfl)
theorem dL_law_190 : decode cL_law 190 = .ok (.iload 4, 2) := dk_21 4 (dk_at dksL_law_4 14 rfl rfl)
theorem dL_law_192 : decode cL_law 192 = .ok (.iconst 1, 1) := dk_4 (dk_at dksL_law_4 16 rfl rfl)
theorem dL_law_193 : decode cL_law 193 = .ok (.iadd, 1) := dk_96 (dk_at dksL_law_4 17 rfl rfl)
theorem dL_law_194 : decode cL_law 194 = .ok (.iaload, 1) := dk_46 (dk_at dksL_law_4 18 rfl rfl)
theorem dL_law_195 : decode cL_law 195 = .ok (.aload_n 0, 1) := dk_42 (dk_at dksL_law_4 19 rfl rfl)
theorem dL_law_196 : decode cL_law 196 = .ok (.iload 4, 2) := dk_21 4 (dk_at dksL_law_4 20 rfl rfl)
theorem dL_law_198 : decode cL_law 198 = .ok (.iconst 2, 1) := dk_5 (dk_at dksL_law_4 22 rfl rfl)
theorem dL_law_199 : decode cL_law 199 = .ok (.iadd, 1) := dk_96 (dk_at dksL_law_4 23 rfl rfl)
theorem dL_law_200 : decode cL_law 200 = .ok (.iaload, 1) := dk_46 (dk_at dksL_law_5 0 rfl rfl)
theorem dL_law_201 : decode cL_law 201 = .ok (.aload_n 0, 1) := dk_42 (dk_at dksL_law_5 1 rfl rfl)
theorem dL_law_202 : decode cL_law 202 = .ok (.iload 4, 2) := dk_21 4 (dk_at dksL_law_5 2 rfl rfl)
theorem dL_law_204 : decode cL_law 204 = .ok (.iconst 3, 1) := dk_6 (dk_at dksL_law_5 4 rfl rfl)
theorem dL_law_205 : decode cL_law 205 = .ok (.iadd, 1) := dk_96 (dk_at dksL_law_5 5 rfl rfl)
theorem dL_law_206 : decode cL_law 206 = .ok (.iaload, 1) := dk_46 (dk_at dksL_law_5 6 rfl rfl)
theorem dL_law_207 : decode cL_law 207 = .ok (.aload_n 0, 1) := dk_42 (dk_at dksL_law_5 7 rfl rfl)
theorem dL_law_208 : decode cL_law 208 = .ok (.iload 4, 2) := dk_21 4 (dk_at dksL_law_5 8 rfl rfl)
theorem dL_law_210 : decode cL_law 210 = .ok (.iconst 4, 1) := dk_7 (dk_at dksL_law_5 10 rfl rfl)
theorem dL_law_211 : decode cL_law 211 = .ok (.iadd, 1) := dk_96 (dk_at dksL_law_5 11 rfl rfl)
theorem dL_law_212 : decode cL_law 212 = .ok (.iaload, 1) := dk_46 (dk_at dksL_law_5 12 rfl rfl)
theorem dL_law_213 : decode cL_law 213 = .ok (.aload_n 0, 1) := dk_42 (dk_at dksL_law_5 13 rfl rfl)
theorem dL_law_214 : decode cL_law 214 = .ok (.iload 4, 2) := dk_21 4 (dk_at dksL_law_5 14 rfl rfl)
theorem dL_law_216 : decode cL_law 216 = .ok (.iconst 5, 1) := dk_8 (dk_at dksL_law_5 16 rfl rfl)
theorem dL_law_217 : decode cL_law 217 = .ok (.iadd, 1) := dk_96 (dk_at dksL_law_5 17 rfl rfl)
theorem dL_law_218 : decode cL_law 218 = .ok (.iaload, 1) := dk_46 (dk_at dksL_law_5 18 rfl rfl)
theorem dL_law_219 : decode cL_law 219 = .ok (.invokevirtual 30, 3) := dk_182 0 30 (dk_at dksL_law_5 19 rfl rfl)
theorem dL_law_222 : decode cL_law 222 = .ok (.aload_n 2, 1) := dk_44 (dk_at dksL_law_5 22 rfl rfl)
theorem dL_law_223 : decode cL_law 223 = .ok (.invokevirtual 31, 3) := dk_182 0 31 (dk_at dksL_law_6 0 rfl rfl)
theorem dL_law_226 : decode cL_law 226 = .ok (.iload 5, 2) := dk_21 5 (dk_at dksL_law_6 3 rfl rfl)
theorem dL_law_228 : decode cL_law 228 = .ok (.if_icmp .eq 5, 3) := dk_159 0 5 (dk_at dksL_law_6 5 rfl rfl)
theorem dL_law_231 : decode cL_law 231 = .ok (.iconst 0, 1) := dk_3 (dk_at dksL_law_6 8 rfl rfl)
theorem dL_law_232 : decode cL_law 232 = .ok (.ireturn, 1) := dk_172 (dk_at dksL_law_6 9 rfl rfl)
theorem dL_law_233 : decode cL_law 233 = .ok (.goto 735, 3) := dk_167 2 223 (dk_at dksL_law_6 10 rfl rfl)
theorem dL_law_236 : decode cL_law 236 = .ok (.aload_n 1, 1) := dk_43 (dk_at dksL_law_6 13 rfl rfl)
theorem dL_law_237 : decode cL_law 237 = .ok (.aload_n 0, 1) := dk_42 (dk_at dksL_law_6 14 rfl rfl)
theorem dL_law_238 : decode cL_law 238 = .ok (.iload 4, 2) := dk_21 4 (dk_at dksL_law_6 15 rfl rfl)
theorem dL_law_240 : decode cL_law 240 = .ok (.iconst 1, 1) := dk_4 (dk_at dksL_law_6 17 rfl rfl)
theorem dL_law_241 : decode cL_law 241 = .ok (.iadd, 1) := dk_96 (dk_at dksL_law_6 18 rfl rfl)
theorem dL_law_242 : decode cL_law 242 = .ok (.iaload, 1) := dk_46 (dk_at dksL_law_6 19 rfl rfl)
theorem dL_law_243 : decode cL_law 243 = .ok (.aload_n 3, 1) := dk_45 (dk_at dksL_law_6 20 rfl rfl)
theorem dL_law_244 : decode cL_law 244 = .ok (.invokestatic 35, 3) := dk_184 0 35 (dk_at dksL_law_6 21 rfl rfl)
theorem dL_law_247 : decode cL_law 247 = .ok (.istore 5, 2) := dk_54 5 (dk_at dksL_law_7 0 rfl rfl)
theorem dL_law_249 : decode cL_law 249 = .ok (.aload_n 2, 1) := dk_44 (dk_at dksL_law_7 2 rfl rfl)
theorem dL_law_250 : decode cL_law 250 = .ok (.aload_n 0, 1) := dk_42 (dk_at dksL_law_7 3 rfl rfl)
theorem dL_law_251 : decode cL_law 251 = .ok (.iload 4, 2) := dk_21 4 (dk_at dksL_law_7 4 rfl rfl)
theorem dL_law_253 : decode cL_law 253 = .ok (.iconst 1, 1) := dk_4 (dk_at dksL_law_7 6 rfl rfl)
theorem dL_law_254 : decode cL_law 254 = .ok (.iadd, 1) := dk_96 (dk_at dksL_law_7 7 rfl rfl)
theorem dL_law_255 : decode cL_law 255 = .ok (.iaload, 1) := dk_46 (dk_at dksL_law_7 8 rfl rfl)
theorem dL_law_256 : decode cL_law 256 = .ok (.invokevirtual 38, 3) := dk_182 0 38 (dk_at dksL_law_7 9 rfl rfl)
theorem dL_law_259 : decode cL_law 259 = .ok (.istore 6, 2) := dk_54 6 (dk_at dksL_law_7 12 rfl rfl)
theorem dL_law_261 : decode cL_law 261 = .ok (.aload_n 2, 1) := dk_44 (dk_at dksL_law_7 14 rfl rfl)
theorem dL_law_262 : decode cL_law 262 = .ok (.invokevirtual 31, 3) := dk_182 0 31 (dk_at dksL_law_7 15 rfl rfl)
theorem dL_law_265 : decode cL_law 265 = .ok (.iload 5, 2) := dk_21 5 (dk_at dksL_law_7 18 rfl rfl)
theorem dL_law_267 : decode cL_law 267 = .ok (.if_icmp .eq 5, 3) := dk_159 0 5 (dk_at dksL_law_7 20 rfl rfl)
theorem dL_law_270 : decode cL_law 270 = .ok (.iconst 0, 1) := dk_3 (dk_at dksL_law_7 23 rfl rfl)
theorem dL_law_271 : decode cL_law 271 = .ok (.ireturn, 1) := dk_172 (dk_at dksL_law_8 0 rfl rfl)
theorem dL_law_272 : decode cL_law 272 = .ok (.iload 5, 2) := dk_21 5 (dk_at dksL_law_8 1 rfl rfl)
theorem dL_law_274 : decode cL_law 274 = .ok (.ifCond .ne 15, 3) := dk_154 0 15 (dk_at dksL_law_8 3 rfl rfl)
theorem dL_law_277 : decode cL_law 277 = .ok (.aload_n 3, 1) := dk_45 (dk_at dksL_law_8 6 rfl rfl)
theorem dL_law_278 : decode cL_law 278 = .ok (.iconst 0, 1) := dk_3 (dk_at dksL_law_8 7 rfl rfl)
theorem dL_law_279 : decode cL_law 279 = .ok (.laload, 1) := dk_47 (dk_at dksL_law_8 8 rfl rfl)
theorem dL_law_280 : decode cL_law 280 = .ok (.iload 6, 2) := dk_21 6 (dk_at dksL_law_8 9 rfl rfl)
theorem dL_law_282 : decode cL_law 282 = .ok (.i2l, 1) := dk_133 (dk_at dksL_law_8 11 rfl rfl)
theorem dL_law_283 : decode cL_law 283 = .ok (.lcmp, 1) := dk_148 (dk_at dksL_law_8 12 rfl rfl)
theorem dL_law_284 : decode cL_law 284 = .ok (.ifCond .eq 5, 3) := dk_153 0 5 (dk_at dksL_law_8 13 rfl rfl)
theorem dL_law_287 : decode cL_law 287 = .ok (.iconst 0, 1) := dk_3 (dk_at dksL_law_8 16 rfl rfl)
theorem dL_law_288 : decode cL_law 288 = .ok (.ireturn, 1) := dk_172 (dk_at dksL_law_8 17 rfl rfl)
theorem dL_law_289 : decode cL_law 289 = .ok (.goto 679, 3) := dk_167 2 167 (dk_at dksL_law_8 18 rfl rfl)
theorem dL_law_292 : decode cL_law 292 = .ok (.aload_n 1, 1) := dk_43 (dk_at dksL_law_8 21 rfl rfl)
theorem dL_law_293 : decode cL_law 293 = .ok (.invokevirtual 39, 3) := dk_182 0 39 (dk_at dksL_law_9 0 rfl rfl)
theorem dL_law_296 : decode cL_law 296 = .ok (.aload_n 2, 1) := dk_44 (dk_at dksL_law_9 3 rfl rfl)
theorem dL_law_297 : decode cL_law 297 = .ok (.invokevirtual 42, 3) := dk_182 0 42 (dk_at dksL_law_9 4 rfl rfl)
theorem dL_law_300 : decode cL_law 300 = .ok (.if_icmp .eq 668, 3) := dk_159 2 156 (dk_at dksL_law_9 7 rfl rfl)
theorem dL_law_303 : decode cL_law 303 = .ok (.iconst 0, 1) := dk_3 (dk_at dksL_law_9 10 rfl rfl)
theorem dL_law_304 : decode cL_law 304 = .ok (.ireturn, 1) := dk_172 (dk_at dksL_law_9 11 rfl rfl)
theorem dL_law_305 : decode cL_law 305 = .ok (.aload_n 1, 1) := dk_43 (dk_at dksL_law_9 12 rfl rfl)
theorem dL_law_306 : decode cL_law 306 = .ok (.invokevirtual 43, 3) := dk_182 0 43 (dk_at dksL_law_9 13 rfl rfl)
theorem dL_law_309 : decode cL_law 309 = .ok (.aload_n 2, 1) := dk_44 (dk_at dksL_law_9 16 rfl rfl)
theorem dL_law_310 : decode cL_law 310 = .ok (.invokevirtual 46, 3) := dk_182 0 46 (dk_at dksL_law_9 17 rfl rfl)
theorem dL_law_313 : decode cL_law 313 = .ok (.if_icmp .eq 655, 3) := dk_159 2 143 (dk_at dksL_law_9 20 rfl rfl)
theorem dL_law_316 : decode cL_law 316 = .ok (.iconst 0, 1) := dk_3 (dk_at dksL_law_9 23 rfl rfl)
theorem dL_law_317 : decode cL_law 317 = .ok (.ireturn, 1) := dk_172 (dk_at dksL_law_10 0 rfl rfl)
theorem dL_law_318 : decode cL_law 318 = .ok (.aload_n 1, 1) := dk_43 (dk_at dksL_law_10 1 rfl rfl)
theorem dL_law_319 : decode cL_law 319 = .ok (.invokevirtual 47, 3) := dk_182 0 47 (dk_at dksL_law_10 2 rfl rfl)
theorem dL_law_322 : decode cL_law 322 = .ok (.aload_n 2, 1) := dk_44 (dk_at dksL_law_10 5 rfl rfl)
theorem dL_law_323 : decode cL_law 323 = .ok (.invokevirtual 50, 3) := dk_182 0 50 (dk_at dksL_law_10 6 rfl rfl)
theorem dL_law_326 : decode cL_law 326 = .ok (.if_icmp .eq 642, 3) := dk_159 2 130 (dk_at dksL_law_10 9 rfl rfl)
theorem dL_law_329 : decode cL_law 329 = .ok (.iconst 0, 1) := dk_3 (dk_at dksL_law_10 12 rfl rfl)
theorem dL_law_330 : decode cL_law 330 = .ok (.ireturn, 1) := dk_172 (dk_at dksL_law_10 13 rfl rfl)
theorem dL_law_331 : decode cL_law 331 = .ok (.aload_n 1, 1) := dk_43 (dk_at dksL_law_10 14 rfl rfl)
theorem dL_law_332 : decode cL_law 332 = .ok (.aload_n 0, 1) := dk_42 (dk_at dksL_law_10 15 rfl rfl)
theorem dL_law_333 : decode cL_law 333 = .ok (.iload 4, 2) := dk_21 4 (dk_at dksL_law_10 16 rfl rfl)
theorem dL_law_335 : decode cL_law 335 = .ok (.iconst 1, 1) := dk_4 (dk_at dksL_law_10 18 rfl rfl)
theorem dL_law_336 : decode cL_law 336 = .ok (.iadd, 1) := dk_96 (dk_at dksL_law_10 19 rfl rfl)
theorem dL_law_337 : decode cL_law 337 = .ok (.iaload, 1) := dk_46 (dk_at dksL_law_10 20 rfl rfl)
theorem dL_law_338 : decode cL_law 338 = .ok (.i2l, 1) := dk_133 (dk_at dksL_law_10 21 rfl rfl)
theorem dL_law_339 : decode cL_law 339 = .ok (.bipush 32, 2) := dk_16 32 (dk_at dksL_law_10 22 rfl rfl)
theorem dL_law_341 : decode cL_law 341 = .ok (.lshl, 1) := dk_121 (dk_at dksL_law_11 0 rfl rfl)
theorem dL_law_342 : decode cL_law 342 = .ok (.aload_n 0, 1) := dk_42 (dk_at dksL_law_11 1 rfl rfl)
theorem dL_law_343 : decode cL_law 343 = .ok (.iload 4, 2) := dk_21 4 (dk_at dksL_law_11 2 rfl rfl)
theorem dL_law_345 : decode cL_law 345 = .ok (.iconst 2, 1) := dk_5 (dk_at dksL_law_11 4 rfl rfl)
theorem dL_law_346 : decode cL_law 346 = .ok (.iadd, 1) := dk_96 (dk_at dksL_law_11 5 rfl rfl)
theorem dL_law_347 : decode cL_law 347 = .ok (.iaload, 1) := dk_46 (dk_at dksL_law_11 6 rfl rfl)
theorem dL_law_348 : decode cL_law 348 = .ok (.i2l, 1) := dk_133 (dk_at dksL_law_11 7 rfl rfl)
theorem dL_law_349 : decode cL_law 349 = .ok (.ldc2_w 51, 3) := dk_20 0 51 (dk_at dksL_law_11 8 rfl rfl)
theorem dL_law_352 : decode cL_law 352 = .ok (.land, 1) := dk_127 (dk_at dksL_law_11 11 rfl rfl)
theorem dL_law_353 : decode cL_law 353 = .ok (.lor, 1) := dk_129 (dk_at dksL_law_11 12 rfl rfl)
theorem dL_law_354 : decode cL_law 354 = .ok (.invokevirtual 53, 3) := dk_182 0 53 (dk_at dksL_law_11 13 rfl rfl)
theorem dL_law_357 : decode cL_law 357 = .ok (.aload_n 2, 1) := dk_44 (dk_at dksL_law_11 16 rfl rfl)
theorem dL_law_358 : decode cL_law 358 = .ok (.aload_n 0, 1) := dk_42 (dk_at dksL_law_11 17 rfl rfl)
theorem dL_law_359 : decode cL_law 359 = .ok (.iload 4, 2) := dk_21 4 (dk_at dksL_law_11 18 rfl rfl)
theorem dL_law_361 : decode cL_law 361 = .ok (.iconst 1, 1) := dk_4 (dk_at dksL_law_11 20 rfl rfl)
theorem dL_law_362 : decode cL_law 362 = .ok (.iadd, 1) := dk_96 (dk_at dksL_law_11 21 rfl rfl)
theorem dL_law_363 : decode cL_law 363 = .ok (.iaload, 1) := dk_46 (dk_at dksL_law_11 22 rfl rfl)
theorem dL_law_364 : decode cL_law 364 = .ok (.i2l, 1) := dk_133 (dk_at dksL_law_11 23 rfl rfl)
theorem dL_law_365 : decode cL_law 365 = .ok (.bipush 32, 2) := dk_16 32 (dk_at dksL_law_12 0 rfl rfl)
theorem dL_law_367 : decode cL_law 367 = .ok (.lshl, 1) := dk_121 (dk_at dksL_law_12 2 rfl rfl)
theorem dL_law_368 : decode cL_law 368 = .ok (.aload_n 0, 1) := dk_42 (dk_at dksL_law_12 3 rfl rfl)
theorem dL_law_369 : decode cL_law 369 = .ok (.iload 4, 2) := dk_21 4 (dk_at dksL_law_12 4 rfl rfl)
theorem dL_law_371 : decode cL_law 371 = .ok (.iconst 2, 1) := dk_5 (dk_at dksL_law_12 6 rfl rfl)
theorem dL_law_372 : decode cL_law 372 = .ok (.iadd, 1) := dk_96 (dk_at dksL_law_12 7 rfl rfl)
theorem dL_law_373 : decode cL_law 373 = .ok (.iaload, 1) := dk_46 (dk_at dksL_law_12 8 rfl rfl)
theorem dL_law_374 : decode cL_law 374 = .ok (.i2l, 1) := dk_133 (dk_at dksL_law_12 9 rfl rfl)
theorem dL_law_375 : decode cL_law 375 = .ok (.ldc2_w 51, 3) := dk_20 0 51 (dk_at dksL_law_12 10 rfl rfl)
theorem dL_law_378 : decode cL_law 378 = .ok (.land, 1) := dk_127 (dk_at dksL_law_12 13 rfl rfl)
theorem dL_law_379 : decode cL_law 379 = .ok (.lor, 1) := dk_129 (dk_at dksL_law_12 14 rfl rfl)
theorem dL_law_380 : decode cL_law 380 = .ok (.invokevirtual 57, 3) := dk_182 0 57 (dk_at dksL_law_12 15 rfl rfl)
theorem dL_law_383 : decode cL_law 383 = .ok (.if_icmp .eq 585, 3) := dk_159 2 73 (dk_at dksL_law_12 18 rfl rfl)
theorem dL_law_386 : decode cL_law 386 = .ok (.iconst 0, 1) := dk_3 (dk_at dksL_law_12 21 rfl rfl)
theorem dL_law_387 : decode cL_law 387 = .ok (.ireturn, 1) := dk_172 (dk_at dksL_law_12 22 rfl rfl)
theorem dL_law_388 : decode cL_law 388 = .ok (.aload_n 1, 1) := dk_43 (dk_at dksL_law_12 23 rfl rfl)
theorem dL_law_389 : decode cL_law 389 = .ok (.aload_n 0, 1) := dk_42 (dk_at dksL_law_13 0 rfl rfl)
theorem dL_law_390 : decode cL_law 390 = .ok (.iload 4, 2) := dk_21 4 (dk_at dksL_law_13 1 rfl rfl)
theorem dL_law_392 : decode cL_law 392 = .ok (.iconst 1, 1) := dk_4 (dk_at dksL_law_13 3 rfl rfl)
theorem dL_law_393 : decode cL_law 393 = .ok (.iadd, 1) := dk_96 (dk_at dksL_law_13 4 rfl rfl)
theorem dL_law_394 : decode cL_law 394 = .ok (.iaload, 1) := dk_46 (dk_at dksL_law_13 5 rfl rfl)
theorem dL_law_395 : decode cL_law 395 = .ok (.i2l, 1) := dk_133 (dk_at dksL_law_13 6 rfl rfl)
theorem dL_law_396 : decode cL_law 396 = .ok (.bipush 32, 2) := dk_16 32 (dk_at dksL_law_13 7 rfl rfl)
theorem dL_law_398 : decode cL_law 398 = .ok (.lshl, 1) := dk_121 (dk_at dksL_law_13 9 rfl rfl)
theorem dL_law_399 : decode cL_law 399 = .ok (.aload_n 0, 1) := dk_42 (dk_at dksL_law_13 10 rfl rfl)
theorem dL_law_400 : decode cL_law 400 = .ok (.iload 4, 2) := dk_21 4 (dk_at dksL_law_13 11 rfl rfl)
theorem dL_law_402 : decode cL_law 402 = .ok (.iconst 2, 1) := dk_5 (dk_at dksL_law_13 13 rfl rfl)
theorem dL_law_403 : decode cL_law 403 = .ok (.iadd, 1) := dk_96 (dk_at dksL_law_13 14 rfl rfl)
theorem dL_law_404 : decode cL_law 404 = .ok (.iaload, 1) := dk_46 (dk_at dksL_law_13 15 rfl rfl)
theorem dL_law_405 : decode cL_law 405 = .ok (.i2l, 1) := dk_133 (dk_at dksL_law_13 16 rfl rfl)
theorem dL_law_406 : decode cL_law 406 = .ok (.ldc2_w 51, 3) := dk_20 0 51 (dk_at dksL_law_13 17 rfl rfl)
theorem dL_law_409 : decode cL_law 409 = .ok (.land, 1) := dk_127 (dk_at dksL_law_13 20 rfl rfl)
theorem dL_law_410 : decode cL_law 410 = .ok (.lor, 1) := dk_129 (dk_at dksL_law_13 21 rfl rfl)
theorem dL_law_411 : decode cL_law 411 = .ok (.aload_n 0, 1) := dk_42 (dk_at dksL_law_13 22 rfl rfl)
theorem dL_law_412 : decode cL_law 412 = .ok (.iload 4, 2) := dk_21 4 (dk_at dksL_law_14 0 rfl rfl)
theorem dL_law_414 : decode cL_law 414 = .ok (.iconst 3, 1) := dk_6 (dk_at dksL_law_14 2 rfl rfl)
theorem dL_law_415 : decode cL_law 415 = .ok (.iadd, 1) := dk_96 (dk_at dksL_law_14 3 rfl rfl)
theorem dL_law_416 : decode cL_law 416 = .ok (.iaload, 1) := dk_46 (dk_at dksL_law_14 4 rfl rfl)
theorem dL_law_417 : decode cL_law 417 = .ok (.invokevirtual 58, 3) := dk_182 0 58 (dk_at dksL_law_14 5 rfl rfl)
theorem dL_law_420 : decode cL_law 420 = .ok (.aload_n 2, 1) := dk_44 (dk_at dksL_law_14 8 rfl rfl)
theorem dL_law_421 : decode cL_law 421 = .ok (.aload_n 0, 1) := dk_42 (dk_at dksL_law_14 9 rfl rfl)
theorem dL_law_422 : decode cL_law 422 = .ok (.iload 4, 2) := dk_21 4 (dk_at dksL_law_14 10 rfl rfl)
theorem dL_law_424 : decode cL_law 424 = .ok (.iconst 1, 1) := dk_4 (dk_at dksL_law_14 12 rfl rfl)
theorem dL_law_425 : decode cL_law 425 = .ok (.iadd, 1) := dk_96 (dk_at dksL_law_14 13 rfl rfl)
theorem dL_law_426 : decode cL_law 426 = .ok (.iaload, 1) := dk_46 (dk_at dksL_law_14 14 rfl rfl)
theorem dL_law_427 : decode cL_law 427 = .ok (.i2l, 1) := dk_133 (dk_at dksL_law_14 15 rfl rfl)
theorem dL_law_428 : decode cL_law 428 = .ok (.bipush 32, 2) := dk_16 32 (dk_at dksL_law_14 16 rfl rfl)
theorem dL_law_430 : decode cL_law 430 = .ok (.lshl, 1) := dk_121 (dk_at dksL_law_14 18 rfl rfl)
theorem dL_law_431 : decode cL_law 431 = .ok (.aload_n 0, 1) := dk_42 (dk_at dksL_law_14 19 rfl rfl)
theorem dL_law_432 : decode cL_law 432 = .ok (.iload 4, 2) := dk_21 4 (dk_at dksL_law_14 20 rfl rfl)
theorem dL_law_434 : decode cL_law 434 = .ok (.iconst 2, 1) := dk_5 (dk_at dksL_law_14 22 rfl rfl)
theorem dL_law_435 : decode cL_law 435 = .ok (.iadd, 1) := dk_96 (dk_at dksL_law_14 23 rfl rfl)
theorem dL_law_436 : decode cL_law 436 = .ok (.iaload, 1) := dk_46 (dk_at dksL_law_15 0 rfl rfl)
theorem dL_law_437 : decode cL_law 437 = .ok (.i2l, 1) := dk_133 (dk_at dksL_law_15 1 rfl rfl)
theorem dL_law_438 : decode cL_law 438 = .ok (.ldc2_w 51, 3) := dk_20 0 51 (dk_at dksL_law_15 2 rfl rfl)
theorem dL_law_441 : decode cL_law 441 = .ok (.land, 1) := dk_127 (dk_at dksL_law_15 5 rfl rfl)
theorem dL_law_442 : decode cL_law 442 = .ok (.lor, 1) := dk_129 (dk_at dksL_law_15 6 rfl rfl)
theorem dL_law_443 : decode cL_law 443 = .ok (.aload_n 0, 1) := dk_42 (dk_at dksL_law_15 7 rfl rfl)
theorem dL_law_444 : decode cL_law 444 = .ok (.iload 4, 2) := dk_21 4 (dk_at dksL_law_15 8 rfl rfl)
theorem dL_law_446 : decode cL_law 446 = .ok (.iconst 3, 1) := dk_6 (dk_at dksL_law_15 10 rfl rfl)
theorem dL_law_447 : decode cL_law 447 = .ok (.iadd, 1) := dk_96 (dk_at dksL_law_15 11 rfl rfl)
theorem dL_law_448 : decode cL_law 448 = .ok (.iaload, 1) := dk_46 (dk_at dksL_law_15 12 rfl rfl)
theorem dL_law_449 : decode cL_law 449 = .ok (.invokevirtual 62, 3) := dk_182 0 62 (dk_at dksL_law_15 13 rfl rfl)
theorem dL_law_452 : decode cL_law 452 = .ok (.if_icmp .eq 516, 3) := dk_159 2 4 (dk_at dksL_law_15 16 rfl rfl)
theorem dL_law_455 : decode cL_law 455 = .ok (.iconst 0, 1) := dk_3 (dk_at dksL_law_15 19 rfl rfl)
theorem dL_law_456 : decode cL_law 456 = .ok (.ireturn, 1) := dk_172 (dk_at dksL_law_15 20 rfl rfl)
theorem dL_law_457 : decode cL_law 457 = .ok (.aload_n 1, 1) := dk_43 (dk_at dksL_law_15 21 rfl rfl)
theorem dL_law_458 : decode cL_law 458 = .ok (.aload_n 0, 1) := dk_42 (dk_at dksL_law_15 22 rfl rfl)
theorem dL_law_459 : decode cL_law 459 = .ok (.iload 4, 2) := dk_21 4 (dk_at dksL_law_16 0 rfl rfl)
theorem dL_law_461 : decode cL_law 461 = .ok (.iconst 1, 1) := dk_4 (dk_at dksL_law_16 2 rfl rfl)
theorem dL_law_462 : decode cL_law 462 = .ok (.iadd, 1) := dk_96 (dk_at dksL_law_16 3 rfl rfl)
theorem dL_law_463 : decode cL_law 463 = .ok (.iaload, 1) := dk_46 (dk_at dksL_law_16 4 rfl rfl)
theorem dL_law_464 : decode cL_law 464 = .ok (.aload_n 0, 1) := dk_42 (dk_at dksL_law_16 5 rfl rfl)
theorem dL_law_465 : decode cL_law 465 = .ok (.iload 4, 2) := dk_21 4 (dk_at dksL_law_16 6 rfl rfl)
theorem dL_law_467 : decode cL_law 467 = .ok (.iconst 2, 1) := dk_5 (dk_at dksL_law_16 8 rfl rfl)
theorem dL_law_468 : decode cL_law 468 = .ok (.iadd, 1) := dk_96 (dk_at dksL_law_16 9 rfl rfl)
theorem dL_law_469 : decode cL_law 469 = .ok (.iaload, 1) := dk_46 (dk_at dksL_law_16 10 rfl rfl)
theorem dL_law_470 : decode cL_law 470 = .ok (.invokevirtual 63, 3) := dk_182 0 63 (dk_at dksL_law_16 11 rfl rfl)
theorem dL_law_473 : decode cL_law 473 = .ok (.aload_n 2, 1) := dk_44 (dk_at dksL_law_16 14 rfl rfl)
theorem dL_law_474 : decode cL_law 474 = .ok (.aload_n 0, 1) := dk_42 (dk_at dksL_law_16 15 rfl rfl)
theorem dL_law_475 : decode cL_law 475 = .ok (.iload 4, 2) := dk_21 4 (dk_at dksL_law_16 16 rfl rfl)
theorem dL_law_477 : decode cL_law 477 = .ok (.iconst 1, 1) := dk_4 (dk_at dksL_law_16 18 rfl rfl)
theorem dL_law_478 : decode cL_law 478 = .ok (.iadd, 1) := dk_96 (dk_at dksL_law_16 19 rfl rfl)
theorem dL_law_479 : decode cL_law 479 = .ok (.iaload, 1) := dk_46 (dk_at dksL_law_16 20 rfl rfl)
theorem dL_law_480 : decode cL_law 480 = .ok (.aload_n 0, 1) := dk_42 (dk_at dksL_law_16 21 rfl rfl)
theorem dL_law_481 : decode cL_law 481 = .ok (.iload 4, 2) := dk_21 4 (dk_at dksL_law_16 22 rfl rfl)
theorem dL_law_483 : decode cL_law 483 = .ok (.iconst 2, 1) := dk_5 (dk_at dksL_law_17 0 rfl rfl)
theorem dL_law_484 : decode cL_law 484 = .ok (.iadd, 1) := dk_96 (dk_at dksL_law_17 1 rfl rfl)
theorem dL_law_485 : decode cL_law 485 = .ok (.iaload, 1) := dk_46 (dk_at dksL_law_17 2 rfl rfl)
theorem dL_law_486 : decode cL_law 486 = .ok (.invokevirtual 67, 3) := dk_182 0 67 (dk_at dksL_law_17 3 rfl rfl)
theorem dL_law_489 : decode cL_law 489 = .ok (.if_icmp .eq 479, 3) := dk_159 1 223 (dk_at dksL_law_17 6 rfl rfl)
theorem dL_law_492 : decode cL_law 492 = .ok (.iconst 0, 1) := dk_3 (dk_at dksL_law_17 9 rfl rfl)
theorem dL_law_493 : decode cL_law 493 = .ok (.ireturn, 1) := dk_172 (dk_at dksL_law_17 10 rfl rfl)
theorem dL_law_494 : decode cL_law 494 = .ok (.aload_n 1, 1) := dk_43 (dk_at dksL_law_17 11 rfl rfl)
theorem dL_law_495 : decode cL_law 495 = .ok (.aload_n 0, 1) := dk_42 (dk_at dksL_law_17 12 rfl rfl)
theorem dL_law_496 : decode cL_law 496 = .ok (.iload 4, 2) := dk_21 4 (dk_at dksL_law_17 13 rfl rfl)
theorem dL_law_498 : decode cL_law 498 = .ok (.iconst 1, 1) := dk_4 (dk_at dksL_law_17 15 rfl rfl)
theorem dL_law_499 : decode cL_law 499 = .ok (.iadd, 1) := dk_96 (dk_at dksL_law_17 16 rfl rfl)
theorem dL_law_500 : decode cL_law 500 = .ok (.iaload, 1) := dk_46 (dk_at dksL_law_17 17 rfl rfl)
theorem dL_law_501 : decode cL_law 501 = .ok (.i2l, 1) := dk_133 (dk_at dksL_law_17 18 rfl rfl)
theorem dL_law_502 : decode cL_law 502 = .ok (.bipush 32, 2) := dk_16 32 (dk_at dksL_law_17 19 rfl rfl)
theorem dL_law_504 : decode cL_law 504 = .ok (.lshl, 1) := dk_121 (dk_at dksL_law_17 21 rfl rfl)
theorem dL_law_505 : decode cL_law 505 = .ok (.aload_n 0, 1) := dk_42 (dk_at dksL_law_17 22 rfl rfl)
theorem dL_law_506 : decode cL_law 506 = .ok (.iload 4, 2) := dk_21 4 (dk_at dksL_law_18 0 rfl rfl)
theorem dL_law_508 : decode cL_law 508 = .ok (.iconst 2, 1) := dk_5 (dk_at dksL_law_18 2 rfl rfl)
theorem dL_law_509 : decode cL_law 509 = .ok (.iadd, 1) := dk_96 (dk_at dksL_law_18 3 rfl rfl)
theorem dL_law_510 : decode cL_law 510 = .ok (.iaload, 1) := dk_46 (dk_at dksL_law_18 4 rfl rfl)
theorem dL_law_511 : decode cL_law 511 = .ok (.i2l, 1) := dk_133 (dk_at dksL_law_18 5 rfl rfl)
theorem dL_law_512 : decode cL_law 512 = .ok (.ldc2_w 51, 3) := dk_20 0 51 (dk_at dksL_law_18 6 rfl rfl)
theorem dL_law_515 : decode cL_law 515 = .ok (.land, 1) := dk_127 (dk_at dksL_law_18 9 rfl rfl)
theorem dL_law_516 : decode cL_law 516 = .ok (.lor, 1) := dk_129 (dk_at dksL_law_18 10 rfl rfl)
theorem dL_law_517 : decode cL_law 517 = .ok (.aload_n 0, 1) := dk_42 (dk_at dksL_law_18 11 rfl rfl)
theorem dL_law_518 : decode cL_law 518 = .ok (.iload 4, 2) := dk_21 4 (dk_at dksL_law_18 12 rfl rfl)
theorem dL_law_520 : decode cL_law 520 = .ok (.iconst 3, 1) := dk_6 (dk_at dksL_law_18 14 rfl rfl)
theorem dL_law_521 : decode cL_law 521 = .ok (.iadd, 1) := dk_96 (dk_at dksL_law_18 15 rfl rfl)
theorem dL_law_522 : decode cL_law 522 = .ok (.iaload, 1) := dk_46 (dk_at dksL_law_18 16 rfl rfl)
theorem dL_law_523 : decode cL_law 523 = .ok (.aload_n 0, 1) := dk_42 (dk_at dksL_law_18 17 rfl rfl)
theorem dL_law_524 : decode cL_law 524 = .ok (.iload 4, 2) := dk_21 4 (dk_at dksL_law_18 18 rfl rfl)
theorem dL_law_526 : decode cL_law 526 = .ok (.iconst 4, 1) := dk_7 (dk_at dksL_law_18 20 rfl rfl)
theorem dL_law_527 : decode cL_law 527 = .ok (.iadd, 1) := dk_96 (dk_at dksL_law_18 21 rfl rfl)
theorem dL_law_528 : decode cL_law 528 = .ok (.iaload, 1) := dk_46 (dk_at dksL_law_18 22 rfl rfl)
theorem dL_law_529 : decode cL_law 529 = .ok (.invokevirtual 68, 3) := dk_182 0 68 (dk_at dksL_law_19 0 rfl rfl)
theorem dL_law_532 : decode cL_law 532 = .ok (.aload_n 2, 1) := dk_44 (dk_at dksL_law_19 3 rfl rfl)
theorem dL_law_533 : decode cL_law 533 = .ok (.aload_n 0, 1) := dk_42 (dk_at dksL_law_19 4 rfl rfl)
theorem dL_law_534 : decode cL_law 534 = .ok (.iload 4, 2) := dk_21 4 (dk_at dksL_law_19 5 rfl rfl)
theorem dL_law_536 : decode cL_law 536 = .ok (.iconst 1, 1) := dk_4 (dk_at dksL_law_19 7 rfl rfl)
theorem dL_law_537 : decode cL_law 537 = .ok (.iadd, 1) := dk_96 (dk_at dksL_law_19 8 rfl rfl)
theorem dL_law_538 : decode cL_law 538 = .ok (.iaload, 1) := dk_46 (dk_at dksL_law_19 9 rfl rfl)
theorem dL_law_539 : decode cL_law 539 = .ok (.i2l, 1) := dk_133 (dk_at dksL_law_19 10 rfl rfl)
theorem dL_law_540 : decode cL_law 540 = .ok (.bipush 32, 2) := dk_16 32 (dk_at dksL_law_19 11 rfl rfl)
theorem dL_law_542 : decode cL_law 542 = .ok (.lshl, 1) := dk_121 (dk_at dksL_law_19 13 rfl rfl)
theorem dL_law_543 : decode cL_law 543 = .ok (.aload_n 0, 1) := dk_42 (dk_at dksL_law_19 14 rfl rfl)
theorem dL_law_544 : decode cL_law 544 = .ok (.iload 4, 2) := dk_21 4 (dk_at dksL_law_19 15 rfl rfl)
theorem dL_law_546 : decode cL_law 546 = .ok (.iconst 2, 1) := dk_5 (dk_at dksL_law_19 17 rfl rfl)
theorem dL_law_547 : decode cL_law 547 = .ok (.iadd, 1) := dk_96 (dk_at dksL_law_19 18 rfl rfl)
theorem dL_law_548 : decode cL_law 548 = .ok (.iaload, 1) := dk_46 (dk_at dksL_law_19 19 rfl rfl)
theorem dL_law_549 : decode cL_law 549 = .ok (.i2l, 1) := dk_133 (dk_at dksL_law_19 20 rfl rfl)
theorem dL_law_550 : decode cL_law 550 = .ok (.ldc2_w 51, 3) := dk_20 0 51 (dk_at dksL_law_19 21 rfl rfl)
theorem dL_law_553 : decode cL_law 553 = .ok (.land, 1) := dk_127 (dk_at dksL_law_20 0 rfl rfl)
theorem dL_law_554 : decode cL_law 554 = .ok (.lor, 1) := dk_129 (dk_at dksL_law_20 1 rfl rfl)
theorem dL_law_555 : decode cL_law 555 = .ok (.aload_n 0, 1) := dk_42 (dk_at dksL_law_20 2 rfl rfl)
theorem dL_law_556 : decode cL_law 556 = .ok (.iload 4, 2) := dk_21 4 (dk_at dksL_law_20 3 rfl rfl)
theorem dL_law_558 : decode cL_law 558 = .ok (.iconst 3, 1) := dk_6 (dk_at dksL_law_20 5 rfl rfl)
theorem dL_law_559 : decode cL_law 559 = .ok (.iadd, 1) := dk_96 (dk_at dksL_law_20 6 rfl rfl)
theorem dL_law_560 : decode cL_law 560 = .ok (.iaload, 1) := dk_46 (dk_at dksL_law_20 7 rfl rfl)
theorem dL_law_561 : decode cL_law 561 = .ok (.aload_n 0, 1) := dk_42 (dk_at dksL_law_20 8 rfl rfl)
theorem dL_law_562 : decode cL_law 562 = .ok (.iload 4, 2) := dk_21 4 (dk_at dksL_law_20 9 rfl rfl)
theorem dL_law_564 : decode cL_law 564 = .ok (.iconst 4, 1) := dk_7 (dk_at dksL_law_20 11 rfl rfl)
theorem dL_law_565 : decode cL_law 565 = .ok (.iadd, 1) := dk_96 (dk_at dksL_law_20 12 rfl rfl)
theorem dL_law_566 : decode cL_law 566 = .ok (.iaload, 1) := dk_46 (dk_at dksL_law_20 13 rfl rfl)
theorem dL_law_567 : decode cL_law 567 = .ok (.invokevirtual 72, 3) := dk_182 0 72 (dk_at dksL_law_20 14 rfl rfl)
theorem dL_law_570 : decode cL_law 570 = .ok (.if_icmp .eq 398, 3) := dk_159 1 142 (dk_at dksL_law_20 17 rfl rfl)
theorem dL_law_573 : decode cL_law 573 = .ok (.iconst 0, 1) := dk_3 (dk_at dksL_law_20 20 rfl rfl)
theorem dL_law_574 : decode cL_law 574 = .ok (.ireturn, 1) := dk_172 (dk_at dksL_law_20 21 rfl rfl)
theorem dL_law_575 : decode cL_law 575 = .ok (.aload_n 1, 1) := dk_43 (dk_at dksL_law_20 22 rfl rfl)
theorem dL_law_576 : decode cL_law 576 = .ok (.aload_n 0, 1) := dk_42 (dk_at dksL_law_20 23 rfl rfl)
theorem dL_law_577 : decode cL_law 577 = .ok (.iload 4, 2) := dk_21 4 (dk_at dksL_law_21 0 rfl rfl)
theorem dL_law_579 : decode cL_law 579 = .ok (.iconst 1, 1) := dk_4 (dk_at dksL_law_21 2 rfl rfl)
theorem dL_law_580 : decode cL_law 580 = .ok (.iadd, 1) := dk_96 (dk_at dksL_law_21 3 rfl rfl)
theorem dL_law_581 : decode cL_law 581 = .ok (.iaload, 1) := dk_46 (dk_at dksL_law_21 4 rfl rfl)
theorem dL_law_582 : decode cL_law 582 = .ok (.ifCond .eq 7, 3) := dk_153 0 7 (dk_at dksL_law_21 5 rfl rfl)
theorem dL_law_585 : decode cL_law 585 = .ok (.iconst 1, 1) := dk_4 (dk_at dksL_law_21 8 rfl rfl)
theorem dL_law_586 : decode cL_law 586 = .ok (.goto 4, 3) := dk_167 0 4 (dk_at dksL_law_21 9 rfl rfl)
theorem dL_law_589 : decode cL_law 589 = .ok (.iconst 0, 1) := dk_3 (dk_at dksL_law_21 12 rfl rfl)
theorem dL_law_590 : decode cL_law 590 = .ok (.aload_n 0, 1) := dk_42 (dk_at dksL_law_21 13 rfl rfl)
theorem dL_law_591 : decode cL_law 591 = .ok (.iload 4, 2) := dk_21 4 (dk_at dksL_law_21 14 rfl rfl)
theorem dL_law_593 : decode cL_law 593 = .ok (.iconst 2, 1) := dk_5 (dk_at dksL_law_21 16 rfl rfl)
theorem dL_law_594 : decode cL_law 594 = .ok (.iadd, 1) := dk_96 (dk_at dksL_law_21 17 rfl rfl)
theorem dL_law_595 : decode cL_law 595 = .ok (.iaload, 1) := dk_46 (dk_at dksL_law_21 18 rfl rfl)
theorem dL_law_596 : decode cL_law 596 = .ok (.i2l, 1) := dk_133 (dk_at dksL_law_21 19 rfl rfl)
theorem dL_law_597 : decode cL_law 597 = .ok (.bipush 32, 2) := dk_16 32 (dk_at dksL_law_21 20 rfl rfl)
theorem dL_law_599 : decode cL_law 599 = .ok (.lshl, 1) := dk_121 (dk_at dksL_law_21 22 rfl rfl)
theorem dL_law_600 : decode cL_law 600 = .ok (.aload_n 0, 1) := dk_42 (dk_at dksL_law_21 23 rfl rfl)
theorem dL_law_601 : decode cL_law 601 = .ok (.iload 4, 2) := dk_21 4 (dk_at dksL_law_22 0 rfl rfl)
theorem dL_law_603 : decode cL_law 603 = .ok (.iconst 3, 1) := dk_6 (dk_at dksL_law_22 2 rfl rfl)
theorem dL_law_604 : decode cL_law 604 = .ok (.iadd, 1) := dk_96 (dk_at dksL_law_22 3 rfl rfl)
theorem dL_law_605 : decode cL_law 605 = .ok (.iaload, 1) := dk_46 (dk_at dksL_law_22 4 rfl rfl)
theorem dL_law_606 : decode cL_law 606 = .ok (.i2l, 1) := dk_133 (dk_at dksL_law_22 5 rfl rfl)
theorem dL_law_607 : decode cL_law 607 = .ok (.ldc2_w 51, 3) := dk_20 0 51 (dk_at dksL_law_22 6 rfl rfl)
theorem dL_law_610 : decode cL_law 610 = .ok (.land, 1) := dk_127 (dk_at dksL_law_22 9 rfl rfl)
theorem dL_law_611 : decode cL_law 611 = .ok (.lor, 1) := dk_129 (dk_at dksL_law_22 10 rfl rfl)
theorem dL_law_612 : decode cL_law 612 = .ok (.invokevirtual 73, 3) := dk_182 0 73 (dk_at dksL_law_22 11 rfl rfl)
theorem dL_law_615 : decode cL_law 615 = .ok (.aload_n 2, 1) := dk_44 (dk_at dksL_law_22 14 rfl rfl)
theorem dL_law_616 : decode cL_law 616 = .ok (.aload_n 0, 1) := dk_42 (dk_at dksL_law_22 15 rfl rfl)
theorem dL_law_617 : decode cL_law 617 = .ok (.iload 4, 2) := dk_21 4 (dk_at dksL_law_22 16 rfl rfl)
theorem dL_law_619 : decode cL_law 619 = .ok (.iconst 1, 1) := dk_4 (dk_at dksL_law_22 18 rfl rfl)
theorem dL_law_620 : decode cL_law 620 = .ok (.iadd, 1) := dk_96 (dk_at dksL_law_22 19 rfl rfl)
theorem dL_law_621 : decode cL_law 621 = .ok (.iaload, 1) := dk_46 (dk_at dksL_law_22 20 rfl rfl)
theorem dL_law_622 : decode cL_law 622 = .ok (.ifCond .eq 7, 3) := dk_153 0 7 (dk_at dksL_law_22 21 rfl rfl)
theorem dL_law_625 : decode cL_law 625 = .ok (.iconst 1, 1) := dk_4 (dk_at dksL_law_23 0 rfl rfl)
theorem dL_law_626 : decode cL_law 626 = .ok (.goto 4, 3) := dk_167 0 4 (dk_at dksL_law_23 1 rfl rfl)
theorem dL_law_629 : decode cL_law 629 = .ok (.iconst 0, 1) := dk_3 (dk_at dksL_law_23 4 rfl rfl)
theorem dL_law_630 : decode cL_law 630 = .ok (.aload_n 0, 1) := dk_42 (dk_at dksL_law_23 5 rfl rfl)
theorem dL_law_631 : decode cL_law 631 = .ok (.iload 4, 2) := dk_21 4 (dk_at dksL_law_23 6 rfl rfl)
theorem dL_law_633 : decode cL_law 633 = .ok (.iconst 2, 1) := dk_5 (dk_at dksL_law_23 8 rfl rfl)
theorem dL_law_634 : decode cL_law 634 = .ok (.iadd, 1) := dk_96 (dk_at dksL_law_23 9 rfl rfl)
theorem dL_law_635 : decode cL_law 635 = .ok (.iaload, 1) := dk_46 (dk_at dksL_law_23 10 rfl rfl)
theorem dL_law_636 : decode cL_law 636 = .ok (.i2l, 1) := dk_133 (dk_at dksL_law_23 11 rfl rfl)
theorem dL_law_637 : decode cL_law 637 = .ok (.bipush 32, 2) := dk_16 32 (dk_at dksL_law_23 12 rfl rfl)
theorem dL_law_639 : decode cL_law 639 = .ok (.lshl, 1) := dk_121 (dk_at dksL_law_23 14 rfl rfl)
theorem dL_law_640 : decode cL_law 640 = .ok (.aload_n 0, 1) := dk_42 (dk_at dksL_law_23 15 rfl rfl)
theorem dL_law_641 : decode cL_law 641 = .ok (.iload 4, 2) := dk_21 4 (dk_at dksL_law_23 16 rfl rfl)
theorem dL_law_643 : decode cL_law 643 = .ok (.iconst 3, 1) := dk_6 (dk_at dksL_law_23 18 rfl rfl)
theorem dL_law_644 : decode cL_law 644 = .ok (.iadd, 1) := dk_96 (dk_at dksL_law_23 19 rfl rfl)
theorem dL_law_645 : decode cL_law 645 = .ok (.iaload, 1) := dk_46 (dk_at dksL_law_23 20 rfl rfl)
theorem dL_law_646 : decode cL_law 646 = .ok (.i2l, 1) := dk_133 (dk_at dksL_law_23 21 rfl rfl)
theorem dL_law_647 : decode cL_law 647 = .ok (.ldc2_w 51, 3) := dk_20 0 51 (dk_at dksL_law_24 0 rfl rfl)
theorem dL_law_650 : decode cL_law 650 = .ok (.land, 1) := dk_127 (dk_at dksL_law_24 3 rfl rfl)
theorem dL_law_651 : decode cL_law 651 = .ok (.lor, 1) := dk_129 (dk_at dksL_law_24 4 rfl rfl)
theorem dL_law_652 : decode cL_law 652 = .ok (.invokevirtual 77, 3) := dk_182 0 77 (dk_at dksL_law_24 5 rfl rfl)
theorem dL_law_655 : decode cL_law 655 = .ok (.if_icmp .eq 313, 3) := dk_159 1 57 (dk_at dksL_law_24 8 rfl rfl)
theorem dL_law_658 : decode cL_law 658 = .ok (.iconst 0, 1) := dk_3 (dk_at dksL_law_24 11 rfl rfl)
theorem dL_law_659 : decode cL_law 659 = .ok (.ireturn, 1) := dk_172 (dk_at dksL_law_24 12 rfl rfl)
theorem dL_law_660 : decode cL_law 660 = .ok (.aload_n 1, 1) := dk_43 (dk_at dksL_law_24 13 rfl rfl)
theorem dL_law_661 : decode cL_law 661 = .ok (.invokevirtual 78, 3) := dk_182 0 78 (dk_at dksL_law_24 14 rfl rfl)
theorem dL_law_664 : decode cL_law 664 = .ok (.aload_n 2, 1) := dk_44 (dk_at dksL_law_24 17 rfl rfl)
theorem dL_law_665 : decode cL_law 665 = .ok (.invokevirtual 81, 3) := dk_182 0 81 (dk_at dksL_law_24 18 rfl rfl)
theorem dL_law_668 : decode cL_law 668 = .ok (.if_icmp .eq 300, 3) := dk_159 1 44 (dk_at dksL_law_24 21 rfl rfl)
theorem dL_law_671 : decode cL_law 671 = .ok (.iconst 0, 1) := dk_3 (dk_at dksL_law_25 0 rfl rfl)
theorem dL_law_672 : decode cL_law 672 = .ok (.ireturn, 1) := dk_172 (dk_at dksL_law_25 1 rfl rfl)
theorem dL_law_673 : decode cL_law 673 = .ok (.aload_n 1, 1) := dk_43 (dk_at dksL_law_25 2 rfl rfl)
theorem dL_law_674 : decode cL_law 674 = .ok (.aload_n 0, 1) := dk_42 (dk_at dksL_law_25 3 rfl rfl)
theorem dL_law_675 : decode cL_law 675 = .ok (.iload 4, 2) := dk_21 4 (dk_at dksL_law_25 4 rfl rfl)
theorem dL_law_677 : decode cL_law 677 = .ok (.iconst 1, 1) := dk_4 (dk_at dksL_law_25 6 rfl rfl)
theorem dL_law_678 : decode cL_law 678 = .ok (.iadd, 1) := dk_96 (dk_at dksL_law_25 7 rfl rfl)
theorem dL_law_679 : decode cL_law 679 = .ok (.iaload, 1) := dk_46 (dk_at dksL_law_25 8 rfl rfl)
theorem dL_law_680 : decode cL_law 680 = .ok (.aload_n 0, 1) := dk_42 (dk_at dksL_law_25 9 rfl rfl)
theorem dL_law_681 : decode cL_law 681 = .ok (.iload 4, 2) := dk_21 4 (dk_at dksL_law_25 10 rfl rfl)
theorem dL_law_683 : decode cL_law 683 = .ok (.iconst 2, 1) := dk_5 (dk_at dksL_law_25 12 rfl rfl)
theorem dL_law_684 : decode cL_law 684 = .ok (.iadd, 1) := dk_96 (dk_at dksL_law_25 13 rfl rfl)
theorem dL_law_685 : decode cL_law 685 = .ok (.iaload, 1) := dk_46 (dk_at dksL_law_25 14 rfl rfl)
theorem dL_law_686 : decode cL_law 686 = .ok (.invokevirtual 82, 3) := dk_182 0 82 (dk_at dksL_law_25 15 rfl rfl)
theorem dL_law_689 : decode cL_law 689 = .ok (.aload_n 2, 1) := dk_44 (dk_at dksL_law_25 18 rfl rfl)
theorem dL_law_690 : decode cL_law 690 = .ok (.aload_n 0, 1) := dk_42 (dk_at dksL_law_25 19 rfl rfl)
theorem dL_law_691 : decode cL_law 691 = .ok (.iload 4, 2) := dk_21 4 (dk_at dksL_law_25 20 rfl rfl)
theorem dL_law_693 : decode cL_law 693 = .ok (.iconst 1, 1) := dk_4 (dk_at dksL_law_25 22 rfl rfl)
theorem dL_law_694 : decode cL_law 694 = .ok (.iadd, 1) := dk_96 (dk_at dksL_law_25 23 rfl rfl)
theorem dL_law_695 : decode cL_law 695 = .ok (.iaload, 1) := dk_46 (dk_at dksL_law_26 0 rfl rfl)
theorem dL_law_696 : decode cL_law 696 = .ok (.aload_n 0, 1) := dk_42 (dk_at dksL_law_26 1 rfl rfl)
theorem dL_law_697 : decode cL_law 697 = .ok (.iload 4, 2) := dk_21 4 (dk_at dksL_law_26 2 rfl rfl)
theorem dL_law_699 : decode cL_law 699 = .ok (.iconst 2, 1) := dk_5 (dk_at dksL_law_26 4 rfl rfl)
theorem dL_law_700 : decode cL_law 700 = .ok (.iadd, 1) := dk_96 (dk_at dksL_law_26 5 rfl rfl)
theorem dL_law_701 : decode cL_law 701 = .ok (.iaload, 1) := dk_46 (dk_at dksL_law_26 6 rfl rfl)
theorem dL_law_702 : decode cL_law 702 = .ok (.invokevirtual 86, 3) := dk_182 0 86 (dk_at dksL_law_26 7 rfl rfl)
theorem dL_law_705 : decode cL_law 705 = .ok (.if_icmp .eq 263, 3) := dk_159 1 7 (dk_at dksL_law_26 10 rfl rfl)
theorem dL_law_708 : decode cL_law 708 = .ok (.iconst 0, 1) := dk_3 (dk_at dksL_law_26 13 rfl rfl)
theorem dL_law_709 : decode cL_law 709 = .ok (.ireturn, 1) := dk_172 (dk_at dksL_law_26 14 rfl rfl)
theorem dL_law_710 : decode cL_law 710 = .ok (.aload_n 1, 1) := dk_43 (dk_at dksL_law_26 15 rfl rfl)
theorem dL_law_711 : decode cL_law 711 = .ok (.invokevirtual 87, 3) := dk_182 0 87 (dk_at dksL_law_26 16 rfl rfl)
theorem dL_law_714 : decode cL_law 714 = .ok (.aload_n 2, 1) := dk_44 (dk_at dksL_law_26 19 rfl rfl)
theorem dL_law_715 : decode cL_law 715 = .ok (.invokevirtual 90, 3) := dk_182 0 90 (dk_at dksL_law_26 20 rfl rfl)
theorem dL_law_718 : decode cL_law 718 = .ok (.if_icmp .eq 250, 3) := dk_159 0 250 (dk_at dksL_law_27 0 rfl rfl)
theorem dL_law_721 : decode cL_law 721 = .ok (.iconst 0, 1) := dk_3 (dk_at dksL_law_27 3 rfl rfl)
theorem dL_law_722 : decode cL_law 722 = .ok (.ireturn, 1) := dk_172 (dk_at dksL_law_27 4 rfl rfl)
theorem dL_law_723 : decode cL_law 723 = .ok (.aload_n 1, 1) := dk_43 (dk_at dksL_law_27 5 rfl rfl)
theorem dL_law_724 : decode cL_law 724 = .ok (.invokevirtual 91, 3) := dk_182 0 91 (dk_at dksL_law_27 6 rfl rfl)
theorem dL_law_727 : decode cL_law 727 = .ok (.aload_n 2, 1) := dk_44 (dk_at dksL_law_27 9 rfl rfl)
theorem dL_law_728 : decode cL_law 728 = .ok (.invokevirtual 94, 3) := dk_182 0 94 (dk_at dksL_law_27 10 rfl rfl)
theorem dL_law_731 : decode cL_law 731 = .ok (.if_icmp .eq 237, 3) := dk_159 0 237 (dk_at dksL_law_27 13 rfl rfl)
theorem dL_law_734 : decode cL_law 734 = .ok (.iconst 0, 1) := dk_3 (dk_at dksL_law_27 16 rfl rfl)
theorem dL_law_735 : decode cL_law 735 = .ok (.ireturn, 1) := dk_172 (dk_at dksL_law_27 17 rfl rfl)
theorem dL_law_736 : decode cL_law 736 = .ok (.aload_n 1, 1) := dk_43 (dk_at dksL_law_27 18 rfl rfl)
theorem dL_law_737 : decode cL_law 737 = .ok (.aload_n 0, 1) := dk_42 (dk_at dksL_law_27 19 rfl rfl)
theorem dL_law_738 : decode cL_law 738 = .ok (.iload 4, 2) := dk_21 4 (dk_at dksL_law_27 20 rfl rfl)
theorem dL_law_740 : decode cL_law 740 = .ok (.iconst 1, 1) := dk_4 (dk_at dksL_law_27 22 rfl rfl)
theorem dL_law_741 : decode cL_law 741 = .ok (.iadd, 1) := dk_96 (dk_at dksL_law_27 23 rfl rfl)
theorem dL_law_742 : decode cL_law 742 = .ok (.iaload, 1) := dk_46 (dk_at dksL_law_28 0 rfl rfl)
theorem dL_law_743 : decode cL_law 743 = .ok (.ifCond .eq 7, 3) := dk_153 0 7 (dk_at dksL_law_28 1 rfl rfl)
theorem dL_law_746 : decode cL_law 746 = .ok (.iconst 1, 1) := dk_4 (dk_at dksL_law_28 4 rfl rfl)
theorem dL_law_747 : decode cL_law 747 = .ok (.goto 4, 3) := dk_167 0 4 (dk_at dksL_law_28 5 rfl rfl)
theorem dL_law_750 : decode cL_law 750 = .ok (.iconst 0, 1) := dk_3 (dk_at dksL_law_28 8 rfl rfl)
theorem dL_law_751 : decode cL_law 751 = .ok (.aload_n 0, 1) := dk_42 (dk_at dksL_law_28 9 rfl rfl)
theorem dL_law_752 : decode cL_law 752 = .ok (.iload 4, 2) := dk_21 4 (dk_at dksL_law_28 10 rfl rfl)
theorem dL_law_754 : decode cL_law 754 = .ok (.iconst 2, 1) := dk_5 (dk_at dksL_law_28 12 rfl rfl)
theorem dL_law_755 : decode cL_law 755 = .ok (.iadd, 1) := dk_96 (dk_at dksL_law_28 13 rfl rfl)
theorem dL_law_756 : decode cL_law 756 = .ok (.iaload, 1) := dk_46 (dk_at dksL_law_28 14 rfl rfl)
theorem dL_law_757 : decode cL_law 757 = .ok (.invokevirtual 95, 3) := dk_182 0 95 (dk_at dksL_law_28 15 rfl rfl)
theorem dL_law_760 : decode cL_law 760 = .ok (.aload_n 2, 1) := dk_44 (dk_at dksL_law_28 18 rfl rfl)
theorem dL_law_761 : decode cL_law 761 = .ok (.aload_n 0, 1) := dk_42 (dk_at dksL_law_28 19 rfl rfl)
theorem dL_law_762 : decode cL_law 762 = .ok (.iload 4, 2) := dk_21 4 (dk_at dksL_law_28 20 rfl rfl)
theorem dL_law_764 : decode cL_law 764 = .ok (.iconst 1, 1) := dk_4 (dk_at dksL_law_28 22 rfl rfl)
theorem dL_law_765 : decode cL_law 765 = .ok (.iadd, 1) := dk_96 (dk_at dksL_law_28 23 rfl rfl)
theorem dL_law_766 : decode cL_law 766 = .ok (.iaload, 1) := dk_46 (dk_at dksL_law_29 0 rfl rfl)
theorem dL_law_767 : decode cL_law 767 = .ok (.ifCond .eq 7, 3) := dk_153 0 7 (dk_at dksL_law_29 1 rfl rfl)
theorem dL_law_770 : decode cL_law 770 = .ok (.iconst 1, 1) := dk_4 (dk_at dksL_law_29 4 rfl rfl)
theorem dL_law_771 : decode cL_law 771 = .ok (.goto 4, 3) := dk_167 0 4 (dk_at dksL_law_29 5 rfl rfl)
theorem dL_law_774 : decode cL_law 774 = .ok (.iconst 0, 1) := dk_3 (dk_at dksL_law_29 8 rfl rfl)
theorem dL_law_775 : decode cL_law 775 = .ok (.aload_n 0, 1) := dk_42 (dk_at dksL_law_29 9 rfl rfl)
theorem dL_law_776 : decode cL_law 776 = .ok (.iload 4, 2) := dk_21 4 (dk_at dksL_law_29 10 rfl rfl)
theorem dL_law_778 : decode cL_law 778 = .ok (.iconst 2, 1) := dk_5 (dk_at dksL_law_29 12 rfl rfl)
theorem dL_law_779 : decode cL_law 779 = .ok (.iadd, 1) := dk_96 (dk_at dksL_law_29 13 rfl rfl)
theorem dL_law_780 : decode cL_law 780 = .ok (.iaload, 1) := dk_46 (dk_at dksL_law_29 14 rfl rfl)
theorem dL_law_781 : decode cL_law 781 = .ok (.invokevirtual 99, 3) := dk_182 0 99 (dk_at dksL_law_29 15 rfl rfl)
theorem dL_law_784 : decode cL_law 784 = .ok (.lcmp, 1) := dk_148 (dk_at dksL_law_29 18 rfl rfl)
theorem dL_law_785 : decode cL_law 785 = .ok (.ifCond .eq 183, 3) := dk_153 0 183 (dk_at dksL_law_29 19 rfl rfl)
theorem dL_law_788 : decode cL_law 788 = .ok (.iconst 0, 1) := dk_3 (dk_at dksL_law_29 22 rfl rfl)
theorem dL_law_789 : decode cL_law 789 = .ok (.ireturn, 1) := dk_172 (dk_at dksL_law_29 23 rfl rfl)
theorem dL_law_790 : decode cL_law 790 = .ok (.aload_n 1, 1) := dk_43 (dk_at dksL_law_30 0 rfl rfl)
theorem dL_law_791 : decode cL_law 791 = .ok (.aload_n 0, 1) := dk_42 (dk_at dksL_law_30 1 rfl rfl)
theorem dL_law_792 : decode cL_law 792 = .ok (.iload 4, 2) := dk_21 4 (dk_at dksL_law_30 2 rfl rfl)
theorem dL_law_794 : decode cL_law 794 = .ok (.iconst 1, 1) := dk_4 (dk_at dksL_law_30 4 rfl rfl)
theorem dL_law_795 : decode cL_law 795 = .ok (.iadd, 1) := dk_96 (dk_at dksL_law_30 5 rfl rfl)
theorem dL_law_796 : decode cL_law 796 = .ok (.iaload, 1) := dk_46 (dk_at dksL_law_30 6 rfl rfl)
theorem dL_law_797 : decode cL_law 797 = .ok (.invokevirtual 100, 3) := dk_182 0 100 (dk_at dksL_law_30 7 rfl rfl)
theorem dL_law_800 : decode cL_law 800 = .ok (.aload_n 2, 1) := dk_44 (dk_at dksL_law_30 10 rfl rfl)
theorem dL_law_801 : decode cL_law 801 = .ok (.aload_n 0, 1) := dk_42 (dk_at dksL_law_30 11 rfl rfl)
theorem dL_law_802 : decode cL_law 802 = .ok (.iload 4, 2) := dk_21 4 (dk_at dksL_law_30 12 rfl rfl)
theorem dL_law_804 : decode cL_law 804 = .ok (.iconst 1, 1) := dk_4 (dk_at dksL_law_30 14 rfl rfl)
theorem dL_law_805 : decode cL_law 805 = .ok (.iadd, 1) := dk_96 (dk_at dksL_law_30 15 rfl rfl)
theorem dL_law_806 : decode cL_law 806 = .ok (.iaload, 1) := dk_46 (dk_at dksL_law_30 16 rfl rfl)
theorem dL_law_807 : decode cL_law 807 = .ok (.invokevirtual 103, 3) := dk_182 0 103 (dk_at dksL_law_30 17 rfl rfl)
theorem dL_law_810 : decode cL_law 810 = .ok (.if_icmp .eq 158, 3) := dk_159 0 158 (dk_at dksL_law_30 20 rfl rfl)
theorem dL_law_813 : decode cL_law 813 = .ok (.iconst 0, 1) := dk_3 (dk_at dksL_law_30 23 rfl rfl)
theorem dL_law_814 : decode cL_law 814 = .ok (.ireturn, 1) := dk_172 (dk_at dksL_law_31 0 rfl rfl)
theorem dL_law_815 : decode cL_law 815 = .ok (.aload_n 1, 1) := dk_43 (dk_at dksL_law_31 1 rfl rfl)
theorem dL_law_816 : decode cL_law 816 = .ok (.aload_n 0, 1) := dk_42 (dk_at dksL_law_31 2 rfl rfl)
theorem dL_law_817 : decode cL_law 817 = .ok (.iload 4, 2) := dk_21 4 (dk_at dksL_law_31 3 rfl rfl)
theorem dL_law_819 : decode cL_law 819 = .ok (.iconst 1, 1) := dk_4 (dk_at dksL_law_31 5 rfl rfl)
theorem dL_law_820 : decode cL_law 820 = .ok (.iadd, 1) := dk_96 (dk_at dksL_law_31 6 rfl rfl)
theorem dL_law_821 : decode cL_law 821 = .ok (.iaload, 1) := dk_46 (dk_at dksL_law_31 7 rfl rfl)
theorem dL_law_822 : decode cL_law 822 = .ok (.invokevirtual 104, 3) := dk_182 0 104 (dk_at dksL_law_31 8 rfl rfl)
theorem dL_law_825 : decode cL_law 825 = .ok (.aload_n 2, 1) := dk_44 (dk_at dksL_law_31 11 rfl rfl)
theorem dL_law_826 : decode cL_law 826 = .ok (.aload_n 0, 1) := dk_42 (dk_at dksL_law_31 12 rfl rfl)
theorem dL_law_827 : decode cL_law 827 = .ok (.iload 4, 2) := dk_21 4 (dk_at dksL_law_31 13 rfl rfl)
theorem dL_law_829 : decode cL_law 829 = .ok (.iconst 1, 1) := dk_4 (dk_at dksL_law_31 15 rfl rfl)
theorem dL_law_830 : decode cL_law 830 = .ok (.iadd, 1) := dk_96 (dk_at dksL_law_31 16 rfl rfl)
theorem dL_law_831 : decode cL_law 831 = .ok (.iaload, 1) := dk_46 (dk_at dksL_law_31 17 rfl rfl)
theorem dL_law_832 : decode cL_law 832 = .ok (.invokevirtual 107, 3) := dk_182 0 107 (dk_at dksL_law_31 18 rfl rfl)
theorem dL_law_835 : decode cL_law 835 = .ok (.if_icmp .eq 133, 3) := dk_159 0 133 (dk_at dksL_law_31 21 rfl rfl)
theorem dL_law_838 : decode cL_law 838 = .ok (.iconst 0, 1) := dk_3 (dk_at dksL_law_32 0 rfl rfl)
theorem dL_law_839 : decode cL_law 839 = .ok (.ireturn, 1) := dk_172 (dk_at dksL_law_32 1 rfl rfl)
theorem dL_law_840 : decode cL_law 840 = .ok (.aload_n 1, 1) := dk_43 (dk_at dksL_law_32 2 rfl rfl)
theorem dL_law_841 : decode cL_law 841 = .ok (.aload_n 0, 1) := dk_42 (dk_at dksL_law_32 3 rfl rfl)
theorem dL_law_842 : decode cL_law 842 = .ok (.iload 4, 2) := dk_21 4 (dk_at dksL_law_32 4 rfl rfl)
theorem dL_law_844 : decode cL_law 844 = .ok (.iconst 1, 1) := dk_4 (dk_at dksL_law_32 6 rfl rfl)
theorem dL_law_845 : decode cL_law 845 = .ok (.iadd, 1) := dk_96 (dk_at dksL_law_32 7 rfl rfl)
theorem dL_law_846 : decode cL_law 846 = .ok (.iaload, 1) := dk_46 (dk_at dksL_law_32 8 rfl rfl)
theorem dL_law_847 : decode cL_law 847 = .ok (.invokevirtual 108, 3) := dk_182 0 108 (dk_at dksL_law_32 9 rfl rfl)
theorem dL_law_850 : decode cL_law 850 = .ok (.aload_n 2, 1) := dk_44 (dk_at dksL_law_32 12 rfl rfl)
theorem dL_law_851 : decode cL_law 851 = .ok (.aload_n 0, 1) := dk_42 (dk_at dksL_law_32 13 rfl rfl)
theorem dL_law_852 : decode cL_law 852 = .ok (.iload 4, 2) := dk_21 4 (dk_at dksL_law_32 14 rfl rfl)
theorem dL_law_854 : decode cL_law 854 = .ok (.iconst 1, 1) := dk_4 (dk_at dksL_law_32 16 rfl rfl)
theorem dL_law_855 : decode cL_law 855 = .ok (.iadd, 1) := dk_96 (dk_at dksL_law_32 17 rfl rfl)
theorem dL_law_856 : decode cL_law 856 = .ok (.iaload, 1) := dk_46 (dk_at dksL_law_32 18 rfl rfl)
theorem dL_law_857 : decode cL_law 857 = .ok (.invokevirtual 112, 3) := dk_182 0 112 (dk_at dksL_law_32 19 rfl rfl)
theorem dL_law_860 : decode cL_law 860 = .ok (.lcmp, 1) := dk_148 (dk_at dksL_law_32 22 rfl rfl)
theorem dL_law_861 : decode cL_law 861 = .ok (.ifCond .eq 107, 3) := dk_153 0 107 (dk_at dksL_law_33 0 rfl rfl)
theorem dL_law_864 : decode cL_law 864 = .ok (.iconst 0, 1) := dk_3 (dk_at dksL_law_33 3 rfl rfl)
theorem dL_law_865 : decode cL_law 865 = .ok (.ireturn, 1) := dk_172 (dk_at dksL_law_33 4 rfl rfl)
theorem dL_law_866 : decode cL_law 866 = .ok (.aload_n 1, 1) := dk_43 (dk_at dksL_law_33 5 rfl rfl)
theorem dL_law_867 : decode cL_law 867 = .ok (.invokevirtual 113, 3) := dk_182 0 113 (dk_at dksL_law_33 6 rfl rfl)
theorem dL_law_870 : decode cL_law 870 = .ok (.aload_n 2, 1) := dk_44 (dk_at dksL_law_33 9 rfl rfl)
theorem dL_law_871 : decode cL_law 871 = .ok (.invokevirtual 116, 3) := dk_182 0 116 (dk_at dksL_law_33 10 rfl rfl)
theorem dL_law_874 : decode cL_law 874 = .ok (.if_icmp .eq 94, 3) := dk_159 0 94 (dk_at dksL_law_33 13 rfl rfl)
theorem dL_law_877 : decode cL_law 877 = .ok (.iconst 0, 1) := dk_3 (dk_at dksL_law_33 16 rfl rfl)
theorem dL_law_878 : decode cL_law 878 = .ok (.ireturn, 1) := dk_172 (dk_at dksL_law_33 17 rfl rfl)
theorem dL_law_879 : decode cL_law 879 = .ok (.aload_n 1, 1) := dk_43 (dk_at dksL_law_33 18 rfl rfl)
theorem dL_law_880 : decode cL_law 880 = .ok (.aload_n 0, 1) := dk_42 (dk_at dksL_law_33 19 rfl rfl)
theorem dL_law_881 : decode cL_law 881 = .ok (.iload 4, 2) := dk_21 4 (dk_at dksL_law_33 20 rfl rfl)
theorem dL_law_883 : decode cL_law 883 = .ok (.iconst 1, 1) := dk_4 (dk_at dksL_law_33 22 rfl rfl)
theorem dL_law_884 : decode cL_law 884 = .ok (.iadd, 1) := dk_96 (dk_at dksL_law_33 23 rfl rfl)
theorem dL_law_885 : decode cL_law 885 = .ok (.iaload, 1) := dk_46 (dk_at dksL_law_34 0 rfl rfl)
theorem dL_law_886 : decode cL_law 886 = .ok (.invokevirtual 117, 3) := dk_182 0 117 (dk_at dksL_law_34 1 rfl rfl)
theorem dL_law_889 : decode cL_law 889 = .ok (.aload_n 2, 1) := dk_44 (dk_at dksL_law_34 4 rfl rfl)
theorem dL_law_890 : decode cL_law 890 = .ok (.aload_n 0, 1) := dk_42 (dk_at dksL_law_34 5 rfl rfl)
theorem dL_law_891 : decode cL_law 891 = .ok (.iload 4, 2) := dk_21 4 (dk_at dksL_law_34 6 rfl rfl)
theorem dL_law_893 : decode cL_law 893 = .ok (.iconst 1, 1) := dk_4 (dk_at dksL_law_34 8 rfl rfl)
theorem dL_law_894 : decode cL_law 894 = .ok (.iadd, 1) := dk_96 (dk_at dksL_law_34 9 rfl rfl)
theorem dL_law_895 : decode cL_law 895 = .ok (.iaload, 1) := dk_46 (dk_at dksL_law_34 10 rfl rfl)
theorem dL_law_896 : decode cL_law 896 = .ok (.invokevirtual 120, 3) := dk_182 0 120 (dk_at dksL_law_34 11 rfl rfl)
theorem dL_law_899 : decode cL_law 899 = .ok (.if_icmp .eq 69, 3) := dk_159 0 69 (dk_at dksL_law_34 14 rfl rfl)
theorem dL_law_902 : decode cL_law 902 = .ok (.iconst 0, 1) := dk_3 (dk_at dksL_law_34 17 rfl rfl)
theorem dL_law_903 : decode cL_law 903 = .ok (.ireturn, 1) := dk_172 (dk_at dksL_law_34 18 rfl rfl)
theorem dL_law_904 : decode cL_law 904 = .ok (.aload_n 1, 1) := dk_43 (dk_at dksL_law_34 19 rfl rfl)
theorem dL_law_905 : decode cL_law 905 = .ok (.invokevirtual 121, 3) := dk_182 0 121 (dk_at dksL_law_34 20 rfl rfl)
theorem dL_law_908 : decode cL_law 908 = .ok (.aload_n 2, 1) := dk_44 (dk_at dksL_law_34 23 rfl rfl)
theorem dL_law_909 : decode cL_law 909 = .ok (.invokevirtual 124, 3) := dk_182 0 124 (dk_at dksL_law_35 0 rfl rfl)
theorem dL_law_912 : decode cL_law 912 = .ok (.if_icmp .eq 56, 3) := dk_159 0 56 (dk_at dksL_law_35 3 rfl rfl)
theorem dL_law_915 : decode cL_law 915 = .ok (.iconst 0, 1) := dk_3 (dk_at dksL_law_35 6 rfl rfl)
theorem dL_law_916 : decode cL_law 916 = .ok (.ireturn, 1) := dk_172 (dk_at dksL_law_35 7 rfl rfl)
theorem dL_law_917 : decode cL_law 917 = .ok (.aload_n 1, 1) := dk_43 (dk_at dksL_law_35 8 rfl rfl)
theorem dL_law_918 : decode cL_law 918 = .ok (.aload_n 0, 1) := dk_42 (dk_at dksL_law_35 9 rfl rfl)
theorem dL_law_919 : decode cL_law 919 = .ok (.iload 4, 2) := dk_21 4 (dk_at dksL_law_35 10 rfl rfl)
theorem dL_law_921 : decode cL_law 921 = .ok (.iconst 1, 1) := dk_4 (dk_at dksL_law_35 12 rfl rfl)
theorem dL_law_922 : decode cL_law 922 = .ok (.iadd, 1) := dk_96 (dk_at dksL_law_35 13 rfl rfl)
theorem dL_law_923 : decode cL_law 923 = .ok (.iaload, 1) := dk_46 (dk_at dksL_law_35 14 rfl rfl)
theorem dL_law_924 : decode cL_law 924 = .ok (.invokevirtual 125, 3) := dk_182 0 125 (dk_at dksL_law_35 15 rfl rfl)
theorem dL_law_927 : decode cL_law 927 = .ok (.aload_n 2, 1) := dk_44 (dk_at dksL_law_35 18 rfl rfl)
theorem dL_law_928 : decode cL_law 928 = .ok (.aload_n 0, 1) := dk_42 (dk_at dksL_law_35 19 rfl rfl)
theorem dL_law_929 : decode cL_law 929 = .ok (.iload 4, 2) := dk_21 4 (dk_at dksL_law_35 20 rfl rfl)
theorem dL_law_931 : decode cL_law 931 = .ok (.iconst 1, 1) := dk_4 (dk_at dksL_law_35 22 rfl rfl)
theorem dL_law_932 : decode cL_law 932 = .ok (.iadd, 1) := dk_96 (dk_at dksL_law_35 23 rfl rfl)
theorem dL_law_933 : decode cL_law 933 = .ok (.iaload, 1) := dk_46 (dk_at dksL_law_36 0 rfl rfl)
theorem dL_law_934 : decode cL_law 934 = .ok (.invokevirtual 128, 3) := dk_182 0 128 (dk_at dksL_law_36 1 rfl rfl)
theorem dL_law_937 : decode cL_law 937 = .ok (.if_icmp .eq 31, 3) := dk_159 0 31 (dk_at dksL_law_36 4 rfl rfl)
theorem dL_law_940 : decode cL_law 940 = .ok (.iconst 0, 1) := dk_3 (dk_at dksL_law_36 7 rfl rfl)
theorem dL_law_941 : decode cL_law 941 = .ok (.ireturn, 1) := dk_172 (dk_at dksL_law_36 8 rfl rfl)
theorem dL_law_942 : decode cL_law 942 = .ok (.aload_n 1, 1) := dk_43 (dk_at dksL_law_36 9 rfl rfl)
theorem dL_law_943 : decode cL_law 943 = .ok (.invokevirtual 129, 3) := dk_182 0 129 (dk_at dksL_law_36 10 rfl rfl)
theorem dL_law_946 : decode cL_law 946 = .ok (.aload_n 2, 1) := dk_44 (dk_at dksL_law_36 13 rfl rfl)
theorem dL_law_947 : decode cL_law 947 = .ok (.invokevirtual 132, 3) := dk_182 0 132 (dk_at dksL_law_36 14 rfl rfl)
theorem dL_law_950 : decode cL_law 950 = .ok (.if_icmp .eq 18, 3) := dk_159 0 18 (dk_at dksL_law_36 17 rfl rfl)
theorem dL_law_953 : decode cL_law 953 = .ok (.iconst 0, 1) := dk_3 (dk_at dksL_law_36 20 rfl rfl)
theorem dL_law_954 : decode cL_law 954 = .ok (.ireturn, 1) := dk_172 (dk_at dksL_law_36 21 rfl rfl)
theorem dL_law_955 : decode cL_law 955 = .ok (.aload_n 1, 1) := dk_43 (dk_at dksL_law_36 22 rfl rfl)
theorem dL_law_956 : decode cL_law 956 = .ok (.invokevirtual 133, 3) := dk_182 0 133 (dk_at dksL_law_37 0 rfl rfl)
theorem dL_law_959 : decode cL_law 959 = .ok (.aload_n 2, 1) := dk_44 (dk_at dksL_law_37 3 rfl rfl)
theorem dL_law_960 : decode cL_law 960 = .ok (.invokevirtual 137, 3) := dk_182 0 137 (dk_at dksL_law_37 4 rfl rfl)
theorem dL_law_963 : decode cL_law 963 = .ok (.if_icmp .eq 5, 3) := dk_159 0 5 (dk_at dksL_law_37 7 rfl rfl)
theorem dL_law_966 : decode cL_law 966 = .ok (.iconst 0, 1) := dk_3 (dk_at dksL_law_37 10 rfl rfl)
theorem dL_law_967 : decode cL_law 967 = .ok (.ireturn, 1) := dk_172 (dk_at dksL_law_37 11 rfl rfl)
theorem dL_law_968 : decode cL_law 968 = .ok (.iinc 4 6, 3) := dk_132 4 6 (dk_at dksL_law_37 12 rfl rfl)
theorem dL_law_971 : decode cL_law 971 = .ok (.goto (-948), 3) := dk_167 252 76 (dk_at dksL_law_37 15 rfl rfl)
theorem dL_law_974 : decode cL_law 974 = .ok (.iconst 1, 1) := dk_4 (dk_at dksL_law_37 18 rfl rfl)
theorem dL_law_975 : decode cL_law 975 = .ok (.ireturn, 1) := dk_172 (dk_at dksL_law_37 19 rfl rfl)

