set_option maxRecDepth 100000
set_option maxRecDepth 100000
abbrev cX9_init : ByteArray := prog_12_method_1_code
def yX9_init : MethodName := ⟨RX9, "<init>", "(LContractLedger$Memory;LContractLedger$Types;)V"⟩
def dkwX9_init_1 : List UInt8 := [17, 0, 200, 183, 0, 9, 181, 0, 18, 42, 43, 181, 0, 21, 42, 44, 181, 0, 25, 177]
abbrev dktX9_init_1 : List UInt8 := dkwX9_init_1 ++ []
def dkwX9_init_0 : List UInt8 := [42, 183, 0, 1, 42, 187, 0, 7, 89, 17, 0, 200, 183, 0, 9, 181, 0, 12, 42, 187, 0, 7, 89]
abbrev dktX9_init_0 : List UInt8 := dkwX9_init_0 ++ dktX9_init_1
theorem dksX9_init_0 : cX9_init.data.toList.drop 0 = dktX9_init_0 := by decide +kernel
theorem dksX9_init_1 : cX9_init.data.toList.drop 23 = dktX9_init_1 := dk_seg dksX9_init_0 23 rfl rfl
theorem dX9_init_0 : decode cX9_init 0 = .ok (.aload_n 0, 1) := dk_42 (dk_at dksX9_init_0 0 rfl rfl)
theorem dX9_init_1 : decode cX9_init 1 = .ok (.invokespecial 1, 3) := dk_183 0 1 (dk_at dksX9_init_0 1 rfl rfl)
theorem dX9_init_4 : decode cX9_init 4 = .ok (.aload_n 0, 1) := dk_42 (dk_at dksX9_init_0 4 rfl rfl)
theorem dX9_init_5 : decode cX9_init 5 = .ok (.new 7, 3) := dk_187 0 7 (dk_at dksX9_init_0 5 rfl rfl)
theorem dX9_init_8 : decode cX9_init 8 = .ok (.dup, 1) := dk_89 (dk_at dksX9_init_0 8 rfl rfl)
theorem dX9_init_9 : decode cX9_init 9 = .ok (.sipush 200, 3) := dk_17 0 200 (dk_at dksX9_init_0 9 rfl rfl)
theorem dX9_init_12 : decode cX9_init 12 = .ok (.invokespecial 9, 3) := dk_183 0 9 (dk_at dksX9_init_0 12 rfl rfl)
theorem dX9_init_15 : decode cX9_init 15 = .ok (.putfield 12, 3) := dk_181 0 12 (dk_at dksX9_init_0 15 rfl rfl)
theorem dX9_init_18 : decode cX9_init 18 = .ok (.aload_n 0, 1) := dk_42 (dk_at dksX9_init_0 18 rfl rfl)
theorem dX9_init_19 : decode cX9_init 19 = .ok (.new 7, 3) := dk_187 0 7 (dk_at dksX9_init_0 19 rfl rfl)
theorem dX9_init_22 : decode cX9_init 22 = .ok (.dup, 1) := dk_89 (dk_at dksX9_init_0 22 rfl rfl)
theorem dX9_init_23 : decode cX9_init 23 = .ok (.sipush 200, 3) := dk_17 0 200 (dk_at dksX9_init_1 0 rfl rfl)
theorem dX9_init_26 : decode cX9_init 26 = .ok (.invokespecial 9, 3) := dk_183 0 9 (dk_at dksX9_init_1 3 rfl rfl)
theorem dX9_init_29 : decode cX9_init 29 = .ok (.putfield 18, 3) := dk_181 0 18 (dk_at dksX9_init_1 6 rfl rfl)
theorem dX9_init_32 : decode cX9_init 32 = .ok (.aload_n 0, 1) := dk_42 (dk_at dksX9_init_1 9 rfl rfl)
theorem dX9_init_33 : decode cX9_init 33 = .ok (.aload_n 1, 1) := dk_43 (dk_at dksX9_init_1 10 rfl rfl)
theorem dX9_init_34 : decode cX9_init 34 = .ok (.putfield 21, 3) := dk_181 0 21 (dk_at dksX9_init_1 11 rfl rfl)
theorem dX9_init_37 : decode cX9_init 37 = .ok (.aload_n 0, 1) := dk_42 (dk_at dksX9_init_1 14 rfl rfl)
theorem dX9_init_38 : decode cX9_init 38 = .ok (.aload_n 2, 1) := dk_44 (dk_at dksX9_init_1 15 rfl rfl)
theorem dX9_init_39 : decode cX9_init 39 = .ok (.putfield 25, 3) := dk_181 0 25 (dk_at dksX9_init_1 16 rfl rfl)
theorem dX9_init_42 : decode cX9_init 42 = .ok (.return_, 1) := dk_177 (dk_at dksX9_init_1 19 rfl rfl)
abbrev cX9_compare : ByteArray := prog_12_method_5_code
def yX9_compare : MethodName := ⟨RX9, "compare", "(III)I"⟩
def dkwX9_compare_13 : List UInt8 := [182, 0, 84, 172]
abbrev dktX9_compare_13 : List UInt8 := dkwX9_compare_13 ++ []
def dkwX9_compare_12 : List UInt8 := [180, 0, 21, 28, 6, 182, 0, 68, 42, 180, 0, 25, 180, 0, 81, 29, 46, 182, 0, 75, 172, 42, 27, 28]
abbrev dktX9_compare_12 : List UInt8 := dkwX9_compare_12 ++ dktX9_compare_13
def dkwX9_compare_11 : List UInt8 := [54, 4, 21, 4, 153, 0, 8, 21, 4, 167, 0, 34, 42, 42, 180, 0, 21, 27, 6, 182, 0, 68, 42]
abbrev dktX9_compare_11 : List UInt8 := dkwX9_compare_11 ++ dktX9_compare_12
def dkwX9_compare_10 : List UInt8 := [182, 0, 68, 42, 180, 0, 21, 28, 5, 182, 0, 68, 42, 180, 0, 25, 180, 0, 71, 29, 46, 182, 0, 75]
abbrev dktX9_compare_10 : List UInt8 := dkwX9_compare_10 ++ dktX9_compare_11
def dkwX9_compare_9 : List UInt8 := [167, 0, 12, 42, 180, 0, 25, 180, 0, 81, 29, 46, 182, 0, 75, 172, 42, 42, 180, 0, 21, 27, 5]
abbrev dktX9_compare_9 : List UInt8 := dkwX9_compare_9 ++ dktX9_compare_10
def dkwX9_compare_8 : List UInt8 := [182, 0, 68, 42, 180, 0, 21, 27, 182, 0, 78, 8, 160, 0, 15, 42, 180, 0, 25, 180, 0, 71, 29, 46]
abbrev dktX9_compare_8 : List UInt8 := dkwX9_compare_8 ++ dktX9_compare_9
def dkwX9_compare_7 : List UInt8 := [182, 0, 78, 100, 184, 0, 43, 172, 42, 42, 180, 0, 21, 27, 5, 182, 0, 68, 42, 180, 0, 21, 28, 5]
abbrev dktX9_compare_7 : List UInt8 := dkwX9_compare_7 ++ dktX9_compare_8
def dkwX9_compare_6 : List UInt8 := [42, 180, 0, 21, 28, 182, 0, 78, 159, 0, 24, 42, 180, 0, 21, 27, 182, 0, 78, 42, 180, 0, 21, 28]
abbrev dktX9_compare_6 : List UInt8 := dkwX9_compare_6 ++ dktX9_compare_7
def dkwX9_compare_5 : List UInt8 := [182, 0, 68, 42, 180, 0, 25, 180, 0, 71, 29, 46, 182, 0, 75, 172, 42, 180, 0, 21, 27, 182, 0, 78]
abbrev dktX9_compare_5 : List UInt8 := dkwX9_compare_5 ++ dktX9_compare_6
def dkwX9_compare_4 : List UInt8 := [167, 0, 4, 4, 100, 172, 42, 42, 180, 0, 21, 27, 5, 182, 0, 68, 42, 180, 0, 21, 28, 5]
abbrev dktX9_compare_4 : List UInt8 := dkwX9_compare_4 ++ dktX9_compare_5
def dkwX9_compare_3 : List UInt8 := [16, 8, 160, 0, 27, 27, 16, 8, 160, 0, 7, 3, 167, 0, 4, 4, 28, 16, 8, 160, 0, 7, 3]
abbrev dktX9_compare_3 : List UInt8 := dkwX9_compare_3 ++ dktX9_compare_4
def dkwX9_compare_2 : List UInt8 := [3, 172, 27, 28, 100, 184, 0, 43, 172, 42, 27, 28, 182, 0, 65, 172, 27, 16, 8, 159, 0, 9, 28]
abbrev dktX9_compare_2 : List UInt8 := dkwX9_compare_2 ++ dktX9_compare_3
def dkwX9_compare_1 : List UInt8 := [170, 0, 0, 0, 0, 1, 90, 0, 0, 0, 0, 0, 0, 0, 18, 0, 0, 0, 91, 0, 0, 0, 93, 0, 0, 1, 90, 0, 0, 1, 90, 0, 0, 1, 90, 0, 0, 0, 100, 0, 0, 0, 100, 0, 0, 0, 100, 0, 0, 1, 90, 0, 0, 1, 90, 0, 0, 0, 107, 0, 0, 1, 90, 0, 0, 1, 90, 0, 0, 1, 90, 0, 0, 0, 175, 0, 0, 1, 90, 0, 0, 1, 90, 0, 0, 1, 90, 0, 0, 1, 15]
abbrev dktX9_compare_1 : List UInt8 := dkwX9_compare_1 ++ dktX9_compare_2
def dkwX9_compare_0 : List UInt8 := [42, 180, 0, 25, 180, 0, 59, 29, 51]
abbrev dktX9_compare_0 : List UInt8 := dkwX9_compare_0 ++ dktX9_compare_1
theorem dksX9_compare_0 : cX9_compare.data.toList.drop 0 = dktX9_compare_0 := by decide +kernel
theorem dksX9_compare_1 : cX9_compare.data.toList.drop 9 = dktX9_compare_1 := dk_seg dksX9_compare_0 9 rfl rfl
theorem dksX9_compare_2 : cX9_compare.data.toList.drop 100 = dktX9_compare_2 := dk_seg dksX9_compare_1 91 rfl rfl
theorem dksX9_compare_3 : cX9_compare.data.toList.drop 123 = dktX9_compare_3 := dk_seg dksX9_compare_2 23 rfl rfl
theorem dksX9_compare_4 : cX9_compare.data.toList.drop 146 = dktX9_compare_4 := dk_seg dksX9_compare_3 23 rfl rfl
theorem dksX9_compare_5 : cX9_compare.data.toList.drop 168 = dktX9_compare_5 := dk_seg dksX9_compare_4 22 rfl rfl
theorem dksX9_compare_6 : cX9_compare.data.toList.drop 192 = dktX9_compare_6 := dk_seg dksX9_compare_5 24 rfl rfl
theorem dksX9_compare_7 : cX9_compare.data.toList.drop 216 = dktX9_compare_7 := dk_seg dksX9_compare_6 24 rfl rfl
theorem dksX9_compare_8 : cX9_compare.data.toList.drop 240 = dktX9_compare_8 := dk_seg dksX9_compare_7 24 rfl rfl
theorem dksX9_compare_9 : cX9_compare.data.toList.drop 264 = dktX9_compare_9 := dk_seg dksX9_compare_8 24 rfl rfl
theorem dksX9_compare_10 : cX9_compare.data.toList.drop 287 = dktX9_compare_10 := dk_seg dksX9_compare_9 23 rfl rfl
theorem dksX9_compare_11 : cX9_compare.data.toList.drop 311 = dktX9_compare_11 := dk_seg dksX9_compare_10 24 rfl rfl
theorem dksX9_compare_12 : cX9_compare.data.toList.drop 334 = dktX9_compare_12 := dk_seg dksX9_compare_11 23 rfl rfl
theorem dksX9_compare_13 : cX9_compare.data.toList.drop 358 = dktX9_compare_13 := dk_seg dksX9_compare_12 24 rfl rfl
theorem dX9_compare_0 : decode cX9_compare 0 = .ok (.aload_n 0, 1) := dk_42 (dk_at dksX9_compare_0 0 rfl rfl)
theorem dX9_compare_1 : decode cX9_compare 1 = .ok (.getfield 25, 3) := dk_180 0 25 (dk_at dksX9_compare_0 1 rfl rfl)
theorem dX9_compare_4 : decode cX9_compare 4 = .ok (.getfield 59, 3) := dk_180 0 59 (dk_at dksX9_compare_0 4 rfl rfl)
theorem dX9_compare_7 : decode cX9_compare 7 = .ok (.iload_n 3, 1) := dk_29 (dk_at dksX9_compare_0 7 rfl rfl)
theorem dX9_compare_8 : decode cX9_compare 8 = .ok (.baload, 1) := dk_51 (dk_at dksX9_compare_0 8 rfl rfl)
theorem dX9_compare_9 : decode cX9_compare 9 = .ok (.tableswitch 346 0 18 #[91, 93, 346, 346, 346, 100, 100, 100, 346, 346, 107, 346, 346, 346, 175, 346, 346, 346, 271], 91) := by decide +kernel
theorem dX9_compare_100 : decode cX9_compare 100 = .ok (.iconst 0, 1) := dk_3 (dk_at dksX9_compare_2 0 rfl rfl)
theorem dX9_compare_101 : decode cX9_compare 101 = .ok (.ireturn, 1) := dk_172 (dk_at dksX9_compare_2 1 rfl rfl)
theorem dX9_compare_102 : decode cX9_compare 102 = .ok (.iload_n 1, 1) := dk_27 (dk_at dksX9_compare_2 2 rfl rfl)
theorem dX9_compare_103 : decode cX9_compare 103 = .ok (.iload_n 2, 1) := dk_28 (dk_at dksX9_compare_2 3 rfl rfl)
theorem dX9_compare_104 : decode cX9_compare 104 = .ok (.isub, 1) := dk_100 (dk_at dksX9_compare_2 4 rfl rfl)
theorem dX9_compare_105 : decode cX9_compare 105 = .ok (.invokestatic 43, 3) := dk_184 0 43 (dk_at dksX9_compare_2 5 rfl rfl)
theorem dX9_compare_108 : decode cX9_compare 108 = .ok (.ireturn, 1) := dk_172 (dk_at dksX9_compare_2 8 rfl rfl)
theorem dX9_compare_109 : decode cX9_compare 109 = .ok (.aload_n 0, 1) := dk_42 (dk_at dksX9_compare_2 9 rfl rfl)
theorem dX9_compare_110 : decode cX9_compare 110 = .ok (.iload_n 1, 1) := dk_27 (dk_at dksX9_compare_2 10 rfl rfl)
theorem dX9_compare_111 : decode cX9_compare 111 = .ok (.iload_n 2, 1) := dk_28 (dk_at dksX9_compare_2 11 rfl rfl)
theorem dX9_compare_112 : decode cX9_compare 112 = .ok (.invokevirtual 65, 3) := dk_182 0 65 (dk_at dksX9_compare_2 12 rfl rfl)
theorem dX9_compare_115 : decode cX9_compare 115 = .ok (.ireturn, 1) := dk_172 (dk_at dksX9_compare_2 15 rfl rfl)
theorem dX9_compare_116 : decode cX9_compare 116 = .ok (.iload_n 1, 1) := dk_27 (dk_at dksX9_compare_2 16 rfl rfl)
theorem dX9_compare_117 : decode cX9_compare 117 = .ok (.bipush 8, 2) := dk_16 8 (dk_at dksX9_compare_2 17 rfl rfl)
theorem dX9_compare_119 : decode cX9_compare 119 = .ok (.if_icmp .eq 9, 3) := dk_159 0 9 (dk_at dksX9_compare_2 19 rfl rfl)
theorem dX9_compare_122 : decode cX9_compare 122 = .ok (.iload_n 2, 1) := dk_28 (dk_at dksX9_compare_2 22 rfl rfl)
theorem dX9_compare_123 : decode cX9_compare 123 = .ok (.bipush 8, 2) := dk_16 8 (dk_at dksX9_compare_3 0 rfl rfl)
theorem dX9_compare_125 : decode cX9_compare 125 = .ok (.if_icmp .ne 27, 3) := dk_160 0 27 (dk_at dksX9_compare_3 2 rfl rfl)
theorem dX9_compare_128 : decode cX9_compare 128 = .ok (.iload_n 1, 1) := dk_27 (dk_at dksX9_compare_3 5 rfl rfl)
theorem dX9_compare_129 : decode cX9_compare 129 = .ok (.bipush 8, 2) := dk_16 8 (dk_at dksX9_compare_3 6 rfl rfl)
theorem dX9_compare_131 : decode cX9_compare 131 = .ok (.if_icmp .ne 7, 3) := dk_160 0 7 (dk_at dksX9_compare_3 8 rfl rfl)
theorem dX9_compare_134 : decode cX9_compare 134 = .ok (.iconst 0, 1) := dk_3 (dk_at dksX9_compare_3 11 rfl rfl)
theorem dX9_compare_135 : decode cX9_compare 135 = .ok (.goto 4, 3) := dk_167 0 4 (dk_at dksX9_compare_3 12 rfl rfl)
theorem dX9_compare_138 : decode cX9_compare 138 = .ok (.iconst 1, 1) := dk_4 (dk_at dksX9_compare_3 15 rfl rfl)
theorem dX9_compare_139 : decode cX9_compare 139 = .ok (.iload_n 2, 1) := dk_28 (dk_at dksX9_compare_3 16 rfl rfl)
theorem dX9_compare_140 : decode cX9_compare 140 = .ok (.bipush 8, 2) := dk_16 8 (dk_at dksX9_compare_3 17 rfl rfl)
theorem dX9_compare_142 : decode cX9_compare 142 = .ok (.if_icmp .ne 7, 3) := dk_160 0 7 (dk_at dksX9_compare_3 19 rfl rfl)
theorem dX9_compare_145 : decode cX9_compare 145 = .ok (.iconst 0, 1) := dk_3 (dk_at dksX9_compare_3 22 rfl rfl)
theorem dX9_compare_146 : decode cX9_compare 146 = .ok (.goto 4, 3) := dk_167 0 4 (dk_at dksX9_compare_4 0 rfl rfl)
theorem dX9_compare_149 : decode cX9_compare 149 = .ok (.iconst 1, 1) := dk_4 (dk_at dksX9_compare_4 3 rfl rfl)
theorem dX9_compare_150 : decode cX9_compare 150 = .ok (.isub, 1) := dk_100 (dk_at dksX9_compare_4 4 rfl rfl)
theorem dX9_compare_151 : decode cX9_compare 151 = .ok (.ireturn, 1) := dk_172 (dk_at dksX9_compare_4 5 rfl rfl)
theorem dX9_compare_152 : decode cX9_compare 152 = .ok (.aload_n 0, 1) := dk_42 (dk_at dksX9_compare_4 6 rfl rfl)
theorem dX9_compare_153 : decode cX9_compare 153 = .ok (.aload_n 0, 1) := dk_42 (dk_at dksX9_compare_4 7 rfl rfl)
theorem dX9_compare_154 : decode cX9_compare 154 = .ok (.getfield 21, 3) := dk_180 0 21 (dk_at dksX9_compare_4 8 rfl rfl)
theorem dX9_compare_157 : decode cX9_compare 157 = .ok (.iload_n 1, 1) := dk_27 (dk_at dksX9_compare_4 11 rfl rfl)
theorem dX9_compare_158 : decode cX9_compare 158 = .ok (.iconst 2, 1) := dk_5 (dk_at dksX9_compare_4 12 rfl rfl)
theorem dX9_compare_159 : decode cX9_compare 159 = .ok (.invokevirtual 68, 3) := dk_182 0 68 (dk_at dksX9_compare_4 13 rfl rfl)
theorem dX9_compare_162 : decode cX9_compare 162 = .ok (.aload_n 0, 1) := dk_42 (dk_at dksX9_compare_4 16 rfl rfl)
theorem dX9_compare_163 : decode cX9_compare 163 = .ok (.getfield 21, 3) := dk_180 0 21 (dk_at dksX9_compare_4 17 rfl rfl)
theorem dX9_compare_166 : decode cX9_compare 166 = .ok (.iload_n 2, 1) := dk_28 (dk_at dksX9_compare_4 20 rfl rfl)
theorem dX9_compare_167 : decode cX9_compare 167 = .ok (.iconst 2, 1) := dk_5 (dk_at dksX9_compare_4 21 rfl rfl)
theorem dX9_compare_168 : decode cX9_compare 168 = .ok (.invokevirtual 68, 3) := dk_182 0 68 (dk_at dksX9_compare_5 0 rfl rfl)
theorem dX9_compare_171 : decode cX9_compare 171 = .ok (.aload_n 0, 1) := dk_42 (dk_at dksX9_compare_5 3 rfl rfl)
theorem dX9_compare_172 : decode cX9_compare 172 = .ok (.getfield 25, 3) := dk_180 0 25 (dk_at dksX9_compare_5 4 rfl rfl)
theorem dX9_compare_175 : decode cX9_compare 175 = .ok (.getfield 71, 3) := dk_180 0 71 (dk_at dksX9_compare_5 7 rfl rfl)
theorem dX9_compare_178 : decode cX9_compare 178 = .ok (.iload_n 3, 1) := dk_29 (dk_at dksX9_compare_5 10 rfl rfl)
theorem dX9_compare_179 : decode cX9_compare 179 = .ok (.iaload, 1) := dk_46 (dk_at dksX9_compare_5 11 rfl rfl)
theorem dX9_compare_180 : decode cX9_compare 180 = .ok (.invokevirtual 75, 3) := dk_182 0 75 (dk_at dksX9_compare_5 12 rfl rfl)
theorem dX9_compare_183 : decode cX9_compare 183 = .ok (.ireturn, 1) := dk_172 (dk_at dksX9_compare_5 15 rfl rfl)
theorem dX9_compare_184 : decode cX9_compare 184 = .ok (.aload_n 0, 1) := dk_42 (dk_at dksX9_compare_5 16 rfl rfl)
theorem dX9_compare_185 : decode cX9_compare 185 = .ok (.getfield 21, 3) := dk_180 0 21 (dk_at dksX9_compare_5 17 rfl rfl)
theorem dX9_compare_188 : decode cX9_compare 188 = .ok (.iload_n 1, 1) := dk_27 (dk_at dksX9_compare_5 20 rfl rfl)
theorem dX9_compare_189 : decode cX9_compare 189 = .ok (.invokevirtual 78, 3) := dk_182 0 78 (dk_at dksX9_compare_5 21 rfl rfl)
theorem dX9_compare_192 : decode cX9_compare 192 = .ok (.aload_n 0, 1) := dk_42 (dk_at dksX9_compare_6 0 rfl rfl)
theorem dX9_compare_193 : decode cX9_compare 193 = .ok (.getfield 21, 3) := dk_180 0 21 (dk_at dksX9_compare_6 1 rfl rfl)
theorem dX9_compare_196 : decode cX9_compare 196 = .ok (.iload_n 2, 1) := dk_28 (dk_at dksX9_compare_6 4 rfl rfl)
theorem dX9_compare_197 : decode cX9_compare 197 = .ok (.invokevirtual 78, 3) := dk_182 0 78 (dk_at dksX9_compare_6 5 rfl rfl)
theorem dX9_compare_200 : decode cX9_compare 200 = .ok (.if_icmp .eq 24, 3) := dk_159 0 24 (dk_at dksX9_compare_6 8 rfl rfl)
theorem dX9_compare_203 : decode cX9_compare 203 = .ok (.aload_n 0, 1) := dk_42 (dk_at dksX9_compare_6 11 rfl rfl)
theorem dX9_compare_204 : decode cX9_compare 204 = .ok (.getfield 21, 3) := dk_180 0 21 (dk_at dksX9_compare_6 12 rfl rfl)
theorem dX9_compare_207 : decode cX9_compare 207 = .ok (.iload_n 1, 1) := dk_27 (dk_at dksX9_compare_6 15 rfl rfl)
theorem dX9_compare_208 : decode cX9_compare 208 = .ok (.invokevirtual 78, 3) := dk_182 0 78 (dk_at dksX9_compare_6 16 rfl rfl)
theorem dX9_compare_211 : decode cX9_compare 211 = .ok (.aload_n 0, 1) := dk_42 (dk_at dksX9_compare_6 19 rfl rfl)
theorem dX9_compare_212 : decode cX9_compare 212 = .ok (.getfield 21, 3) := dk_180 0 21 (dk_at dksX9_compare_6 20 rfl rfl)
theorem dX9_compare_215 : decode cX9_compare 215 = .ok (.iload_n 2, 1) := dk_28 (dk_at dksX9_compare_6 23 rfl rfl)
theorem dX9_compare_216 : decode cX9_compare 216 = .ok (.invokevirtual 78, 3) := dk_182 0 78 (dk_at dksX9_compare_7 0 rfl rfl)
theorem dX9_compare_219 : decode cX9_compare 219 = .ok (.isub, 1) := dk_100 (dk_at dksX9_compare_7 3 rfl rfl)
theorem dX9_compare_220 : decode cX9_compare 220 = .ok (.invokestatic 43, 3) := dk_184 0 43 (dk_at dksX9_compare_7 4 rfl rfl)
theorem dX9_compare_223 : decode cX9_compare 223 = .ok (.ireturn, 1) := dk_172 (dk_at dksX9_compare_7 7 rfl rfl)
theorem dX9_compare_224 : decode cX9_compare 224 = .ok (.aload_n 0, 1) := dk_42 (dk_at dksX9_compare_7 8 rfl rfl)
theorem dX9_compare_225 : decode cX9_compare 225 = .ok (.aload_n 0, 1) := dk_42 (dk_at dksX9_compare_7 9 rfl rfl)
theorem dX9_compare_226 : decode cX9_compare 226 = .ok (.getfield 21, 3) := dk_180 0 21 (dk_at dksX9_compare_7 10 rfl rfl)
theorem dX9_compare_229 : decode cX9_compare 229 = .ok (.iload_n 1, 1) := dk_27 (dk_at dksX9_compare_7 13 rfl rfl)
theorem dX9_compare_230 : decode cX9_compare 230 = .ok (.iconst 2, 1) := dk_5 (dk_at dksX9_compare_7 14 rfl rfl)
theorem dX9_compare_231 : decode cX9_compare 231 = .ok (.invokevirtual 68, 3) := dk_182 0 68 (dk_at dksX9_compare_7 15 rfl rfl)
theorem dX9_compare_234 : decode cX9_compare 234 = .ok (.aload_n 0, 1) := dk_42 (dk_at dksX9_compare_7 18 rfl rfl)
theorem dX9_compare_235 : decode cX9_compare 235 = .ok (.getfield 21, 3) := dk_180 0 21 (dk_at dksX9_compare_7 19 rfl rfl)
theorem dX9_compare_238 : decode cX9_compare 238 = .ok (.iload_n 2, 1) := dk_28 (dk_at dksX9_compare_7 22 rfl rfl)
theorem dX9_compare_239 : decode cX9_compare 239 = .ok (.iconst 2, 1) := dk_5 (dk_at dksX9_compare_7 23 rfl rfl)
theorem dX9_compare_240 : decode cX9_compare 240 = .ok (.invokevirtual 68, 3) := dk_182 0 68 (dk_at dksX9_compare_8 0 rfl rfl)
theorem dX9_compare_243 : decode cX9_compare 243 = .ok (.aload_n 0, 1) := dk_42 (dk_at dksX9_compare_8 3 rfl rfl)
theorem dX9_compare_244 : decode cX9_compare 244 = .ok (.getfield 21, 3) := dk_180 0 21 (dk_at dksX9_compare_8 4 rfl rfl)
theorem dX9_compare_247 : decode cX9_compare 247 = .ok (.iload_n 1, 1) := dk_27 (dk_at dksX9_compare_8 7 rfl rfl)
theorem dX9_compare_248 : decode cX9_compare 248 = .ok (.invokevirtual 78, 3) := dk_182 0 78 (dk_at dksX9_compare_8 8 rfl rfl)
theorem dX9_compare_251 : decode cX9_compare 251 = .ok (.iconst 5, 1) := dk_8 (dk_at dksX9_compare_8 11 rfl rfl)
theorem dX9_compare_252 : decode cX9_compare 252 = .ok (.if_icmp .ne 15, 3) := dk_160 0 15 (dk_at dksX9_compare_8 12 rfl rfl)
theorem dX9_compare_255 : decode cX9_compare 255 = .ok (.aload_n 0, 1) := dk_42 (dk_at dksX9_compare_8 15 rfl rfl)
theorem dX9_compare_256 : decode cX9_compare 256 = .ok (.getfield 25, 3) := dk_180 0 25 (dk_at dksX9_compare_8 16 rfl rfl)
theorem dX9_compare_259 : decode cX9_compare 259 = .ok (.getfield 71, 3) := dk_180 0 71 (dk_at dksX9_compare_8 19 rfl rfl)
theorem dX9_compare_262 : decode cX9_compare 262 = .ok (.iload_n 3, 1) := dk_29 (dk_at dksX9_compare_8 22 rfl rfl)
theorem dX9_compare_263 : decode cX9_compare 263 = .ok (.iaload, 1) := dk_46 (dk_at dksX9_compare_8 23 rfl rfl)
theorem dX9_compare_264 : decode cX9_compare 264 = .ok (.goto 12, 3) := dk_167 0 12 (dk_at dksX9_compare_9 0 rfl rfl)
theorem dX9_compare_267 : decode cX9_compare 267 = .ok (.aload_n 0, 1) := dk_42 (dk_at dksX9_compare_9 3 rfl rfl)
theorem dX9_compare_268 : decode cX9_compare 268 = .ok (.getfield 25, 3) := dk_180 0 25 (dk_at dksX9_compare_9 4 rfl rfl)
theorem dX9_compare_271 : decode cX9_compare 271 = .ok (.getfield 81, 3) := dk_180 0 81 (dk_at dksX9_compare_9 7 rfl rfl)
theorem dX9_compare_274 : decode cX9_compare 274 = .ok (.iload_n 3, 1) := dk_29 (dk_at dksX9_compare_9 10 rfl rfl)
theorem dX9_compare_275 : decode cX9_compare 275 = .ok (.iaload, 1) := dk_46 (dk_at dksX9_compare_9 11 rfl rfl)
theorem dX9_compare_276 : decode cX9_compare 276 = .ok (.invokevirtual 75, 3) := dk_182 0 75 (dk_at dksX9_compare_9 12 rfl rfl)
theorem dX9_compare_279 : decode cX9_compare 279 = .ok (.ireturn, 1) := dk_172 (dk_at dksX9_compare_9 15 rfl rfl)
theorem dX9_compare_280 : decode cX9_compare 280 = .ok (.aload_n 0, 1) := dk_42 (dk_at dksX9_compare_9 16 rfl rfl)
theorem dX9_compare_281 : decode cX9_compare 281 = .ok (.aload_n 0, 1) := dk_42 (dk_at dksX9_compare_9 17 rfl rfl)
theorem dX9_compare_282 : decode cX9_compare 282 = .ok (.getfield 21, 3) := dk_180 0 21 (dk_at dksX9_compare_9 18 rfl rfl)
theorem dX9_compare_285 : decode cX9_compare 285 = .ok (.iload_n 1, 1) := dk_27 (dk_at dksX9_compare_9 21 rfl rfl)
theorem dX9_compare_286 : decode cX9_compare 286 = .ok (.iconst 2, 1) := dk_5 (dk_at dksX9_compare_9 22 rfl rfl)
theorem dX9_compare_287 : decode cX9_compare 287 = .ok (.invokevirtual 68, 3) := dk_182 0 68 (dk_at dksX9_compare_10 0 rfl rfl)
theorem dX9_compare_290 : decode cX9_compare 290 = .ok (.aload_n 0, 1) := dk_42 (dk_at dksX9_compare_10 3 rfl rfl)
theorem dX9_compare_291 : decode cX9_compare 291 = .ok (.getfield 21, 3) := dk_180 0 21 (dk_at dksX9_compare_10 4 rfl rfl)
theorem dX9_compare_294 : decode cX9_compare 294 = .ok (.iload_n 2, 1) := dk_28 (dk_at dksX9_compare_10 7 rfl rfl)
theorem dX9_compare_295 : decode cX9_compare 295 = .ok (.iconst 2, 1) := dk_5 (dk_at dksX9_compare_10 8 rfl rfl)
theorem dX9_compare_296 : decode cX9_compare 296 = .ok (.invokevirtual 68, 3) := dk_182 0 68 (dk_at dksX9_compare_10 9 rfl rfl)
theorem dX9_compare_299 : decode cX9_compare 299 = .ok (.aload_n 0, 1) := dk_42 (dk_at dksX9_compare_10 12 rfl rfl)
theorem dX9_compare_300 : decode cX9_compare 300 = .ok (.getfield 25, 3) := dk_180 0 25 (dk_at dksX9_compare_10 13 rfl rfl)
theorem dX9_compare_303 : decode cX9_compare 303 = .ok (.getfield 71, 3) := dk_180 0 71 (dk_at dksX9_compare_10 16 rfl rfl)
theorem dX9_compare_306 : decode cX9_compare 306 = .ok (.iload_n 3, 1) := dk_29 (dk_at dksX9_compare_10 19 rfl rfl)
theorem dX9_compare_307 : decode cX9_compare 307 = .ok (.iaload, 1) := dk_46 (dk_at dksX9_compare_10 20 rfl rfl)
theorem dX9_compare_308 : decode cX9_compare 308 = .ok (.invokevirtual 75, 3) := dk_182 0 75 (dk_at dksX9_compare_10 21 rfl rfl)
theorem dX9_compare_311 : decode cX9_compare 311 = .ok (.istore 4, 2) := dk_54 4 (dk_at dksX9_compare_11 0 rfl rfl)
theorem dX9_compare_313 : decode cX9_compare 313 = .ok (.iload 4, 2) := dk_21 4 (dk_at dksX9_compare_11 2 rfl rfl)
theorem dX9_compare_315 : decode cX9_compare 315 = .ok (.ifCond .eq 8, 3) := dk_153 0 8 (dk_at dksX9_compare_11 4 rfl rfl)
theorem dX9_compare_318 : decode cX9_compare 318 = .ok (.iload 4, 2) := dk_21 4 (dk_at dksX9_compare_11 7 rfl rfl)
theorem dX9_compare_320 : decode cX9_compare 320 = .ok (.goto 34, 3) := dk_167 0 34 (dk_at dksX9_compare_11 9 rfl rfl)
theorem dX9_compare_323 : decode cX9_compare 323 = .ok (.aload_n 0, 1) := dk_42 (dk_at dksX9_compare_11 12 rfl rfl)
theorem dX9_compare_324 : decode cX9_compare 324 = .ok (.aload_n 0, 1) := dk_42 (dk_at dksX9_compare_11 13 rfl rfl)
theorem dX9_compare_325 : decode cX9_compare 325 = .ok (.getfield 21, 3) := dk_180 0 21 (dk_at dksX9_compare_11 14 rfl rfl)
theorem dX9_compare_328 : decode cX9_compare 328 = .ok (.iload_n 1, 1) := dk_27 (dk_at dksX9_compare_11 17 rfl rfl)
theorem dX9_compare_329 : decode cX9_compare 329 = .ok (.iconst 3, 1) := dk_6 (dk_at dksX9_compare_11 18 rfl rfl)
theorem dX9_compare_330 : decode cX9_compare 330 = .ok (.invokevirtual 68, 3) := dk_182 0 68 (dk_at dksX9_compare_11 19 rfl rfl)
theorem dX9_compare_333 : decode cX9_compare 333 = .ok (.aload_n 0, 1) := dk_42 (dk_at dksX9_compare_11 22 rfl rfl)
theorem dX9_compare_334 : decode cX9_compare 334 = .ok (.getfield 21, 3) := dk_180 0 21 (dk_at dksX9_compare_12 0 rfl rfl)
theorem dX9_compare_337 : decode cX9_compare 337 = .ok (.iload_n 2, 1) := dk_28 (dk_at dksX9_compare_12 3 rfl rfl)
theorem dX9_compare_338 : decode cX9_compare 338 = .ok (.iconst 3, 1) := dk_6 (dk_at dksX9_compare_12 4 rfl rfl)
theorem dX9_compare_339 : decode cX9_compare 339 = .ok (.invokevirtual 68, 3) := dk_182 0 68 (dk_at dksX9_compare_12 5 rfl rfl)
theorem dX9_compare_342 : decode cX9_compare 342 = .ok (.aload_n 0, 1) := dk_42 (dk_at dksX9_compare_12 8 rfl rfl)
theorem dX9_compare_343 : decode cX9_compare 343 = .ok (.getfield 25, 3) := dk_180 0 25 (dk_at dksX9_compare_12 9 rfl rfl)
theorem dX9_compare_346 : decode cX9_compare 346 = .ok (.getfield 81, 3) := dk_180 0 81 (dk_at dksX9_compare_12 12 rfl rfl)
theorem dX9_compare_349 : decode cX9_compare 349 = .ok (.iload_n 3, 1) := dk_29 (dk_at dksX9_compare_12 15 rfl rfl)
theorem dX9_compare_350 : decode cX9_compare 350 = .ok (.iaload, 1) := dk_46 (dk_at dksX9_compare_12 16 rfl rfl)
theorem dX9_compare_351 : decode cX9_compare 351 = .ok (.invokevirtual 75, 3) := dk_182 0 75 (dk_at dksX9_compare_12 17 rfl rfl)
theorem dX9_compare_354 : decode cX9_compare 354 = .ok (.ireturn, 1) := dk_172 (dk_at dksX9_compare_12 20 rfl rfl)
theorem dX9_compare_355 : decode cX9_compare 355 = .ok (.aload_n 0, 1) := dk_42 (dk_at dksX9_compare_12 21 rfl rfl)
theorem dX9_compare_356 : decode cX9_compare 356 = .ok (.iload_n 1, 1) := dk_27 (dk_at dksX9_compare_12 22 rfl rfl)
theorem dX9_compare_357 : decode cX9_compare 357 = .ok (.iload_n 2, 1) := dk_28 (dk_at dksX9_compare_12 23 rfl rfl)
theorem dX9_compare_358 : decode cX9_compare 358 = .ok (.invokevirtual 84, 3) := dk_182 0 84 (dk_at dksX9_compare_13 0 rfl rfl)
theorem dX9_compare_361 : decode cX9_compare 361 = .ok (.ireturn, 1) := dk_172 (dk_at dksX9_compare_13 3 rfl rfl)
abbrev cX9_sign : ByteArray := prog_12_method_2_code
def yX9_sign : MethodName := ⟨RX9, "sign", "(I)I"⟩
def dkwX9_sign_0 : List UInt8 := [26, 156, 0, 7, 2, 167, 0, 12, 26, 158, 0, 7, 4, 167, 0, 4, 3, 172]
abbrev dktX9_sign_0 : List UInt8 := dkwX9_sign_0 ++ []
theorem dksX9_sign_0 : cX9_sign.data.toList.drop 0 = dktX9_sign_0 := by decide +kernel
theorem dX9_sign_0 : decode cX9_sign 0 = .ok (.iload_n 0, 1) := dk_26 (dk_at dksX9_sign_0 0 rfl rfl)
theorem dX9_sign_1 : decode cX9_sign 1 = .ok (.ifCond .ge 7, 3) := dk_156 0 7 (dk_at dksX9_sign_0 1 rfl rfl)
theorem dX9_sign_4 : decode cX9_sign 4 = .ok (.iconst (-1), 1) := dk_2 (dk_at dksX9_sign_0 4 rfl rfl)
theorem dX9_sign_5 : decode cX9_sign 5 = .ok (.goto 12, 3) := dk_167 0 12 (dk_at dksX9_sign_0 5 rfl rfl)
theorem dX9_sign_8 : decode cX9_sign 8 = .ok (.iload_n 0, 1) := dk_26 (dk_at dksX9_sign_0 8 rfl rfl)
theorem dX9_sign_9 : decode cX9_sign 9 = .ok (.ifCond .le 7, 3) := dk_158 0 7 (dk_at dksX9_sign_0 9 rfl rfl)
theorem dX9_sign_12 : decode cX9_sign 12 = .ok (.iconst 1, 1) := dk_4 (dk_at dksX9_sign_0 12 rfl rfl)
theorem dX9_sign_13 : decode cX9_sign 13 = .ok (.goto 4, 3) := dk_167 0 4 (dk_at dksX9_sign_0 13 rfl rfl)
theorem dX9_sign_16 : decode cX9_sign 16 = .ok (.iconst 0, 1) := dk_3 (dk_at dksX9_sign_0 16 rfl rfl)
theorem dX9_sign_17 : decode cX9_sign 17 = .ok (.ireturn, 1) := dk_172 (dk_at dksX9_sign_0 17 rfl rfl)
abbrev cX9_bytes : ByteArray := prog_12_method_4_code
def yX9_bytes : MethodName := ⟨RX9, "bytes", "(II)I"⟩
def dkwX9_bytes_4 : List UInt8 := [182, 0, 47, 42, 180, 0, 21, 28, 182, 0, 47, 100, 184, 0, 43, 172]
abbrev dktX9_bytes_4 : List UInt8 := dkwX9_bytes_4 ++ []
def dkwX9_bytes_3 : List UInt8 := [21, 4, 182, 0, 56, 42, 180, 0, 21, 28, 21, 4, 182, 0, 56, 100, 167, 0, 20, 42, 180, 0, 21, 27]
abbrev dktX9_bytes_3 : List UInt8 := dkwX9_bytes_3 ++ dktX9_bytes_4
def dkwX9_bytes_2 : List UInt8 := [182, 0, 56, 160, 0, 9, 132, 4, 1, 167, 255, 224, 21, 4, 29, 162, 0, 27, 42, 180, 0, 21, 27]
abbrev dktX9_bytes_2 : List UInt8 := dkwX9_bytes_2 ++ dktX9_bytes_3
def dkwX9_bytes_1 : List UInt8 := [21, 4, 29, 162, 0, 32, 42, 180, 0, 21, 27, 21, 4, 182, 0, 56, 42, 180, 0, 21, 28, 21, 4]
abbrev dktX9_bytes_1 : List UInt8 := dkwX9_bytes_1 ++ dktX9_bytes_2
def dkwX9_bytes_0 : List UInt8 := [42, 180, 0, 21, 27, 182, 0, 47, 42, 180, 0, 21, 28, 182, 0, 47, 184, 0, 50, 62, 3, 54, 4]
abbrev dktX9_bytes_0 : List UInt8 := dkwX9_bytes_0 ++ dktX9_bytes_1
theorem dksX9_bytes_0 : cX9_bytes.data.toList.drop 0 = dktX9_bytes_0 := by decide +kernel
theorem dksX9_bytes_1 : cX9_bytes.data.toList.drop 23 = dktX9_bytes_1 := dk_seg dksX9_bytes_0 23 rfl rfl
theorem dksX9_bytes_2 : cX9_bytes.data.toList.drop 46 = dktX9_bytes_2 := dk_seg dksX9_bytes_1 23 rfl rfl
theorem dksX9_bytes_3 : cX9_bytes.data.toList.drop 69 = dktX9_bytes_3 := dk_seg dksX9_bytes_2 23 rfl rfl
theorem dksX9_bytes_4 : cX9_bytes.data.toList.drop 93 = dktX9_bytes_4 := dk_seg dksX9_bytes_3 24 rfl rfl
theorem dX9_bytes_0 : decode cX9_bytes 0 = .ok (.aload_n 0, 1) := dk_42 (dk_at dksX9_bytes_0 0 rfl rfl)
theorem dX9_bytes_1 : decode cX9_bytes 1 = .ok (.getfield 21, 3) := dk_180 0 21 (dk_at dksX9_bytes_0 1 rfl rfl)
theorem dX9_bytes_4 : decode cX9_bytes 4 = .ok (.iload_n 1, 1) := dk_27 (dk_at dksX9_bytes_0 4 rfl rfl)
theorem dX9_bytes_5 : decode cX9_bytes 5 = .ok (.invokevirtual 47, 3) := dk_182 0 47 (dk_at dksX9_bytes_0 5 rfl rfl)
theorem dX9_bytes_8 : decode cX9_bytes 8 = .ok (.aload_n 0, 1) := dk_42 (dk_at dksX9_bytes_0 8 rfl rfl)
theorem dX9_bytes_9 : decode cX9_bytes 9 = .ok (.getfield 21, 3) := dk_180 0 21 (dk_at dksX9_bytes_0 9 rfl rfl)
theorem dX9_bytes_12 : decode cX9_bytes 12 = .ok (.iload_n 2, 1) := dk_28 (dk_at dksX9_bytes_0 12 rfl rfl)
theorem dX9_bytes_13 : decode cX9_bytes 13 = .ok (.invokevirtual 47, 3) := dk_182 0 47 (dk_at dksX9_bytes_0 13 rfl rfl)
theorem dX9_bytes_16 : decode cX9_bytes 16 = .ok (.invokestatic 50, 3) := dk_184 0 50 (dk_at dksX9_bytes_0 16 rfl rfl)
theorem dX9_bytes_19 : decode cX9_bytes 19 = .ok (.istore_n 3, 1) := dk_62 (dk_at dksX9_bytes_0 19 rfl rfl)
theorem dX9_bytes_20 : decode cX9_bytes 20 = .ok (.iconst 0, 1) := dk_3 (dk_at dksX9_bytes_0 20 rfl rfl)
theorem dX9_bytes_21 : decode cX9_bytes 21 = .ok (.istore 4, 2) := dk_54 4 (dk_at dksX9_bytes_0 21 rfl rfl)
theorem dX9_bytes_23 : decode cX9_bytes 23 = .ok (.iload 4, 2) := dk_21 4 (dk_at dksX9_bytes_1 0 rfl rfl)
theorem dX9_bytes_25 : decode cX9_bytes 25 = .ok (.iload_n 3, 1) := dk_29 (dk_at dksX9_bytes_1 2 rfl rfl)
theorem dX9_bytes_26 : decode cX9_bytes 26 = .ok (.if_icmp .ge 32, 3) := dk_162 0 32 (dk_at dksX9_bytes_1 3 rfl rfl)
theorem dX9_bytes_29 : decode cX9_bytes 29 = .ok (.aload_n 0, 1) := dk_42 (dk_at dksX9_bytes_1 6 rfl rfl)
theorem dX9_bytes_30 : decode cX9_bytes 30 = .ok (.getfield 21, 3) := dk_180 0 21 (dk_at dksX9_bytes_1 7 rfl rfl)
theorem dX9_bytes_33 : decode cX9_bytes 33 = .ok (.iload_n 1, 1) := dk_27 (dk_at dksX9_bytes_1 10 rfl rfl)
theorem dX9_bytes_34 : decode cX9_bytes 34 = .ok (.iload 4, 2) := dk_21 4 (dk_at dksX9_bytes_1 11 rfl rfl)
theorem dX9_bytes_36 : decode cX9_bytes 36 = .ok (.invokevirtual 56, 3) := dk_182 0 56 (dk_at dksX9_bytes_1 13 rfl rfl)
theorem dX9_bytes_39 : decode cX9_bytes 39 = .ok (.aload_n 0, 1) := dk_42 (dk_at dksX9_bytes_1 16 rfl rfl)
theorem dX9_bytes_40 : decode cX9_bytes 40 = .ok (.getfield 21, 3) := dk_180 0 21 (dk_at dksX9_bytes_1 17 rfl rfl)
theorem dX9_bytes_43 : decode cX9_bytes 43 = .ok (.iload_n 2, 1) := dk_28 (dk_at dksX9_bytes_1 20 rfl rfl)
theorem dX9_bytes_44 : decode cX9_bytes 44 = .ok (.iload 4, 2) := dk_21 4 (dk_at dksX9_bytes_1 21 rfl rfl)
theorem dX9_bytes_46 : decode cX9_bytes 46 = .ok (.invokevirtual 56, 3) := dk_182 0 56 (dk_at dksX9_bytes_2 0 rfl rfl)
theorem dX9_bytes_49 : decode cX9_bytes 49 = .ok (.if_icmp .ne 9, 3) := dk_160 0 9 (dk_at dksX9_bytes_2 3 rfl rfl)
theorem dX9_bytes_52 : decode cX9_bytes 52 = .ok (.iinc 4 1, 3) := dk_132 4 1 (dk_at dksX9_bytes_2 6 rfl rfl)
theorem dX9_bytes_55 : decode cX9_bytes 55 = .ok (.goto (-32), 3) := dk_167 255 224 (dk_at dksX9_bytes_2 9 rfl rfl)
theorem dX9_bytes_58 : decode cX9_bytes 58 = .ok (.iload 4, 2) := dk_21 4 (dk_at dksX9_bytes_2 12 rfl rfl)
theorem dX9_bytes_60 : decode cX9_bytes 60 = .ok (.iload_n 3, 1) := dk_29 (dk_at dksX9_bytes_2 14 rfl rfl)
theorem dX9_bytes_61 : decode cX9_bytes 61 = .ok (.if_icmp .ge 27, 3) := dk_162 0 27 (dk_at dksX9_bytes_2 15 rfl rfl)
theorem dX9_bytes_64 : decode cX9_bytes 64 = .ok (.aload_n 0, 1) := dk_42 (dk_at dksX9_bytes_2 18 rfl rfl)
theorem dX9_bytes_65 : decode cX9_bytes 65 = .ok (.getfield 21, 3) := dk_180 0 21 (dk_at dksX9_bytes_2 19 rfl rfl)
theorem dX9_bytes_68 : decode cX9_bytes 68 = .ok (.iload_n 1, 1) := dk_27 (dk_at dksX9_bytes_2 22 rfl rfl)
theorem dX9_bytes_69 : decode cX9_bytes 69 = .ok (.iload 4, 2) := dk_21 4 (dk_at dksX9_bytes_3 0 rfl rfl)
theorem dX9_bytes_71 : decode cX9_bytes 71 = .ok (.invokevirtual 56, 3) := dk_182 0 56 (dk_at dksX9_bytes_3 2 rfl rfl)
theorem dX9_bytes_74 : decode cX9_bytes 74 = .ok (.aload_n 0, 1) := dk_42 (dk_at dksX9_bytes_3 5 rfl rfl)
theorem dX9_bytes_75 : decode cX9_bytes 75 = .ok (.getfield 21, 3) := dk_180 0 21 (dk_at dksX9_bytes_3 6 rfl rfl)
theorem dX9_bytes_78 : decode cX9_bytes 78 = .ok (.iload_n 2, 1) := dk_28 (dk_at dksX9_bytes_3 9 rfl rfl)
theorem dX9_bytes_79 : decode cX9_bytes 79 = .ok (.iload 4, 2) := dk_21 4 (dk_at dksX9_bytes_3 10 rfl rfl)
theorem dX9_bytes_81 : decode cX9_bytes 81 = .ok (.invokevirtual 56, 3) := dk_182 0 56 (dk_at dksX9_bytes_3 12 rfl rfl)
theorem dX9_bytes_84 : decode cX9_bytes 84 = .ok (.isub, 1) := dk_100 (dk_at dksX9_bytes_3 15 rfl rfl)
theorem dX9_bytes_85 : decode cX9_bytes 85 = .ok (.goto 20, 3) := dk_167 0 20 (dk_at dksX9_bytes_3 16 rfl rfl)
theorem dX9_bytes_88 : decode cX9_bytes 88 = .ok (.aload_n 0, 1) := dk_42 (dk_at dksX9_bytes_3 19 rfl rfl)
theorem dX9_bytes_89 : decode cX9_bytes 89 = .ok (.getfield 21, 3) := dk_180 0 21 (dk_at dksX9_bytes_3 20 rfl rfl)
theorem dX9_bytes_92 : decode cX9_bytes 92 = .ok (.iload_n 1, 1) := dk_27 (dk_at dksX9_bytes_3 23 rfl rfl)
theorem dX9_bytes_93 : decode cX9_bytes 93 = .ok (.invokevirtual 47, 3) := dk_182 0 47 (dk_at dksX9_bytes_4 0 rfl rfl)
theorem dX9_bytes_96 : decode cX9_bytes 96 = .ok (.aload_n 0, 1) := dk_42 (dk_at dksX9_bytes_4 3 rfl rfl)
theorem dX9_bytes_97 : decode cX9_bytes 97 = .ok (.getfield 21, 3) := dk_180 0 21 (dk_at dksX9_bytes_4 4 rfl rfl)
theorem dX9_bytes_100 : decode cX9_bytes 100 = .ok (.iload_n 2, 1) := dk_28 (dk_at dksX9_bytes_4 7 rfl rfl)
theorem dX9_bytes_101 : decode cX9_bytes 101 = .ok (.invokevirtual 47, 3) := dk_182 0 47 (dk_at dksX9_bytes_4 8 rfl rfl)
theorem dX9_bytes_104 : decode cX9_bytes 104 = .ok (.isub, 1) := dk_100 (dk_at dksX9_bytes_4 11 rfl rfl)
theorem dX9_bytes_105 : decode cX9_bytes 105 = .ok (.invokestatic 43, 3) := dk_184 0 43 (dk_at dksX9_bytes_4 12 rfl rfl)
theorem dX9_bytes_108 : decode cX9_bytes 108 = .ok (.ireturn, 1) := dk_172 (dk_at dksX9_bytes_4 15 rfl rfl)
abbrev cX9_numbers : ByteArray := prog_12_method_3_code
def yX9_numbers : MethodName := ⟨RX9, "numbers", "(II)I"⟩
def dkwX9_numbers_3 : List UInt8 := [184, 0, 43, 172]
abbrev dktX9_numbers_3 : List UInt8 := dkwX9_numbers_3 ++ []
def dkwX9_numbers_2 : List UInt8 := [180, 0, 21, 28, 42, 180, 0, 18, 182, 0, 35, 42, 180, 0, 12, 42, 180, 0, 18, 182, 0, 39]
abbrev dktX9_numbers_2 : List UInt8 := dkwX9_numbers_2 ++ dktX9_numbers_3
def dkwX9_numbers_1 : List UInt8 := [28, 164, 0, 7, 4, 167, 0, 4, 3, 172, 42, 180, 0, 21, 27, 42, 180, 0, 12, 182, 0, 35, 42]
abbrev dktX9_numbers_1 : List UInt8 := dkwX9_numbers_1 ++ dktX9_numbers_2
def dkwX9_numbers_0 : List UInt8 := [27, 184, 0, 29, 153, 0, 30, 28, 184, 0, 29, 153, 0, 23, 27, 28, 162, 0, 7, 2, 167, 0, 13, 27]
abbrev dktX9_numbers_0 : List UInt8 := dkwX9_numbers_0 ++ dktX9_numbers_1
theorem dksX9_numbers_0 : cX9_numbers.data.toList.drop 0 = dktX9_numbers_0 := by decide +kernel
theorem dksX9_numbers_1 : cX9_numbers.data.toList.drop 24 = dktX9_numbers_1 := dk_seg dksX9_numbers_0 24 rfl rfl
theorem dksX9_numbers_2 : cX9_numbers.data.toList.drop 47 = dktX9_numbers_2 := dk_seg dksX9_numbers_1 23 rfl rfl
theorem dksX9_numbers_3 : cX9_numbers.data.toList.drop 69 = dktX9_numbers_3 := dk_seg dksX9_numbers_2 22 rfl rfl
theorem dX9_numbers_0 : decode cX9_numbers 0 = .ok (.iload_n 1, 1) := dk_27 (dk_at dksX9_numbers_0 0 rfl rfl)
theorem dX9_numbers_1 : decode cX9_numbers 1 = .ok (.invokestatic 29, 3) := dk_184 0 29 (dk_at dksX9_numbers_0 1 rfl rfl)
theorem dX9_numbers_4 : decode cX9_numbers 4 = .ok (.ifCond .eq 30, 3) := dk_153 0 30 (dk_at dksX9_numbers_0 4 rfl rfl)
theorem dX9_numbers_7 : decode cX9_numbers 7 = .ok (.iload_n 2, 1) := dk_28 (dk_at dksX9_numbers_0 7 rfl rfl)
theorem dX9_numbers_8 : decode cX9_numbers 8 = .ok (.invokestatic 29, 3) := dk_184 0 29 (dk_at dksX9_numbers_0 8 rfl rfl)
theorem dX9_numbers_11 : decode cX9_numbers 11 = .ok (.ifCond .eq 23, 3) := dk_153 0 23 (dk_at dksX9_numbers_0 11 rfl rfl)
theorem dX9_numbers_14 : decode cX9_numbers 14 = .ok (.iload_n 1, 1) := dk_27 (dk_at dksX9_numbers_0 14 rfl rfl)
theorem dX9_numbers_15 : decode cX9_numbers 15 = .ok (.iload_n 2, 1) := dk_28 (dk_at dksX9_numbers_0 15 rfl rfl)
theorem dX9_numbers_16 : decode cX9_numbers 16 = .ok (.if_icmp .ge 7, 3) := dk_162 0 7 (dk_at dksX9_numbers_0 16 rfl rfl)
theorem dX9_numbers_19 : decode cX9_numbers 19 = .ok (.iconst (-1), 1) := dk_2 (dk_at dksX9_numbers_0 19 rfl rfl)
theorem dX9_numbers_20 : decode cX9_numbers 20 = .ok (.goto 13, 3) := dk_167 0 13 (dk_at dksX9_numbers_0 20 rfl rfl)
theorem dX9_numbers_23 : decode cX9_numbers 23 = .ok (.iload_n 1, 1) := dk_27 (dk_at dksX9_numbers_0 23 rfl rfl)
theorem dX9_numbers_24 : decode cX9_numbers 24 = .ok (.iload_n 2, 1) := dk_28 (dk_at dksX9_numbers_1 0 rfl rfl)
theorem dX9_numbers_25 : decode cX9_numbers 25 = .ok (.if_icmp .le 7, 3) := dk_164 0 7 (dk_at dksX9_numbers_1 1 rfl rfl)
theorem dX9_numbers_28 : decode cX9_numbers 28 = .ok (.iconst 1, 1) := dk_4 (dk_at dksX9_numbers_1 4 rfl rfl)
theorem dX9_numbers_29 : decode cX9_numbers 29 = .ok (.goto 4, 3) := dk_167 0 4 (dk_at dksX9_numbers_1 5 rfl rfl)
theorem dX9_numbers_32 : decode cX9_numbers 32 = .ok (.iconst 0, 1) := dk_3 (dk_at dksX9_numbers_1 8 rfl rfl)
theorem dX9_numbers_33 : decode cX9_numbers 33 = .ok (.ireturn, 1) := dk_172 (dk_at dksX9_numbers_1 9 rfl rfl)
theorem dX9_numbers_34 : decode cX9_numbers 34 = .ok (.aload_n 0, 1) := dk_42 (dk_at dksX9_numbers_1 10 rfl rfl)
theorem dX9_numbers_35 : decode cX9_numbers 35 = .ok (.getfield 21, 3) := dk_180 0 21 (dk_at dksX9_numbers_1 11 rfl rfl)
theorem dX9_numbers_38 : decode cX9_numbers 38 = .ok (.iload_n 1, 1) := dk_27 (dk_at dksX9_numbers_1 14 rfl rfl)
theorem dX9_numbers_39 : decode cX9_numbers 39 = .ok (.aload_n 0, 1) := dk_42 (dk_at dksX9_numbers_1 15 rfl rfl)
theorem dX9_numbers_40 : decode cX9_numbers 40 = .ok (.getfield 12, 3) := dk_180 0 12 (dk_at dksX9_numbers_1 16 rfl rfl)
theorem dX9_numbers_43 : decode cX9_numbers 43 = .ok (.invokevirtual 35, 3) := dk_182 0 35 (dk_at dksX9_numbers_1 19 rfl rfl)
theorem dX9_numbers_46 : decode cX9_numbers 46 = .ok (.aload_n 0, 1) := dk_42 (dk_at dksX9_numbers_1 22 rfl rfl)
theorem dX9_numbers_47 : decode cX9_numbers 47 = .ok (.getfield 21, 3) := dk_180 0 21 (dk_at dksX9_numbers_2 0 rfl rfl)
theorem dX9_numbers_50 : decode cX9_numbers 50 = .ok (.iload_n 2, 1) := dk_28 (dk_at dksX9_numbers_2 3 rfl rfl)
theorem dX9_numbers_51 : decode cX9_numbers 51 = .ok (.aload_n 0, 1) := dk_42 (dk_at dksX9_numbers_2 4 rfl rfl)
theorem dX9_numbers_52 : decode cX9_numbers 52 = .ok (.getfield 18, 3) := dk_180 0 18 (dk_at dksX9_numbers_2 5 rfl rfl)
theorem dX9_numbers_55 : decode cX9_numbers 55 = .ok (.invokevirtual 35, 3) := dk_182 0 35 (dk_at dksX9_numbers_2 8 rfl rfl)
theorem dX9_numbers_58 : decode cX9_numbers 58 = .ok (.aload_n 0, 1) := dk_42 (dk_at dksX9_numbers_2 11 rfl rfl)
theorem dX9_numbers_59 : decode cX9_numbers 59 = .ok (.getfield 12, 3) := dk_180 0 12 (dk_at dksX9_numbers_2 12 rfl rfl)
theorem dX9_numbers_62 : decode cX9_numbers 62 = .ok (.aload_n 0, 1) := dk_42 (dk_at dksX9_numbers_2 15 rfl rfl)
theorem dX9_numbers_63 : decode cX9_numbers 63 = .ok (.getfield 18, 3) := dk_180 0 18 (dk_at dksX9_numbers_2 16 rfl rfl)
theorem dX9_numbers_66 : decode cX9_numbers 66 = .ok (.invokevirtual 39, 3) := dk_182 0 39 (dk_at dksX9_numbers_2 19 rfl rfl)
theorem dX9_numbers_69 : decode cX9_numbers 69 = .ok (.invokestatic 43, 3) := dk_184 0 43 (dk_at dksX9_numbers_3 0 rfl rfl)
theorem dX9_numbers_72 : decode cX9_numbers 72 = .ok (.ireturn, 1) := dk_172 (dk_at dksX9_numbers_3 3 rfl rfl)
theorem q376 : (Jvm.Cond.initialized "ContractLedger$Order") ∈ lw_all := lw_g (lw_at lw_m1 19 rfl) rfl
theorem q753 : (Jvm.Cond.fieldLink "ContractLedger$Order" (59 : Nat) "ContractLedger$Types" "words" "[B") ∈ lw_all := lw_g (lw_at lw_m2 156 rfl) rfl
theorem q760 : (Jvm.Cond.fieldLink "ContractLedger$Order" (71 : Nat) "ContractLedger$Types" "lefts" "[I") ∈ lw_all := lw_g (lw_at lw_m2 163 rfl) rfl
theorem q766 : (Jvm.Cond.fieldLink "ContractLedger$Order" (81 : Nat) "ContractLedger$Types" "rights" "[I") ∈ lw_all := lw_g (lw_at lw_m2 169 rfl) rfl
theorem q831 : (Jvm.Cond.instantiable "ContractLedger$Order" (4 : Nat)) ∈ lw_all := lw_g (lw_at lw_m2 234 rfl) rfl
theorem q833 : (Jvm.Cond.instanceMethod ({ cls := "ContractLedger$Order", name := "<init>", desc := "(LContractLedger$Memory;LContractLedger$Types;)V" } : Jvm.MethodName)) ∈ lw_all := lw_g (lw_at lw_m2 236 rfl) rfl
theorem q834 : (Jvm.Cond.code ({ cls := "ContractLedger$Order", name := "<init>", desc := "(LContractLedger$Memory;LContractLedger$Types;)V" } : Jvm.MethodName) prog_12_method_1_code (3 : Nat) (Option.none : Option Jvm.ClassFile.FieldType)) ∈ lw_all := lw_g (lw_at lw_m2 237 rfl) rfl
theorem q835 : (Jvm.Cond.methodLink "ContractLedger$Order" (1 : Nat) ({ cls := "java/lang/Object", name := "<init>", desc := "()V" } : Jvm.MethodName)) ∈ lw_all := lw_g (lw_at lw_m2 238 rfl) rfl
theorem q836 : (Jvm.Cond.classLink "ContractLedger$Order" (7 : Nat) "ContractLedger$Whole") ∈ lw_all := lw_g (lw_at lw_m2 239 rfl) rfl
theorem q837 : (Jvm.Cond.methodLink "ContractLedger$Order" (9 : Nat) ({ cls := "ContractLedger$Whole", name := "<init>", desc := "(I)V" } : Jvm.MethodName)) ∈ lw_all := lw_g (lw_at lw_m3 0 rfl) rfl
theorem q838 : (Jvm.Cond.fieldLink "ContractLedger$Order" (21 : Nat) "ContractLedger$Order" "memory" "LContractLedger$Memory;") ∈ lw_all := lw_g (lw_at lw_m3 1 rfl) rfl
theorem q839 : (Jvm.Cond.fieldLink "ContractLedger$Order" (25 : Nat) "ContractLedger$Order" "types" "LContractLedger$Types;") ∈ lw_all := lw_g (lw_at lw_m3 2 rfl) rfl
theorem q840 : (Jvm.Cond.fieldLink "ContractLedger$Order" (12 : Nat) "ContractLedger$Order" "left" "LContractLedger$Whole;") ∈ lw_all := lw_g (lw_at lw_m3 3 rfl) rfl
theorem q841 : (Jvm.Cond.fieldLink "ContractLedger$Order" (18 : Nat) "ContractLedger$Order" "right" "LContractLedger$Whole;") ∈ lw_all := lw_g (lw_at lw_m3 4 rfl) rfl
theorem q842 : (Jvm.Cond.laysFinal "ContractLedger$Order" "ContractLedger$Order" "memory" "LContractLedger$Memory;") ∈ lw_all := lw_g (lw_at lw_m3 5 rfl) rfl
theorem q843 : (Jvm.Cond.soleField "ContractLedger$Order" "memory") ∈ lw_all := lw_g (lw_at lw_m3 6 rfl) rfl
theorem q844 : (Jvm.Cond.laysFinal "ContractLedger$Order" "ContractLedger$Order" "types" "LContractLedger$Types;") ∈ lw_all := lw_g (lw_at lw_m3 7 rfl) rfl
theorem q845 : (Jvm.Cond.soleField "ContractLedger$Order" "types") ∈ lw_all := lw_g (lw_at lw_m3 8 rfl) rfl
theorem q846 : (Jvm.Cond.laysFinal "ContractLedger$Order" "ContractLedger$Order" "left" "LContractLedger$Whole;") ∈ lw_all := lw_g (lw_at lw_m3 9 rfl) rfl
theorem q847 : (Jvm.Cond.soleField "ContractLedger$Order" "left") ∈ lw_all := lw_g (lw_at lw_m3 10 rfl) rfl
theorem q848 : (Jvm.Cond.laysFinal "ContractLedger$Order" "ContractLedger$Order" "right" "LContractLedger$Whole;") ∈ lw_all := lw_g (lw_at lw_m3 11 rfl) rfl
theorem q849 : (Jvm.Cond.soleField "ContractLedger$Order" "right") ∈ lw_all := lw_g (lw_at lw_m3 12 rfl) rfl
theorem q850 : (Jvm.Cond.superclass "ContractLedger$Order" "java/lang/Object") ∈ lw_all := lw_g (lw_at lw_m3 13 rfl) rfl
theorem q2076 : (Jvm.Cond.instanceMethod ({ cls := "ContractLedger$Order", name := "compare", desc := "(III)I" } : Jvm.MethodName)) ∈ lw_all := lw_g (lw_at lw_m8 39 rfl) rfl
theorem q2077 : (Jvm.Cond.selects "ContractLedger$Order" ({ cls := "ContractLedger$Order", name := "compare", desc := "(III)I" } : Jvm.MethodName) ({ cls := "ContractLedger$Order", name := "compare", desc := "(III)I" } : Jvm.MethodName)) ∈ lw_all := lw_g (lw_at lw_m8 40 rfl) rfl
theorem q2078 : (Jvm.Cond.code ({ cls := "ContractLedger$Order", name := "compare", desc := "(III)I" } : Jvm.MethodName) prog_12_method_5_code (5 : Nat) (Option.some Jvm.ClassFile.FieldType.int)) ∈ lw_all := lw_g (lw_at lw_m8 41 rfl) rfl
theorem q2079 : (Jvm.Cond.methodLink "ContractLedger$Order" (43 : Nat) ({ cls := "ContractLedger$Order", name := "sign", desc := "(I)I" } : Jvm.MethodName)) ∈ lw_all := lw_g (lw_at lw_m8 42 rfl) rfl
theorem q2080 : (Jvm.Cond.static ({ cls := "ContractLedger$Order", name := "sign", desc := "(I)I" } : Jvm.MethodName)) ∈ lw_all := lw_g (lw_at lw_m8 43 rfl) rfl
theorem q2081 : (Jvm.Cond.code ({ cls := "ContractLedger$Order", name := "sign", desc := "(I)I" } : Jvm.MethodName) prog_12_method_2_code (1 : Nat) (Option.some Jvm.ClassFile.FieldType.int)) ∈ lw_all := lw_g (lw_at lw_m8 44 rfl) rfl
theorem q2082 : (Jvm.Cond.methodLink "ContractLedger$Order" (65 : Nat) ({ cls := "ContractLedger$Order", name := "bytes", desc := "(II)I" } : Jvm.MethodName)) ∈ lw_all := lw_g (lw_at lw_m8 45 rfl) rfl
theorem q2083 : (Jvm.Cond.privateMethod ({ cls := "ContractLedger$Order", name := "bytes", desc := "(II)I" } : Jvm.MethodName)) ∈ lw_tbl := lw_at lw_m8 46 rfl
theorem q2084 : (Jvm.Cond.instanceMethod ({ cls := "ContractLedger$Order", name := "bytes", desc := "(II)I" } : Jvm.MethodName)) ∈ lw_all := lw_g (lw_at lw_m8 47 rfl) rfl
theorem q2085 : (Jvm.Cond.code ({ cls := "ContractLedger$Order", name := "bytes", desc := "(II)I" } : Jvm.MethodName) prog_12_method_4_code (5 : Nat) (Option.some Jvm.ClassFile.FieldType.int)) ∈ lw_all := lw_g (lw_at lw_m8 48 rfl) rfl
theorem q2086 : (Jvm.Cond.methodLink "ContractLedger$Order" (47 : Nat) ({ cls := "ContractLedger$Memory", name := "count", desc := "(I)I" } : Jvm.MethodName)) ∈ lw_all := lw_g (lw_at lw_m8 49 rfl) rfl
theorem q2090 : (Jvm.Cond.methodLink "ContractLedger$Order" (50 : Nat) ({ cls := "java/lang/Math", name := "min", desc := "(II)I" } : Jvm.MethodName)) ∈ lw_all := lw_g (lw_at lw_m8 53 rfl) rfl
theorem q2091 : (Jvm.Cond.methodLink "ContractLedger$Order" (56 : Nat) ({ cls := "ContractLedger$Memory", name := "byteAt", desc := "(II)I" } : Jvm.MethodName)) ∈ lw_all := lw_g (lw_at lw_m8 54 rfl) rfl
theorem q2095 : (Jvm.Cond.methodLink "ContractLedger$Order" (68 : Nat) ({ cls := "ContractLedger$Memory", name := "cell", desc := "(II)I" } : Jvm.MethodName)) ∈ lw_all := lw_g (lw_at lw_m8 58 rfl) rfl
theorem q2096 : (Jvm.Cond.methodLink "ContractLedger$Order" (75 : Nat) ({ cls := "ContractLedger$Order", name := "compare", desc := "(III)I" } : Jvm.MethodName)) ∈ lw_all := lw_g (lw_at lw_m8 59 rfl) rfl
theorem q2097 : (Jvm.Cond.methodLink "ContractLedger$Order" (78 : Nat) ({ cls := "ContractLedger$Memory", name := "kind", desc := "(I)I" } : Jvm.MethodName)) ∈ lw_all := lw_g (lw_at lw_m8 60 rfl) rfl
theorem q2098 : (Jvm.Cond.methodLink "ContractLedger$Order" (84 : Nat) ({ cls := "ContractLedger$Order", name := "numbers", desc := "(II)I" } : Jvm.MethodName)) ∈ lw_all := lw_g (lw_at lw_m8 61 rfl) rfl
theorem q2099 : (Jvm.Cond.privateMethod ({ cls := "ContractLedger$Order", name := "numbers", desc := "(II)I" } : Jvm.MethodName)) ∈ lw_tbl := lw_at lw_m8 62 rfl
theorem q2100 : (Jvm.Cond.instanceMethod ({ cls := "ContractLedger$Order", name := "numbers", desc := "(II)I" } : Jvm.MethodName)) ∈ lw_all := lw_g (lw_at lw_m8 63 rfl) rfl
theorem q2101 : (Jvm.Cond.code ({ cls := "ContractLedger$Order", name := "numbers", desc := "(II)I" } : Jvm.MethodName) prog_12_method_3_code (3 : Nat) (Option.some Jvm.ClassFile.FieldType.int)) ∈ lw_all := lw_g (lw_at lw_m8 64 rfl) rfl
theorem q2102 : (Jvm.Cond.methodLink "ContractLedger$Order" (29 : Nat) ({ cls := "ContractLedger$Memory", name := "isSmall", desc := "(I)Z" } : Jvm.MethodName)) ∈ lw_all := lw_g (lw_at lw_m8 65 rfl) rfl
theorem q2103 : (Jvm.Cond.methodLink "ContractLedger$Order" (35 : Nat) ({ cls := "ContractLedger$Memory", name := "load", desc := "(ILContractLedger$Whole;)V" } : Jvm.MethodName)) ∈ lw_all := lw_g (lw_at lw_m8 66 rfl) rfl
theorem q2113 : (Jvm.Cond.methodLink "ContractLedger$Order" (39 : Nat) ({ cls := "ContractLedger$Whole", name := "compare", desc := "(LContractLedger$Whole;)I" } : Jvm.MethodName)) ∈ lw_all := lw_g (lw_at lw_m8 76 rfl) rfl
set_option maxRecDepth 100000
abbrev cX10_init : ByteArray := prog_20_method_1_code
def yX10_init : MethodName := ⟨RX10, "<init>", "(LContractLedger$Memory;LContractLedger$Order;)V"⟩
def dkwX10_init_0 : List UInt8 := [42, 183, 0, 1, 42, 43, 181, 0, 7, 42, 44, 181, 0, 13, 177]
abbrev dktX10_init_0 : List UInt8 := dkwX10_init_0 ++ []
theorem dksX10_init_0 : cX10_init.data.toList.drop 0 = dktX10_init_0 := by decide +kernel
theorem dX10_init_0 : decode cX10_init 0 = .ok (.aload_n 0, 1) := dk_42 (dk_at dksX10_init_0 0 rfl rfl)
theorem dX10_init_1 : decode cX10_init 1 = .ok (.invokespecial 1, 3) := dk_183 0 1 (dk_at dksX10_init_0 1 rfl rfl)
theorem dX10_init_4 : decode cX10_init 4 = .ok (.aload_n 0, 1) := dk_42 (dk_at dksX10_init_0 4 rfl rfl)
theorem dX10_init_5 : decode cX10_init 5 = .ok (.aload_n 1, 1) := dk_43 (dk_at dksX10_init_0 5 rfl rfl)
theorem dX10_init_6 : decode cX10_init 6 = .ok (.putfield 7, 3) := dk_181 0 7 (dk_at dksX10_init_0 6 rfl rfl)
theorem dX10_init_9 : decode cX10_init 9 = .ok (.aload_n 0, 1) := dk_42 (dk_at dksX10_init_0 9 rfl rfl)
theorem dX10_init_10 : decode cX10_init 10 = .ok (.aload_n 2, 1) := dk_44 (dk_at dksX10_init_0 10 rfl rfl)
theorem dX10_init_11 : decode cX10_init 11 = .ok (.putfield 13, 3) := dk_181 0 13 (dk_at dksX10_init_0 11 rfl rfl)
theorem dX10_init_14 : decode cX10_init 14 = .ok (.return_, 1) := dk_177 (dk_at dksX10_init_0 14 rfl rfl)
abbrev cX10_build : ByteArray := prog_20_method_12_code
def yX10_build : MethodName := ⟨RX10, "build", "([IIII)I"⟩
def dkwX10_build_3 : List UInt8 := [182, 0, 29, 172]
abbrev dktX10_build_3 : List UInt8 := dkwX10_build_3 ++ []
def dkwX10_build_2 : List UInt8 := [21, 5, 46, 21, 4, 154, 0, 7, 3, 167, 0, 10, 43, 21, 5, 21, 4, 96, 46, 21, 6, 21, 7]
abbrev dktX10_build_2 : List UInt8 := dkwX10_build_2 ++ dktX10_build_3
def dkwX10_build_1 : List UInt8 := [182, 0, 64, 54, 6, 42, 43, 21, 5, 4, 96, 29, 21, 4, 182, 0, 64, 54, 7, 42, 180, 0, 7, 43]
abbrev dktX10_build_1 : List UInt8 := dkwX10_build_1 ++ dktX10_build_2
def dkwX10_build_0 : List UInt8 := [28, 29, 160, 0, 6, 16, 12, 172, 28, 29, 96, 4, 122, 54, 5, 42, 43, 28, 21, 5, 21, 4]
abbrev dktX10_build_0 : List UInt8 := dkwX10_build_0 ++ dktX10_build_1
theorem dksX10_build_0 : cX10_build.data.toList.drop 0 = dktX10_build_0 := by decide +kernel
theorem dksX10_build_1 : cX10_build.data.toList.drop 22 = dktX10_build_1 := dk_seg dksX10_build_0 22 rfl rfl
theorem dksX10_build_2 : cX10_build.data.toList.drop 46 = dktX10_build_2 := dk_seg dksX10_build_1 24 rfl rfl
theorem dksX10_build_3 : cX10_build.data.toList.drop 69 = dktX10_build_3 := dk_seg dksX10_build_2 23 rfl rfl
theorem dX10_build_0 : decode cX10_build 0 = .ok (.iload_n 2, 1) := dk_28 (dk_at dksX10_build_0 0 rfl rfl)
theorem dX10_build_1 : decode cX10_build 1 = .ok (.iload_n 3, 1) := dk_29 (dk_at dksX10_build_0 1 rfl rfl)
theorem dX10_build_2 : decode cX10_build 2 = .ok (.if_icmp .ne 6, 3) := dk_160 0 6 (dk_at dksX10_build_0 2 rfl rfl)
theorem dX10_build_5 : decode cX10_build 5 = .ok (.bipush 12, 2) := dk_16 12 (dk_at dksX10_build_0 5 rfl rfl)
theorem dX10_build_7 : decode cX10_build 7 = .ok (.ireturn, 1) := dk_172 (dk_at dksX10_build_0 7 rfl rfl)
theorem dX10_build_8 : decode cX10_build 8 = .ok (.iload_n 2, 1) := dk_28 (dk_at dksX10_build_0 8 rfl rfl)
theorem dX10_build_9 : decode cX10_build 9 = .ok (.iload_n 3, 1) := dk_29 (dk_at dksX10_build_0 9 rfl rfl)
theorem dX10_build_10 : decode cX10_build 10 = .ok (.iadd, 1) := dk_96 (dk_at dksX10_build_0 10 rfl rfl)
theorem dX10_build_11 : decode cX10_build 11 = .ok (.iconst 1, 1) := dk_4 (dk_at dksX10_build_0 11 rfl rfl)
theorem dX10_build_12 : decode cX10_build 12 = .ok (.ishr, 1) := dk_122 (dk_at dksX10_build_0 12 rfl rfl)
theorem dX10_build_13 : decode cX10_build 13 = .ok (.istore 5, 2) := dk_54 5 (dk_at dksX10_build_0 13 rfl rfl)
theorem dX10_build_15 : decode cX10_build 15 = .ok (.aload_n 0, 1) := dk_42 (dk_at dksX10_build_0 15 rfl rfl)
theorem dX10_build_16 : decode cX10_build 16 = .ok (.aload_n 1, 1) := dk_43 (dk_at dksX10_build_0 16 rfl rfl)
theorem dX10_build_17 : decode cX10_build 17 = .ok (.iload_n 2, 1) := dk_28 (dk_at dksX10_build_0 17 rfl rfl)
theorem dX10_build_18 : decode cX10_build 18 = .ok (.iload 5, 2) := dk_21 5 (dk_at dksX10_build_0 18 rfl rfl)
theorem dX10_build_20 : decode cX10_build 20 = .ok (.iload 4, 2) := dk_21 4 (dk_at dksX10_build_0 20 rfl rfl)
theorem dX10_build_22 : decode cX10_build 22 = .ok (.invokevirtual 64, 3) := dk_182 0 64 (dk_at dksX10_build_1 0 rfl rfl)
theorem dX10_build_25 : decode cX10_build 25 = .ok (.istore 6, 2) := dk_54 6 (dk_at dksX10_build_1 3 rfl rfl)
theorem dX10_build_27 : decode cX10_build 27 = .ok (.aload_n 0, 1) := dk_42 (dk_at dksX10_build_1 5 rfl rfl)
theorem dX10_build_28 : decode cX10_build 28 = .ok (.aload_n 1, 1) := dk_43 (dk_at dksX10_build_1 6 rfl rfl)
theorem dX10_build_29 : decode cX10_build 29 = .ok (.iload 5, 2) := dk_21 5 (dk_at dksX10_build_1 7 rfl rfl)
theorem dX10_build_31 : decode cX10_build 31 = .ok (.iconst 1, 1) := dk_4 (dk_at dksX10_build_1 9 rfl rfl)
theorem dX10_build_32 : decode cX10_build 32 = .ok (.iadd, 1) := dk_96 (dk_at dksX10_build_1 10 rfl rfl)
theorem dX10_build_33 : decode cX10_build 33 = .ok (.iload_n 3, 1) := dk_29 (dk_at dksX10_build_1 11 rfl rfl)
theorem dX10_build_34 : decode cX10_build 34 = .ok (.iload 4, 2) := dk_21 4 (dk_at dksX10_build_1 12 rfl rfl)
theorem dX10_build_36 : decode cX10_build 36 = .ok (.invokevirtual 64, 3) := dk_182 0 64 (dk_at dksX10_build_1 14 rfl rfl)
theorem dX10_build_39 : decode cX10_build 39 = .ok (.istore 7, 2) := dk_54 7 (dk_at dksX10_build_1 17 rfl rfl)
theorem dX10_build_41 : decode cX10_build 41 = .ok (.aload_n 0, 1) := dk_42 (dk_at dksX10_build_1 19 rfl rfl)
theorem dX10_build_42 : decode cX10_build 42 = .ok (.getfield 7, 3) := dk_180 0 7 (dk_at dksX10_build_1 20 rfl rfl)
theorem dX10_build_45 : decode cX10_build 45 = .ok (.aload_n 1, 1) := dk_43 (dk_at dksX10_build_1 23 rfl rfl)
theorem dX10_build_46 : decode cX10_build 46 = .ok (.iload 5, 2) := dk_21 5 (dk_at dksX10_build_2 0 rfl rfl)
theorem dX10_build_48 : decode cX10_build 48 = .ok (.iaload, 1) := dk_46 (dk_at dksX10_build_2 2 rfl rfl)
theorem dX10_build_49 : decode cX10_build 49 = .ok (.iload 4, 2) := dk_21 4 (dk_at dksX10_build_2 3 rfl rfl)
theorem dX10_build_51 : decode cX10_build 51 = .ok (.ifCond .ne 7, 3) := dk_154 0 7 (dk_at dksX10_build_2 5 rfl rfl)
theorem dX10_build_54 : decode cX10_build 54 = .ok (.iconst 0, 1) := dk_3 (dk_at dksX10_build_2 8 rfl rfl)
theorem dX10_build_55 : decode cX10_build 55 = .ok (.goto 10, 3) := dk_167 0 10 (dk_at dksX10_build_2 9 rfl rfl)
theorem dX10_build_58 : decode cX10_build 58 = .ok (.aload_n 1, 1) := dk_43 (dk_at dksX10_build_2 12 rfl rfl)
theorem dX10_build_59 : decode cX10_build 59 = .ok (.iload 5, 2) := dk_21 5 (dk_at dksX10_build_2 13 rfl rfl)
theorem dX10_build_61 : decode cX10_build 61 = .ok (.iload 4, 2) := dk_21 4 (dk_at dksX10_build_2 15 rfl rfl)
theorem dX10_build_63 : decode cX10_build 63 = .ok (.iadd, 1) := dk_96 (dk_at dksX10_build_2 17 rfl rfl)
theorem dX10_build_64 : decode cX10_build 64 = .ok (.iaload, 1) := dk_46 (dk_at dksX10_build_2 18 rfl rfl)
theorem dX10_build_65 : decode cX10_build 65 = .ok (.iload 6, 2) := dk_21 6 (dk_at dksX10_build_2 19 rfl rfl)
theorem dX10_build_67 : decode cX10_build 67 = .ok (.iload 7, 2) := dk_21 7 (dk_at dksX10_build_2 21 rfl rfl)
theorem dX10_build_69 : decode cX10_build 69 = .ok (.invokevirtual 29, 3) := dk_182 0 29 (dk_at dksX10_build_3 0 rfl rfl)
theorem dX10_build_72 : decode cX10_build 72 = .ok (.ireturn, 1) := dk_172 (dk_at dksX10_build_3 3 rfl rfl)
abbrev cX10_at : ByteArray := prog_20_method_11_code
def yX10_at : MethodName := ⟨RX10, "at", "(II)I"⟩
def dkwX10_at_3 : List UInt8 := [167, 255, 204, 29, 172]
abbrev dktX10_at_3 : List UInt8 := dkwX10_at_3 ++ []
def dkwX10_at_2 : List UInt8 := [96, 100, 54, 4, 42, 29, 182, 0, 40, 62, 42, 180, 0, 7, 42, 29, 182, 0, 37, 182, 0, 61, 54, 5]
abbrev dktX10_at_2 : List UInt8 := dkwX10_at_2 ++ dktX10_at_3
def dkwX10_at_1 : List UInt8 := [159, 0, 51, 21, 4, 21, 5, 162, 0, 12, 42, 29, 182, 0, 37, 62, 167, 0, 18, 21, 4, 21, 5, 4]
abbrev dktX10_at_1 : List UInt8 := dkwX10_at_1 ++ dktX10_at_2
def dkwX10_at_0 : List UInt8 := [27, 62, 28, 54, 4, 42, 180, 0, 7, 42, 29, 182, 0, 37, 182, 0, 61, 54, 5, 21, 4, 21, 5]
abbrev dktX10_at_0 : List UInt8 := dkwX10_at_0 ++ dktX10_at_1
theorem dksX10_at_0 : cX10_at.data.toList.drop 0 = dktX10_at_0 := by decide +kernel
theorem dksX10_at_1 : cX10_at.data.toList.drop 23 = dktX10_at_1 := dk_seg dksX10_at_0 23 rfl rfl
theorem dksX10_at_2 : cX10_at.data.toList.drop 47 = dktX10_at_2 := dk_seg dksX10_at_1 24 rfl rfl
theorem dksX10_at_3 : cX10_at.data.toList.drop 71 = dktX10_at_3 := dk_seg dksX10_at_2 24 rfl rfl
theorem dX10_at_0 : decode cX10_at 0 = .ok (.iload_n 1, 1) := dk_27 (dk_at dksX10_at_0 0 rfl rfl)
theorem dX10_at_1 : decode cX10_at 1 = .ok (.istore_n 3, 1) := dk_62 (dk_at dksX10_at_0 1 rfl rfl)
theorem dX10_at_2 : decode cX10_at 2 = .ok (.iload_n 2, 1) := dk_28 (dk_at dksX10_at_0 2 rfl rfl)
theorem dX10_at_3 : decode cX10_at 3 = .ok (.istore 4, 2) := dk_54 4 (dk_at dksX10_at_0 3 rfl rfl)
theorem dX10_at_5 : decode cX10_at 5 = .ok (.aload_n 0, 1) := dk_42 (dk_at dksX10_at_0 5 rfl rfl)
theorem dX10_at_6 : decode cX10_at 6 = .ok (.getfield 7, 3) := dk_180 0 7 (dk_at dksX10_at_0 6 rfl rfl)
theorem dX10_at_9 : decode cX10_at 9 = .ok (.aload_n 0, 1) := dk_42 (dk_at dksX10_at_0 9 rfl rfl)
theorem dX10_at_10 : decode cX10_at 10 = .ok (.iload_n 3, 1) := dk_29 (dk_at dksX10_at_0 10 rfl rfl)
theorem dX10_at_11 : decode cX10_at 11 = .ok (.invokevirtual 37, 3) := dk_182 0 37 (dk_at dksX10_at_0 11 rfl rfl)
theorem dX10_at_14 : decode cX10_at 14 = .ok (.invokevirtual 61, 3) := dk_182 0 61 (dk_at dksX10_at_0 14 rfl rfl)
theorem dX10_at_17 : decode cX10_at 17 = .ok (.istore 5, 2) := dk_54 5 (dk_at dksX10_at_0 17 rfl rfl)
theorem dX10_at_19 : decode cX10_at 19 = .ok (.iload 4, 2) := dk_21 4 (dk_at dksX10_at_0 19 rfl rfl)
theorem dX10_at_21 : decode cX10_at 21 = .ok (.iload 5, 2) := dk_21 5 (dk_at dksX10_at_0 21 rfl rfl)
theorem dX10_at_23 : decode cX10_at 23 = .ok (.if_icmp .eq 51, 3) := dk_159 0 51 (dk_at dksX10_at_1 0 rfl rfl)
theorem dX10_at_26 : decode cX10_at 26 = .ok (.iload 4, 2) := dk_21 4 (dk_at dksX10_at_1 3 rfl rfl)
theorem dX10_at_28 : decode cX10_at 28 = .ok (.iload 5, 2) := dk_21 5 (dk_at dksX10_at_1 5 rfl rfl)
theorem dX10_at_30 : decode cX10_at 30 = .ok (.if_icmp .ge 12, 3) := dk_162 0 12 (dk_at dksX10_at_1 7 rfl rfl)
theorem dX10_at_33 : decode cX10_at 33 = .ok (.aload_n 0, 1) := dk_42 (dk_at dksX10_at_1 10 rfl rfl)
theorem dX10_at_34 : decode cX10_at 34 = .ok (.iload_n 3, 1) := dk_29 (dk_at dksX10_at_1 11 rfl rfl)
theorem dX10_at_35 : decode cX10_at 35 = .ok (.invokevirtual 37, 3) := dk_182 0 37 (dk_at dksX10_at_1 12 rfl rfl)
theorem dX10_at_38 : decode cX10_at 38 = .ok (.istore_n 3, 1) := dk_62 (dk_at dksX10_at_1 15 rfl rfl)
theorem dX10_at_39 : decode cX10_at 39 = .ok (.goto 18, 3) := dk_167 0 18 (dk_at dksX10_at_1 16 rfl rfl)
theorem dX10_at_42 : decode cX10_at 42 = .ok (.iload 4, 2) := dk_21 4 (dk_at dksX10_at_1 19 rfl rfl)
theorem dX10_at_44 : decode cX10_at 44 = .ok (.iload 5, 2) := dk_21 5 (dk_at dksX10_at_1 21 rfl rfl)
theorem dX10_at_46 : decode cX10_at 46 = .ok (.iconst 1, 1) := dk_4 (dk_at dksX10_at_1 23 rfl rfl)
theorem dX10_at_47 : decode cX10_at 47 = .ok (.iadd, 1) := dk_96 (dk_at dksX10_at_2 0 rfl rfl)
theorem dX10_at_48 : decode cX10_at 48 = .ok (.isub, 1) := dk_100 (dk_at dksX10_at_2 1 rfl rfl)
theorem dX10_at_49 : decode cX10_at 49 = .ok (.istore 4, 2) := dk_54 4 (dk_at dksX10_at_2 2 rfl rfl)
theorem dX10_at_51 : decode cX10_at 51 = .ok (.aload_n 0, 1) := dk_42 (dk_at dksX10_at_2 4 rfl rfl)
theorem dX10_at_52 : decode cX10_at 52 = .ok (.iload_n 3, 1) := dk_29 (dk_at dksX10_at_2 5 rfl rfl)
theorem dX10_at_53 : decode cX10_at 53 = .ok (.invokevirtual 40, 3) := dk_182 0 40 (dk_at dksX10_at_2 6 rfl rfl)
theorem dX10_at_56 : decode cX10_at 56 = .ok (.istore_n 3, 1) := dk_62 (dk_at dksX10_at_2 9 rfl rfl)
theorem dX10_at_57 : decode cX10_at 57 = .ok (.aload_n 0, 1) := dk_42 (dk_at dksX10_at_2 10 rfl rfl)
theorem dX10_at_58 : decode cX10_at 58 = .ok (.getfield 7, 3) := dk_180 0 7 (dk_at dksX10_at_2 11 rfl rfl)
theorem dX10_at_61 : decode cX10_at 61 = .ok (.aload_n 0, 1) := dk_42 (dk_at dksX10_at_2 14 rfl rfl)
theorem dX10_at_62 : decode cX10_at 62 = .ok (.iload_n 3, 1) := dk_29 (dk_at dksX10_at_2 15 rfl rfl)
theorem dX10_at_63 : decode cX10_at 63 = .ok (.invokevirtual 37, 3) := dk_182 0 37 (dk_at dksX10_at_2 16 rfl rfl)
theorem dX10_at_66 : decode cX10_at 66 = .ok (.invokevirtual 61, 3) := dk_182 0 61 (dk_at dksX10_at_2 19 rfl rfl)
theorem dX10_at_69 : decode cX10_at 69 = .ok (.istore 5, 2) := dk_54 5 (dk_at dksX10_at_2 22 rfl rfl)
theorem dX10_at_71 : decode cX10_at 71 = .ok (.goto (-52), 3) := dk_167 255 204 (dk_at dksX10_at_3 0 rfl rfl)
theorem dX10_at_74 : decode cX10_at 74 = .ok (.iload_n 3, 1) := dk_29 (dk_at dksX10_at_3 3 rfl rfl)
theorem dX10_at_75 : decode cX10_at 75 = .ok (.ireturn, 1) := dk_172 (dk_at dksX10_at_3 4 rfl rfl)
abbrev cX10_low : ByteArray := prog_20_method_3_code
def yX10_low : MethodName := ⟨RX10, "low", "(I)I"⟩
def dkwX10_low_0 : List UInt8 := [42, 180, 0, 7, 27, 7, 182, 0, 19, 172]
abbrev dktX10_low_0 : List UInt8 := dkwX10_low_0 ++ []
theorem dksX10_low_0 : cX10_low.data.toList.drop 0 = dktX10_low_0 := by decide +kernel
theorem dX10_low_0 : decode cX10_low 0 = .ok (.aload_n 0, 1) := dk_42 (dk_at dksX10_low_0 0 rfl rfl)
theorem dX10_low_1 : decode cX10_low 1 = .ok (.getfield 7, 3) := dk_180 0 7 (dk_at dksX10_low_0 1 rfl rfl)
theorem dX10_low_4 : decode cX10_low 4 = .ok (.iload_n 1, 1) := dk_27 (dk_at dksX10_low_0 4 rfl rfl)
theorem dX10_low_5 : decode cX10_low 5 = .ok (.iconst 4, 1) := dk_7 (dk_at dksX10_low_0 5 rfl rfl)
theorem dX10_low_6 : decode cX10_low 6 = .ok (.invokevirtual 19, 3) := dk_182 0 19 (dk_at dksX10_low_0 6 rfl rfl)
theorem dX10_low_9 : decode cX10_low 9 = .ok (.ireturn, 1) := dk_172 (dk_at dksX10_low_0 9 rfl rfl)
abbrev cX10_high : ByteArray := prog_20_method_4_code
def yX10_high : MethodName := ⟨RX10, "high", "(I)I"⟩
def dkwX10_high_0 : List UInt8 := [42, 180, 0, 7, 27, 8, 182, 0, 19, 172]
abbrev dktX10_high_0 : List UInt8 := dkwX10_high_0 ++ []
theorem dksX10_high_0 : cX10_high.data.toList.drop 0 = dktX10_high_0 := by decide +kernel
theorem dX10_high_0 : decode cX10_high 0 = .ok (.aload_n 0, 1) := dk_42 (dk_at dksX10_high_0 0 rfl rfl)
theorem dX10_high_1 : decode cX10_high 1 = .ok (.getfield 7, 3) := dk_180 0 7 (dk_at dksX10_high_0 1 rfl rfl)
theorem dX10_high_4 : decode cX10_high 4 = .ok (.iload_n 1, 1) := dk_27 (dk_at dksX10_high_0 4 rfl rfl)
theorem dX10_high_5 : decode cX10_high 5 = .ok (.iconst 5, 1) := dk_8 (dk_at dksX10_high_0 5 rfl rfl)
theorem dX10_high_6 : decode cX10_high 6 = .ok (.invokevirtual 19, 3) := dk_182 0 19 (dk_at dksX10_high_0 6 rfl rfl)
theorem dX10_high_9 : decode cX10_high 9 = .ok (.ireturn, 1) := dk_172 (dk_at dksX10_high_0 9 rfl rfl)
abbrev cX10_find : ByteArray := prog_20_method_2_code
def yX10_find : MethodName := ⟨RX10, "find", "(III)I"⟩
def dkwX10_find_2 : List UInt8 := [21, 5, 156, 0, 7, 7, 167, 0, 4, 8, 182, 0, 19, 54, 4, 167, 255, 199, 21, 4, 172]
abbrev dktX10_find_2 : List UInt8 := dkwX10_find_2 ++ []
def dkwX10_find_1 : List UInt8 := [182, 0, 19, 29, 182, 0, 23, 54, 5, 21, 5, 154, 0, 6, 21, 4, 172, 42, 180, 0, 7, 21, 4]
abbrev dktX10_find_1 : List UInt8 := dkwX10_find_1 ++ dktX10_find_2
def dkwX10_find_0 : List UInt8 := [27, 54, 4, 21, 4, 16, 12, 159, 0, 56, 42, 180, 0, 13, 28, 42, 180, 0, 7, 21, 4, 5]
abbrev dktX10_find_0 : List UInt8 := dkwX10_find_0 ++ dktX10_find_1
theorem dksX10_find_0 : cX10_find.data.toList.drop 0 = dktX10_find_0 := by decide +kernel
theorem dksX10_find_1 : cX10_find.data.toList.drop 22 = dktX10_find_1 := dk_seg dksX10_find_0 22 rfl rfl
theorem dksX10_find_2 : cX10_find.data.toList.drop 45 = dktX10_find_2 := dk_seg dksX10_find_1 23 rfl rfl
theorem dX10_find_0 : decode cX10_find 0 = .ok (.iload_n 1, 1) := dk_27 (dk_at dksX10_find_0 0 rfl rfl)
theorem dX10_find_1 : decode cX10_find 1 = .ok (.istore 4, 2) := dk_54 4 (dk_at dksX10_find_0 1 rfl rfl)
theorem dX10_find_3 : decode cX10_find 3 = .ok (.iload 4, 2) := dk_21 4 (dk_at dksX10_find_0 3 rfl rfl)
theorem dX10_find_5 : decode cX10_find 5 = .ok (.bipush 12, 2) := dk_16 12 (dk_at dksX10_find_0 5 rfl rfl)
theorem dX10_find_7 : decode cX10_find 7 = .ok (.if_icmp .eq 56, 3) := dk_159 0 56 (dk_at dksX10_find_0 7 rfl rfl)
theorem dX10_find_10 : decode cX10_find 10 = .ok (.aload_n 0, 1) := dk_42 (dk_at dksX10_find_0 10 rfl rfl)
theorem dX10_find_11 : decode cX10_find 11 = .ok (.getfield 13, 3) := dk_180 0 13 (dk_at dksX10_find_0 11 rfl rfl)
theorem dX10_find_14 : decode cX10_find 14 = .ok (.iload_n 2, 1) := dk_28 (dk_at dksX10_find_0 14 rfl rfl)
theorem dX10_find_15 : decode cX10_find 15 = .ok (.aload_n 0, 1) := dk_42 (dk_at dksX10_find_0 15 rfl rfl)
theorem dX10_find_16 : decode cX10_find 16 = .ok (.getfield 7, 3) := dk_180 0 7 (dk_at dksX10_find_0 16 rfl rfl)
theorem dX10_find_19 : decode cX10_find 19 = .ok (.iload 4, 2) := dk_21 4 (dk_at dksX10_find_0 19 rfl rfl)
theorem dX10_find_21 : decode cX10_find 21 = .ok (.iconst 2, 1) := dk_5 (dk_at dksX10_find_0 21 rfl rfl)
theorem dX10_find_22 : decode cX10_find 22 = .ok (.invokevirtual 19, 3) := dk_182 0 19 (dk_at dksX10_find_1 0 rfl rfl)
theorem dX10_find_25 : decode cX10_find 25 = .ok (.iload_n 3, 1) := dk_29 (dk_at dksX10_find_1 3 rfl rfl)
theorem dX10_find_26 : decode cX10_find 26 = .ok (.invokevirtual 23, 3) := dk_182 0 23 (dk_at dksX10_find_1 4 rfl rfl)
theorem dX10_find_29 : decode cX10_find 29 = .ok (.istore 5, 2) := dk_54 5 (dk_at dksX10_find_1 7 rfl rfl)
theorem dX10_find_31 : decode cX10_find 31 = .ok (.iload 5, 2) := dk_21 5 (dk_at dksX10_find_1 9 rfl rfl)
theorem dX10_find_33 : decode cX10_find 33 = .ok (.ifCond .ne 6, 3) := dk_154 0 6 (dk_at dksX10_find_1 11 rfl rfl)
theorem dX10_find_36 : decode cX10_find 36 = .ok (.iload 4, 2) := dk_21 4 (dk_at dksX10_find_1 14 rfl rfl)
theorem dX10_find_38 : decode cX10_find 38 = .ok (.ireturn, 1) := dk_172 (dk_at dksX10_find_1 16 rfl rfl)
theorem dX10_find_39 : decode cX10_find 39 = .ok (.aload_n 0, 1) := dk_42 (dk_at dksX10_find_1 17 rfl rfl)
theorem dX10_find_40 : decode cX10_find 40 = .ok (.getfield 7, 3) := dk_180 0 7 (dk_at dksX10_find_1 18 rfl rfl)
theorem dX10_find_43 : decode cX10_find 43 = .ok (.iload 4, 2) := dk_21 4 (dk_at dksX10_find_1 21 rfl rfl)
theorem dX10_find_45 : decode cX10_find 45 = .ok (.iload 5, 2) := dk_21 5 (dk_at dksX10_find_2 0 rfl rfl)
theorem dX10_find_47 : decode cX10_find 47 = .ok (.ifCond .ge 7, 3) := dk_156 0 7 (dk_at dksX10_find_2 2 rfl rfl)
theorem dX10_find_50 : decode cX10_find 50 = .ok (.iconst 4, 1) := dk_7 (dk_at dksX10_find_2 5 rfl rfl)
theorem dX10_find_51 : decode cX10_find 51 = .ok (.goto 4, 3) := dk_167 0 4 (dk_at dksX10_find_2 6 rfl rfl)
theorem dX10_find_54 : decode cX10_find 54 = .ok (.iconst 5, 1) := dk_8 (dk_at dksX10_find_2 9 rfl rfl)
theorem dX10_find_55 : decode cX10_find 55 = .ok (.invokevirtual 19, 3) := dk_182 0 19 (dk_at dksX10_find_2 10 rfl rfl)
theorem dX10_find_58 : decode cX10_find 58 = .ok (.istore 4, 2) := dk_54 4 (dk_at dksX10_find_2 13 rfl rfl)
theorem dX10_find_60 : decode cX10_find 60 = .ok (.goto (-57), 3) := dk_167 255 199 (dk_at dksX10_find_2 15 rfl rfl)
theorem dX10_find_63 : decode cX10_find 63 = .ok (.iload 4, 2) := dk_21 4 (dk_at dksX10_find_2 18 rfl rfl)
theorem dX10_find_65 : decode cX10_find 65 = .ok (.ireturn, 1) := dk_172 (dk_at dksX10_find_2 20 rfl rfl)
abbrev cX10_put : ByteArray := prog_20_method_7_code
def yX10_put : MethodName := ⟨RX10, "put", "(IIII)I"⟩
def dkwX10_put_5 : List UInt8 := [182, 0, 49, 172]
abbrev dktX10_put_5 : List UInt8 := dkwX10_put_5 ++ []
def dkwX10_put_4 : List UInt8 := [167, 0, 26, 42, 27, 42, 27, 182, 0, 37, 42, 42, 27, 182, 0, 40, 28, 29, 21, 4, 182, 0, 46]
abbrev dktX10_put_4 : List UInt8 := dkwX10_put_4 ++ dktX10_put_5
def dkwX10_put_3 : List UInt8 := [42, 27, 42, 42, 27, 182, 0, 37, 28, 29, 21, 4, 182, 0, 46, 42, 27, 182, 0, 40, 182, 0, 49]
abbrev dktX10_put_3 : List UInt8 := dkwX10_put_3 ++ dktX10_put_4
def dkwX10_put_2 : List UInt8 := [180, 0, 7, 28, 29, 42, 27, 182, 0, 37, 42, 27, 182, 0, 40, 182, 0, 29, 172, 21, 5, 156, 0, 29]
abbrev dktX10_put_2 : List UInt8 := dkwX10_put_2 ++ dktX10_put_3
def dkwX10_put_1 : List UInt8 := [28, 42, 180, 0, 7, 27, 5, 182, 0, 19, 21, 4, 182, 0, 23, 54, 5, 21, 5, 154, 0, 23, 42]
abbrev dktX10_put_1 : List UInt8 := dkwX10_put_1 ++ dktX10_put_2
def dkwX10_put_0 : List UInt8 := [27, 16, 12, 160, 0, 17, 42, 180, 0, 7, 28, 29, 16, 12, 16, 12, 182, 0, 29, 172, 42, 180, 0, 13]
abbrev dktX10_put_0 : List UInt8 := dkwX10_put_0 ++ dktX10_put_1
theorem dksX10_put_0 : cX10_put.data.toList.drop 0 = dktX10_put_0 := by decide +kernel
theorem dksX10_put_1 : cX10_put.data.toList.drop 24 = dktX10_put_1 := dk_seg dksX10_put_0 24 rfl rfl
theorem dksX10_put_2 : cX10_put.data.toList.drop 47 = dktX10_put_2 := dk_seg dksX10_put_1 23 rfl rfl
theorem dksX10_put_3 : cX10_put.data.toList.drop 71 = dktX10_put_3 := dk_seg dksX10_put_2 24 rfl rfl
theorem dksX10_put_4 : cX10_put.data.toList.drop 94 = dktX10_put_4 := dk_seg dksX10_put_3 23 rfl rfl
theorem dksX10_put_5 : cX10_put.data.toList.drop 117 = dktX10_put_5 := dk_seg dksX10_put_4 23 rfl rfl
theorem dX10_put_0 : decode cX10_put 0 = .ok (.iload_n 1, 1) := dk_27 (dk_at dksX10_put_0 0 rfl rfl)
theorem dX10_put_1 : decode cX10_put 1 = .ok (.bipush 12, 2) := dk_16 12 (dk_at dksX10_put_0 1 rfl rfl)
theorem dX10_put_3 : decode cX10_put 3 = .ok (.if_icmp .ne 17, 3) := dk_160 0 17 (dk_at dksX10_put_0 3 rfl rfl)
theorem dX10_put_6 : decode cX10_put 6 = .ok (.aload_n 0, 1) := dk_42 (dk_at dksX10_put_0 6 rfl rfl)
theorem dX10_put_7 : decode cX10_put 7 = .ok (.getfield 7, 3) := dk_180 0 7 (dk_at dksX10_put_0 7 rfl rfl)
theorem dX10_put_10 : decode cX10_put 10 = .ok (.iload_n 2, 1) := dk_28 (dk_at dksX10_put_0 10 rfl rfl)
theorem dX10_put_11 : decode cX10_put 11 = .ok (.iload_n 3, 1) := dk_29 (dk_at dksX10_put_0 11 rfl rfl)
theorem dX10_put_12 : decode cX10_put 12 = .ok (.bipush 12, 2) := dk_16 12 (dk_at dksX10_put_0 12 rfl rfl)
theorem dX10_put_14 : decode cX10_put 14 = .ok (.bipush 12, 2) := dk_16 12 (dk_at dksX10_put_0 14 rfl rfl)
theorem dX10_put_16 : decode cX10_put 16 = .ok (.invokevirtual 29, 3) := dk_182 0 29 (dk_at dksX10_put_0 16 rfl rfl)
theorem dX10_put_19 : decode cX10_put 19 = .ok (.ireturn, 1) := dk_172 (dk_at dksX10_put_0 19 rfl rfl)
theorem dX10_put_20 : decode cX10_put 20 = .ok (.aload_n 0, 1) := dk_42 (dk_at dksX10_put_0 20 rfl rfl)
theorem dX10_put_21 : decode cX10_put 21 = .ok (.getfield 13, 3) := dk_180 0 13 (dk_at dksX10_put_0 21 rfl rfl)
theorem dX10_put_24 : decode cX10_put 24 = .ok (.iload_n 2, 1) := dk_28 (dk_at dksX10_put_1 0 rfl rfl)
theorem dX10_put_25 : decode cX10_put 25 = .ok (.aload_n 0, 1) := dk_42 (dk_at dksX10_put_1 1 rfl rfl)
theorem dX10_put_26 : decode cX10_put 26 = .ok (.getfield 7, 3) := dk_180 0 7 (dk_at dksX10_put_1 2 rfl rfl)
theorem dX10_put_29 : decode cX10_put 29 = .ok (.iload_n 1, 1) := dk_27 (dk_at dksX10_put_1 5 rfl rfl)
theorem dX10_put_30 : decode cX10_put 30 = .ok (.iconst 2, 1) := dk_5 (dk_at dksX10_put_1 6 rfl rfl)
theorem dX10_put_31 : decode cX10_put 31 = .ok (.invokevirtual 19, 3) := dk_182 0 19 (dk_at dksX10_put_1 7 rfl rfl)
theorem dX10_put_34 : decode cX10_put 34 = .ok (.iload 4, 2) := dk_21 4 (dk_at dksX10_put_1 10 rfl rfl)
theorem dX10_put_36 : decode cX10_put 36 = .ok (.invokevirtual 23, 3) := dk_182 0 23 (dk_at dksX10_put_1 12 rfl rfl)
theorem dX10_put_39 : decode cX10_put 39 = .ok (.istore 5, 2) := dk_54 5 (dk_at dksX10_put_1 15 rfl rfl)
theorem dX10_put_41 : decode cX10_put 41 = .ok (.iload 5, 2) := dk_21 5 (dk_at dksX10_put_1 17 rfl rfl)
theorem dX10_put_43 : decode cX10_put 43 = .ok (.ifCond .ne 23, 3) := dk_154 0 23 (dk_at dksX10_put_1 19 rfl rfl)
theorem dX10_put_46 : decode cX10_put 46 = .ok (.aload_n 0, 1) := dk_42 (dk_at dksX10_put_1 22 rfl rfl)
theorem dX10_put_47 : decode cX10_put 47 = .ok (.getfield 7, 3) := dk_180 0 7 (dk_at dksX10_put_2 0 rfl rfl)
theorem dX10_put_50 : decode cX10_put 50 = .ok (.iload_n 2, 1) := dk_28 (dk_at dksX10_put_2 3 rfl rfl)
theorem dX10_put_51 : decode cX10_put 51 = .ok (.iload_n 3, 1) := dk_29 (dk_at dksX10_put_2 4 rfl rfl)
theorem dX10_put_52 : decode cX10_put 52 = .ok (.aload_n 0, 1) := dk_42 (dk_at dksX10_put_2 5 rfl rfl)
theorem dX10_put_53 : decode cX10_put 53 = .ok (.iload_n 1, 1) := dk_27 (dk_at dksX10_put_2 6 rfl rfl)
theorem dX10_put_54 : decode cX10_put 54 = .ok (.invokevirtual 37, 3) := dk_182 0 37 (dk_at dksX10_put_2 7 rfl rfl)
theorem dX10_put_57 : decode cX10_put 57 = .ok (.aload_n 0, 1) := dk_42 (dk_at dksX10_put_2 10 rfl rfl)
theorem dX10_put_58 : decode cX10_put 58 = .ok (.iload_n 1, 1) := dk_27 (dk_at dksX10_put_2 11 rfl rfl)
theorem dX10_put_59 : decode cX10_put 59 = .ok (.invokevirtual 40, 3) := dk_182 0 40 (dk_at dksX10_put_2 12 rfl rfl)
theorem dX10_put_62 : decode cX10_put 62 = .ok (.invokevirtual 29, 3) := dk_182 0 29 (dk_at dksX10_put_2 15 rfl rfl)
theorem dX10_put_65 : decode cX10_put 65 = .ok (.ireturn, 1) := dk_172 (dk_at dksX10_put_2 18 rfl rfl)
theorem dX10_put_66 : decode cX10_put 66 = .ok (.iload 5, 2) := dk_21 5 (dk_at dksX10_put_2 19 rfl rfl)
theorem dX10_put_68 : decode cX10_put 68 = .ok (.ifCond .ge 29, 3) := dk_156 0 29 (dk_at dksX10_put_2 21 rfl rfl)
theorem dX10_put_71 : decode cX10_put 71 = .ok (.aload_n 0, 1) := dk_42 (dk_at dksX10_put_3 0 rfl rfl)
theorem dX10_put_72 : decode cX10_put 72 = .ok (.iload_n 1, 1) := dk_27 (dk_at dksX10_put_3 1 rfl rfl)
theorem dX10_put_73 : decode cX10_put 73 = .ok (.aload_n 0, 1) := dk_42 (dk_at dksX10_put_3 2 rfl rfl)
theorem dX10_put_74 : decode cX10_put 74 = .ok (.aload_n 0, 1) := dk_42 (dk_at dksX10_put_3 3 rfl rfl)
theorem dX10_put_75 : decode cX10_put 75 = .ok (.iload_n 1, 1) := dk_27 (dk_at dksX10_put_3 4 rfl rfl)
theorem dX10_put_76 : decode cX10_put 76 = .ok (.invokevirtual 37, 3) := dk_182 0 37 (dk_at dksX10_put_3 5 rfl rfl)
theorem dX10_put_79 : decode cX10_put 79 = .ok (.iload_n 2, 1) := dk_28 (dk_at dksX10_put_3 8 rfl rfl)
theorem dX10_put_80 : decode cX10_put 80 = .ok (.iload_n 3, 1) := dk_29 (dk_at dksX10_put_3 9 rfl rfl)
theorem dX10_put_81 : decode cX10_put 81 = .ok (.iload 4, 2) := dk_21 4 (dk_at dksX10_put_3 10 rfl rfl)
theorem dX10_put_83 : decode cX10_put 83 = .ok (.invokevirtual 46, 3) := dk_182 0 46 (dk_at dksX10_put_3 12 rfl rfl)
theorem dX10_put_86 : decode cX10_put 86 = .ok (.aload_n 0, 1) := dk_42 (dk_at dksX10_put_3 15 rfl rfl)
theorem dX10_put_87 : decode cX10_put 87 = .ok (.iload_n 1, 1) := dk_27 (dk_at dksX10_put_3 16 rfl rfl)
theorem dX10_put_88 : decode cX10_put 88 = .ok (.invokevirtual 40, 3) := dk_182 0 40 (dk_at dksX10_put_3 17 rfl rfl)
theorem dX10_put_91 : decode cX10_put 91 = .ok (.invokevirtual 49, 3) := dk_182 0 49 (dk_at dksX10_put_3 20 rfl rfl)
theorem dX10_put_94 : decode cX10_put 94 = .ok (.goto 26, 3) := dk_167 0 26 (dk_at dksX10_put_4 0 rfl rfl)
theorem dX10_put_97 : decode cX10_put 97 = .ok (.aload_n 0, 1) := dk_42 (dk_at dksX10_put_4 3 rfl rfl)
theorem dX10_put_98 : decode cX10_put 98 = .ok (.iload_n 1, 1) := dk_27 (dk_at dksX10_put_4 4 rfl rfl)
theorem dX10_put_99 : decode cX10_put 99 = .ok (.aload_n 0, 1) := dk_42 (dk_at dksX10_put_4 5 rfl rfl)
theorem dX10_put_100 : decode cX10_put 100 = .ok (.iload_n 1, 1) := dk_27 (dk_at dksX10_put_4 6 rfl rfl)
theorem dX10_put_101 : decode cX10_put 101 = .ok (.invokevirtual 37, 3) := dk_182 0 37 (dk_at dksX10_put_4 7 rfl rfl)
theorem dX10_put_104 : decode cX10_put 104 = .ok (.aload_n 0, 1) := dk_42 (dk_at dksX10_put_4 10 rfl rfl)
theorem dX10_put_105 : decode cX10_put 105 = .ok (.aload_n 0, 1) := dk_42 (dk_at dksX10_put_4 11 rfl rfl)
theorem dX10_put_106 : decode cX10_put 106 = .ok (.iload_n 1, 1) := dk_27 (dk_at dksX10_put_4 12 rfl rfl)
theorem dX10_put_107 : decode cX10_put 107 = .ok (.invokevirtual 40, 3) := dk_182 0 40 (dk_at dksX10_put_4 13 rfl rfl)
theorem dX10_put_110 : decode cX10_put 110 = .ok (.iload_n 2, 1) := dk_28 (dk_at dksX10_put_4 16 rfl rfl)
theorem dX10_put_111 : decode cX10_put 111 = .ok (.iload_n 3, 1) := dk_29 (dk_at dksX10_put_4 17 rfl rfl)
theorem dX10_put_112 : decode cX10_put 112 = .ok (.iload 4, 2) := dk_21 4 (dk_at dksX10_put_4 18 rfl rfl)
theorem dX10_put_114 : decode cX10_put 114 = .ok (.invokevirtual 46, 3) := dk_182 0 46 (dk_at dksX10_put_4 20 rfl rfl)
theorem dX10_put_117 : decode cX10_put 117 = .ok (.invokevirtual 49, 3) := dk_182 0 49 (dk_at dksX10_put_5 0 rfl rfl)
theorem dX10_put_120 : decode cX10_put 120 = .ok (.ireturn, 1) := dk_172 (dk_at dksX10_put_5 3 rfl rfl)
abbrev cX10_balance : ByteArray := prog_20_method_6_code
def yX10_balance : MethodName := ⟨RX10, "balance", "(III)I"⟩
def dkwX10_balance_9 : List UInt8 := [182, 0, 43, 172, 42, 27, 28, 29, 182, 0, 43, 172]
abbrev dktX10_balance_9 : List UInt8 := dkwX10_balance_9 ++ []
def dkwX10_balance_8 : List UInt8 := [182, 0, 37, 182, 0, 43, 42, 29, 42, 21, 5, 182, 0, 40, 42, 29, 182, 0, 40, 182, 0, 43]
abbrev dktX10_balance_8 : List UInt8 := dkwX10_balance_8 ++ dktX10_balance_9
def dkwX10_balance_7 : List UInt8 := [182, 0, 40, 182, 0, 43, 172, 42, 29, 182, 0, 37, 54, 5, 42, 21, 5, 42, 27, 28, 42, 21, 5]
abbrev dktX10_balance_7 : List UInt8 := dkwX10_balance_7 ++ dktX10_balance_8
def dkwX10_balance_6 : List UInt8 := [182, 0, 37, 182, 0, 33, 161, 0, 25, 42, 29, 42, 27, 28, 42, 29, 182, 0, 37, 182, 0, 43, 42, 29]
abbrev dktX10_balance_6 : List UInt8 := dkwX10_balance_6 ++ dktX10_balance_7
def dkwX10_balance_5 : List UInt8 := [2, 162, 0, 94, 42, 180, 0, 7, 42, 29, 182, 0, 40, 182, 0, 33, 42, 180, 0, 7, 42, 29]
abbrev dktX10_balance_5 : List UInt8 := dkwX10_balance_5 ++ dktX10_balance_6
def dkwX10_balance_4 : List UInt8 := [182, 0, 37, 182, 0, 43, 42, 27, 42, 21, 5, 182, 0, 40, 29, 182, 0, 43, 182, 0, 43, 172, 21, 4]
abbrev dktX10_balance_4 : List UInt8 := dkwX10_balance_4 ++ dktX10_balance_5
def dkwX10_balance_3 : List UInt8 := [182, 0, 43, 172, 42, 28, 182, 0, 40, 54, 5, 42, 21, 5, 42, 28, 42, 28, 182, 0, 37, 42, 21, 5]
abbrev dktX10_balance_3 : List UInt8 := dkwX10_balance_3 ++ dktX10_balance_4
def dkwX10_balance_2 : List UInt8 := [182, 0, 33, 161, 0, 25, 42, 28, 42, 28, 182, 0, 37, 42, 27, 42, 28, 182, 0, 40, 29, 182, 0, 43]
abbrev dktX10_balance_2 : List UInt8 := dkwX10_balance_2 ++ dktX10_balance_3
def dkwX10_balance_1 : List UInt8 := [164, 0, 94, 42, 180, 0, 7, 42, 28, 182, 0, 37, 182, 0, 33, 42, 180, 0, 7, 42, 28, 182, 0, 40]
abbrev dktX10_balance_1 : List UInt8 := dkwX10_balance_1 ++ dktX10_balance_2
def dkwX10_balance_0 : List UInt8 := [42, 180, 0, 7, 28, 182, 0, 33, 42, 180, 0, 7, 29, 182, 0, 33, 100, 54, 4, 21, 4, 4]
abbrev dktX10_balance_0 : List UInt8 := dkwX10_balance_0 ++ dktX10_balance_1
theorem dksX10_balance_0 : cX10_balance.data.toList.drop 0 = dktX10_balance_0 := by decide +kernel
theorem dksX10_balance_1 : cX10_balance.data.toList.drop 22 = dktX10_balance_1 := dk_seg dksX10_balance_0 22 rfl rfl
theorem dksX10_balance_2 : cX10_balance.data.toList.drop 46 = dktX10_balance_2 := dk_seg dksX10_balance_1 24 rfl rfl
theorem dksX10_balance_3 : cX10_balance.data.toList.drop 70 = dktX10_balance_3 := dk_seg dksX10_balance_2 24 rfl rfl
theorem dksX10_balance_4 : cX10_balance.data.toList.drop 94 = dktX10_balance_4 := dk_seg dksX10_balance_3 24 rfl rfl
theorem dksX10_balance_5 : cX10_balance.data.toList.drop 118 = dktX10_balance_5 := dk_seg dksX10_balance_4 24 rfl rfl
theorem dksX10_balance_6 : cX10_balance.data.toList.drop 140 = dktX10_balance_6 := dk_seg dksX10_balance_5 22 rfl rfl
theorem dksX10_balance_7 : cX10_balance.data.toList.drop 164 = dktX10_balance_7 := dk_seg dksX10_balance_6 24 rfl rfl
theorem dksX10_balance_8 : cX10_balance.data.toList.drop 187 = dktX10_balance_8 := dk_seg dksX10_balance_7 23 rfl rfl
theorem dksX10_balance_9 : cX10_balance.data.toList.drop 209 = dktX10_balance_9 := dk_seg dksX10_balance_8 22 rfl rfl
theorem dX10_balance_0 : decode cX10_balance 0 = .ok (.aload_n 0, 1) := dk_42 (dk_at dksX10_balance_0 0 rfl rfl)
theorem dX10_balance_1 : decode cX10_balance 1 = .ok (.getfield 7, 3) := dk_180 0 7 (dk_at dksX10_balance_0 1 rfl rfl)
theorem dX10_balance_4 : decode cX10_balance 4 = .ok (.iload_n 2, 1) := dk_28 (dk_at dksX10_balance_0 4 rfl rfl)
theorem dX10_balance_5 : decode cX10_balance 5 = .ok (.invokevirtual 33, 3) := dk_182 0 33 (dk_at dksX10_balance_0 5 rfl rfl)
theorem dX10_balance_8 : decode cX10_balance 8 = .ok (.aload_n 0, 1) := dk_42 (dk_at dksX10_balance_0 8 rfl rfl)
theorem dX10_balance_9 : decode cX10_balance 9 = .ok (.getfield 7, 3) := dk_180 0 7 (dk_at dksX10_balance_0 9 rfl rfl)
theorem dX10_balance_12 : decode cX10_balance 12 = .ok (.iload_n 3, 1) := dk_29 (dk_at dksX10_balance_0 12 rfl rfl)
theorem dX10_balance_13 : decode cX10_balance 13 = .ok (.invokevirtual 33, 3) := dk_182 0 33 (dk_at dksX10_balance_0 13 rfl rfl)
theorem dX10_balance_16 : decode cX10_balance 16 = .ok (.isub, 1) := dk_100 (dk_at dksX10_balance_0 16 rfl rfl)
theorem dX10_balance_17 : decode cX10_balance 17 = .ok (.istore 4, 2) := dk_54 4 (dk_at dksX10_balance_0 17 rfl rfl)
theorem dX10_balance_19 : decode cX10_balance 19 = .ok (.iload 4, 2) := dk_21 4 (dk_at dksX10_balance_0 19 rfl rfl)
theorem dX10_balance_21 : decode cX10_balance 21 = .ok (.iconst 1, 1) := dk_4 (dk_at dksX10_balance_0 21 rfl rfl)
theorem dX10_balance_22 : decode cX10_balance 22 = .ok (.if_icmp .le 94, 3) := dk_164 0 94 (dk_at dksX10_balance_1 0 rfl rfl)
theorem dX10_balance_25 : decode cX10_balance 25 = .ok (.aload_n 0, 1) := dk_42 (dk_at dksX10_balance_1 3 rfl rfl)
theorem dX10_balance_26 : decode cX10_balance 26 = .ok (.getfield 7, 3) := dk_180 0 7 (dk_at dksX10_balance_1 4 rfl rfl)
theorem dX10_balance_29 : decode cX10_balance 29 = .ok (.aload_n 0, 1) := dk_42 (dk_at dksX10_balance_1 7 rfl rfl)
theorem dX10_balance_30 : decode cX10_balance 30 = .ok (.iload_n 2, 1) := dk_28 (dk_at dksX10_balance_1 8 rfl rfl)
theorem dX10_balance_31 : decode cX10_balance 31 = .ok (.invokevirtual 37, 3) := dk_182 0 37 (dk_at dksX10_balance_1 9 rfl rfl)
theorem dX10_balance_34 : decode cX10_balance 34 = .ok (.invokevirtual 33, 3) := dk_182 0 33 (dk_at dksX10_balance_1 12 rfl rfl)
theorem dX10_balance_37 : decode cX10_balance 37 = .ok (.aload_n 0, 1) := dk_42 (dk_at dksX10_balance_1 15 rfl rfl)
theorem dX10_balance_38 : decode cX10_balance 38 = .ok (.getfield 7, 3) := dk_180 0 7 (dk_at dksX10_balance_1 16 rfl rfl)
theorem dX10_balance_41 : decode cX10_balance 41 = .ok (.aload_n 0, 1) := dk_42 (dk_at dksX10_balance_1 19 rfl rfl)
theorem dX10_balance_42 : decode cX10_balance 42 = .ok (.iload_n 2, 1) := dk_28 (dk_at dksX10_balance_1 20 rfl rfl)
theorem dX10_balance_43 : decode cX10_balance 43 = .ok (.invokevirtual 40, 3) := dk_182 0 40 (dk_at dksX10_balance_1 21 rfl rfl)
theorem dX10_balance_46 : decode cX10_balance 46 = .ok (.invokevirtual 33, 3) := dk_182 0 33 (dk_at dksX10_balance_2 0 rfl rfl)
theorem dX10_balance_49 : decode cX10_balance 49 = .ok (.if_icmp .lt 25, 3) := dk_161 0 25 (dk_at dksX10_balance_2 3 rfl rfl)
theorem dX10_balance_52 : decode cX10_balance 52 = .ok (.aload_n 0, 1) := dk_42 (dk_at dksX10_balance_2 6 rfl rfl)
theorem dX10_balance_53 : decode cX10_balance 53 = .ok (.iload_n 2, 1) := dk_28 (dk_at dksX10_balance_2 7 rfl rfl)
theorem dX10_balance_54 : decode cX10_balance 54 = .ok (.aload_n 0, 1) := dk_42 (dk_at dksX10_balance_2 8 rfl rfl)
theorem dX10_balance_55 : decode cX10_balance 55 = .ok (.iload_n 2, 1) := dk_28 (dk_at dksX10_balance_2 9 rfl rfl)
theorem dX10_balance_56 : decode cX10_balance 56 = .ok (.invokevirtual 37, 3) := dk_182 0 37 (dk_at dksX10_balance_2 10 rfl rfl)
theorem dX10_balance_59 : decode cX10_balance 59 = .ok (.aload_n 0, 1) := dk_42 (dk_at dksX10_balance_2 13 rfl rfl)
theorem dX10_balance_60 : decode cX10_balance 60 = .ok (.iload_n 1, 1) := dk_27 (dk_at dksX10_balance_2 14 rfl rfl)
theorem dX10_balance_61 : decode cX10_balance 61 = .ok (.aload_n 0, 1) := dk_42 (dk_at dksX10_balance_2 15 rfl rfl)
theorem dX10_balance_62 : decode cX10_balance 62 = .ok (.iload_n 2, 1) := dk_28 (dk_at dksX10_balance_2 16 rfl rfl)
theorem dX10_balance_63 : decode cX10_balance 63 = .ok (.invokevirtual 40, 3) := dk_182 0 40 (dk_at dksX10_balance_2 17 rfl rfl)
theorem dX10_balance_66 : decode cX10_balance 66 = .ok (.iload_n 3, 1) := dk_29 (dk_at dksX10_balance_2 20 rfl rfl)
theorem dX10_balance_67 : decode cX10_balance 67 = .ok (.invokevirtual 43, 3) := dk_182 0 43 (dk_at dksX10_balance_2 21 rfl rfl)
theorem dX10_balance_70 : decode cX10_balance 70 = .ok (.invokevirtual 43, 3) := dk_182 0 43 (dk_at dksX10_balance_3 0 rfl rfl)
theorem dX10_balance_73 : decode cX10_balance 73 = .ok (.ireturn, 1) := dk_172 (dk_at dksX10_balance_3 3 rfl rfl)
theorem dX10_balance_74 : decode cX10_balance 74 = .ok (.aload_n 0, 1) := dk_42 (dk_at dksX10_balance_3 4 rfl rfl)
theorem dX10_balance_75 : decode cX10_balance 75 = .ok (.iload_n 2, 1) := dk_28 (dk_at dksX10_balance_3 5 rfl rfl)
theorem dX10_balance_76 : decode cX10_balance 76 = .ok (.invokevirtual 40, 3) := dk_182 0 40 (dk_at dksX10_balance_3 6 rfl rfl)
theorem dX10_balance_79 : decode cX10_balance 79 = .ok (.istore 5, 2) := dk_54 5 (dk_at dksX10_balance_3 9 rfl rfl)
theorem dX10_balance_81 : decode cX10_balance 81 = .ok (.aload_n 0, 1) := dk_42 (dk_at dksX10_balance_3 11 rfl rfl)
theorem dX10_balance_82 : decode cX10_balance 82 = .ok (.iload 5, 2) := dk_21 5 (dk_at dksX10_balance_3 12 rfl rfl)
theorem dX10_balance_84 : decode cX10_balance 84 = .ok (.aload_n 0, 1) := dk_42 (dk_at dksX10_balance_3 14 rfl rfl)
theorem dX10_balance_85 : decode cX10_balance 85 = .ok (.iload_n 2, 1) := dk_28 (dk_at dksX10_balance_3 15 rfl rfl)
theorem dX10_balance_86 : decode cX10_balance 86 = .ok (.aload_n 0, 1) := dk_42 (dk_at dksX10_balance_3 16 rfl rfl)
theorem dX10_balance_87 : decode cX10_balance 87 = .ok (.iload_n 2, 1) := dk_28 (dk_at dksX10_balance_3 17 rfl rfl)
theorem dX10_balance_88 : decode cX10_balance 88 = .ok (.invokevirtual 37, 3) := dk_182 0 37 (dk_at dksX10_balance_3 18 rfl rfl)
theorem dX10_balance_91 : decode cX10_balance 91 = .ok (.aload_n 0, 1) := dk_42 (dk_at dksX10_balance_3 21 rfl rfl)
theorem dX10_balance_92 : decode cX10_balance 92 = .ok (.iload 5, 2) := dk_21 5 (dk_at dksX10_balance_3 22 rfl rfl)
theorem dX10_balance_94 : decode cX10_balance 94 = .ok (.invokevirtual 37, 3) := dk_182 0 37 (dk_at dksX10_balance_4 0 rfl rfl)
theorem dX10_balance_97 : decode cX10_balance 97 = .ok (.invokevirtual 43, 3) := dk_182 0 43 (dk_at dksX10_balance_4 3 rfl rfl)
theorem dX10_balance_100 : decode cX10_balance 100 = .ok (.aload_n 0, 1) := dk_42 (dk_at dksX10_balance_4 6 rfl rfl)
theorem dX10_balance_101 : decode cX10_balance 101 = .ok (.iload_n 1, 1) := dk_27 (dk_at dksX10_balance_4 7 rfl rfl)
theorem dX10_balance_102 : decode cX10_balance 102 = .ok (.aload_n 0, 1) := dk_42 (dk_at dksX10_balance_4 8 rfl rfl)
theorem dX10_balance_103 : decode cX10_balance 103 = .ok (.iload 5, 2) := dk_21 5 (dk_at dksX10_balance_4 9 rfl rfl)
theorem dX10_balance_105 : decode cX10_balance 105 = .ok (.invokevirtual 40, 3) := dk_182 0 40 (dk_at dksX10_balance_4 11 rfl rfl)
theorem dX10_balance_108 : decode cX10_balance 108 = .ok (.iload_n 3, 1) := dk_29 (dk_at dksX10_balance_4 14 rfl rfl)
theorem dX10_balance_109 : decode cX10_balance 109 = .ok (.invokevirtual 43, 3) := dk_182 0 43 (dk_at dksX10_balance_4 15 rfl rfl)
theorem dX10_balance_112 : decode cX10_balance 112 = .ok (.invokevirtual 43, 3) := dk_182 0 43 (dk_at dksX10_balance_4 18 rfl rfl)
theorem dX10_balance_115 : decode cX10_balance 115 = .ok (.ireturn, 1) := dk_172 (dk_at dksX10_balance_4 21 rfl rfl)
theorem dX10_balance_116 : decode cX10_balance 116 = .ok (.iload 4, 2) := dk_21 4 (dk_at dksX10_balance_4 22 rfl rfl)
theorem dX10_balance_118 : decode cX10_balance 118 = .ok (.iconst (-1), 1) := dk_2 (dk_at dksX10_balance_5 0 rfl rfl)
theorem dX10_balance_119 : decode cX10_balance 119 = .ok (.if_icmp .ge 94, 3) := dk_162 0 94 (dk_at dksX10_balance_5 1 rfl rfl)
theorem dX10_balance_122 : decode cX10_balance 122 = .ok (.aload_n 0, 1) := dk_42 (dk_at dksX10_balance_5 4 rfl rfl)
theorem dX10_balance_123 : decode cX10_balance 123 = .ok (.getfield 7, 3) := dk_180 0 7 (dk_at dksX10_balance_5 5 rfl rfl)
theorem dX10_balance_126 : decode cX10_balance 126 = .ok (.aload_n 0, 1) := dk_42 (dk_at dksX10_balance_5 8 rfl rfl)
theorem dX10_balance_127 : decode cX10_balance 127 = .ok (.iload_n 3, 1) := dk_29 (dk_at dksX10_balance_5 9 rfl rfl)
theorem dX10_balance_128 : decode cX10_balance 128 = .ok (.invokevirtual 40, 3) := dk_182 0 40 (dk_at dksX10_balance_5 10 rfl rfl)
theorem dX10_balance_131 : decode cX10_balance 131 = .ok (.invokevirtual 33, 3) := dk_182 0 33 (dk_at dksX10_balance_5 13 rfl rfl)
theorem dX10_balance_134 : decode cX10_balance 134 = .ok (.aload_n 0, 1) := dk_42 (dk_at dksX10_balance_5 16 rfl rfl)
theorem dX10_balance_135 : decode cX10_balance 135 = .ok (.getfield 7, 3) := dk_180 0 7 (dk_at dksX10_balance_5 17 rfl rfl)
theorem dX10_balance_138 : decode cX10_balance 138 = .ok (.aload_n 0, 1) := dk_42 (dk_at dksX10_balance_5 20 rfl rfl)
theorem dX10_balance_139 : decode cX10_balance 139 = .ok (.iload_n 3, 1) := dk_29 (dk_at dksX10_balance_5 21 rfl rfl)
theorem dX10_balance_140 : decode cX10_balance 140 = .ok (.invokevirtual 37, 3) := dk_182 0 37 (dk_at dksX10_balance_6 0 rfl rfl)
theorem dX10_balance_143 : decode cX10_balance 143 = .ok (.invokevirtual 33, 3) := dk_182 0 33 (dk_at dksX10_balance_6 3 rfl rfl)
theorem dX10_balance_146 : decode cX10_balance 146 = .ok (.if_icmp .lt 25, 3) := dk_161 0 25 (dk_at dksX10_balance_6 6 rfl rfl)
theorem dX10_balance_149 : decode cX10_balance 149 = .ok (.aload_n 0, 1) := dk_42 (dk_at dksX10_balance_6 9 rfl rfl)
theorem dX10_balance_150 : decode cX10_balance 150 = .ok (.iload_n 3, 1) := dk_29 (dk_at dksX10_balance_6 10 rfl rfl)
theorem dX10_balance_151 : decode cX10_balance 151 = .ok (.aload_n 0, 1) := dk_42 (dk_at dksX10_balance_6 11 rfl rfl)
theorem dX10_balance_152 : decode cX10_balance 152 = .ok (.iload_n 1, 1) := dk_27 (dk_at dksX10_balance_6 12 rfl rfl)
theorem dX10_balance_153 : decode cX10_balance 153 = .ok (.iload_n 2, 1) := dk_28 (dk_at dksX10_balance_6 13 rfl rfl)
theorem dX10_balance_154 : decode cX10_balance 154 = .ok (.aload_n 0, 1) := dk_42 (dk_at dksX10_balance_6 14 rfl rfl)
theorem dX10_balance_155 : decode cX10_balance 155 = .ok (.iload_n 3, 1) := dk_29 (dk_at dksX10_balance_6 15 rfl rfl)
theorem dX10_balance_156 : decode cX10_balance 156 = .ok (.invokevirtual 37, 3) := dk_182 0 37 (dk_at dksX10_balance_6 16 rfl rfl)
theorem dX10_balance_159 : decode cX10_balance 159 = .ok (.invokevirtual 43, 3) := dk_182 0 43 (dk_at dksX10_balance_6 19 rfl rfl)
theorem dX10_balance_162 : decode cX10_balance 162 = .ok (.aload_n 0, 1) := dk_42 (dk_at dksX10_balance_6 22 rfl rfl)
theorem dX10_balance_163 : decode cX10_balance 163 = .ok (.iload_n 3, 1) := dk_29 (dk_at dksX10_balance_6 23 rfl rfl)
theorem dX10_balance_164 : decode cX10_balance 164 = .ok (.invokevirtual 40, 3) := dk_182 0 40 (dk_at dksX10_balance_7 0 rfl rfl)
theorem dX10_balance_167 : decode cX10_balance 167 = .ok (.invokevirtual 43, 3) := dk_182 0 43 (dk_at dksX10_balance_7 3 rfl rfl)
theorem dX10_balance_170 : decode cX10_balance 170 = .ok (.ireturn, 1) := dk_172 (dk_at dksX10_balance_7 6 rfl rfl)
theorem dX10_balance_171 : decode cX10_balance 171 = .ok (.aload_n 0, 1) := dk_42 (dk_at dksX10_balance_7 7 rfl rfl)
theorem dX10_balance_172 : decode cX10_balance 172 = .ok (.iload_n 3, 1) := dk_29 (dk_at dksX10_balance_7 8 rfl rfl)
theorem dX10_balance_173 : decode cX10_balance 173 = .ok (.invokevirtual 37, 3) := dk_182 0 37 (dk_at dksX10_balance_7 9 rfl rfl)
theorem dX10_balance_176 : decode cX10_balance 176 = .ok (.istore 5, 2) := dk_54 5 (dk_at dksX10_balance_7 12 rfl rfl)
theorem dX10_balance_178 : decode cX10_balance 178 = .ok (.aload_n 0, 1) := dk_42 (dk_at dksX10_balance_7 14 rfl rfl)
theorem dX10_balance_179 : decode cX10_balance 179 = .ok (.iload 5, 2) := dk_21 5 (dk_at dksX10_balance_7 15 rfl rfl)
theorem dX10_balance_181 : decode cX10_balance 181 = .ok (.aload_n 0, 1) := dk_42 (dk_at dksX10_balance_7 17 rfl rfl)
theorem dX10_balance_182 : decode cX10_balance 182 = .ok (.iload_n 1, 1) := dk_27 (dk_at dksX10_balance_7 18 rfl rfl)
theorem dX10_balance_183 : decode cX10_balance 183 = .ok (.iload_n 2, 1) := dk_28 (dk_at dksX10_balance_7 19 rfl rfl)
theorem dX10_balance_184 : decode cX10_balance 184 = .ok (.aload_n 0, 1) := dk_42 (dk_at dksX10_balance_7 20 rfl rfl)
theorem dX10_balance_185 : decode cX10_balance 185 = .ok (.iload 5, 2) := dk_21 5 (dk_at dksX10_balance_7 21 rfl rfl)
theorem dX10_balance_187 : decode cX10_balance 187 = .ok (.invokevirtual 37, 3) := dk_182 0 37 (dk_at dksX10_balance_8 0 rfl rfl)
theorem dX10_balance_190 : decode cX10_balance 190 = .ok (.invokevirtual 43, 3) := dk_182 0 43 (dk_at dksX10_balance_8 3 rfl rfl)
theorem dX10_balance_193 : decode cX10_balance 193 = .ok (.aload_n 0, 1) := dk_42 (dk_at dksX10_balance_8 6 rfl rfl)
theorem dX10_balance_194 : decode cX10_balance 194 = .ok (.iload_n 3, 1) := dk_29 (dk_at dksX10_balance_8 7 rfl rfl)
theorem dX10_balance_195 : decode cX10_balance 195 = .ok (.aload_n 0, 1) := dk_42 (dk_at dksX10_balance_8 8 rfl rfl)
theorem dX10_balance_196 : decode cX10_balance 196 = .ok (.iload 5, 2) := dk_21 5 (dk_at dksX10_balance_8 9 rfl rfl)
theorem dX10_balance_198 : decode cX10_balance 198 = .ok (.invokevirtual 40, 3) := dk_182 0 40 (dk_at dksX10_balance_8 11 rfl rfl)
theorem dX10_balance_201 : decode cX10_balance 201 = .ok (.aload_n 0, 1) := dk_42 (dk_at dksX10_balance_8 14 rfl rfl)
theorem dX10_balance_202 : decode cX10_balance 202 = .ok (.iload_n 3, 1) := dk_29 (dk_at dksX10_balance_8 15 rfl rfl)
theorem dX10_balance_203 : decode cX10_balance 203 = .ok (.invokevirtual 40, 3) := dk_182 0 40 (dk_at dksX10_balance_8 16 rfl rfl)
theorem dX10_balance_206 : decode cX10_balance 206 = .ok (.invokevirtual 43, 3) := dk_182 0 43 (dk_at dksX10_balance_8 19 rfl rfl)
theorem dX10_balance_209 : decode cX10_balance 209 = .ok (.invokevirtual 43, 3) := dk_182 0 43 (dk_at dksX10_balance_9 0 rfl rfl)
theorem dX10_balance_212 : decode cX10_balance 212 = .ok (.ireturn, 1) := dk_172 (dk_at dksX10_balance_9 3 rfl rfl)
theorem dX10_balance_213 : decode cX10_balance 213 = .ok (.aload_n 0, 1) := dk_42 (dk_at dksX10_balance_9 4 rfl rfl)
theorem dX10_balance_214 : decode cX10_balance 214 = .ok (.iload_n 1, 1) := dk_27 (dk_at dksX10_balance_9 5 rfl rfl)
theorem dX10_balance_215 : decode cX10_balance 215 = .ok (.iload_n 2, 1) := dk_28 (dk_at dksX10_balance_9 6 rfl rfl)
theorem dX10_balance_216 : decode cX10_balance 216 = .ok (.iload_n 3, 1) := dk_29 (dk_at dksX10_balance_9 7 rfl rfl)
theorem dX10_balance_217 : decode cX10_balance 217 = .ok (.invokevirtual 43, 3) := dk_182 0 43 (dk_at dksX10_balance_9 8 rfl rfl)
theorem dX10_balance_220 : decode cX10_balance 220 = .ok (.ireturn, 1) := dk_172 (dk_at dksX10_balance_9 11 rfl rfl)
abbrev cX10_like : ByteArray := prog_20_method_5_code
def yX10_like : MethodName := ⟨RX10, "like", "(III)I"⟩
def dkwX10_like_1 : List UInt8 := [182, 0, 29, 172]
abbrev dktX10_like_1 : List UInt8 := dkwX10_like_1 ++ []
def dkwX10_like_0 : List UInt8 := [42, 180, 0, 7, 42, 180, 0, 7, 27, 5, 182, 0, 19, 42, 180, 0, 7, 27, 6, 182, 0, 19, 28, 29]
abbrev dktX10_like_0 : List UInt8 := dkwX10_like_0 ++ dktX10_like_1
theorem dksX10_like_0 : cX10_like.data.toList.drop 0 = dktX10_like_0 := by decide +kernel
theorem dksX10_like_1 : cX10_like.data.toList.drop 24 = dktX10_like_1 := dk_seg dksX10_like_0 24 rfl rfl
theorem dX10_like_0 : decode cX10_like 0 = .ok (.aload_n 0, 1) := dk_42 (dk_at dksX10_like_0 0 rfl rfl)
theorem dX10_like_1 : decode cX10_like 1 = .ok (.getfield 7, 3) := dk_180 0 7 (dk_at dksX10_like_0 1 rfl rfl)
theorem dX10_like_4 : decode cX10_like 4 = .ok (.aload_n 0, 1) := dk_42 (dk_at dksX10_like_0 4 rfl rfl)
theorem dX10_like_5 : decode cX10_like 5 = .ok (.getfield 7, 3) := dk_180 0 7 (dk_at dksX10_like_0 5 rfl rfl)
theorem dX10_like_8 : decode cX10_like 8 = .ok (.iload_n 1, 1) := dk_27 (dk_at dksX10_like_0 8 rfl rfl)
theorem dX10_like_9 : decode cX10_like 9 = .ok (.iconst 2, 1) := dk_5 (dk_at dksX10_like_0 9 rfl rfl)
theorem dX10_like_10 : decode cX10_like 10 = .ok (.invokevirtual 19, 3) := dk_182 0 19 (dk_at dksX10_like_0 10 rfl rfl)
theorem dX10_like_13 : decode cX10_like 13 = .ok (.aload_n 0, 1) := dk_42 (dk_at dksX10_like_0 13 rfl rfl)
theorem dX10_like_14 : decode cX10_like 14 = .ok (.getfield 7, 3) := dk_180 0 7 (dk_at dksX10_like_0 14 rfl rfl)
theorem dX10_like_17 : decode cX10_like 17 = .ok (.iload_n 1, 1) := dk_27 (dk_at dksX10_like_0 17 rfl rfl)
theorem dX10_like_18 : decode cX10_like 18 = .ok (.iconst 3, 1) := dk_6 (dk_at dksX10_like_0 18 rfl rfl)
theorem dX10_like_19 : decode cX10_like 19 = .ok (.invokevirtual 19, 3) := dk_182 0 19 (dk_at dksX10_like_0 19 rfl rfl)
theorem dX10_like_22 : decode cX10_like 22 = .ok (.iload_n 2, 1) := dk_28 (dk_at dksX10_like_0 22 rfl rfl)
theorem dX10_like_23 : decode cX10_like 23 = .ok (.iload_n 3, 1) := dk_29 (dk_at dksX10_like_0 23 rfl rfl)
theorem dX10_like_24 : decode cX10_like 24 = .ok (.invokevirtual 29, 3) := dk_182 0 29 (dk_at dksX10_like_1 0 rfl rfl)
theorem dX10_like_27 : decode cX10_like 27 = .ok (.ireturn, 1) := dk_172 (dk_at dksX10_like_1 3 rfl rfl)
abbrev cX10_remove : ByteArray := prog_20_method_10_code
def yX10_remove : MethodName := ⟨RX10, "remove", "(III)I"⟩
def dkwX10_remove_5 : List UInt8 := [42, 27, 182, 0, 37, 42, 42, 27, 182, 0, 40, 182, 0, 52, 182, 0, 49, 172]
abbrev dktX10_remove_5 : List UInt8 := dkwX10_remove_5 ++ []
def dkwX10_remove_4 : List UInt8 := [182, 0, 40, 16, 12, 160, 0, 9, 42, 27, 182, 0, 37, 172, 42, 42, 42, 27, 182, 0, 40, 182, 0, 58]
abbrev dktX10_remove_4 : List UInt8 := dkwX10_remove_4 ++ dktX10_remove_5
def dkwX10_remove_3 : List UInt8 := [182, 0, 49, 172, 42, 27, 182, 0, 37, 16, 12, 160, 0, 9, 42, 27, 182, 0, 40, 172, 42, 27]
abbrev dktX10_remove_3 : List UInt8 := dkwX10_remove_3 ++ dktX10_remove_4
def dkwX10_remove_2 : List UInt8 := [172, 21, 4, 158, 0, 25, 42, 27, 42, 27, 182, 0, 37, 42, 42, 27, 182, 0, 40, 28, 29, 182, 0, 55]
abbrev dktX10_remove_2 : List UInt8 := dkwX10_remove_2 ++ dktX10_remove_3
def dkwX10_remove_1 : List UInt8 := [156, 0, 25, 42, 27, 42, 42, 27, 182, 0, 37, 28, 29, 182, 0, 55, 42, 27, 182, 0, 40, 182, 0, 49]
abbrev dktX10_remove_1 : List UInt8 := dkwX10_remove_1 ++ dktX10_remove_2
def dkwX10_remove_0 : List UInt8 := [42, 180, 0, 13, 28, 42, 180, 0, 7, 27, 5, 182, 0, 19, 29, 182, 0, 23, 54, 4, 21, 4]
abbrev dktX10_remove_0 : List UInt8 := dkwX10_remove_0 ++ dktX10_remove_1
theorem dksX10_remove_0 : cX10_remove.data.toList.drop 0 = dktX10_remove_0 := by decide +kernel
theorem dksX10_remove_1 : cX10_remove.data.toList.drop 22 = dktX10_remove_1 := dk_seg dksX10_remove_0 22 rfl rfl
theorem dksX10_remove_2 : cX10_remove.data.toList.drop 46 = dktX10_remove_2 := dk_seg dksX10_remove_1 24 rfl rfl
theorem dksX10_remove_3 : cX10_remove.data.toList.drop 70 = dktX10_remove_3 := dk_seg dksX10_remove_2 24 rfl rfl
theorem dksX10_remove_4 : cX10_remove.data.toList.drop 92 = dktX10_remove_4 := dk_seg dksX10_remove_3 22 rfl rfl
theorem dksX10_remove_5 : cX10_remove.data.toList.drop 116 = dktX10_remove_5 := dk_seg dksX10_remove_4 24 rfl rfl
theorem dX10_remove_0 : decode cX10_remove 0 = .ok (.aload_n 0, 1) := dk_42 (dk_at dksX10_remove_0 0 rfl rfl)
theorem dX10_remove_1 : decode cX10_remove 1 = .ok (.getfield 13, 3) := dk_180 0 13 (dk_at dksX10_remove_0 1 rfl rfl)
theorem dX10_remove_4 : decode cX10_remove 4 = .ok (.iload_n 2, 1) := dk_28 (dk_at dksX10_remove_0 4 rfl rfl)
theorem dX10_remove_5 : decode cX10_remove 5 = .ok (.aload_n 0, 1) := dk_42 (dk_at dksX10_remove_0 5 rfl rfl)
theorem dX10_remove_6 : decode cX10_remove 6 = .ok (.getfield 7, 3) := dk_180 0 7 (dk_at dksX10_remove_0 6 rfl rfl)
theorem dX10_remove_9 : decode cX10_remove 9 = .ok (.iload_n 1, 1) := dk_27 (dk_at dksX10_remove_0 9 rfl rfl)
theorem dX10_remove_10 : decode cX10_remove 10 = .ok (.iconst 2, 1) := dk_5 (dk_at dksX10_remove_0 10 rfl rfl)
theorem dX10_remove_11 : decode cX10_remove 11 = .ok (.invokevirtual 19, 3) := dk_182 0 19 (dk_at dksX10_remove_0 11 rfl rfl)
theorem dX10_remove_14 : decode cX10_remove 14 = .ok (.iload_n 3, 1) := dk_29 (dk_at dksX10_remove_0 14 rfl rfl)
theorem dX10_remove_15 : decode cX10_remove 15 = .ok (.invokevirtual 23, 3) := dk_182 0 23 (dk_at dksX10_remove_0 15 rfl rfl)
theorem dX10_remove_18 : decode cX10_remove 18 = .ok (.istore 4, 2) := dk_54 4 (dk_at dksX10_remove_0 18 rfl rfl)
theorem dX10_remove_20 : decode cX10_remove 20 = .ok (.iload 4, 2) := dk_21 4 (dk_at dksX10_remove_0 20 rfl rfl)
theorem dX10_remove_22 : decode cX10_remove 22 = .ok (.ifCond .ge 25, 3) := dk_156 0 25 (dk_at dksX10_remove_1 0 rfl rfl)
theorem dX10_remove_25 : decode cX10_remove 25 = .ok (.aload_n 0, 1) := dk_42 (dk_at dksX10_remove_1 3 rfl rfl)
theorem dX10_remove_26 : decode cX10_remove 26 = .ok (.iload_n 1, 1) := dk_27 (dk_at dksX10_remove_1 4 rfl rfl)
theorem dX10_remove_27 : decode cX10_remove 27 = .ok (.aload_n 0, 1) := dk_42 (dk_at dksX10_remove_1 5 rfl rfl)
theorem dX10_remove_28 : decode cX10_remove 28 = .ok (.aload_n 0, 1) := dk_42 (dk_at dksX10_remove_1 6 rfl rfl)
theorem dX10_remove_29 : decode cX10_remove 29 = .ok (.iload_n 1, 1) := dk_27 (dk_at dksX10_remove_1 7 rfl rfl)
theorem dX10_remove_30 : decode cX10_remove 30 = .ok (.invokevirtual 37, 3) := dk_182 0 37 (dk_at dksX10_remove_1 8 rfl rfl)
theorem dX10_remove_33 : decode cX10_remove 33 = .ok (.iload_n 2, 1) := dk_28 (dk_at dksX10_remove_1 11 rfl rfl)
theorem dX10_remove_34 : decode cX10_remove 34 = .ok (.iload_n 3, 1) := dk_29 (dk_at dksX10_remove_1 12 rfl rfl)
theorem dX10_remove_35 : decode cX10_remove 35 = .ok (.invokevirtual 55, 3) := dk_182 0 55 (dk_at dksX10_remove_1 13 rfl rfl)
theorem dX10_remove_38 : decode cX10_remove 38 = .ok (.aload_n 0, 1) := dk_42 (dk_at dksX10_remove_1 16 rfl rfl)
theorem dX10_remove_39 : decode cX10_remove 39 = .ok (.iload_n 1, 1) := dk_27 (dk_at dksX10_remove_1 17 rfl rfl)
theorem dX10_remove_40 : decode cX10_remove 40 = .ok (.invokevirtual 40, 3) := dk_182 0 40 (dk_at dksX10_remove_1 18 rfl rfl)
theorem dX10_remove_43 : decode cX10_remove 43 = .ok (.invokevirtual 49, 3) := dk_182 0 49 (dk_at dksX10_remove_1 21 rfl rfl)
theorem dX10_remove_46 : decode cX10_remove 46 = .ok (.ireturn, 1) := dk_172 (dk_at dksX10_remove_2 0 rfl rfl)
theorem dX10_remove_47 : decode cX10_remove 47 = .ok (.iload 4, 2) := dk_21 4 (dk_at dksX10_remove_2 1 rfl rfl)
theorem dX10_remove_49 : decode cX10_remove 49 = .ok (.ifCond .le 25, 3) := dk_158 0 25 (dk_at dksX10_remove_2 3 rfl rfl)
theorem dX10_remove_52 : decode cX10_remove 52 = .ok (.aload_n 0, 1) := dk_42 (dk_at dksX10_remove_2 6 rfl rfl)
theorem dX10_remove_53 : decode cX10_remove 53 = .ok (.iload_n 1, 1) := dk_27 (dk_at dksX10_remove_2 7 rfl rfl)
theorem dX10_remove_54 : decode cX10_remove 54 = .ok (.aload_n 0, 1) := dk_42 (dk_at dksX10_remove_2 8 rfl rfl)
theorem dX10_remove_55 : decode cX10_remove 55 = .ok (.iload_n 1, 1) := dk_27 (dk_at dksX10_remove_2 9 rfl rfl)
theorem dX10_remove_56 : decode cX10_remove 56 = .ok (.invokevirtual 37, 3) := dk_182 0 37 (dk_at dksX10_remove_2 10 rfl rfl)
theorem dX10_remove_59 : decode cX10_remove 59 = .ok (.aload_n 0, 1) := dk_42 (dk_at dksX10_remove_2 13 rfl rfl)
theorem dX10_remove_60 : decode cX10_remove 60 = .ok (.aload_n 0, 1) := dk_42 (dk_at dksX10_remove_2 14 rfl rfl)
theorem dX10_remove_61 : decode cX10_remove 61 = .ok (.iload_n 1, 1) := dk_27 (dk_at dksX10_remove_2 15 rfl rfl)
theorem dX10_remove_62 : decode cX10_remove 62 = .ok (.invokevirtual 40, 3) := dk_182 0 40 (dk_at dksX10_remove_2 16 rfl rfl)
theorem dX10_remove_65 : decode cX10_remove 65 = .ok (.iload_n 2, 1) := dk_28 (dk_at dksX10_remove_2 19 rfl rfl)
theorem dX10_remove_66 : decode cX10_remove 66 = .ok (.iload_n 3, 1) := dk_29 (dk_at dksX10_remove_2 20 rfl rfl)
theorem dX10_remove_67 : decode cX10_remove 67 = .ok (.invokevirtual 55, 3) := dk_182 0 55 (dk_at dksX10_remove_2 21 rfl rfl)
theorem dX10_remove_70 : decode cX10_remove 70 = .ok (.invokevirtual 49, 3) := dk_182 0 49 (dk_at dksX10_remove_3 0 rfl rfl)
theorem dX10_remove_73 : decode cX10_remove 73 = .ok (.ireturn, 1) := dk_172 (dk_at dksX10_remove_3 3 rfl rfl)
theorem dX10_remove_74 : decode cX10_remove 74 = .ok (.aload_n 0, 1) := dk_42 (dk_at dksX10_remove_3 4 rfl rfl)
theorem dX10_remove_75 : decode cX10_remove 75 = .ok (.iload_n 1, 1) := dk_27 (dk_at dksX10_remove_3 5 rfl rfl)
theorem dX10_remove_76 : decode cX10_remove 76 = .ok (.invokevirtual 37, 3) := dk_182 0 37 (dk_at dksX10_remove_3 6 rfl rfl)
theorem dX10_remove_79 : decode cX10_remove 79 = .ok (.bipush 12, 2) := dk_16 12 (dk_at dksX10_remove_3 9 rfl rfl)
theorem dX10_remove_81 : decode cX10_remove 81 = .ok (.if_icmp .ne 9, 3) := dk_160 0 9 (dk_at dksX10_remove_3 11 rfl rfl)
theorem dX10_remove_84 : decode cX10_remove 84 = .ok (.aload_n 0, 1) := dk_42 (dk_at dksX10_remove_3 14 rfl rfl)
theorem dX10_remove_85 : decode cX10_remove 85 = .ok (.iload_n 1, 1) := dk_27 (dk_at dksX10_remove_3 15 rfl rfl)
theorem dX10_remove_86 : decode cX10_remove 86 = .ok (.invokevirtual 40, 3) := dk_182 0 40 (dk_at dksX10_remove_3 16 rfl rfl)
theorem dX10_remove_89 : decode cX10_remove 89 = .ok (.ireturn, 1) := dk_172 (dk_at dksX10_remove_3 19 rfl rfl)
theorem dX10_remove_90 : decode cX10_remove 90 = .ok (.aload_n 0, 1) := dk_42 (dk_at dksX10_remove_3 20 rfl rfl)
theorem dX10_remove_91 : decode cX10_remove 91 = .ok (.iload_n 1, 1) := dk_27 (dk_at dksX10_remove_3 21 rfl rfl)
theorem dX10_remove_92 : decode cX10_remove 92 = .ok (.invokevirtual 40, 3) := dk_182 0 40 (dk_at dksX10_remove_4 0 rfl rfl)
theorem dX10_remove_95 : decode cX10_remove 95 = .ok (.bipush 12, 2) := dk_16 12 (dk_at dksX10_remove_4 3 rfl rfl)
theorem dX10_remove_97 : decode cX10_remove 97 = .ok (.if_icmp .ne 9, 3) := dk_160 0 9 (dk_at dksX10_remove_4 5 rfl rfl)
theorem dX10_remove_100 : decode cX10_remove 100 = .ok (.aload_n 0, 1) := dk_42 (dk_at dksX10_remove_4 8 rfl rfl)
theorem dX10_remove_101 : decode cX10_remove 101 = .ok (.iload_n 1, 1) := dk_27 (dk_at dksX10_remove_4 9 rfl rfl)
theorem dX10_remove_102 : decode cX10_remove 102 = .ok (.invokevirtual 37, 3) := dk_182 0 37 (dk_at dksX10_remove_4 10 rfl rfl)
theorem dX10_remove_105 : decode cX10_remove 105 = .ok (.ireturn, 1) := dk_172 (dk_at dksX10_remove_4 13 rfl rfl)
theorem dX10_remove_106 : decode cX10_remove 106 = .ok (.aload_n 0, 1) := dk_42 (dk_at dksX10_remove_4 14 rfl rfl)
theorem dX10_remove_107 : decode cX10_remove 107 = .ok (.aload_n 0, 1) := dk_42 (dk_at dksX10_remove_4 15 rfl rfl)
theorem dX10_remove_108 : decode cX10_remove 108 = .ok (.aload_n 0, 1) := dk_42 (dk_at dksX10_remove_4 16 rfl rfl)
theorem dX10_remove_109 : decode cX10_remove 109 = .ok (.iload_n 1, 1) := dk_27 (dk_at dksX10_remove_4 17 rfl rfl)
theorem dX10_remove_110 : decode cX10_remove 110 = .ok (.invokevirtual 40, 3) := dk_182 0 40 (dk_at dksX10_remove_4 18 rfl rfl)
theorem dX10_remove_113 : decode cX10_remove 113 = .ok (.invokevirtual 58, 3) := dk_182 0 58 (dk_at dksX10_remove_4 21 rfl rfl)
theorem dX10_remove_116 : decode cX10_remove 116 = .ok (.aload_n 0, 1) := dk_42 (dk_at dksX10_remove_5 0 rfl rfl)
theorem dX10_remove_117 : decode cX10_remove 117 = .ok (.iload_n 1, 1) := dk_27 (dk_at dksX10_remove_5 1 rfl rfl)
theorem dX10_remove_118 : decode cX10_remove 118 = .ok (.invokevirtual 37, 3) := dk_182 0 37 (dk_at dksX10_remove_5 2 rfl rfl)
theorem dX10_remove_121 : decode cX10_remove 121 = .ok (.aload_n 0, 1) := dk_42 (dk_at dksX10_remove_5 5 rfl rfl)
theorem dX10_remove_122 : decode cX10_remove 122 = .ok (.aload_n 0, 1) := dk_42 (dk_at dksX10_remove_5 6 rfl rfl)
theorem dX10_remove_123 : decode cX10_remove 123 = .ok (.iload_n 1, 1) := dk_27 (dk_at dksX10_remove_5 7 rfl rfl)
theorem dX10_remove_124 : decode cX10_remove 124 = .ok (.invokevirtual 40, 3) := dk_182 0 40 (dk_at dksX10_remove_5 8 rfl rfl)
theorem dX10_remove_127 : decode cX10_remove 127 = .ok (.invokevirtual 52, 3) := dk_182 0 52 (dk_at dksX10_remove_5 11 rfl rfl)
theorem dX10_remove_130 : decode cX10_remove 130 = .ok (.invokevirtual 49, 3) := dk_182 0 49 (dk_at dksX10_remove_5 14 rfl rfl)
theorem dX10_remove_133 : decode cX10_remove 133 = .ok (.ireturn, 1) := dk_172 (dk_at dksX10_remove_5 17 rfl rfl)
abbrev cX10_first : ByteArray := prog_20_method_8_code
def yX10_first : MethodName := ⟨RX10, "first", "(I)I"⟩
def dkwX10_first_0 : List UInt8 := [27, 61, 42, 28, 182, 0, 37, 16, 12, 159, 0, 12, 42, 28, 182, 0, 37, 61, 167, 255, 240, 28, 172]
abbrev dktX10_first_0 : List UInt8 := dkwX10_first_0 ++ []
theorem dksX10_first_0 : cX10_first.data.toList.drop 0 = dktX10_first_0 := by decide +kernel
theorem dX10_first_0 : decode cX10_first 0 = .ok (.iload_n 1, 1) := dk_27 (dk_at dksX10_first_0 0 rfl rfl)
theorem dX10_first_1 : decode cX10_first 1 = .ok (.istore_n 2, 1) := dk_61 (dk_at dksX10_first_0 1 rfl rfl)
theorem dX10_first_2 : decode cX10_first 2 = .ok (.aload_n 0, 1) := dk_42 (dk_at dksX10_first_0 2 rfl rfl)
theorem dX10_first_3 : decode cX10_first 3 = .ok (.iload_n 2, 1) := dk_28 (dk_at dksX10_first_0 3 rfl rfl)
theorem dX10_first_4 : decode cX10_first 4 = .ok (.invokevirtual 37, 3) := dk_182 0 37 (dk_at dksX10_first_0 4 rfl rfl)
theorem dX10_first_7 : decode cX10_first 7 = .ok (.bipush 12, 2) := dk_16 12 (dk_at dksX10_first_0 7 rfl rfl)
theorem dX10_first_9 : decode cX10_first 9 = .ok (.if_icmp .eq 12, 3) := dk_159 0 12 (dk_at dksX10_first_0 9 rfl rfl)
theorem dX10_first_12 : decode cX10_first 12 = .ok (.aload_n 0, 1) := dk_42 (dk_at dksX10_first_0 12 rfl rfl)
theorem dX10_first_13 : decode cX10_first 13 = .ok (.iload_n 2, 1) := dk_28 (dk_at dksX10_first_0 13 rfl rfl)
theorem dX10_first_14 : decode cX10_first 14 = .ok (.invokevirtual 37, 3) := dk_182 0 37 (dk_at dksX10_first_0 14 rfl rfl)
theorem dX10_first_17 : decode cX10_first 17 = .ok (.istore_n 2, 1) := dk_61 (dk_at dksX10_first_0 17 rfl rfl)
theorem dX10_first_18 : decode cX10_first 18 = .ok (.goto (-16), 3) := dk_167 255 240 (dk_at dksX10_first_0 18 rfl rfl)
theorem dX10_first_21 : decode cX10_first 21 = .ok (.iload_n 2, 1) := dk_28 (dk_at dksX10_first_0 21 rfl rfl)
theorem dX10_first_22 : decode cX10_first 22 = .ok (.ireturn, 1) := dk_172 (dk_at dksX10_first_0 22 rfl rfl)
abbrev cX10_withoutFirst : ByteArray := prog_20_method_9_code
def yX10_withoutFirst : MethodName := ⟨RX10, "withoutFirst", "(I)I"⟩
def dkwX10_withoutFirst_1 : List UInt8 := [182, 0, 37, 182, 0, 52, 42, 27, 182, 0, 40, 182, 0, 49, 172]
abbrev dktX10_withoutFirst_1 : List UInt8 := dkwX10_withoutFirst_1 ++ []
def dkwX10_withoutFirst_0 : List UInt8 := [42, 27, 182, 0, 37, 16, 12, 160, 0, 11, 42, 27, 182, 0, 40, 167, 0, 22, 42, 27, 42, 42, 27]
abbrev dktX10_withoutFirst_0 : List UInt8 := dkwX10_withoutFirst_0 ++ dktX10_withoutFirst_1
theorem dksX10_withoutFirst_0 : cX10_withoutFirst.data.toList.drop 0 = dktX10_withoutFirst_0 := by decide +kernel
theorem dksX10_withoutFirst_1 : cX10_withoutFirst.data.toList.drop 23 = dktX10_withoutFirst_1 := dk_seg dksX10_withoutFirst_0 23 rfl rfl
theorem dX10_withoutFirst_0 : decode cX10_withoutFirst 0 = .ok (.aload_n 0, 1) := dk_42 (dk_at dksX10_withoutFirst_0 0 rfl rfl)
theorem dX10_withoutFirst_1 : decode cX10_withoutFirst 1 = .ok (.iload_n 1, 1) := dk_27 (dk_at dksX10_withoutFirst_0 1 rfl rfl)
theorem dX10_withoutFirst_2 : decode cX10_withoutFirst 2 = .ok (.invokevirtual 37, 3) := dk_182 0 37 (dk_at dksX10_withoutFirst_0 2 rfl rfl)
theorem dX10_withoutFirst_5 : decode cX10_withoutFirst 5 = .ok (.bipush 12, 2) := dk_16 12 (dk_at dksX10_withoutFirst_0 5 rfl rfl)
theorem dX10_withoutFirst_7 : decode cX10_withoutFirst 7 = .ok (.if_icmp .ne 11, 3) := dk_160 0 11 (dk_at dksX10_withoutFirst_0 7 rfl rfl)
theorem dX10_withoutFirst_10 : decode cX10_withoutFirst 10 = .ok (.aload_n 0, 1) := dk_42 (dk_at dksX10_withoutFirst_0 10 rfl rfl)
theorem dX10_withoutFirst_11 : decode cX10_withoutFirst 11 = .ok (.iload_n 1, 1) := dk_27 (dk_at dksX10_withoutFirst_0 11 rfl rfl)
theorem dX10_withoutFirst_12 : decode cX10_withoutFirst 12 = .ok (.invokevirtual 40, 3) := dk_182 0 40 (dk_at dksX10_withoutFirst_0 12 rfl rfl)
theorem dX10_withoutFirst_15 : decode cX10_withoutFirst 15 = .ok (.goto 22, 3) := dk_167 0 22 (dk_at dksX10_withoutFirst_0 15 rfl rfl)
theorem dX10_withoutFirst_18 : decode cX10_withoutFirst 18 = .ok (.aload_n 0, 1) := dk_42 (dk_at dksX10_withoutFirst_0 18 rfl rfl)
theorem dX10_withoutFirst_19 : decode cX10_withoutFirst 19 = .ok (.iload_n 1, 1) := dk_27 (dk_at dksX10_withoutFirst_0 19 rfl rfl)
theorem dX10_withoutFirst_20 : decode cX10_withoutFirst 20 = .ok (.aload_n 0, 1) := dk_42 (dk_at dksX10_withoutFirst_0 20 rfl rfl)
theorem dX10_withoutFirst_21 : decode cX10_withoutFirst 21 = .ok (.aload_n 0, 1) := dk_42 (dk_at dksX10_withoutFirst_0 21 rfl rfl)
theorem dX10_withoutFirst_22 : decode cX10_withoutFirst 22 = .ok (.iload_n 1, 1) := dk_27 (dk_at dksX10_withoutFirst_0 22 rfl rfl)
theorem dX10_withoutFirst_23 : decode cX10_withoutFirst 23 = .ok (.invokevirtual 37, 3) := dk_182 0 37 (dk_at dksX10_withoutFirst_1 0 rfl rfl)
theorem dX10_withoutFirst_26 : decode cX10_withoutFirst 26 = .ok (.invokevirtual 52, 3) := dk_182 0 52 (dk_at dksX10_withoutFirst_1 3 rfl rfl)
theorem dX10_withoutFirst_29 : decode cX10_withoutFirst 29 = .ok (.aload_n 0, 1) := dk_42 (dk_at dksX10_withoutFirst_1 6 rfl rfl)
theorem dX10_withoutFirst_30 : decode cX10_withoutFirst 30 = .ok (.iload_n 1, 1) := dk_27 (dk_at dksX10_withoutFirst_1 7 rfl rfl)
theorem dX10_withoutFirst_31 : decode cX10_withoutFirst 31 = .ok (.invokevirtual 40, 3) := dk_182 0 40 (dk_at dksX10_withoutFirst_1 8 rfl rfl)
theorem dX10_withoutFirst_34 : decode cX10_withoutFirst 34 = .ok (.invokevirtual 49, 3) := dk_182 0 49 (dk_at dksX10_withoutFirst_1 11 rfl rfl)
theorem dX10_withoutFirst_37 : decode cX10_withoutFirst 37 = .ok (.ireturn, 1) := dk_172 (dk_at dksX10_withoutFirst_1 14 rfl rfl)
theorem q377 : (Jvm.Cond.initialized "ContractLedger$Trees") ∈ lw_all := lw_g (lw_at lw_m1 20 rfl) rfl
theorem q852 : (Jvm.Cond.instantiable "ContractLedger$Trees" (2 : Nat)) ∈ lw_all := lw_g (lw_at lw_m3 15 rfl) rfl
theorem q854 : (Jvm.Cond.instanceMethod ({ cls := "ContractLedger$Trees", name := "<init>", desc := "(LContractLedger$Memory;LContractLedger$Order;)V" } : Jvm.MethodName)) ∈ lw_all := lw_g (lw_at lw_m3 17 rfl) rfl
theorem q855 : (Jvm.Cond.code ({ cls := "ContractLedger$Trees", name := "<init>", desc := "(LContractLedger$Memory;LContractLedger$Order;)V" } : Jvm.MethodName) prog_20_method_1_code (3 : Nat) (Option.none : Option Jvm.ClassFile.FieldType)) ∈ lw_all := lw_g (lw_at lw_m3 18 rfl) rfl
theorem q856 : (Jvm.Cond.methodLink "ContractLedger$Trees" (1 : Nat) ({ cls := "java/lang/Object", name := "<init>", desc := "()V" } : Jvm.MethodName)) ∈ lw_all := lw_g (lw_at lw_m3 19 rfl) rfl
theorem q857 : (Jvm.Cond.fieldLink "ContractLedger$Trees" (7 : Nat) "ContractLedger$Trees" "memory" "LContractLedger$Memory;") ∈ lw_all := lw_g (lw_at lw_m3 20 rfl) rfl
theorem q858 : (Jvm.Cond.fieldLink "ContractLedger$Trees" (13 : Nat) "ContractLedger$Trees" "order" "LContractLedger$Order;") ∈ lw_all := lw_g (lw_at lw_m3 21 rfl) rfl
theorem q859 : (Jvm.Cond.laysFinal "ContractLedger$Trees" "ContractLedger$Trees" "memory" "LContractLedger$Memory;") ∈ lw_all := lw_g (lw_at lw_m3 22 rfl) rfl
theorem q860 : (Jvm.Cond.soleField "ContractLedger$Trees" "memory") ∈ lw_all := lw_g (lw_at lw_m3 23 rfl) rfl
theorem q861 : (Jvm.Cond.laysFinal "ContractLedger$Trees" "ContractLedger$Trees" "order" "LContractLedger$Order;") ∈ lw_all := lw_g (lw_at lw_m3 24 rfl) rfl
theorem q862 : (Jvm.Cond.soleField "ContractLedger$Trees" "order") ∈ lw_all := lw_g (lw_at lw_m3 25 rfl) rfl
theorem q863 : (Jvm.Cond.superclass "ContractLedger$Trees" "java/lang/Object") ∈ lw_all := lw_g (lw_at lw_m3 26 rfl) rfl
theorem q2122 : (Jvm.Cond.instanceMethod ({ cls := "ContractLedger$Trees", name := "build", desc := "([IIII)I" } : Jvm.MethodName)) ∈ lw_all := lw_g (lw_at lw_m8 85 rfl) rfl
theorem q2123 : (Jvm.Cond.selects "ContractLedger$Trees" ({ cls := "ContractLedger$Trees", name := "build", desc := "([IIII)I" } : Jvm.MethodName) ({ cls := "ContractLedger$Trees", name := "build", desc := "([IIII)I" } : Jvm.MethodName)) ∈ lw_all := lw_g (lw_at lw_m8 86 rfl) rfl
theorem q2124 : (Jvm.Cond.code ({ cls := "ContractLedger$Trees", name := "build", desc := "([IIII)I" } : Jvm.MethodName) prog_20_method_12_code (8 : Nat) (Option.some Jvm.ClassFile.FieldType.int)) ∈ lw_all := lw_g (lw_at lw_m8 87 rfl) rfl
theorem q2125 : (Jvm.Cond.methodLink "ContractLedger$Trees" (64 : Nat) ({ cls := "ContractLedger$Trees", name := "build", desc := "([IIII)I" } : Jvm.MethodName)) ∈ lw_all := lw_g (lw_at lw_m8 88 rfl) rfl
theorem q2126 : (Jvm.Cond.methodLink "ContractLedger$Trees" (29 : Nat) ({ cls := "ContractLedger$Memory", name := "node", desc := "(IIII)I" } : Jvm.MethodName)) ∈ lw_all := lw_g (lw_at lw_m8 89 rfl) rfl
theorem q2613 : (Jvm.Cond.instanceMethod ({ cls := "ContractLedger$Trees", name := "at", desc := "(II)I" } : Jvm.MethodName)) ∈ lw_all := lw_g (lw_at lw_m10 96 rfl) rfl
theorem q2614 : (Jvm.Cond.selects "ContractLedger$Trees" ({ cls := "ContractLedger$Trees", name := "at", desc := "(II)I" } : Jvm.MethodName) ({ cls := "ContractLedger$Trees", name := "at", desc := "(II)I" } : Jvm.MethodName)) ∈ lw_all := lw_g (lw_at lw_m10 97 rfl) rfl
theorem q2615 : (Jvm.Cond.code ({ cls := "ContractLedger$Trees", name := "at", desc := "(II)I" } : Jvm.MethodName) prog_20_method_11_code (6 : Nat) (Option.some Jvm.ClassFile.FieldType.int)) ∈ lw_all := lw_g (lw_at lw_m10 98 rfl) rfl
theorem q2616 : (Jvm.Cond.methodLink "ContractLedger$Trees" (37 : Nat) ({ cls := "ContractLedger$Trees", name := "low", desc := "(I)I" } : Jvm.MethodName)) ∈ lw_all := lw_g (lw_at lw_m10 99 rfl) rfl
theorem q2617 : (Jvm.Cond.privateMethod ({ cls := "ContractLedger$Trees", name := "low", desc := "(I)I" } : Jvm.MethodName)) ∈ lw_tbl := lw_at lw_m10 100 rfl
theorem q2618 : (Jvm.Cond.instanceMethod ({ cls := "ContractLedger$Trees", name := "low", desc := "(I)I" } : Jvm.MethodName)) ∈ lw_all := lw_g (lw_at lw_m10 101 rfl) rfl
theorem q2619 : (Jvm.Cond.code ({ cls := "ContractLedger$Trees", name := "low", desc := "(I)I" } : Jvm.MethodName) prog_20_method_3_code (2 : Nat) (Option.some Jvm.ClassFile.FieldType.int)) ∈ lw_all := lw_g (lw_at lw_m10 102 rfl) rfl
theorem q2620 : (Jvm.Cond.methodLink "ContractLedger$Trees" (19 : Nat) ({ cls := "ContractLedger$Memory", name := "cell", desc := "(II)I" } : Jvm.MethodName)) ∈ lw_all := lw_g (lw_at lw_m10 103 rfl) rfl
theorem q2621 : (Jvm.Cond.methodLink "ContractLedger$Trees" (61 : Nat) ({ cls := "ContractLedger$Memory", name := "many", desc := "(I)I" } : Jvm.MethodName)) ∈ lw_all := lw_g (lw_at lw_m10 104 rfl) rfl
theorem q2622 : (Jvm.Cond.methodLink "ContractLedger$Trees" (40 : Nat) ({ cls := "ContractLedger$Trees", name := "high", desc := "(I)I" } : Jvm.MethodName)) ∈ lw_all := lw_g (lw_at lw_m10 105 rfl) rfl
theorem q2623 : (Jvm.Cond.privateMethod ({ cls := "ContractLedger$Trees", name := "high", desc := "(I)I" } : Jvm.MethodName)) ∈ lw_tbl := lw_at lw_m10 106 rfl
theorem q2624 : (Jvm.Cond.instanceMethod ({ cls := "ContractLedger$Trees", name := "high", desc := "(I)I" } : Jvm.MethodName)) ∈ lw_all := lw_g (lw_at lw_m10 107 rfl) rfl
theorem q2625 : (Jvm.Cond.code ({ cls := "ContractLedger$Trees", name := "high", desc := "(I)I" } : Jvm.MethodName) prog_20_method_4_code (2 : Nat) (Option.some Jvm.ClassFile.FieldType.int)) ∈ lw_all := lw_g (lw_at lw_m10 108 rfl) rfl
theorem q2937 : (Jvm.Cond.instanceMethod ({ cls := "ContractLedger$Trees", name := "find", desc := "(III)I" } : Jvm.MethodName)) ∈ lw_all := lw_g (lw_at lw_m11 180 rfl) rfl
theorem q2938 : (Jvm.Cond.selects "ContractLedger$Trees" ({ cls := "ContractLedger$Trees", name := "find", desc := "(III)I" } : Jvm.MethodName) ({ cls := "ContractLedger$Trees", name := "find", desc := "(III)I" } : Jvm.MethodName)) ∈ lw_all := lw_g (lw_at lw_m11 181 rfl) rfl
theorem q2939 : (Jvm.Cond.code ({ cls := "ContractLedger$Trees", name := "find", desc := "(III)I" } : Jvm.MethodName) prog_20_method_2_code (6 : Nat) (Option.some Jvm.ClassFile.FieldType.int)) ∈ lw_all := lw_g (lw_at lw_m11 182 rfl) rfl
theorem q2940 : (Jvm.Cond.methodLink "ContractLedger$Trees" (23 : Nat) ({ cls := "ContractLedger$Order", name := "compare", desc := "(III)I" } : Jvm.MethodName)) ∈ lw_all := lw_g (lw_at lw_m11 183 rfl) rfl
theorem q2942 : (Jvm.Cond.instanceMethod ({ cls := "ContractLedger$Trees", name := "put", desc := "(IIII)I" } : Jvm.MethodName)) ∈ lw_all := lw_g (lw_at lw_m11 185 rfl) rfl
theorem q2943 : (Jvm.Cond.selects "ContractLedger$Trees" ({ cls := "ContractLedger$Trees", name := "put", desc := "(IIII)I" } : Jvm.MethodName) ({ cls := "ContractLedger$Trees", name := "put", desc := "(IIII)I" } : Jvm.MethodName)) ∈ lw_all := lw_g (lw_at lw_m11 186 rfl) rfl
theorem q2944 : (Jvm.Cond.code ({ cls := "ContractLedger$Trees", name := "put", desc := "(IIII)I" } : Jvm.MethodName) prog_20_method_7_code (6 : Nat) (Option.some Jvm.ClassFile.FieldType.int)) ∈ lw_all := lw_g (lw_at lw_m11 187 rfl) rfl
theorem q2945 : (Jvm.Cond.methodLink "ContractLedger$Trees" (46 : Nat) ({ cls := "ContractLedger$Trees", name := "put", desc := "(IIII)I" } : Jvm.MethodName)) ∈ lw_all := lw_g (lw_at lw_m11 188 rfl) rfl
theorem q2946 : (Jvm.Cond.methodLink "ContractLedger$Trees" (49 : Nat) ({ cls := "ContractLedger$Trees", name := "balance", desc := "(III)I" } : Jvm.MethodName)) ∈ lw_all := lw_g (lw_at lw_m11 189 rfl) rfl
theorem q2947 : (Jvm.Cond.privateMethod ({ cls := "ContractLedger$Trees", name := "balance", desc := "(III)I" } : Jvm.MethodName)) ∈ lw_tbl := lw_at lw_m11 190 rfl
theorem q2948 : (Jvm.Cond.instanceMethod ({ cls := "ContractLedger$Trees", name := "balance", desc := "(III)I" } : Jvm.MethodName)) ∈ lw_all := lw_g (lw_at lw_m11 191 rfl) rfl
theorem q2949 : (Jvm.Cond.code ({ cls := "ContractLedger$Trees", name := "balance", desc := "(III)I" } : Jvm.MethodName) prog_20_method_6_code (6 : Nat) (Option.some Jvm.ClassFile.FieldType.int)) ∈ lw_all := lw_g (lw_at lw_m11 192 rfl) rfl
theorem q2950 : (Jvm.Cond.methodLink "ContractLedger$Trees" (33 : Nat) ({ cls := "ContractLedger$Memory", name := "height", desc := "(I)I" } : Jvm.MethodName)) ∈ lw_all := lw_g (lw_at lw_m11 193 rfl) rfl
theorem q2951 : (Jvm.Cond.methodLink "ContractLedger$Trees" (43 : Nat) ({ cls := "ContractLedger$Trees", name := "like", desc := "(III)I" } : Jvm.MethodName)) ∈ lw_all := lw_g (lw_at lw_m11 194 rfl) rfl
theorem q2952 : (Jvm.Cond.privateMethod ({ cls := "ContractLedger$Trees", name := "like", desc := "(III)I" } : Jvm.MethodName)) ∈ lw_tbl := lw_at lw_m11 195 rfl
theorem q2953 : (Jvm.Cond.instanceMethod ({ cls := "ContractLedger$Trees", name := "like", desc := "(III)I" } : Jvm.MethodName)) ∈ lw_all := lw_g (lw_at lw_m11 196 rfl) rfl
theorem q2954 : (Jvm.Cond.code ({ cls := "ContractLedger$Trees", name := "like", desc := "(III)I" } : Jvm.MethodName) prog_20_method_5_code (4 : Nat) (Option.some Jvm.ClassFile.FieldType.int)) ∈ lw_all := lw_g (lw_at lw_m11 197 rfl) rfl
theorem q2956 : (Jvm.Cond.instanceMethod ({ cls := "ContractLedger$Trees", name := "remove", desc := "(III)I" } : Jvm.MethodName)) ∈ lw_all := lw_g (lw_at lw_m11 199 rfl) rfl
theorem q2957 : (Jvm.Cond.selects "ContractLedger$Trees" ({ cls := "ContractLedger$Trees", name := "remove", desc := "(III)I" } : Jvm.MethodName) ({ cls := "ContractLedger$Trees", name := "remove", desc := "(III)I" } : Jvm.MethodName)) ∈ lw_all := lw_g (lw_at lw_m11 200 rfl) rfl
theorem q2958 : (Jvm.Cond.code ({ cls := "ContractLedger$Trees", name := "remove", desc := "(III)I" } : Jvm.MethodName) prog_20_method_10_code (5 : Nat) (Option.some Jvm.ClassFile.FieldType.int)) ∈ lw_all := lw_g (lw_at lw_m11 201 rfl) rfl
theorem q2959 : (Jvm.Cond.methodLink "ContractLedger$Trees" (55 : Nat) ({ cls := "ContractLedger$Trees", name := "remove", desc := "(III)I" } : Jvm.MethodName)) ∈ lw_all := lw_g (lw_at lw_m11 202 rfl) rfl
theorem q2960 : (Jvm.Cond.methodLink "ContractLedger$Trees" (58 : Nat) ({ cls := "ContractLedger$Trees", name := "first", desc := "(I)I" } : Jvm.MethodName)) ∈ lw_all := lw_g (lw_at lw_m11 203 rfl) rfl
theorem q2961 : (Jvm.Cond.privateMethod ({ cls := "ContractLedger$Trees", name := "first", desc := "(I)I" } : Jvm.MethodName)) ∈ lw_tbl := lw_at lw_m11 204 rfl
theorem q2962 : (Jvm.Cond.instanceMethod ({ cls := "ContractLedger$Trees", name := "first", desc := "(I)I" } : Jvm.MethodName)) ∈ lw_all := lw_g (lw_at lw_m11 205 rfl) rfl
theorem q2963 : (Jvm.Cond.code ({ cls := "ContractLedger$Trees", name := "first", desc := "(I)I" } : Jvm.MethodName) prog_20_method_8_code (3 : Nat) (Option.some Jvm.ClassFile.FieldType.int)) ∈ lw_all := lw_g (lw_at lw_m11 206 rfl) rfl
theorem q2964 : (Jvm.Cond.methodLink "ContractLedger$Trees" (52 : Nat) ({ cls := "ContractLedger$Trees", name := "withoutFirst", desc := "(I)I" } : Jvm.MethodName)) ∈ lw_all := lw_g (lw_at lw_m11 207 rfl) rfl
theorem q2965 : (Jvm.Cond.privateMethod ({ cls := "ContractLedger$Trees", name := "withoutFirst", desc := "(I)I" } : Jvm.MethodName)) ∈ lw_tbl := lw_at lw_m11 208 rfl
theorem q2966 : (Jvm.Cond.instanceMethod ({ cls := "ContractLedger$Trees", name := "withoutFirst", desc := "(I)I" } : Jvm.MethodName)) ∈ lw_all := lw_g (lw_at lw_m11 209 rfl) rfl
theorem q2967 : (Jvm.Cond.code ({ cls := "ContractLedger$Trees", name := "withoutFirst", desc := "(I)I" } : Jvm.MethodName) prog_20_method_9_code (2 : Nat) (Option.some Jvm.ClassFile.FieldType.int)) ∈ lw_all := lw_g (lw_at lw_m11 210 rfl) rfl
set_option maxRecDepth 100000
abbrev cX11_init : ByteArray := prog_2_method_1_code
def yX11_init : MethodName := ⟨RX11, "<init>", "()V"⟩
def dkwX11_init_0 : List UInt8 := [42, 183, 0, 3, 42, 16, 40, 188, 8, 181, 0, 9, 177]
abbrev dktX11_init_0 : List UInt8 := dkwX11_init_0 ++ []
theorem dksX11_init_0 : cX11_init.data.toList.drop 0 = dktX11_init_0 := by decide +kernel
theorem dX11_init_0 : decode cX11_init 0 = .ok (.aload_n 0, 1) := dk_42 (dk_at dksX11_init_0 0 rfl rfl)
theorem dX11_init_1 : decode cX11_init 1 = .ok (.invokespecial 3, 3) := dk_183 0 3 (dk_at dksX11_init_0 1 rfl rfl)
theorem dX11_init_4 : decode cX11_init 4 = .ok (.aload_n 0, 1) := dk_42 (dk_at dksX11_init_0 4 rfl rfl)
theorem dX11_init_5 : decode cX11_init 5 = .ok (.bipush 40, 2) := dk_16 40 (dk_at dksX11_init_0 5 rfl rfl)
theorem dX11_init_7 : decode cX11_init 7 = .ok (.newarray .byte, 2) := dk_188_8 (dk_at dksX11_init_0 7 rfl rfl)
theorem dX11_init_9 : decode cX11_init 9 = .ok (.putfield 9, 3) := dk_181 0 9 (dk_at dksX11_init_0 9 rfl rfl)
theorem dX11_init_12 : decode cX11_init 12 = .ok (.return_, 1) := dk_177 (dk_at dksX11_init_0 12 rfl rfl)
abbrev cX11_read : ByteArray := prog_2_method_2_code
def yX11_read : MethodName := ⟨RX11, "read", "([BII)I"⟩
def dkwX11_read_7 : List UInt8 := [167, 0, 4, 3, 181, 0, 15, 21, 4, 153, 0, 11, 16, 100, 21, 6, 96, 167, 0, 5, 21, 6, 172]
abbrev dktX11_read_7 : List UInt8 := dkwX11_read_7 ++ []
def dkwX11_read_6 : List UInt8 := [21, 5, 100, 184, 0, 25, 154, 0, 5, 2, 172, 42, 21, 5, 29, 162, 0, 12, 28, 21, 5, 96, 4, 96]
abbrev dktX11_read_6 : List UInt8 := dkwX11_read_6 ++ dktX11_read_7
def dkwX11_read_5 : List UInt8 := [51, 16, 48, 159, 0, 29, 21, 5, 29, 162, 0, 25, 21, 4, 153, 0, 18, 43, 28, 21, 5, 96, 29]
abbrev dktX11_read_5 : List UInt8 := dkwX11_read_5 ++ dktX11_read_6
def dkwX11_read_4 : List UInt8 := [96, 51, 96, 16, 48, 100, 54, 6, 132, 5, 1, 167, 255, 212, 21, 5, 6, 160, 0, 13, 43, 28, 4, 96]
abbrev dktX11_read_4 : List UInt8 := dkwX11_read_4 ++ dktX11_read_5
def dkwX11_read_3 : List UInt8 := [162, 0, 38, 43, 28, 21, 5, 96, 51, 184, 0, 19, 153, 0, 26, 16, 10, 21, 6, 104, 43, 28, 21, 5]
abbrev dktX11_read_3 : List UInt8 := dkwX11_read_3 ++ dktX11_read_4
def dkwX11_read_2 : List UInt8 := [51, 184, 0, 19, 154, 0, 5, 2, 172, 4, 54, 5, 3, 54, 6, 21, 5, 29, 162, 0, 44, 21, 5, 6]
abbrev dktX11_read_2 : List UInt8 := dkwX11_read_2 ++ dktX11_read_3
def dkwX11_read_1 : List UInt8 := [54, 4, 29, 5, 161, 0, 27, 21, 4, 154, 0, 11, 43, 28, 51, 16, 65, 160, 0, 14, 43, 28, 4, 96]
abbrev dktX11_read_1 : List UInt8 := dkwX11_read_1 ++ dktX11_read_2
def dkwX11_read_0 : List UInt8 := [42, 3, 181, 0, 15, 29, 4, 164, 0, 15, 43, 28, 51, 16, 67, 160, 0, 7, 4, 167, 0, 4, 3]
abbrev dktX11_read_0 : List UInt8 := dkwX11_read_0 ++ dktX11_read_1
theorem dksX11_read_0 : cX11_read.data.toList.drop 0 = dktX11_read_0 := by decide +kernel
theorem dksX11_read_1 : cX11_read.data.toList.drop 23 = dktX11_read_1 := dk_seg dksX11_read_0 23 rfl rfl
theorem dksX11_read_2 : cX11_read.data.toList.drop 47 = dktX11_read_2 := dk_seg dksX11_read_1 24 rfl rfl
theorem dksX11_read_3 : cX11_read.data.toList.drop 71 = dktX11_read_3 := dk_seg dksX11_read_2 24 rfl rfl
theorem dksX11_read_4 : cX11_read.data.toList.drop 95 = dktX11_read_4 := dk_seg dksX11_read_3 24 rfl rfl
theorem dksX11_read_5 : cX11_read.data.toList.drop 119 = dktX11_read_5 := dk_seg dksX11_read_4 24 rfl rfl
theorem dksX11_read_6 : cX11_read.data.toList.drop 142 = dktX11_read_6 := dk_seg dksX11_read_5 23 rfl rfl
theorem dksX11_read_7 : cX11_read.data.toList.drop 166 = dktX11_read_7 := dk_seg dksX11_read_6 24 rfl rfl
theorem dX11_read_0 : decode cX11_read 0 = .ok (.aload_n 0, 1) := dk_42 (dk_at dksX11_read_0 0 rfl rfl)
theorem dX11_read_1 : decode cX11_read 1 = .ok (.iconst 0, 1) := dk_3 (dk_at dksX11_read_0 1 rfl rfl)
theorem dX11_read_2 : decode cX11_read 2 = .ok (.putfield 15, 3) := dk_181 0 15 (dk_at dksX11_read_0 2 rfl rfl)
theorem dX11_read_5 : decode cX11_read 5 = .ok (.iload_n 3, 1) := dk_29 (dk_at dksX11_read_0 5 rfl rfl)
theorem dX11_read_6 : decode cX11_read 6 = .ok (.iconst 1, 1) := dk_4 (dk_at dksX11_read_0 6 rfl rfl)
theorem dX11_read_7 : decode cX11_read 7 = .ok (.if_icmp .le 15, 3) := dk_164 0 15 (dk_at dksX11_read_0 7 rfl rfl)
theorem dX11_read_10 : decode cX11_read 10 = .ok (.aload_n 1, 1) := dk_43 (dk_at dksX11_read_0 10 rfl rfl)
theorem dX11_read_11 : decode cX11_read 11 = .ok (.iload_n 2, 1) := dk_28 (dk_at dksX11_read_0 11 rfl rfl)
theorem dX11_read_12 : decode cX11_read 12 = .ok (.baload, 1) := dk_51 (dk_at dksX11_read_0 12 rfl rfl)
theorem dX11_read_13 : decode cX11_read 13 = .ok (.bipush 67, 2) := dk_16 67 (dk_at dksX11_read_0 13 rfl rfl)
theorem dX11_read_15 : decode cX11_read 15 = .ok (.if_icmp .ne 7, 3) := dk_160 0 7 (dk_at dksX11_read_0 15 rfl rfl)
theorem dX11_read_18 : decode cX11_read 18 = .ok (.iconst 1, 1) := dk_4 (dk_at dksX11_read_0 18 rfl rfl)
theorem dX11_read_19 : decode cX11_read 19 = .ok (.goto 4, 3) := dk_167 0 4 (dk_at dksX11_read_0 19 rfl rfl)
theorem dX11_read_22 : decode cX11_read 22 = .ok (.iconst 0, 1) := dk_3 (dk_at dksX11_read_0 22 rfl rfl)
theorem dX11_read_23 : decode cX11_read 23 = .ok (.istore 4, 2) := dk_54 4 (dk_at dksX11_read_1 0 rfl rfl)
theorem dX11_read_25 : decode cX11_read 25 = .ok (.iload_n 3, 1) := dk_29 (dk_at dksX11_read_1 2 rfl rfl)
theorem dX11_read_26 : decode cX11_read 26 = .ok (.iconst 2, 1) := dk_5 (dk_at dksX11_read_1 3 rfl rfl)
theorem dX11_read_27 : decode cX11_read 27 = .ok (.if_icmp .lt 27, 3) := dk_161 0 27 (dk_at dksX11_read_1 4 rfl rfl)
theorem dX11_read_30 : decode cX11_read 30 = .ok (.iload 4, 2) := dk_21 4 (dk_at dksX11_read_1 7 rfl rfl)
theorem dX11_read_32 : decode cX11_read 32 = .ok (.ifCond .ne 11, 3) := dk_154 0 11 (dk_at dksX11_read_1 9 rfl rfl)
theorem dX11_read_35 : decode cX11_read 35 = .ok (.aload_n 1, 1) := dk_43 (dk_at dksX11_read_1 12 rfl rfl)
theorem dX11_read_36 : decode cX11_read 36 = .ok (.iload_n 2, 1) := dk_28 (dk_at dksX11_read_1 13 rfl rfl)
theorem dX11_read_37 : decode cX11_read 37 = .ok (.baload, 1) := dk_51 (dk_at dksX11_read_1 14 rfl rfl)
theorem dX11_read_38 : decode cX11_read 38 = .ok (.bipush 65, 2) := dk_16 65 (dk_at dksX11_read_1 15 rfl rfl)
theorem dX11_read_40 : decode cX11_read 40 = .ok (.if_icmp .ne 14, 3) := dk_160 0 14 (dk_at dksX11_read_1 17 rfl rfl)
theorem dX11_read_43 : decode cX11_read 43 = .ok (.aload_n 1, 1) := dk_43 (dk_at dksX11_read_1 20 rfl rfl)
theorem dX11_read_44 : decode cX11_read 44 = .ok (.iload_n 2, 1) := dk_28 (dk_at dksX11_read_1 21 rfl rfl)
theorem dX11_read_45 : decode cX11_read 45 = .ok (.iconst 1, 1) := dk_4 (dk_at dksX11_read_1 22 rfl rfl)
theorem dX11_read_46 : decode cX11_read 46 = .ok (.iadd, 1) := dk_96 (dk_at dksX11_read_1 23 rfl rfl)
theorem dX11_read_47 : decode cX11_read 47 = .ok (.baload, 1) := dk_51 (dk_at dksX11_read_2 0 rfl rfl)
theorem dX11_read_48 : decode cX11_read 48 = .ok (.invokestatic 19, 3) := dk_184 0 19 (dk_at dksX11_read_2 1 rfl rfl)
theorem dX11_read_51 : decode cX11_read 51 = .ok (.ifCond .ne 5, 3) := dk_154 0 5 (dk_at dksX11_read_2 4 rfl rfl)
theorem dX11_read_54 : decode cX11_read 54 = .ok (.iconst (-1), 1) := dk_2 (dk_at dksX11_read_2 7 rfl rfl)
theorem dX11_read_55 : decode cX11_read 55 = .ok (.ireturn, 1) := dk_172 (dk_at dksX11_read_2 8 rfl rfl)
theorem dX11_read_56 : decode cX11_read 56 = .ok (.iconst 1, 1) := dk_4 (dk_at dksX11_read_2 9 rfl rfl)
theorem dX11_read_57 : decode cX11_read 57 = .ok (.istore 5, 2) := dk_54 5 (dk_at dksX11_read_2 10 rfl rfl)
theorem dX11_read_59 : decode cX11_read 59 = .ok (.iconst 0, 1) := dk_3 (dk_at dksX11_read_2 12 rfl rfl)
theorem dX11_read_60 : decode cX11_read 60 = .ok (.istore 6, 2) := dk_54 6 (dk_at dksX11_read_2 13 rfl rfl)
theorem dX11_read_62 : decode cX11_read 62 = .ok (.iload 5, 2) := dk_21 5 (dk_at dksX11_read_2 15 rfl rfl)
theorem dX11_read_64 : decode cX11_read 64 = .ok (.iload_n 3, 1) := dk_29 (dk_at dksX11_read_2 17 rfl rfl)
theorem dX11_read_65 : decode cX11_read 65 = .ok (.if_icmp .ge 44, 3) := dk_162 0 44 (dk_at dksX11_read_2 18 rfl rfl)
theorem dX11_read_68 : decode cX11_read 68 = .ok (.iload 5, 2) := dk_21 5 (dk_at dksX11_read_2 21 rfl rfl)
theorem dX11_read_70 : decode cX11_read 70 = .ok (.iconst 3, 1) := dk_6 (dk_at dksX11_read_2 23 rfl rfl)
theorem dX11_read_71 : decode cX11_read 71 = .ok (.if_icmp .ge 38, 3) := dk_162 0 38 (dk_at dksX11_read_3 0 rfl rfl)
theorem dX11_read_74 : decode cX11_read 74 = .ok (.aload_n 1, 1) := dk_43 (dk_at dksX11_read_3 3 rfl rfl)
theorem dX11_read_75 : decode cX11_read 75 = .ok (.iload_n 2, 1) := dk_28 (dk_at dksX11_read_3 4 rfl rfl)
theorem dX11_read_76 : decode cX11_read 76 = .ok (.iload 5, 2) := dk_21 5 (dk_at dksX11_read_3 5 rfl rfl)
theorem dX11_read_78 : decode cX11_read 78 = .ok (.iadd, 1) := dk_96 (dk_at dksX11_read_3 7 rfl rfl)
theorem dX11_read_79 : decode cX11_read 79 = .ok (.baload, 1) := dk_51 (dk_at dksX11_read_3 8 rfl rfl)
theorem dX11_read_80 : decode cX11_read 80 = .ok (.invokestatic 19, 3) := dk_184 0 19 (dk_at dksX11_read_3 9 rfl rfl)
theorem dX11_read_83 : decode cX11_read 83 = .ok (.ifCond .eq 26, 3) := dk_153 0 26 (dk_at dksX11_read_3 12 rfl rfl)
theorem dX11_read_86 : decode cX11_read 86 = .ok (.bipush 10, 2) := dk_16 10 (dk_at dksX11_read_3 15 rfl rfl)
theorem dX11_read_88 : decode cX11_read 88 = .ok (.iload 6, 2) := dk_21 6 (dk_at dksX11_read_3 17 rfl rfl)
theorem dX11_read_90 : decode cX11_read 90 = .ok (.imul, 1) := dk_104 (dk_at dksX11_read_3 19 rfl rfl)
theorem dX11_read_91 : decode cX11_read 91 = .ok (.aload_n 1, 1) := dk_43 (dk_at dksX11_read_3 20 rfl rfl)
theorem dX11_read_92 : decode cX11_read 92 = .ok (.iload_n 2, 1) := dk_28 (dk_at dksX11_read_3 21 rfl rfl)
theorem dX11_read_93 : decode cX11_read 93 = .ok (.iload 5, 2) := dk_21 5 (dk_at dksX11_read_3 22 rfl rfl)
theorem dX11_read_95 : decode cX11_read 95 = .ok (.iadd, 1) := dk_96 (dk_at dksX11_read_4 0 rfl rfl)
theorem dX11_read_96 : decode cX11_read 96 = .ok (.baload, 1) := dk_51 (dk_at dksX11_read_4 1 rfl rfl)
theorem dX11_read_97 : decode cX11_read 97 = .ok (.iadd, 1) := dk_96 (dk_at dksX11_read_4 2 rfl rfl)
theorem dX11_read_98 : decode cX11_read 98 = .ok (.bipush 48, 2) := dk_16 48 (dk_at dksX11_read_4 3 rfl rfl)
theorem dX11_read_100 : decode cX11_read 100 = .ok (.isub, 1) := dk_100 (dk_at dksX11_read_4 5 rfl rfl)
theorem dX11_read_101 : decode cX11_read 101 = .ok (.istore 6, 2) := dk_54 6 (dk_at dksX11_read_4 6 rfl rfl)
theorem dX11_read_103 : decode cX11_read 103 = .ok (.iinc 5 1, 3) := dk_132 5 1 (dk_at dksX11_read_4 8 rfl rfl)
theorem dX11_read_106 : decode cX11_read 106 = .ok (.goto (-44), 3) := dk_167 255 212 (dk_at dksX11_read_4 11 rfl rfl)
theorem dX11_read_109 : decode cX11_read 109 = .ok (.iload 5, 2) := dk_21 5 (dk_at dksX11_read_4 14 rfl rfl)
theorem dX11_read_111 : decode cX11_read 111 = .ok (.iconst 3, 1) := dk_6 (dk_at dksX11_read_4 16 rfl rfl)
theorem dX11_read_112 : decode cX11_read 112 = .ok (.if_icmp .ne 13, 3) := dk_160 0 13 (dk_at dksX11_read_4 17 rfl rfl)
theorem dX11_read_115 : decode cX11_read 115 = .ok (.aload_n 1, 1) := dk_43 (dk_at dksX11_read_4 20 rfl rfl)
theorem dX11_read_116 : decode cX11_read 116 = .ok (.iload_n 2, 1) := dk_28 (dk_at dksX11_read_4 21 rfl rfl)
theorem dX11_read_117 : decode cX11_read 117 = .ok (.iconst 1, 1) := dk_4 (dk_at dksX11_read_4 22 rfl rfl)
theorem dX11_read_118 : decode cX11_read 118 = .ok (.iadd, 1) := dk_96 (dk_at dksX11_read_4 23 rfl rfl)
theorem dX11_read_119 : decode cX11_read 119 = .ok (.baload, 1) := dk_51 (dk_at dksX11_read_5 0 rfl rfl)
theorem dX11_read_120 : decode cX11_read 120 = .ok (.bipush 48, 2) := dk_16 48 (dk_at dksX11_read_5 1 rfl rfl)
theorem dX11_read_122 : decode cX11_read 122 = .ok (.if_icmp .eq 29, 3) := dk_159 0 29 (dk_at dksX11_read_5 3 rfl rfl)
theorem dX11_read_125 : decode cX11_read 125 = .ok (.iload 5, 2) := dk_21 5 (dk_at dksX11_read_5 6 rfl rfl)
theorem dX11_read_127 : decode cX11_read 127 = .ok (.iload_n 3, 1) := dk_29 (dk_at dksX11_read_5 8 rfl rfl)
theorem dX11_read_128 : decode cX11_read 128 = .ok (.if_icmp .ge 25, 3) := dk_162 0 25 (dk_at dksX11_read_5 9 rfl rfl)
theorem dX11_read_131 : decode cX11_read 131 = .ok (.iload 4, 2) := dk_21 4 (dk_at dksX11_read_5 12 rfl rfl)
theorem dX11_read_133 : decode cX11_read 133 = .ok (.ifCond .eq 18, 3) := dk_153 0 18 (dk_at dksX11_read_5 14 rfl rfl)
theorem dX11_read_136 : decode cX11_read 136 = .ok (.aload_n 1, 1) := dk_43 (dk_at dksX11_read_5 17 rfl rfl)
theorem dX11_read_137 : decode cX11_read 137 = .ok (.iload_n 2, 1) := dk_28 (dk_at dksX11_read_5 18 rfl rfl)
theorem dX11_read_138 : decode cX11_read 138 = .ok (.iload 5, 2) := dk_21 5 (dk_at dksX11_read_5 19 rfl rfl)
theorem dX11_read_140 : decode cX11_read 140 = .ok (.iadd, 1) := dk_96 (dk_at dksX11_read_5 21 rfl rfl)
theorem dX11_read_141 : decode cX11_read 141 = .ok (.iload_n 3, 1) := dk_29 (dk_at dksX11_read_5 22 rfl rfl)
theorem dX11_read_142 : decode cX11_read 142 = .ok (.iload 5, 2) := dk_21 5 (dk_at dksX11_read_6 0 rfl rfl)
theorem dX11_read_144 : decode cX11_read 144 = .ok (.isub, 1) := dk_100 (dk_at dksX11_read_6 2 rfl rfl)
theorem dX11_read_145 : decode cX11_read 145 = .ok (.invokestatic 25, 3) := dk_184 0 25 (dk_at dksX11_read_6 3 rfl rfl)
theorem dX11_read_148 : decode cX11_read 148 = .ok (.ifCond .ne 5, 3) := dk_154 0 5 (dk_at dksX11_read_6 6 rfl rfl)
theorem dX11_read_151 : decode cX11_read 151 = .ok (.iconst (-1), 1) := dk_2 (dk_at dksX11_read_6 9 rfl rfl)
theorem dX11_read_152 : decode cX11_read 152 = .ok (.ireturn, 1) := dk_172 (dk_at dksX11_read_6 10 rfl rfl)
theorem dX11_read_153 : decode cX11_read 153 = .ok (.aload_n 0, 1) := dk_42 (dk_at dksX11_read_6 11 rfl rfl)
theorem dX11_read_154 : decode cX11_read 154 = .ok (.iload 5, 2) := dk_21 5 (dk_at dksX11_read_6 12 rfl rfl)
theorem dX11_read_156 : decode cX11_read 156 = .ok (.iload_n 3, 1) := dk_29 (dk_at dksX11_read_6 14 rfl rfl)
theorem dX11_read_157 : decode cX11_read 157 = .ok (.if_icmp .ge 12, 3) := dk_162 0 12 (dk_at dksX11_read_6 15 rfl rfl)
theorem dX11_read_160 : decode cX11_read 160 = .ok (.iload_n 2, 1) := dk_28 (dk_at dksX11_read_6 18 rfl rfl)
theorem dX11_read_161 : decode cX11_read 161 = .ok (.iload 5, 2) := dk_21 5 (dk_at dksX11_read_6 19 rfl rfl)
theorem dX11_read_163 : decode cX11_read 163 = .ok (.iadd, 1) := dk_96 (dk_at dksX11_read_6 21 rfl rfl)
theorem dX11_read_164 : decode cX11_read 164 = .ok (.iconst 1, 1) := dk_4 (dk_at dksX11_read_6 22 rfl rfl)
theorem dX11_read_165 : decode cX11_read 165 = .ok (.iadd, 1) := dk_96 (dk_at dksX11_read_6 23 rfl rfl)
theorem dX11_read_166 : decode cX11_read 166 = .ok (.goto 4, 3) := dk_167 0 4 (dk_at dksX11_read_7 0 rfl rfl)
theorem dX11_read_169 : decode cX11_read 169 = .ok (.iconst 0, 1) := dk_3 (dk_at dksX11_read_7 3 rfl rfl)
theorem dX11_read_170 : decode cX11_read 170 = .ok (.putfield 15, 3) := dk_181 0 15 (dk_at dksX11_read_7 4 rfl rfl)
theorem dX11_read_173 : decode cX11_read 173 = .ok (.iload 4, 2) := dk_21 4 (dk_at dksX11_read_7 7 rfl rfl)
theorem dX11_read_175 : decode cX11_read 175 = .ok (.ifCond .eq 11, 3) := dk_153 0 11 (dk_at dksX11_read_7 9 rfl rfl)
theorem dX11_read_178 : decode cX11_read 178 = .ok (.bipush 100, 2) := dk_16 100 (dk_at dksX11_read_7 12 rfl rfl)
theorem dX11_read_180 : decode cX11_read 180 = .ok (.iload 6, 2) := dk_21 6 (dk_at dksX11_read_7 14 rfl rfl)
theorem dX11_read_182 : decode cX11_read 182 = .ok (.iadd, 1) := dk_96 (dk_at dksX11_read_7 16 rfl rfl)
theorem dX11_read_183 : decode cX11_read 183 = .ok (.goto 5, 3) := dk_167 0 5 (dk_at dksX11_read_7 17 rfl rfl)
theorem dX11_read_186 : decode cX11_read 186 = .ok (.iload 6, 2) := dk_21 6 (dk_at dksX11_read_7 20 rfl rfl)
theorem dX11_read_188 : decode cX11_read 188 = .ok (.ireturn, 1) := dk_172 (dk_at dksX11_read_7 22 rfl rfl)
abbrev cX11_isMark : ByteArray := prog_2_method_3_code
def yX11_isMark : MethodName := ⟨RX11, "isMark", "([BII)Z"⟩
def dkwX11_isMark_2 : List UInt8 := [4, 167, 0, 4, 3, 172]
abbrev dktX11_isMark_2 : List UInt8 := dkwX11_isMark_2 ++ []
def dkwX11_isMark_1 : List UInt8 := [42, 27, 51, 16, 37, 160, 0, 23, 29, 28, 160, 0, 18, 28, 4, 164, 0, 13, 28, 16, 32, 163, 0, 7]
abbrev dktX11_isMark_1 : List UInt8 := dkwX11_isMark_1 ++ dktX11_isMark_2
def dkwX11_isMark_0 : List UInt8 := [4, 62, 29, 28, 162, 0, 20, 42, 27, 29, 96, 51, 184, 0, 29, 153, 0, 9, 132, 3, 1, 167, 255, 237]
abbrev dktX11_isMark_0 : List UInt8 := dkwX11_isMark_0 ++ dktX11_isMark_1
theorem dksX11_isMark_0 : cX11_isMark.data.toList.drop 0 = dktX11_isMark_0 := by decide +kernel
theorem dksX11_isMark_1 : cX11_isMark.data.toList.drop 24 = dktX11_isMark_1 := dk_seg dksX11_isMark_0 24 rfl rfl
theorem dksX11_isMark_2 : cX11_isMark.data.toList.drop 48 = dktX11_isMark_2 := dk_seg dksX11_isMark_1 24 rfl rfl
theorem dX11_isMark_0 : decode cX11_isMark 0 = .ok (.iconst 1, 1) := dk_4 (dk_at dksX11_isMark_0 0 rfl rfl)
theorem dX11_isMark_1 : decode cX11_isMark 1 = .ok (.istore_n 3, 1) := dk_62 (dk_at dksX11_isMark_0 1 rfl rfl)
theorem dX11_isMark_2 : decode cX11_isMark 2 = .ok (.iload_n 3, 1) := dk_29 (dk_at dksX11_isMark_0 2 rfl rfl)
theorem dX11_isMark_3 : decode cX11_isMark 3 = .ok (.iload_n 2, 1) := dk_28 (dk_at dksX11_isMark_0 3 rfl rfl)
theorem dX11_isMark_4 : decode cX11_isMark 4 = .ok (.if_icmp .ge 20, 3) := dk_162 0 20 (dk_at dksX11_isMark_0 4 rfl rfl)
theorem dX11_isMark_7 : decode cX11_isMark 7 = .ok (.aload_n 0, 1) := dk_42 (dk_at dksX11_isMark_0 7 rfl rfl)
theorem dX11_isMark_8 : decode cX11_isMark 8 = .ok (.iload_n 1, 1) := dk_27 (dk_at dksX11_isMark_0 8 rfl rfl)
theorem dX11_isMark_9 : decode cX11_isMark 9 = .ok (.iload_n 3, 1) := dk_29 (dk_at dksX11_isMark_0 9 rfl rfl)
theorem dX11_isMark_10 : decode cX11_isMark 10 = .ok (.iadd, 1) := dk_96 (dk_at dksX11_isMark_0 10 rfl rfl)
theorem dX11_isMark_11 : decode cX11_isMark 11 = .ok (.baload, 1) := dk_51 (dk_at dksX11_isMark_0 11 rfl rfl)
theorem dX11_isMark_12 : decode cX11_isMark 12 = .ok (.invokestatic 29, 3) := dk_184 0 29 (dk_at dksX11_isMark_0 12 rfl rfl)
theorem dX11_isMark_15 : decode cX11_isMark 15 = .ok (.ifCond .eq 9, 3) := dk_153 0 9 (dk_at dksX11_isMark_0 15 rfl rfl)
theorem dX11_isMark_18 : decode cX11_isMark 18 = .ok (.iinc 3 1, 3) := dk_132 3 1 (dk_at dksX11_isMark_0 18 rfl rfl)
theorem dX11_isMark_21 : decode cX11_isMark 21 = .ok (.goto (-19), 3) := dk_167 255 237 (dk_at dksX11_isMark_0 21 rfl rfl)
theorem dX11_isMark_24 : decode cX11_isMark 24 = .ok (.aload_n 0, 1) := dk_42 (dk_at dksX11_isMark_1 0 rfl rfl)
theorem dX11_isMark_25 : decode cX11_isMark 25 = .ok (.iload_n 1, 1) := dk_27 (dk_at dksX11_isMark_1 1 rfl rfl)
theorem dX11_isMark_26 : decode cX11_isMark 26 = .ok (.baload, 1) := dk_51 (dk_at dksX11_isMark_1 2 rfl rfl)
theorem dX11_isMark_27 : decode cX11_isMark 27 = .ok (.bipush 37, 2) := dk_16 37 (dk_at dksX11_isMark_1 3 rfl rfl)
theorem dX11_isMark_29 : decode cX11_isMark 29 = .ok (.if_icmp .ne 23, 3) := dk_160 0 23 (dk_at dksX11_isMark_1 5 rfl rfl)
theorem dX11_isMark_32 : decode cX11_isMark 32 = .ok (.iload_n 3, 1) := dk_29 (dk_at dksX11_isMark_1 8 rfl rfl)
theorem dX11_isMark_33 : decode cX11_isMark 33 = .ok (.iload_n 2, 1) := dk_28 (dk_at dksX11_isMark_1 9 rfl rfl)
theorem dX11_isMark_34 : decode cX11_isMark 34 = .ok (.if_icmp .ne 18, 3) := dk_160 0 18 (dk_at dksX11_isMark_1 10 rfl rfl)
theorem dX11_isMark_37 : decode cX11_isMark 37 = .ok (.iload_n 2, 1) := dk_28 (dk_at dksX11_isMark_1 13 rfl rfl)
theorem dX11_isMark_38 : decode cX11_isMark 38 = .ok (.iconst 1, 1) := dk_4 (dk_at dksX11_isMark_1 14 rfl rfl)
theorem dX11_isMark_39 : decode cX11_isMark 39 = .ok (.if_icmp .le 13, 3) := dk_164 0 13 (dk_at dksX11_isMark_1 15 rfl rfl)
theorem dX11_isMark_42 : decode cX11_isMark 42 = .ok (.iload_n 2, 1) := dk_28 (dk_at dksX11_isMark_1 18 rfl rfl)
theorem dX11_isMark_43 : decode cX11_isMark 43 = .ok (.bipush 32, 2) := dk_16 32 (dk_at dksX11_isMark_1 19 rfl rfl)
theorem dX11_isMark_45 : decode cX11_isMark 45 = .ok (.if_icmp .gt 7, 3) := dk_163 0 7 (dk_at dksX11_isMark_1 21 rfl rfl)
theorem dX11_isMark_48 : decode cX11_isMark 48 = .ok (.iconst 1, 1) := dk_4 (dk_at dksX11_isMark_2 0 rfl rfl)
theorem dX11_isMark_49 : decode cX11_isMark 49 = .ok (.goto 4, 3) := dk_167 0 4 (dk_at dksX11_isMark_2 1 rfl rfl)
theorem dX11_isMark_52 : decode cX11_isMark 52 = .ok (.iconst 0, 1) := dk_3 (dk_at dksX11_isMark_2 4 rfl rfl)
theorem dX11_isMark_53 : decode cX11_isMark 53 = .ok (.ireturn, 1) := dk_172 (dk_at dksX11_isMark_2 5 rfl rfl)
abbrev cX11_read_2 : ByteArray := prog_2_method_4_code
def yX11_read_2 : MethodName := ⟨RX11, "read", "(LContractLedger$Memory;I)I"⟩
def dkwX11_read_2_2 : List UInt8 := [42, 42, 180, 0, 9, 3, 29, 182, 0, 42, 172]
abbrev dktX11_read_2_2 : List UInt8 := dkwX11_read_2_2 ++ []
def dkwX11_read_2_1 : List UInt8 := [162, 0, 24, 42, 180, 0, 9, 21, 4, 43, 28, 21, 4, 182, 0, 38, 145, 84, 132, 4, 1, 167, 255, 232]
abbrev dktX11_read_2_1 : List UInt8 := dkwX11_read_2_1 ++ dktX11_read_2_2
def dkwX11_read_2_0 : List UInt8 := [43, 28, 182, 0, 32, 62, 29, 42, 180, 0, 9, 190, 164, 0, 5, 2, 172, 3, 54, 4, 21, 4, 29]
abbrev dktX11_read_2_0 : List UInt8 := dkwX11_read_2_0 ++ dktX11_read_2_1
theorem dksX11_read_2_0 : cX11_read_2.data.toList.drop 0 = dktX11_read_2_0 := by decide +kernel
theorem dksX11_read_2_1 : cX11_read_2.data.toList.drop 23 = dktX11_read_2_1 := dk_seg dksX11_read_2_0 23 rfl rfl
theorem dksX11_read_2_2 : cX11_read_2.data.toList.drop 47 = dktX11_read_2_2 := dk_seg dksX11_read_2_1 24 rfl rfl
theorem dX11_read_2_0 : decode cX11_read_2 0 = .ok (.aload_n 1, 1) := dk_43 (dk_at dksX11_read_2_0 0 rfl rfl)
theorem dX11_read_2_1 : decode cX11_read_2 1 = .ok (.iload_n 2, 1) := dk_28 (dk_at dksX11_read_2_0 1 rfl rfl)
theorem dX11_read_2_2 : decode cX11_read_2 2 = .ok (.invokevirtual 32, 3) := dk_182 0 32 (dk_at dksX11_read_2_0 2 rfl rfl)
theorem dX11_read_2_5 : decode cX11_read_2 5 = .ok (.istore_n 3, 1) := dk_62 (dk_at dksX11_read_2_0 5 rfl rfl)
theorem dX11_read_2_6 : decode cX11_read_2 6 = .ok (.iload_n 3, 1) := dk_29 (dk_at dksX11_read_2_0 6 rfl rfl)
theorem dX11_read_2_7 : decode cX11_read_2 7 = .ok (.aload_n 0, 1) := dk_42 (dk_at dksX11_read_2_0 7 rfl rfl)
theorem dX11_read_2_8 : decode cX11_read_2 8 = .ok (.getfield 9, 3) := dk_180 0 9 (dk_at dksX11_read_2_0 8 rfl rfl)
theorem dX11_read_2_11 : decode cX11_read_2 11 = .ok (.arraylength, 1) := dk_190 (dk_at dksX11_read_2_0 11 rfl rfl)
theorem dX11_read_2_12 : decode cX11_read_2 12 = .ok (.if_icmp .le 5, 3) := dk_164 0 5 (dk_at dksX11_read_2_0 12 rfl rfl)
theorem dX11_read_2_15 : decode cX11_read_2 15 = .ok (.iconst (-1), 1) := dk_2 (dk_at dksX11_read_2_0 15 rfl rfl)
theorem dX11_read_2_16 : decode cX11_read_2 16 = .ok (.ireturn, 1) := dk_172 (dk_at dksX11_read_2_0 16 rfl rfl)
theorem dX11_read_2_17 : decode cX11_read_2 17 = .ok (.iconst 0, 1) := dk_3 (dk_at dksX11_read_2_0 17 rfl rfl)
theorem dX11_read_2_18 : decode cX11_read_2 18 = .ok (.istore 4, 2) := dk_54 4 (dk_at dksX11_read_2_0 18 rfl rfl)
theorem dX11_read_2_20 : decode cX11_read_2 20 = .ok (.iload 4, 2) := dk_21 4 (dk_at dksX11_read_2_0 20 rfl rfl)
theorem dX11_read_2_22 : decode cX11_read_2 22 = .ok (.iload_n 3, 1) := dk_29 (dk_at dksX11_read_2_0 22 rfl rfl)
theorem dX11_read_2_23 : decode cX11_read_2 23 = .ok (.if_icmp .ge 24, 3) := dk_162 0 24 (dk_at dksX11_read_2_1 0 rfl rfl)
theorem dX11_read_2_26 : decode cX11_read_2 26 = .ok (.aload_n 0, 1) := dk_42 (dk_at dksX11_read_2_1 3 rfl rfl)
theorem dX11_read_2_27 : decode cX11_read_2 27 = .ok (.getfield 9, 3) := dk_180 0 9 (dk_at dksX11_read_2_1 4 rfl rfl)
theorem dX11_read_2_30 : decode cX11_read_2 30 = .ok (.iload 4, 2) := dk_21 4 (dk_at dksX11_read_2_1 7 rfl rfl)
theorem dX11_read_2_32 : decode cX11_read_2 32 = .ok (.aload_n 1, 1) := dk_43 (dk_at dksX11_read_2_1 9 rfl rfl)
theorem dX11_read_2_33 : decode cX11_read_2 33 = .ok (.iload_n 2, 1) := dk_28 (dk_at dksX11_read_2_1 10 rfl rfl)
theorem dX11_read_2_34 : decode cX11_read_2 34 = .ok (.iload 4, 2) := dk_21 4 (dk_at dksX11_read_2_1 11 rfl rfl)
theorem dX11_read_2_36 : decode cX11_read_2 36 = .ok (.invokevirtual 38, 3) := dk_182 0 38 (dk_at dksX11_read_2_1 13 rfl rfl)
theorem dX11_read_2_39 : decode cX11_read_2 39 = .ok (.i2b, 1) := dk_145 (dk_at dksX11_read_2_1 16 rfl rfl)
theorem dX11_read_2_40 : decode cX11_read_2 40 = .ok (.bastore, 1) := dk_84 (dk_at dksX11_read_2_1 17 rfl rfl)
theorem dX11_read_2_41 : decode cX11_read_2 41 = .ok (.iinc 4 1, 3) := dk_132 4 1 (dk_at dksX11_read_2_1 18 rfl rfl)
theorem dX11_read_2_44 : decode cX11_read_2 44 = .ok (.goto (-24), 3) := dk_167 255 232 (dk_at dksX11_read_2_1 21 rfl rfl)
theorem dX11_read_2_47 : decode cX11_read_2 47 = .ok (.aload_n 0, 1) := dk_42 (dk_at dksX11_read_2_2 0 rfl rfl)
theorem dX11_read_2_48 : decode cX11_read_2 48 = .ok (.aload_n 0, 1) := dk_42 (dk_at dksX11_read_2_2 1 rfl rfl)
theorem dX11_read_2_49 : decode cX11_read_2 49 = .ok (.getfield 9, 3) := dk_180 0 9 (dk_at dksX11_read_2_2 2 rfl rfl)
theorem dX11_read_2_52 : decode cX11_read_2 52 = .ok (.iconst 0, 1) := dk_3 (dk_at dksX11_read_2_2 5 rfl rfl)
theorem dX11_read_2_53 : decode cX11_read_2 53 = .ok (.iload_n 3, 1) := dk_29 (dk_at dksX11_read_2_2 6 rfl rfl)
theorem dX11_read_2_54 : decode cX11_read_2 54 = .ok (.invokevirtual 42, 3) := dk_182 0 42 (dk_at dksX11_read_2_2 7 rfl rfl)
theorem dX11_read_2_57 : decode cX11_read_2 57 = .ok (.ireturn, 1) := dk_172 (dk_at dksX11_read_2_2 10 rfl rfl)
abbrev cX11_make : ByteArray := prog_2_method_6_code
def yX11_make : MethodName := ⟨RX11, "make", "(LContractLedger$Memory;I[BII)I"⟩
def dkwX11_make_5 : List UInt8 := [180, 0, 9, 3, 21, 7, 182, 0, 52, 172]
abbrev dktX11_make_5 : List UInt8 := dkwX11_make_5 ++ []
def dkwX11_make_4 : List UInt8 := [84, 45, 21, 4, 42, 180, 0, 9, 21, 7, 21, 5, 184, 0, 46, 21, 7, 21, 5, 96, 54, 7, 43, 42]
abbrev dktX11_make_4 : List UInt8 := dkwX11_make_4 ++ dktX11_make_5
def dkwX11_make_3 : List UInt8 := [21, 6, 16, 10, 112, 96, 145, 84, 21, 5, 158, 0, 36, 42, 180, 0, 9, 21, 7, 132, 7, 1, 16, 37]
abbrev dktX11_make_3 : List UInt8 := dkwX11_make_3 ++ dktX11_make_4
def dkwX11_make_2 : List UInt8 := [132, 7, 1, 16, 48, 21, 6, 16, 10, 108, 96, 145, 84, 42, 180, 0, 9, 21, 7, 132, 7, 1, 16, 48]
abbrev dktX11_make_2 : List UInt8 := dkwX11_make_2 ++ dktX11_make_3
def dkwX11_make_1 : List UInt8 := [16, 67, 167, 0, 5, 16, 65, 145, 84, 21, 6, 16, 9, 164, 0, 22, 42, 180, 0, 9, 21, 7]
abbrev dktX11_make_1 : List UInt8 := dkwX11_make_1 ++ dktX11_make_2
def dkwX11_make_0 : List UInt8 := [28, 16, 100, 112, 54, 6, 3, 54, 7, 42, 180, 0, 9, 21, 7, 132, 7, 1, 28, 16, 100, 161, 0, 8]
abbrev dktX11_make_0 : List UInt8 := dkwX11_make_0 ++ dktX11_make_1
theorem dksX11_make_0 : cX11_make.data.toList.drop 0 = dktX11_make_0 := by decide +kernel
theorem dksX11_make_1 : cX11_make.data.toList.drop 24 = dktX11_make_1 := dk_seg dksX11_make_0 24 rfl rfl
theorem dksX11_make_2 : cX11_make.data.toList.drop 46 = dktX11_make_2 := dk_seg dksX11_make_1 22 rfl rfl
theorem dksX11_make_3 : cX11_make.data.toList.drop 70 = dktX11_make_3 := dk_seg dksX11_make_2 24 rfl rfl
theorem dksX11_make_4 : cX11_make.data.toList.drop 94 = dktX11_make_4 := dk_seg dksX11_make_3 24 rfl rfl
theorem dksX11_make_5 : cX11_make.data.toList.drop 118 = dktX11_make_5 := dk_seg dksX11_make_4 24 rfl rfl
theorem dX11_make_0 : decode cX11_make 0 = .ok (.iload_n 2, 1) := dk_28 (dk_at dksX11_make_0 0 rfl rfl)
theorem dX11_make_1 : decode cX11_make 1 = .ok (.bipush 100, 2) := dk_16 100 (dk_at dksX11_make_0 1 rfl rfl)
theorem dX11_make_3 : decode cX11_make 3 = .ok (.irem, 1) := dk_112 (dk_at dksX11_make_0 3 rfl rfl)
theorem dX11_make_4 : decode cX11_make 4 = .ok (.istore 6, 2) := dk_54 6 (dk_at dksX11_make_0 4 rfl rfl)
theorem dX11_make_6 : decode cX11_make 6 = .ok (.iconst 0, 1) := dk_3 (dk_at dksX11_make_0 6 rfl rfl)
theorem dX11_make_7 : decode cX11_make 7 = .ok (.istore 7, 2) := dk_54 7 (dk_at dksX11_make_0 7 rfl rfl)
theorem dX11_make_9 : decode cX11_make 9 = .ok (.aload_n 0, 1) := dk_42 (dk_at dksX11_make_0 9 rfl rfl)
theorem dX11_make_10 : decode cX11_make 10 = .ok (.getfield 9, 3) := dk_180 0 9 (dk_at dksX11_make_0 10 rfl rfl)
theorem dX11_make_13 : decode cX11_make 13 = .ok (.iload 7, 2) := dk_21 7 (dk_at dksX11_make_0 13 rfl rfl)
theorem dX11_make_15 : decode cX11_make 15 = .ok (.iinc 7 1, 3) := dk_132 7 1 (dk_at dksX11_make_0 15 rfl rfl)
theorem dX11_make_18 : decode cX11_make 18 = .ok (.iload_n 2, 1) := dk_28 (dk_at dksX11_make_0 18 rfl rfl)
theorem dX11_make_19 : decode cX11_make 19 = .ok (.bipush 100, 2) := dk_16 100 (dk_at dksX11_make_0 19 rfl rfl)
theorem dX11_make_21 : decode cX11_make 21 = .ok (.if_icmp .lt 8, 3) := dk_161 0 8 (dk_at dksX11_make_0 21 rfl rfl)
theorem dX11_make_24 : decode cX11_make 24 = .ok (.bipush 67, 2) := dk_16 67 (dk_at dksX11_make_1 0 rfl rfl)
theorem dX11_make_26 : decode cX11_make 26 = .ok (.goto 5, 3) := dk_167 0 5 (dk_at dksX11_make_1 2 rfl rfl)
theorem dX11_make_29 : decode cX11_make 29 = .ok (.bipush 65, 2) := dk_16 65 (dk_at dksX11_make_1 5 rfl rfl)
theorem dX11_make_31 : decode cX11_make 31 = .ok (.i2b, 1) := dk_145 (dk_at dksX11_make_1 7 rfl rfl)
theorem dX11_make_32 : decode cX11_make 32 = .ok (.bastore, 1) := dk_84 (dk_at dksX11_make_1 8 rfl rfl)
theorem dX11_make_33 : decode cX11_make 33 = .ok (.iload 6, 2) := dk_21 6 (dk_at dksX11_make_1 9 rfl rfl)
theorem dX11_make_35 : decode cX11_make 35 = .ok (.bipush 9, 2) := dk_16 9 (dk_at dksX11_make_1 11 rfl rfl)
theorem dX11_make_37 : decode cX11_make 37 = .ok (.if_icmp .le 22, 3) := dk_164 0 22 (dk_at dksX11_make_1 13 rfl rfl)
theorem dX11_make_40 : decode cX11_make 40 = .ok (.aload_n 0, 1) := dk_42 (dk_at dksX11_make_1 16 rfl rfl)
theorem dX11_make_41 : decode cX11_make 41 = .ok (.getfield 9, 3) := dk_180 0 9 (dk_at dksX11_make_1 17 rfl rfl)
theorem dX11_make_44 : decode cX11_make 44 = .ok (.iload 7, 2) := dk_21 7 (dk_at dksX11_make_1 20 rfl rfl)
theorem dX11_make_46 : decode cX11_make 46 = .ok (.iinc 7 1, 3) := dk_132 7 1 (dk_at dksX11_make_2 0 rfl rfl)
theorem dX11_make_49 : decode cX11_make 49 = .ok (.bipush 48, 2) := dk_16 48 (dk_at dksX11_make_2 3 rfl rfl)
theorem dX11_make_51 : decode cX11_make 51 = .ok (.iload 6, 2) := dk_21 6 (dk_at dksX11_make_2 5 rfl rfl)
theorem dX11_make_53 : decode cX11_make 53 = .ok (.bipush 10, 2) := dk_16 10 (dk_at dksX11_make_2 7 rfl rfl)
theorem dX11_make_55 : decode cX11_make 55 = .ok (.idiv, 1) := dk_108 (dk_at dksX11_make_2 9 rfl rfl)
theorem dX11_make_56 : decode cX11_make 56 = .ok (.iadd, 1) := dk_96 (dk_at dksX11_make_2 10 rfl rfl)
theorem dX11_make_57 : decode cX11_make 57 = .ok (.i2b, 1) := dk_145 (dk_at dksX11_make_2 11 rfl rfl)
theorem dX11_make_58 : decode cX11_make 58 = .ok (.bastore, 1) := dk_84 (dk_at dksX11_make_2 12 rfl rfl)
theorem dX11_make_59 : decode cX11_make 59 = .ok (.aload_n 0, 1) := dk_42 (dk_at dksX11_make_2 13 rfl rfl)
theorem dX11_make_60 : decode cX11_make 60 = .ok (.getfield 9, 3) := dk_180 0 9 (dk_at dksX11_make_2 14 rfl rfl)
theorem dX11_make_63 : decode cX11_make 63 = .ok (.iload 7, 2) := dk_21 7 (dk_at dksX11_make_2 17 rfl rfl)
theorem dX11_make_65 : decode cX11_make 65 = .ok (.iinc 7 1, 3) := dk_132 7 1 (dk_at dksX11_make_2 19 rfl rfl)
theorem dX11_make_68 : decode cX11_make 68 = .ok (.bipush 48, 2) := dk_16 48 (dk_at dksX11_make_2 22 rfl rfl)
theorem dX11_make_70 : decode cX11_make 70 = .ok (.iload 6, 2) := dk_21 6 (dk_at dksX11_make_3 0 rfl rfl)
theorem dX11_make_72 : decode cX11_make 72 = .ok (.bipush 10, 2) := dk_16 10 (dk_at dksX11_make_3 2 rfl rfl)
theorem dX11_make_74 : decode cX11_make 74 = .ok (.irem, 1) := dk_112 (dk_at dksX11_make_3 4 rfl rfl)
theorem dX11_make_75 : decode cX11_make 75 = .ok (.iadd, 1) := dk_96 (dk_at dksX11_make_3 5 rfl rfl)
theorem dX11_make_76 : decode cX11_make 76 = .ok (.i2b, 1) := dk_145 (dk_at dksX11_make_3 6 rfl rfl)
theorem dX11_make_77 : decode cX11_make 77 = .ok (.bastore, 1) := dk_84 (dk_at dksX11_make_3 7 rfl rfl)
theorem dX11_make_78 : decode cX11_make 78 = .ok (.iload 5, 2) := dk_21 5 (dk_at dksX11_make_3 8 rfl rfl)
theorem dX11_make_80 : decode cX11_make 80 = .ok (.ifCond .le 36, 3) := dk_158 0 36 (dk_at dksX11_make_3 10 rfl rfl)
theorem dX11_make_83 : decode cX11_make 83 = .ok (.aload_n 0, 1) := dk_42 (dk_at dksX11_make_3 13 rfl rfl)
theorem dX11_make_84 : decode cX11_make 84 = .ok (.getfield 9, 3) := dk_180 0 9 (dk_at dksX11_make_3 14 rfl rfl)
theorem dX11_make_87 : decode cX11_make 87 = .ok (.iload 7, 2) := dk_21 7 (dk_at dksX11_make_3 17 rfl rfl)
theorem dX11_make_89 : decode cX11_make 89 = .ok (.iinc 7 1, 3) := dk_132 7 1 (dk_at dksX11_make_3 19 rfl rfl)
theorem dX11_make_92 : decode cX11_make 92 = .ok (.bipush 37, 2) := dk_16 37 (dk_at dksX11_make_3 22 rfl rfl)
theorem dX11_make_94 : decode cX11_make 94 = .ok (.bastore, 1) := dk_84 (dk_at dksX11_make_4 0 rfl rfl)
theorem dX11_make_95 : decode cX11_make 95 = .ok (.aload_n 3, 1) := dk_45 (dk_at dksX11_make_4 1 rfl rfl)
theorem dX11_make_96 : decode cX11_make 96 = .ok (.iload 4, 2) := dk_21 4 (dk_at dksX11_make_4 2 rfl rfl)
theorem dX11_make_98 : decode cX11_make 98 = .ok (.aload_n 0, 1) := dk_42 (dk_at dksX11_make_4 4 rfl rfl)
theorem dX11_make_99 : decode cX11_make 99 = .ok (.getfield 9, 3) := dk_180 0 9 (dk_at dksX11_make_4 5 rfl rfl)
theorem dX11_make_102 : decode cX11_make 102 = .ok (.iload 7, 2) := dk_21 7 (dk_at dksX11_make_4 8 rfl rfl)
theorem dX11_make_104 : decode cX11_make 104 = .ok (.iload 5, 2) := dk_21 5 (dk_at dksX11_make_4 10 rfl rfl)
theorem dX11_make_106 : decode cX11_make 106 = .ok (.invokestatic 46, 3) := dk_184 0 46 (dk_at dksX11_make_4 12 rfl rfl)
theorem dX11_make_109 : decode cX11_make 109 = .ok (.iload 7, 2) := dk_21 7 (dk_at dksX11_make_4 15 rfl rfl)
theorem dX11_make_111 : decode cX11_make 111 = .ok (.iload 5, 2) := dk_21 5 (dk_at dksX11_make_4 17 rfl rfl)
theorem dX11_make_113 : decode cX11_make 113 = .ok (.iadd, 1) := dk_96 (dk_at dksX11_make_4 19 rfl rfl)
theorem dX11_make_114 : decode cX11_make 114 = .ok (.istore 7, 2) := dk_54 7 (dk_at dksX11_make_4 20 rfl rfl)
theorem dX11_make_116 : decode cX11_make 116 = .ok (.aload_n 1, 1) := dk_43 (dk_at dksX11_make_4 22 rfl rfl)
theorem dX11_make_117 : decode cX11_make 117 = .ok (.aload_n 0, 1) := dk_42 (dk_at dksX11_make_4 23 rfl rfl)
theorem dX11_make_118 : decode cX11_make 118 = .ok (.getfield 9, 3) := dk_180 0 9 (dk_at dksX11_make_5 0 rfl rfl)
theorem dX11_make_121 : decode cX11_make 121 = .ok (.iconst 0, 1) := dk_3 (dk_at dksX11_make_5 3 rfl rfl)
theorem dX11_make_122 : decode cX11_make 122 = .ok (.iload 7, 2) := dk_21 7 (dk_at dksX11_make_5 4 rfl rfl)
theorem dX11_make_124 : decode cX11_make 124 = .ok (.invokevirtual 52, 3) := dk_182 0 52 (dk_at dksX11_make_5 6 rfl rfl)
theorem dX11_make_127 : decode cX11_make 127 = .ok (.ireturn, 1) := dk_172 (dk_at dksX11_make_5 9 rfl rfl)
abbrev cX11_text : ByteArray := prog_2_method_5_code
def yX11_text : MethodName := ⟨RX11, "text", "()[B"⟩
theorem dX11_text_0 : decode cX11_text 0 = .ok (.aload_n 0, 1) := by decide +kernel
theorem dX11_text_1 : decode cX11_text 1 = .ok (.getfield 9, 3) := by decide +kernel
theorem dX11_text_4 : decode cX11_text 4 = .ok (.areturn, 1) := by decide +kernel
theorem q378 : (Jvm.Cond.initialized "ContractLedger$Addresses") ∈ lw_all := lw_g (lw_at lw_m1 21 rfl) rfl
theorem q865 : (Jvm.Cond.instantiable "ContractLedger$Addresses" (2 : Nat)) ∈ lw_all := lw_g (lw_at lw_m3 28 rfl) rfl
theorem q867 : (Jvm.Cond.instanceMethod ({ cls := "ContractLedger$Addresses", name := "<init>", desc := "()V" } : Jvm.MethodName)) ∈ lw_all := lw_g (lw_at lw_m3 30 rfl) rfl
theorem q868 : (Jvm.Cond.code ({ cls := "ContractLedger$Addresses", name := "<init>", desc := "()V" } : Jvm.MethodName) prog_2_method_1_code (1 : Nat) (Option.none : Option Jvm.ClassFile.FieldType)) ∈ lw_all := lw_g (lw_at lw_m3 31 rfl) rfl
theorem q869 : (Jvm.Cond.methodLink "ContractLedger$Addresses" (3 : Nat) ({ cls := "java/lang/Object", name := "<init>", desc := "()V" } : Jvm.MethodName)) ∈ lw_all := lw_g (lw_at lw_m3 32 rfl) rfl
theorem q870 : (Jvm.Cond.fieldLink "ContractLedger$Addresses" (15 : Nat) "ContractLedger$Addresses" "mark" "I") ∈ lw_all := lw_g (lw_at lw_m3 33 rfl) rfl
theorem q873 : (Jvm.Cond.fieldLink "ContractLedger$Addresses" (9 : Nat) "ContractLedger$Addresses" "text" "[B") ∈ lw_all := lw_g (lw_at lw_m3 36 rfl) rfl
theorem q874 : (Jvm.Cond.lays "ContractLedger$Addresses" "ContractLedger$Addresses" "mark" "I") ∈ lw_all := lw_g (lw_at lw_m3 37 rfl) rfl
theorem q875 : (Jvm.Cond.soleField "ContractLedger$Addresses" "mark") ∈ lw_all := lw_g (lw_at lw_m3 38 rfl) rfl
theorem q876 : (Jvm.Cond.laysFinal "ContractLedger$Addresses" "ContractLedger$Addresses" "text" "[B") ∈ lw_all := lw_g (lw_at lw_m3 39 rfl) rfl
theorem q877 : (Jvm.Cond.soleField "ContractLedger$Addresses" "text") ∈ lw_all := lw_g (lw_at lw_m3 40 rfl) rfl
theorem q878 : (Jvm.Cond.superclass "ContractLedger$Addresses" "java/lang/Object") ∈ lw_all := lw_g (lw_at lw_m3 41 rfl) rfl
theorem q1989 : (Jvm.Cond.instanceMethod ({ cls := "ContractLedger$Addresses", name := "read", desc := "([BII)I" } : Jvm.MethodName)) ∈ lw_all := lw_g (lw_at lw_m7 192 rfl) rfl
theorem q1990 : (Jvm.Cond.selects "ContractLedger$Addresses" ({ cls := "ContractLedger$Addresses", name := "read", desc := "([BII)I" } : Jvm.MethodName) ({ cls := "ContractLedger$Addresses", name := "read", desc := "([BII)I" } : Jvm.MethodName)) ∈ lw_all := lw_g (lw_at lw_m7 193 rfl) rfl
theorem q1991 : (Jvm.Cond.code ({ cls := "ContractLedger$Addresses", name := "read", desc := "([BII)I" } : Jvm.MethodName) prog_2_method_2_code (7 : Nat) (Option.some Jvm.ClassFile.FieldType.int)) ∈ lw_all := lw_g (lw_at lw_m7 194 rfl) rfl
theorem q1992 : (Jvm.Cond.methodLink "ContractLedger$Addresses" (19 : Nat) ({ cls := "ContractLedger$Signs", name := "isDigit", desc := "(I)Z" } : Jvm.MethodName)) ∈ lw_all := lw_g (lw_at lw_m7 195 rfl) rfl
theorem q1993 : (Jvm.Cond.methodLink "ContractLedger$Addresses" (25 : Nat) ({ cls := "ContractLedger$Addresses", name := "isMark", desc := "([BII)Z" } : Jvm.MethodName)) ∈ lw_all := lw_g (lw_at lw_m7 196 rfl) rfl
theorem q1994 : (Jvm.Cond.static ({ cls := "ContractLedger$Addresses", name := "isMark", desc := "([BII)Z" } : Jvm.MethodName)) ∈ lw_all := lw_g (lw_at lw_m7 197 rfl) rfl
theorem q1995 : (Jvm.Cond.code ({ cls := "ContractLedger$Addresses", name := "isMark", desc := "([BII)Z" } : Jvm.MethodName) prog_2_method_3_code (4 : Nat) (Option.some Jvm.ClassFile.FieldType.boolean)) ∈ lw_all := lw_g (lw_at lw_m7 198 rfl) rfl
theorem q1996 : (Jvm.Cond.methodLink "ContractLedger$Addresses" (29 : Nat) ({ cls := "ContractLedger$Signs", name := "isPart", desc := "(I)Z" } : Jvm.MethodName)) ∈ lw_all := lw_g (lw_at lw_m7 199 rfl) rfl
theorem q2891 : (Jvm.Cond.instanceMethod ({ cls := "ContractLedger$Addresses", name := "read", desc := "(LContractLedger$Memory;I)I" } : Jvm.MethodName)) ∈ lw_all := lw_g (lw_at lw_m11 134 rfl) rfl
theorem q2892 : (Jvm.Cond.selects "ContractLedger$Addresses" ({ cls := "ContractLedger$Addresses", name := "read", desc := "(LContractLedger$Memory;I)I" } : Jvm.MethodName) ({ cls := "ContractLedger$Addresses", name := "read", desc := "(LContractLedger$Memory;I)I" } : Jvm.MethodName)) ∈ lw_all := lw_g (lw_at lw_m11 135 rfl) rfl
theorem q2893 : (Jvm.Cond.code ({ cls := "ContractLedger$Addresses", name := "read", desc := "(LContractLedger$Memory;I)I" } : Jvm.MethodName) prog_2_method_4_code (5 : Nat) (Option.some Jvm.ClassFile.FieldType.int)) ∈ lw_all := lw_g (lw_at lw_m11 136 rfl) rfl
theorem q2894 : (Jvm.Cond.methodLink "ContractLedger$Addresses" (32 : Nat) ({ cls := "ContractLedger$Memory", name := "count", desc := "(I)I" } : Jvm.MethodName)) ∈ lw_all := lw_g (lw_at lw_m11 137 rfl) rfl
theorem q2895 : (Jvm.Cond.methodLink "ContractLedger$Addresses" (38 : Nat) ({ cls := "ContractLedger$Memory", name := "byteAt", desc := "(II)I" } : Jvm.MethodName)) ∈ lw_all := lw_g (lw_at lw_m11 138 rfl) rfl
theorem q2896 : (Jvm.Cond.methodLink "ContractLedger$Addresses" (42 : Nat) ({ cls := "ContractLedger$Addresses", name := "read", desc := "([BII)I" } : Jvm.MethodName)) ∈ lw_all := lw_g (lw_at lw_m11 139 rfl) rfl
theorem q2978 : (Jvm.Cond.instanceMethod ({ cls := "ContractLedger$Addresses", name := "make", desc := "(LContractLedger$Memory;I[BII)I" } : Jvm.MethodName)) ∈ lw_all := lw_g (lw_at lw_m11 221 rfl) rfl
theorem q2979 : (Jvm.Cond.selects "ContractLedger$Addresses" ({ cls := "ContractLedger$Addresses", name := "make", desc := "(LContractLedger$Memory;I[BII)I" } : Jvm.MethodName) ({ cls := "ContractLedger$Addresses", name := "make", desc := "(LContractLedger$Memory;I[BII)I" } : Jvm.MethodName)) ∈ lw_all := lw_g (lw_at lw_m11 222 rfl) rfl
theorem q2980 : (Jvm.Cond.code ({ cls := "ContractLedger$Addresses", name := "make", desc := "(LContractLedger$Memory;I[BII)I" } : Jvm.MethodName) prog_2_method_6_code (8 : Nat) (Option.some Jvm.ClassFile.FieldType.int)) ∈ lw_all := lw_g (lw_at lw_m11 223 rfl) rfl
theorem q2981 : (Jvm.Cond.methodLink "ContractLedger$Addresses" (46 : Nat) ({ cls := "java/lang/System", name := "arraycopy", desc := "(Ljava/lang/Object;ILjava/lang/Object;II)V" } : Jvm.MethodName)) ∈ lw_all := lw_g (lw_at lw_m11 224 rfl) rfl
theorem q2982 : (Jvm.Cond.methodLink "ContractLedger$Addresses" (52 : Nat) ({ cls := "ContractLedger$Memory", name := "ofBytes", desc := "([BII)I" } : Jvm.MethodName)) ∈ lw_all := lw_g (lw_at lw_m11 225 rfl) rfl
theorem q2993 : (Jvm.Cond.instanceMethod ({ cls := "ContractLedger$Addresses", name := "text", desc := "()[B" } : Jvm.MethodName)) ∈ lw_all := lw_g (lw_at lw_m11 236 rfl) rfl
theorem q2994 : (Jvm.Cond.selects "ContractLedger$Addresses" ({ cls := "ContractLedger$Addresses", name := "text", desc := "()[B" } : Jvm.MethodName) ({ cls := "ContractLedger$Addresses", name := "text", desc := "()[B" } : Jvm.MethodName)) ∈ lw_all := lw_g (lw_at lw_m11 237 rfl) rfl
theorem q2995 : (Jvm.Cond.code ({ cls := "ContractLedger$Addresses", name := "text", desc := "()[B" } : Jvm.MethodName) prog_2_method_5_code (1 : Nat) (Option.some (Jvm.ClassFile.FieldType.array Jvm.ClassFile.FieldType.byte))) ∈ lw_all := lw_g (lw_at lw_m11 238 rfl) rfl
set_option maxRecDepth 100000
abbrev cX12_init : ByteArray := prog_4_method_1_code
def yX12_init : MethodName := ⟨RX12, "<init>", "(LContractLedger$Terms;LContractLedger$Types;LContractLedger$Memory;LContractLedger$Order;LContractLedger$Trees;LContractLedger$Addresses;)V"⟩
def dkwX12_init_2 : List UInt8 := [181, 0, 36, 42, 25, 4, 181, 0, 40, 42, 25, 5, 181, 0, 44, 42, 25, 6, 181, 0, 48, 177]
abbrev dktX12_init_2 : List UInt8 := dkwX12_init_2 ++ []
def dkwX12_init_1 : List UInt8 := [181, 0, 20, 42, 17, 32, 208, 188, 10, 181, 0, 24, 42, 43, 181, 0, 28, 42, 44, 181, 0, 32, 42, 45]
abbrev dktX12_init_1 : List UInt8 := dkwX12_init_1 ++ dktX12_init_2
def dkwX12_init_0 : List UInt8 := [42, 183, 0, 3, 42, 187, 0, 9, 89, 17, 0, 200, 183, 0, 11, 181, 0, 14, 42, 17, 32, 8, 188, 8]
abbrev dktX12_init_0 : List UInt8 := dkwX12_init_0 ++ dktX12_init_1
theorem dksX12_init_0 : cX12_init.data.toList.drop 0 = dktX12_init_0 := by decide +kernel
theorem dksX12_init_1 : cX12_init.data.toList.drop 24 = dktX12_init_1 := dk_seg dksX12_init_0 24 rfl rfl
theorem dksX12_init_2 : cX12_init.data.toList.drop 48 = dktX12_init_2 := dk_seg dksX12_init_1 24 rfl rfl
theorem dX12_init_0 : decode cX12_init 0 = .ok (.aload_n 0, 1) := dk_42 (dk_at dksX12_init_0 0 rfl rfl)
theorem dX12_init_1 : decode cX12_init 1 = .ok (.invokespecial 3, 3) := dk_183 0 3 (dk_at dksX12_init_0 1 rfl rfl)
theorem dX12_init_4 : decode cX12_init 4 = .ok (.aload_n 0, 1) := dk_42 (dk_at dksX12_init_0 4 rfl rfl)
theorem dX12_init_5 : decode cX12_init 5 = .ok (.new 9, 3) := dk_187 0 9 (dk_at dksX12_init_0 5 rfl rfl)
theorem dX12_init_8 : decode cX12_init 8 = .ok (.dup, 1) := dk_89 (dk_at dksX12_init_0 8 rfl rfl)
theorem dX12_init_9 : decode cX12_init 9 = .ok (.sipush 200, 3) := dk_17 0 200 (dk_at dksX12_init_0 9 rfl rfl)
theorem dX12_init_12 : decode cX12_init 12 = .ok (.invokespecial 11, 3) := dk_183 0 11 (dk_at dksX12_init_0 12 rfl rfl)
theorem dX12_init_15 : decode cX12_init 15 = .ok (.putfield 14, 3) := dk_181 0 14 (dk_at dksX12_init_0 15 rfl rfl)
theorem dX12_init_18 : decode cX12_init 18 = .ok (.aload_n 0, 1) := dk_42 (dk_at dksX12_init_0 18 rfl rfl)
theorem dX12_init_19 : decode cX12_init 19 = .ok (.sipush 8200, 3) := dk_17 32 8 (dk_at dksX12_init_0 19 rfl rfl)
theorem dX12_init_22 : decode cX12_init 22 = .ok (.newarray .byte, 2) := dk_188_8 (dk_at dksX12_init_0 22 rfl rfl)
theorem dX12_init_24 : decode cX12_init 24 = .ok (.putfield 20, 3) := dk_181 0 20 (dk_at dksX12_init_1 0 rfl rfl)
theorem dX12_init_27 : decode cX12_init 27 = .ok (.aload_n 0, 1) := dk_42 (dk_at dksX12_init_1 3 rfl rfl)
theorem dX12_init_28 : decode cX12_init 28 = .ok (.sipush 8400, 3) := dk_17 32 208 (dk_at dksX12_init_1 4 rfl rfl)
theorem dX12_init_31 : decode cX12_init 31 = .ok (.newarray .int, 2) := dk_188_10 (dk_at dksX12_init_1 7 rfl rfl)
theorem dX12_init_33 : decode cX12_init 33 = .ok (.putfield 24, 3) := dk_181 0 24 (dk_at dksX12_init_1 9 rfl rfl)
theorem dX12_init_36 : decode cX12_init 36 = .ok (.aload_n 0, 1) := dk_42 (dk_at dksX12_init_1 12 rfl rfl)
theorem dX12_init_37 : decode cX12_init 37 = .ok (.aload_n 1, 1) := dk_43 (dk_at dksX12_init_1 13 rfl rfl)
theorem dX12_init_38 : decode cX12_init 38 = .ok (.putfield 28, 3) := dk_181 0 28 (dk_at dksX12_init_1 14 rfl rfl)
theorem dX12_init_41 : decode cX12_init 41 = .ok (.aload_n 0, 1) := dk_42 (dk_at dksX12_init_1 17 rfl rfl)
theorem dX12_init_42 : decode cX12_init 42 = .ok (.aload_n 2, 1) := dk_44 (dk_at dksX12_init_1 18 rfl rfl)
theorem dX12_init_43 : decode cX12_init 43 = .ok (.putfield 32, 3) := dk_181 0 32 (dk_at dksX12_init_1 19 rfl rfl)
theorem dX12_init_46 : decode cX12_init 46 = .ok (.aload_n 0, 1) := dk_42 (dk_at dksX12_init_1 22 rfl rfl)
theorem dX12_init_47 : decode cX12_init 47 = .ok (.aload_n 3, 1) := dk_45 (dk_at dksX12_init_1 23 rfl rfl)
theorem dX12_init_48 : decode cX12_init 48 = .ok (.putfield 36, 3) := dk_181 0 36 (dk_at dksX12_init_2 0 rfl rfl)
theorem dX12_init_51 : decode cX12_init 51 = .ok (.aload_n 0, 1) := dk_42 (dk_at dksX12_init_2 3 rfl rfl)
theorem dX12_init_52 : decode cX12_init 52 = .ok (.aload 4, 2) := dk_25 4 (dk_at dksX12_init_2 4 rfl rfl)
theorem dX12_init_54 : decode cX12_init 54 = .ok (.putfield 40, 3) := dk_181 0 40 (dk_at dksX12_init_2 6 rfl rfl)
theorem dX12_init_57 : decode cX12_init 57 = .ok (.aload_n 0, 1) := dk_42 (dk_at dksX12_init_2 9 rfl rfl)
theorem dX12_init_58 : decode cX12_init 58 = .ok (.aload 5, 2) := dk_25 5 (dk_at dksX12_init_2 10 rfl rfl)
theorem dX12_init_60 : decode cX12_init 60 = .ok (.putfield 44, 3) := dk_181 0 44 (dk_at dksX12_init_2 12 rfl rfl)
theorem dX12_init_63 : decode cX12_init 63 = .ok (.aload_n 0, 1) := dk_42 (dk_at dksX12_init_2 15 rfl rfl)
theorem dX12_init_64 : decode cX12_init 64 = .ok (.aload 6, 2) := dk_25 6 (dk_at dksX12_init_2 16 rfl rfl)
theorem dX12_init_66 : decode cX12_init 66 = .ok (.putfield 48, 3) := dk_181 0 48 (dk_at dksX12_init_2 18 rfl rfl)
theorem dX12_init_69 : decode cX12_init 69 = .ok (.return_, 1) := dk_177 (dk_at dksX12_init_2 21 rfl rfl)
abbrev cX12_read : ByteArray := prog_4_method_2_code
def yX12_read : MethodName := ⟨RX12, "read", "(II)I"⟩
def dkwX12_read_16 : List UInt8 := [167, 0, 12, 42, 180, 0, 32, 180, 0, 89, 28, 46, 182, 0, 114, 167, 0, 4, 3, 172, 3, 172]
abbrev dktX12_read_16 : List UInt8 := dkwX12_read_16 ++ []
def dkwX12_read_15 : List UInt8 := [180, 0, 32, 180, 0, 82, 28, 46, 42, 180, 0, 32, 180, 0, 57, 28, 51, 16, 12, 160, 0, 7, 2]
abbrev dktX12_read_15 : List UInt8 := dkwX12_read_15 ++ dktX12_read_16
def dkwX12_read_14 : List UInt8 := [182, 0, 111, 167, 0, 4, 3, 172, 42, 180, 0, 28, 27, 182, 0, 107, 153, 0, 47, 42, 27, 42]
abbrev dktX12_read_14 : List UInt8 := dkwX12_read_14 ++ dktX12_read_15
def dkwX12_read_13 : List UInt8 := [172, 42, 180, 0, 28, 27, 182, 0, 107, 153, 0, 20, 42, 27, 42, 180, 0, 32, 180, 0, 82, 28, 46]
abbrev dktX12_read_13 : List UInt8 := dkwX12_read_13 ++ dktX12_read_14
def dkwX12_read_12 : List UInt8 := [27, 46, 4, 164, 0, 20, 42, 42, 180, 0, 28, 180, 0, 101, 27, 46, 28, 182, 0, 104, 167, 0, 4, 3]
abbrev dktX12_read_12 : List UInt8 := dkwX12_read_12 ++ dktX12_read_13
def dkwX12_read_11 : List UInt8 := [160, 0, 47, 42, 180, 0, 28, 180, 0, 95, 27, 51, 16, 26, 160, 0, 33, 42, 180, 0, 28, 180, 0, 98]
abbrev dktX12_read_11 : List UInt8 := dkwX12_read_11 ++ dktX12_read_12
def dkwX12_read_10 : List UInt8 := [180, 0, 32, 180, 0, 89, 28, 46, 182, 0, 85, 172, 42, 180, 0, 28, 180, 0, 92, 27, 51, 16, 8]
abbrev dktX12_read_10 : List UInt8 := dkwX12_read_10 ++ dktX12_read_11
def dkwX12_read_9 : List UInt8 := [8, 42, 180, 0, 32, 180, 0, 82, 28, 46, 182, 0, 85, 167, 0, 21, 42, 27, 16, 25, 16, 6, 42]
abbrev dktX12_read_9 : List UInt8 := dkwX12_read_9 ++ dktX12_read_10
def dkwX12_read_8 : List UInt8 := [182, 0, 85, 172, 42, 180, 0, 28, 27, 16, 24, 4, 182, 0, 64, 62, 29, 153, 0, 23, 42, 27, 16, 24]
abbrev dktX12_read_8 : List UInt8 := dkwX12_read_8 ++ dktX12_read_9
def dkwX12_read_7 : List UInt8 := [153, 0, 8, 16, 8, 167, 0, 20, 42, 27, 16, 23, 7, 42, 180, 0, 32, 180, 0, 82, 28, 46]
abbrev dktX12_read_7 : List UInt8 := dkwX12_read_7 ++ dktX12_read_8
def dkwX12_read_6 : List UInt8 := [3, 182, 0, 74, 172, 42, 27, 182, 0, 78, 172, 42, 180, 0, 28, 27, 16, 22, 3, 182, 0, 64]
abbrev dktX12_read_6 : List UInt8 := dkwX12_read_6 ++ dktX12_read_7
def dkwX12_read_5 : List UInt8 := [182, 0, 70, 172, 42, 27, 42, 180, 0, 32, 180, 0, 57, 28, 51, 16, 7, 160, 0, 7, 4, 167, 0, 4]
abbrev dktX12_read_5 : List UInt8 := dkwX12_read_5 ++ dktX12_read_6
def dkwX12_read_4 : List UInt8 := [182, 0, 64, 153, 0, 7, 7, 167, 0, 4, 3, 172, 42, 27, 42, 180, 0, 32, 180, 0, 57, 28, 51]
abbrev dktX12_read_4 : List UInt8 := dkwX12_read_4 ++ dktX12_read_5
def dkwX12_read_3 : List UInt8 := [27, 16, 20, 3, 182, 0, 64, 153, 0, 8, 16, 6, 167, 0, 22, 42, 180, 0, 28, 27, 16, 21, 3]
abbrev dktX12_read_3 : List UInt8 := dkwX12_read_3 ++ dktX12_read_4
def dkwX12_read_2 : List UInt8 := [42, 180, 0, 28, 27, 16, 19, 3, 182, 0, 64, 153, 0, 7, 5, 167, 0, 4, 3, 172, 42, 180, 0, 28]
abbrev dktX12_read_2 : List UInt8 := dkwX12_read_2 ++ dktX12_read_3
def dkwX12_read_1 : List UInt8 := [170, 0, 0, 1, 177, 0, 0, 0, 0, 0, 0, 0, 18, 0, 0, 0, 89, 0, 0, 0, 109, 0, 0, 0, 148, 0, 0, 0, 148, 0, 0, 0, 148, 0, 0, 0, 163, 0, 0, 0, 188, 0, 0, 0, 163, 0, 0, 0, 148, 0, 0, 1, 177, 0, 0, 0, 194, 0, 0, 1, 90, 0, 0, 1, 120, 0, 0, 1, 177, 0, 0, 0, 231, 0, 0, 1, 120, 0, 0, 1, 120, 0, 0, 1, 177, 0, 0, 1, 30]
abbrev dktX12_read_1 : List UInt8 := dkwX12_read_1 ++ dktX12_read_2
def dkwX12_read_0 : List UInt8 := [42, 180, 0, 28, 180, 0, 52, 27, 46, 153, 0, 5, 3, 172, 42, 180, 0, 32, 180, 0, 57, 28, 51]
abbrev dktX12_read_0 : List UInt8 := dkwX12_read_0 ++ dktX12_read_1
theorem dksX12_read_0 : cX12_read.data.toList.drop 0 = dktX12_read_0 := by decide +kernel
theorem dksX12_read_1 : cX12_read.data.toList.drop 23 = dktX12_read_1 := dk_seg dksX12_read_0 23 rfl rfl
theorem dksX12_read_2 : cX12_read.data.toList.drop 112 = dktX12_read_2 := dk_seg dksX12_read_1 89 rfl rfl
theorem dksX12_read_3 : cX12_read.data.toList.drop 136 = dktX12_read_3 := dk_seg dksX12_read_2 24 rfl rfl
theorem dksX12_read_4 : cX12_read.data.toList.drop 159 = dktX12_read_4 := dk_seg dksX12_read_3 23 rfl rfl
theorem dksX12_read_5 : cX12_read.data.toList.drop 182 = dktX12_read_5 := dk_seg dksX12_read_4 23 rfl rfl
theorem dksX12_read_6 : cX12_read.data.toList.drop 206 = dktX12_read_6 := dk_seg dksX12_read_5 24 rfl rfl
theorem dksX12_read_7 : cX12_read.data.toList.drop 228 = dktX12_read_7 := dk_seg dksX12_read_6 22 rfl rfl
theorem dksX12_read_8 : cX12_read.data.toList.drop 250 = dktX12_read_8 := dk_seg dksX12_read_7 22 rfl rfl
theorem dksX12_read_9 : cX12_read.data.toList.drop 274 = dktX12_read_9 := dk_seg dksX12_read_8 24 rfl rfl
theorem dksX12_read_10 : cX12_read.data.toList.drop 297 = dktX12_read_10 := dk_seg dksX12_read_9 23 rfl rfl
theorem dksX12_read_11 : cX12_read.data.toList.drop 320 = dktX12_read_11 := dk_seg dksX12_read_10 23 rfl rfl
theorem dksX12_read_12 : cX12_read.data.toList.drop 344 = dktX12_read_12 := dk_seg dksX12_read_11 24 rfl rfl
theorem dksX12_read_13 : cX12_read.data.toList.drop 368 = dktX12_read_13 := dk_seg dksX12_read_12 24 rfl rfl
theorem dksX12_read_14 : cX12_read.data.toList.drop 391 = dktX12_read_14 := dk_seg dksX12_read_13 23 rfl rfl
theorem dksX12_read_15 : cX12_read.data.toList.drop 413 = dktX12_read_15 := dk_seg dksX12_read_14 22 rfl rfl
theorem dksX12_read_16 : cX12_read.data.toList.drop 436 = dktX12_read_16 := dk_seg dksX12_read_15 23 rfl rfl
theorem dX12_read_0 : decode cX12_read 0 = .ok (.aload_n 0, 1) := dk_42 (dk_at dksX12_read_0 0 rfl rfl)
theorem dX12_read_1 : decode cX12_read 1 = .ok (.getfield 28, 3) := dk_180 0 28 (dk_at dksX12_read_0 1 rfl rfl)
theorem dX12_read_4 : decode cX12_read 4 = .ok (.getfield 52, 3) := dk_180 0 52 (dk_at dksX12_read_0 4 rfl rfl)
theorem dX12_read_7 : decode cX12_read 7 = .ok (.iload_n 1, 1) := dk_27 (dk_at dksX12_read_0 7 rfl rfl)
theorem dX12_read_8 : decode cX12_read 8 = .ok (.iaload, 1) := dk_46 (dk_at dksX12_read_0 8 rfl rfl)
theorem dX12_read_9 : decode cX12_read 9 = .ok (.ifCond .eq 5, 3) := dk_153 0 5 (dk_at dksX12_read_0 9 rfl rfl)
theorem dX12_read_12 : decode cX12_read 12 = .ok (.iconst 0, 1) := dk_3 (dk_at dksX12_read_0 12 rfl rfl)
theorem dX12_read_13 : decode cX12_read 13 = .ok (.ireturn, 1) := dk_172 (dk_at dksX12_read_0 13 rfl rfl)
theorem dX12_read_14 : decode cX12_read 14 = .ok (.aload_n 0, 1) := dk_42 (dk_at dksX12_read_0 14 rfl rfl)
theorem dX12_read_15 : decode cX12_read 15 = .ok (.getfield 32, 3) := dk_180 0 32 (dk_at dksX12_read_0 15 rfl rfl)
theorem dX12_read_18 : decode cX12_read 18 = .ok (.getfield 57, 3) := dk_180 0 57 (dk_at dksX12_read_0 18 rfl rfl)
theorem dX12_read_21 : decode cX12_read 21 = .ok (.iload_n 2, 1) := dk_28 (dk_at dksX12_read_0 21 rfl rfl)
theorem dX12_read_22 : decode cX12_read 22 = .ok (.baload, 1) := dk_51 (dk_at dksX12_read_0 22 rfl rfl)
theorem dX12_read_23 : decode cX12_read 23 = .ok (.tableswitch 433 0 18 #[89, 109, 148, 148, 148, 163, 188, 163, 148, 433, 194, 346, 376, 433, 231, 376, 376, 433, 286], 89) := by decide +kernel
theorem dX12_read_112 : decode cX12_read 112 = .ok (.aload_n 0, 1) := dk_42 (dk_at dksX12_read_2 0 rfl rfl)
theorem dX12_read_113 : decode cX12_read 113 = .ok (.getfield 28, 3) := dk_180 0 28 (dk_at dksX12_read_2 1 rfl rfl)
theorem dX12_read_116 : decode cX12_read 116 = .ok (.iload_n 1, 1) := dk_27 (dk_at dksX12_read_2 4 rfl rfl)
theorem dX12_read_117 : decode cX12_read 117 = .ok (.bipush 19, 2) := dk_16 19 (dk_at dksX12_read_2 5 rfl rfl)
theorem dX12_read_119 : decode cX12_read 119 = .ok (.iconst 0, 1) := dk_3 (dk_at dksX12_read_2 7 rfl rfl)
theorem dX12_read_120 : decode cX12_read 120 = .ok (.invokevirtual 64, 3) := dk_182 0 64 (dk_at dksX12_read_2 8 rfl rfl)
theorem dX12_read_123 : decode cX12_read 123 = .ok (.ifCond .eq 7, 3) := dk_153 0 7 (dk_at dksX12_read_2 11 rfl rfl)
theorem dX12_read_126 : decode cX12_read 126 = .ok (.iconst 2, 1) := dk_5 (dk_at dksX12_read_2 14 rfl rfl)
theorem dX12_read_127 : decode cX12_read 127 = .ok (.goto 4, 3) := dk_167 0 4 (dk_at dksX12_read_2 15 rfl rfl)
theorem dX12_read_130 : decode cX12_read 130 = .ok (.iconst 0, 1) := dk_3 (dk_at dksX12_read_2 18 rfl rfl)
theorem dX12_read_131 : decode cX12_read 131 = .ok (.ireturn, 1) := dk_172 (dk_at dksX12_read_2 19 rfl rfl)
theorem dX12_read_132 : decode cX12_read 132 = .ok (.aload_n 0, 1) := dk_42 (dk_at dksX12_read_2 20 rfl rfl)
theorem dX12_read_133 : decode cX12_read 133 = .ok (.getfield 28, 3) := dk_180 0 28 (dk_at dksX12_read_2 21 rfl rfl)
theorem dX12_read_136 : decode cX12_read 136 = .ok (.iload_n 1, 1) := dk_27 (dk_at dksX12_read_3 0 rfl rfl)
theorem dX12_read_137 : decode cX12_read 137 = .ok (.bipush 20, 2) := dk_16 20 (dk_at dksX12_read_3 1 rfl rfl)
theorem dX12_read_139 : decode cX12_read 139 = .ok (.iconst 0, 1) := dk_3 (dk_at dksX12_read_3 3 rfl rfl)
theorem dX12_read_140 : decode cX12_read 140 = .ok (.invokevirtual 64, 3) := dk_182 0 64 (dk_at dksX12_read_3 4 rfl rfl)
theorem dX12_read_143 : decode cX12_read 143 = .ok (.ifCond .eq 8, 3) := dk_153 0 8 (dk_at dksX12_read_3 7 rfl rfl)
theorem dX12_read_146 : decode cX12_read 146 = .ok (.bipush 6, 2) := dk_16 6 (dk_at dksX12_read_3 10 rfl rfl)
theorem dX12_read_148 : decode cX12_read 148 = .ok (.goto 22, 3) := dk_167 0 22 (dk_at dksX12_read_3 12 rfl rfl)
theorem dX12_read_151 : decode cX12_read 151 = .ok (.aload_n 0, 1) := dk_42 (dk_at dksX12_read_3 15 rfl rfl)
theorem dX12_read_152 : decode cX12_read 152 = .ok (.getfield 28, 3) := dk_180 0 28 (dk_at dksX12_read_3 16 rfl rfl)
theorem dX12_read_155 : decode cX12_read 155 = .ok (.iload_n 1, 1) := dk_27 (dk_at dksX12_read_3 19 rfl rfl)
theorem dX12_read_156 : decode cX12_read 156 = .ok (.bipush 21, 2) := dk_16 21 (dk_at dksX12_read_3 20 rfl rfl)
theorem dX12_read_158 : decode cX12_read 158 = .ok (.iconst 0, 1) := dk_3 (dk_at dksX12_read_3 22 rfl rfl)
theorem dX12_read_159 : decode cX12_read 159 = .ok (.invokevirtual 64, 3) := dk_182 0 64 (dk_at dksX12_read_4 0 rfl rfl)
theorem dX12_read_162 : decode cX12_read 162 = .ok (.ifCond .eq 7, 3) := dk_153 0 7 (dk_at dksX12_read_4 3 rfl rfl)
theorem dX12_read_165 : decode cX12_read 165 = .ok (.iconst 4, 1) := dk_7 (dk_at dksX12_read_4 6 rfl rfl)
theorem dX12_read_166 : decode cX12_read 166 = .ok (.goto 4, 3) := dk_167 0 4 (dk_at dksX12_read_4 7 rfl rfl)
theorem dX12_read_169 : decode cX12_read 169 = .ok (.iconst 0, 1) := dk_3 (dk_at dksX12_read_4 10 rfl rfl)
theorem dX12_read_170 : decode cX12_read 170 = .ok (.ireturn, 1) := dk_172 (dk_at dksX12_read_4 11 rfl rfl)
theorem dX12_read_171 : decode cX12_read 171 = .ok (.aload_n 0, 1) := dk_42 (dk_at dksX12_read_4 12 rfl rfl)
theorem dX12_read_172 : decode cX12_read 172 = .ok (.iload_n 1, 1) := dk_27 (dk_at dksX12_read_4 13 rfl rfl)
theorem dX12_read_173 : decode cX12_read 173 = .ok (.aload_n 0, 1) := dk_42 (dk_at dksX12_read_4 14 rfl rfl)
theorem dX12_read_174 : decode cX12_read 174 = .ok (.getfield 32, 3) := dk_180 0 32 (dk_at dksX12_read_4 15 rfl rfl)
theorem dX12_read_177 : decode cX12_read 177 = .ok (.getfield 57, 3) := dk_180 0 57 (dk_at dksX12_read_4 18 rfl rfl)
theorem dX12_read_180 : decode cX12_read 180 = .ok (.iload_n 2, 1) := dk_28 (dk_at dksX12_read_4 21 rfl rfl)
theorem dX12_read_181 : decode cX12_read 181 = .ok (.baload, 1) := dk_51 (dk_at dksX12_read_4 22 rfl rfl)
theorem dX12_read_182 : decode cX12_read 182 = .ok (.invokevirtual 70, 3) := dk_182 0 70 (dk_at dksX12_read_5 0 rfl rfl)
theorem dX12_read_185 : decode cX12_read 185 = .ok (.ireturn, 1) := dk_172 (dk_at dksX12_read_5 3 rfl rfl)
theorem dX12_read_186 : decode cX12_read 186 = .ok (.aload_n 0, 1) := dk_42 (dk_at dksX12_read_5 4 rfl rfl)
theorem dX12_read_187 : decode cX12_read 187 = .ok (.iload_n 1, 1) := dk_27 (dk_at dksX12_read_5 5 rfl rfl)
theorem dX12_read_188 : decode cX12_read 188 = .ok (.aload_n 0, 1) := dk_42 (dk_at dksX12_read_5 6 rfl rfl)
theorem dX12_read_189 : decode cX12_read 189 = .ok (.getfield 32, 3) := dk_180 0 32 (dk_at dksX12_read_5 7 rfl rfl)
theorem dX12_read_192 : decode cX12_read 192 = .ok (.getfield 57, 3) := dk_180 0 57 (dk_at dksX12_read_5 10 rfl rfl)
theorem dX12_read_195 : decode cX12_read 195 = .ok (.iload_n 2, 1) := dk_28 (dk_at dksX12_read_5 13 rfl rfl)
theorem dX12_read_196 : decode cX12_read 196 = .ok (.baload, 1) := dk_51 (dk_at dksX12_read_5 14 rfl rfl)
theorem dX12_read_197 : decode cX12_read 197 = .ok (.bipush 7, 2) := dk_16 7 (dk_at dksX12_read_5 15 rfl rfl)
theorem dX12_read_199 : decode cX12_read 199 = .ok (.if_icmp .ne 7, 3) := dk_160 0 7 (dk_at dksX12_read_5 17 rfl rfl)
theorem dX12_read_202 : decode cX12_read 202 = .ok (.iconst 1, 1) := dk_4 (dk_at dksX12_read_5 20 rfl rfl)
theorem dX12_read_203 : decode cX12_read 203 = .ok (.goto 4, 3) := dk_167 0 4 (dk_at dksX12_read_5 21 rfl rfl)
theorem dX12_read_206 : decode cX12_read 206 = .ok (.iconst 0, 1) := dk_3 (dk_at dksX12_read_6 0 rfl rfl)
theorem dX12_read_207 : decode cX12_read 207 = .ok (.invokevirtual 74, 3) := dk_182 0 74 (dk_at dksX12_read_6 1 rfl rfl)
theorem dX12_read_210 : decode cX12_read 210 = .ok (.ireturn, 1) := dk_172 (dk_at dksX12_read_6 4 rfl rfl)
theorem dX12_read_211 : decode cX12_read 211 = .ok (.aload_n 0, 1) := dk_42 (dk_at dksX12_read_6 5 rfl rfl)
theorem dX12_read_212 : decode cX12_read 212 = .ok (.iload_n 1, 1) := dk_27 (dk_at dksX12_read_6 6 rfl rfl)
theorem dX12_read_213 : decode cX12_read 213 = .ok (.invokevirtual 78, 3) := dk_182 0 78 (dk_at dksX12_read_6 7 rfl rfl)
theorem dX12_read_216 : decode cX12_read 216 = .ok (.ireturn, 1) := dk_172 (dk_at dksX12_read_6 10 rfl rfl)
theorem dX12_read_217 : decode cX12_read 217 = .ok (.aload_n 0, 1) := dk_42 (dk_at dksX12_read_6 11 rfl rfl)
theorem dX12_read_218 : decode cX12_read 218 = .ok (.getfield 28, 3) := dk_180 0 28 (dk_at dksX12_read_6 12 rfl rfl)
theorem dX12_read_221 : decode cX12_read 221 = .ok (.iload_n 1, 1) := dk_27 (dk_at dksX12_read_6 15 rfl rfl)
theorem dX12_read_222 : decode cX12_read 222 = .ok (.bipush 22, 2) := dk_16 22 (dk_at dksX12_read_6 16 rfl rfl)
theorem dX12_read_224 : decode cX12_read 224 = .ok (.iconst 0, 1) := dk_3 (dk_at dksX12_read_6 18 rfl rfl)
theorem dX12_read_225 : decode cX12_read 225 = .ok (.invokevirtual 64, 3) := dk_182 0 64 (dk_at dksX12_read_6 19 rfl rfl)
theorem dX12_read_228 : decode cX12_read 228 = .ok (.ifCond .eq 8, 3) := dk_153 0 8 (dk_at dksX12_read_7 0 rfl rfl)
theorem dX12_read_231 : decode cX12_read 231 = .ok (.bipush 8, 2) := dk_16 8 (dk_at dksX12_read_7 3 rfl rfl)
theorem dX12_read_233 : decode cX12_read 233 = .ok (.goto 20, 3) := dk_167 0 20 (dk_at dksX12_read_7 5 rfl rfl)
theorem dX12_read_236 : decode cX12_read 236 = .ok (.aload_n 0, 1) := dk_42 (dk_at dksX12_read_7 8 rfl rfl)
theorem dX12_read_237 : decode cX12_read 237 = .ok (.iload_n 1, 1) := dk_27 (dk_at dksX12_read_7 9 rfl rfl)
theorem dX12_read_238 : decode cX12_read 238 = .ok (.bipush 23, 2) := dk_16 23 (dk_at dksX12_read_7 10 rfl rfl)
theorem dX12_read_240 : decode cX12_read 240 = .ok (.iconst 4, 1) := dk_7 (dk_at dksX12_read_7 12 rfl rfl)
theorem dX12_read_241 : decode cX12_read 241 = .ok (.aload_n 0, 1) := dk_42 (dk_at dksX12_read_7 13 rfl rfl)
theorem dX12_read_242 : decode cX12_read 242 = .ok (.getfield 32, 3) := dk_180 0 32 (dk_at dksX12_read_7 14 rfl rfl)
theorem dX12_read_245 : decode cX12_read 245 = .ok (.getfield 82, 3) := dk_180 0 82 (dk_at dksX12_read_7 17 rfl rfl)
theorem dX12_read_248 : decode cX12_read 248 = .ok (.iload_n 2, 1) := dk_28 (dk_at dksX12_read_7 20 rfl rfl)
theorem dX12_read_249 : decode cX12_read 249 = .ok (.iaload, 1) := dk_46 (dk_at dksX12_read_7 21 rfl rfl)
theorem dX12_read_250 : decode cX12_read 250 = .ok (.invokevirtual 85, 3) := dk_182 0 85 (dk_at dksX12_read_8 0 rfl rfl)
theorem dX12_read_253 : decode cX12_read 253 = .ok (.ireturn, 1) := dk_172 (dk_at dksX12_read_8 3 rfl rfl)
theorem dX12_read_254 : decode cX12_read 254 = .ok (.aload_n 0, 1) := dk_42 (dk_at dksX12_read_8 4 rfl rfl)
theorem dX12_read_255 : decode cX12_read 255 = .ok (.getfield 28, 3) := dk_180 0 28 (dk_at dksX12_read_8 5 rfl rfl)
theorem dX12_read_258 : decode cX12_read 258 = .ok (.iload_n 1, 1) := dk_27 (dk_at dksX12_read_8 8 rfl rfl)
theorem dX12_read_259 : decode cX12_read 259 = .ok (.bipush 24, 2) := dk_16 24 (dk_at dksX12_read_8 9 rfl rfl)
theorem dX12_read_261 : decode cX12_read 261 = .ok (.iconst 1, 1) := dk_4 (dk_at dksX12_read_8 11 rfl rfl)
theorem dX12_read_262 : decode cX12_read 262 = .ok (.invokevirtual 64, 3) := dk_182 0 64 (dk_at dksX12_read_8 12 rfl rfl)
theorem dX12_read_265 : decode cX12_read 265 = .ok (.istore_n 3, 1) := dk_62 (dk_at dksX12_read_8 15 rfl rfl)
theorem dX12_read_266 : decode cX12_read 266 = .ok (.iload_n 3, 1) := dk_29 (dk_at dksX12_read_8 16 rfl rfl)
theorem dX12_read_267 : decode cX12_read 267 = .ok (.ifCond .eq 23, 3) := dk_153 0 23 (dk_at dksX12_read_8 17 rfl rfl)
theorem dX12_read_270 : decode cX12_read 270 = .ok (.aload_n 0, 1) := dk_42 (dk_at dksX12_read_8 20 rfl rfl)
theorem dX12_read_271 : decode cX12_read 271 = .ok (.iload_n 1, 1) := dk_27 (dk_at dksX12_read_8 21 rfl rfl)
theorem dX12_read_272 : decode cX12_read 272 = .ok (.bipush 24, 2) := dk_16 24 (dk_at dksX12_read_8 22 rfl rfl)
theorem dX12_read_274 : decode cX12_read 274 = .ok (.iconst 5, 1) := dk_8 (dk_at dksX12_read_9 0 rfl rfl)
theorem dX12_read_275 : decode cX12_read 275 = .ok (.aload_n 0, 1) := dk_42 (dk_at dksX12_read_9 1 rfl rfl)
theorem dX12_read_276 : decode cX12_read 276 = .ok (.getfield 32, 3) := dk_180 0 32 (dk_at dksX12_read_9 2 rfl rfl)
theorem dX12_read_279 : decode cX12_read 279 = .ok (.getfield 82, 3) := dk_180 0 82 (dk_at dksX12_read_9 5 rfl rfl)
theorem dX12_read_282 : decode cX12_read 282 = .ok (.iload_n 2, 1) := dk_28 (dk_at dksX12_read_9 8 rfl rfl)
theorem dX12_read_283 : decode cX12_read 283 = .ok (.iaload, 1) := dk_46 (dk_at dksX12_read_9 9 rfl rfl)
theorem dX12_read_284 : decode cX12_read 284 = .ok (.invokevirtual 85, 3) := dk_182 0 85 (dk_at dksX12_read_9 10 rfl rfl)
theorem dX12_read_287 : decode cX12_read 287 = .ok (.goto 21, 3) := dk_167 0 21 (dk_at dksX12_read_9 13 rfl rfl)
theorem dX12_read_290 : decode cX12_read 290 = .ok (.aload_n 0, 1) := dk_42 (dk_at dksX12_read_9 16 rfl rfl)
theorem dX12_read_291 : decode cX12_read 291 = .ok (.iload_n 1, 1) := dk_27 (dk_at dksX12_read_9 17 rfl rfl)
theorem dX12_read_292 : decode cX12_read 292 = .ok (.bipush 25, 2) := dk_16 25 (dk_at dksX12_read_9 18 rfl rfl)
theorem dX12_read_294 : decode cX12_read 294 = .ok (.bipush 6, 2) := dk_16 6 (dk_at dksX12_read_9 20 rfl rfl)
theorem dX12_read_296 : decode cX12_read 296 = .ok (.aload_n 0, 1) := dk_42 (dk_at dksX12_read_9 22 rfl rfl)
theorem dX12_read_297 : decode cX12_read 297 = .ok (.getfield 32, 3) := dk_180 0 32 (dk_at dksX12_read_10 0 rfl rfl)
theorem dX12_read_300 : decode cX12_read 300 = .ok (.getfield 89, 3) := dk_180 0 89 (dk_at dksX12_read_10 3 rfl rfl)
theorem dX12_read_303 : decode cX12_read 303 = .ok (.iload_n 2, 1) := dk_28 (dk_at dksX12_read_10 6 rfl rfl)
theorem dX12_read_304 : decode cX12_read 304 = .ok (.iaload, 1) := dk_46 (dk_at dksX12_read_10 7 rfl rfl)
theorem dX12_read_305 : decode cX12_read 305 = .ok (.invokevirtual 85, 3) := dk_182 0 85 (dk_at dksX12_read_10 8 rfl rfl)
theorem dX12_read_308 : decode cX12_read 308 = .ok (.ireturn, 1) := dk_172 (dk_at dksX12_read_10 11 rfl rfl)
theorem dX12_read_309 : decode cX12_read 309 = .ok (.aload_n 0, 1) := dk_42 (dk_at dksX12_read_10 12 rfl rfl)
theorem dX12_read_310 : decode cX12_read 310 = .ok (.getfield 28, 3) := dk_180 0 28 (dk_at dksX12_read_10 13 rfl rfl)
theorem dX12_read_313 : decode cX12_read 313 = .ok (.getfield 92, 3) := dk_180 0 92 (dk_at dksX12_read_10 16 rfl rfl)
theorem dX12_read_316 : decode cX12_read 316 = .ok (.iload_n 1, 1) := dk_27 (dk_at dksX12_read_10 19 rfl rfl)
theorem dX12_read_317 : decode cX12_read 317 = .ok (.baload, 1) := dk_51 (dk_at dksX12_read_10 20 rfl rfl)
theorem dX12_read_318 : decode cX12_read 318 = .ok (.bipush 8, 2) := dk_16 8 (dk_at dksX12_read_10 21 rfl rfl)
theorem dX12_read_320 : decode cX12_read 320 = .ok (.if_icmp .ne 47, 3) := dk_160 0 47 (dk_at dksX12_read_11 0 rfl rfl)
theorem dX12_read_323 : decode cX12_read 323 = .ok (.aload_n 0, 1) := dk_42 (dk_at dksX12_read_11 3 rfl rfl)
theorem dX12_read_324 : decode cX12_read 324 = .ok (.getfield 28, 3) := dk_180 0 28 (dk_at dksX12_read_11 4 rfl rfl)
theorem dX12_read_327 : decode cX12_read 327 = .ok (.getfield 95, 3) := dk_180 0 95 (dk_at dksX12_read_11 7 rfl rfl)
theorem dX12_read_330 : decode cX12_read 330 = .ok (.iload_n 1, 1) := dk_27 (dk_at dksX12_read_11 10 rfl rfl)
theorem dX12_read_331 : decode cX12_read 331 = .ok (.baload, 1) := dk_51 (dk_at dksX12_read_11 11 rfl rfl)
theorem dX12_read_332 : decode cX12_read 332 = .ok (.bipush 26, 2) := dk_16 26 (dk_at dksX12_read_11 12 rfl rfl)
theorem dX12_read_334 : decode cX12_read 334 = .ok (.if_icmp .ne 33, 3) := dk_160 0 33 (dk_at dksX12_read_11 14 rfl rfl)
theorem dX12_read_337 : decode cX12_read 337 = .ok (.aload_n 0, 1) := dk_42 (dk_at dksX12_read_11 17 rfl rfl)
theorem dX12_read_338 : decode cX12_read 338 = .ok (.getfield 28, 3) := dk_180 0 28 (dk_at dksX12_read_11 18 rfl rfl)
theorem dX12_read_341 : decode cX12_read 341 = .ok (.getfield 98, 3) := dk_180 0 98 (dk_at dksX12_read_11 21 rfl rfl)
theorem dX12_read_344 : decode cX12_read 344 = .ok (.iload_n 1, 1) := dk_27 (dk_at dksX12_read_12 0 rfl rfl)
theorem dX12_read_345 : decode cX12_read 345 = .ok (.iaload, 1) := dk_46 (dk_at dksX12_read_12 1 rfl rfl)
theorem dX12_read_346 : decode cX12_read 346 = .ok (.iconst 1, 1) := dk_4 (dk_at dksX12_read_12 2 rfl rfl)
theorem dX12_read_347 : decode cX12_read 347 = .ok (.if_icmp .le 20, 3) := dk_164 0 20 (dk_at dksX12_read_12 3 rfl rfl)
theorem dX12_read_350 : decode cX12_read 350 = .ok (.aload_n 0, 1) := dk_42 (dk_at dksX12_read_12 6 rfl rfl)
theorem dX12_read_351 : decode cX12_read 351 = .ok (.aload_n 0, 1) := dk_42 (dk_at dksX12_read_12 7 rfl rfl)
theorem dX12_read_352 : decode cX12_read 352 = .ok (.getfield 28, 3) := dk_180 0 28 (dk_at dksX12_read_12 8 rfl rfl)
theorem dX12_read_355 : decode cX12_read 355 = .ok (.getfield 101, 3) := dk_180 0 101 (dk_at dksX12_read_12 11 rfl rfl)
theorem dX12_read_358 : decode cX12_read 358 = .ok (.iload_n 1, 1) := dk_27 (dk_at dksX12_read_12 14 rfl rfl)
theorem dX12_read_359 : decode cX12_read 359 = .ok (.iaload, 1) := dk_46 (dk_at dksX12_read_12 15 rfl rfl)
theorem dX12_read_360 : decode cX12_read 360 = .ok (.iload_n 2, 1) := dk_28 (dk_at dksX12_read_12 16 rfl rfl)
theorem dX12_read_361 : decode cX12_read 361 = .ok (.invokevirtual 104, 3) := dk_182 0 104 (dk_at dksX12_read_12 17 rfl rfl)
theorem dX12_read_364 : decode cX12_read 364 = .ok (.goto 4, 3) := dk_167 0 4 (dk_at dksX12_read_12 20 rfl rfl)
theorem dX12_read_367 : decode cX12_read 367 = .ok (.iconst 0, 1) := dk_3 (dk_at dksX12_read_12 23 rfl rfl)
theorem dX12_read_368 : decode cX12_read 368 = .ok (.ireturn, 1) := dk_172 (dk_at dksX12_read_13 0 rfl rfl)
theorem dX12_read_369 : decode cX12_read 369 = .ok (.aload_n 0, 1) := dk_42 (dk_at dksX12_read_13 1 rfl rfl)
theorem dX12_read_370 : decode cX12_read 370 = .ok (.getfield 28, 3) := dk_180 0 28 (dk_at dksX12_read_13 2 rfl rfl)
theorem dX12_read_373 : decode cX12_read 373 = .ok (.iload_n 1, 1) := dk_27 (dk_at dksX12_read_13 5 rfl rfl)
theorem dX12_read_374 : decode cX12_read 374 = .ok (.invokevirtual 107, 3) := dk_182 0 107 (dk_at dksX12_read_13 6 rfl rfl)
theorem dX12_read_377 : decode cX12_read 377 = .ok (.ifCond .eq 20, 3) := dk_153 0 20 (dk_at dksX12_read_13 9 rfl rfl)
theorem dX12_read_380 : decode cX12_read 380 = .ok (.aload_n 0, 1) := dk_42 (dk_at dksX12_read_13 12 rfl rfl)
theorem dX12_read_381 : decode cX12_read 381 = .ok (.iload_n 1, 1) := dk_27 (dk_at dksX12_read_13 13 rfl rfl)
theorem dX12_read_382 : decode cX12_read 382 = .ok (.aload_n 0, 1) := dk_42 (dk_at dksX12_read_13 14 rfl rfl)
theorem dX12_read_383 : decode cX12_read 383 = .ok (.getfield 32, 3) := dk_180 0 32 (dk_at dksX12_read_13 15 rfl rfl)
theorem dX12_read_386 : decode cX12_read 386 = .ok (.getfield 82, 3) := dk_180 0 82 (dk_at dksX12_read_13 18 rfl rfl)
theorem dX12_read_389 : decode cX12_read 389 = .ok (.iload_n 2, 1) := dk_28 (dk_at dksX12_read_13 21 rfl rfl)
theorem dX12_read_390 : decode cX12_read 390 = .ok (.iaload, 1) := dk_46 (dk_at dksX12_read_13 22 rfl rfl)
theorem dX12_read_391 : decode cX12_read 391 = .ok (.invokevirtual 111, 3) := dk_182 0 111 (dk_at dksX12_read_14 0 rfl rfl)
theorem dX12_read_394 : decode cX12_read 394 = .ok (.goto 4, 3) := dk_167 0 4 (dk_at dksX12_read_14 3 rfl rfl)
theorem dX12_read_397 : decode cX12_read 397 = .ok (.iconst 0, 1) := dk_3 (dk_at dksX12_read_14 6 rfl rfl)
theorem dX12_read_398 : decode cX12_read 398 = .ok (.ireturn, 1) := dk_172 (dk_at dksX12_read_14 7 rfl rfl)
theorem dX12_read_399 : decode cX12_read 399 = .ok (.aload_n 0, 1) := dk_42 (dk_at dksX12_read_14 8 rfl rfl)
theorem dX12_read_400 : decode cX12_read 400 = .ok (.getfield 28, 3) := dk_180 0 28 (dk_at dksX12_read_14 9 rfl rfl)
theorem dX12_read_403 : decode cX12_read 403 = .ok (.iload_n 1, 1) := dk_27 (dk_at dksX12_read_14 12 rfl rfl)
theorem dX12_read_404 : decode cX12_read 404 = .ok (.invokevirtual 107, 3) := dk_182 0 107 (dk_at dksX12_read_14 13 rfl rfl)
theorem dX12_read_407 : decode cX12_read 407 = .ok (.ifCond .eq 47, 3) := dk_153 0 47 (dk_at dksX12_read_14 16 rfl rfl)
theorem dX12_read_410 : decode cX12_read 410 = .ok (.aload_n 0, 1) := dk_42 (dk_at dksX12_read_14 19 rfl rfl)
theorem dX12_read_411 : decode cX12_read 411 = .ok (.iload_n 1, 1) := dk_27 (dk_at dksX12_read_14 20 rfl rfl)
theorem dX12_read_412 : decode cX12_read 412 = .ok (.aload_n 0, 1) := dk_42 (dk_at dksX12_read_14 21 rfl rfl)
theorem dX12_read_413 : decode cX12_read 413 = .ok (.getfield 32, 3) := dk_180 0 32 (dk_at dksX12_read_15 0 rfl rfl)
theorem dX12_read_416 : decode cX12_read 416 = .ok (.getfield 82, 3) := dk_180 0 82 (dk_at dksX12_read_15 3 rfl rfl)
theorem dX12_read_419 : decode cX12_read 419 = .ok (.iload_n 2, 1) := dk_28 (dk_at dksX12_read_15 6 rfl rfl)
theorem dX12_read_420 : decode cX12_read 420 = .ok (.iaload, 1) := dk_46 (dk_at dksX12_read_15 7 rfl rfl)
theorem dX12_read_421 : decode cX12_read 421 = .ok (.aload_n 0, 1) := dk_42 (dk_at dksX12_read_15 8 rfl rfl)
theorem dX12_read_422 : decode cX12_read 422 = .ok (.getfield 32, 3) := dk_180 0 32 (dk_at dksX12_read_15 9 rfl rfl)
theorem dX12_read_425 : decode cX12_read 425 = .ok (.getfield 57, 3) := dk_180 0 57 (dk_at dksX12_read_15 12 rfl rfl)
theorem dX12_read_428 : decode cX12_read 428 = .ok (.iload_n 2, 1) := dk_28 (dk_at dksX12_read_15 15 rfl rfl)
theorem dX12_read_429 : decode cX12_read 429 = .ok (.baload, 1) := dk_51 (dk_at dksX12_read_15 16 rfl rfl)
theorem dX12_read_430 : decode cX12_read 430 = .ok (.bipush 12, 2) := dk_16 12 (dk_at dksX12_read_15 17 rfl rfl)
theorem dX12_read_432 : decode cX12_read 432 = .ok (.if_icmp .ne 7, 3) := dk_160 0 7 (dk_at dksX12_read_15 19 rfl rfl)
theorem dX12_read_435 : decode cX12_read 435 = .ok (.iconst (-1), 1) := dk_2 (dk_at dksX12_read_15 22 rfl rfl)
theorem dX12_read_436 : decode cX12_read 436 = .ok (.goto 12, 3) := dk_167 0 12 (dk_at dksX12_read_16 0 rfl rfl)
theorem dX12_read_439 : decode cX12_read 439 = .ok (.aload_n 0, 1) := dk_42 (dk_at dksX12_read_16 3 rfl rfl)
theorem dX12_read_440 : decode cX12_read 440 = .ok (.getfield 32, 3) := dk_180 0 32 (dk_at dksX12_read_16 4 rfl rfl)
theorem dX12_read_443 : decode cX12_read 443 = .ok (.getfield 89, 3) := dk_180 0 89 (dk_at dksX12_read_16 7 rfl rfl)
theorem dX12_read_446 : decode cX12_read 446 = .ok (.iload_n 2, 1) := dk_28 (dk_at dksX12_read_16 10 rfl rfl)
theorem dX12_read_447 : decode cX12_read 447 = .ok (.iaload, 1) := dk_46 (dk_at dksX12_read_16 11 rfl rfl)
theorem dX12_read_448 : decode cX12_read 448 = .ok (.invokevirtual 114, 3) := dk_182 0 114 (dk_at dksX12_read_16 12 rfl rfl)
theorem dX12_read_451 : decode cX12_read 451 = .ok (.goto 4, 3) := dk_167 0 4 (dk_at dksX12_read_16 15 rfl rfl)
theorem dX12_read_454 : decode cX12_read 454 = .ok (.iconst 0, 1) := dk_3 (dk_at dksX12_read_16 18 rfl rfl)
theorem dX12_read_455 : decode cX12_read 455 = .ok (.ireturn, 1) := dk_172 (dk_at dksX12_read_16 19 rfl rfl)
theorem dX12_read_456 : decode cX12_read 456 = .ok (.iconst 0, 1) := dk_3 (dk_at dksX12_read_16 20 rfl rfl)
theorem dX12_read_457 : decode cX12_read 457 = .ok (.ireturn, 1) := dk_172 (dk_at dksX12_read_16 21 rfl rfl)
abbrev cX12_readNumber : ByteArray := prog_4_method_5_code
def yX12_readNumber : MethodName := ⟨RX12, "readNumber", "(II)I"⟩
def dkwX12_readNumber_4 : List UInt8 := [153, 0, 17, 42, 180, 0, 36, 42, 180, 0, 14, 182, 0, 153, 167, 0, 4, 3, 172]
abbrev dktX12_readNumber_4 : List UInt8 := dkwX12_readNumber_4 ++ []
def dkwX12_readNumber_3 : List UInt8 := [159, 0, 15, 42, 180, 0, 14, 182, 0, 149, 16, 63, 163, 0, 7, 4, 167, 0, 4, 3, 62, 29]
abbrev dktX12_readNumber_3 : List UInt8 := dkwX12_readNumber_3 ++ dktX12_readNumber_4
def dkwX12_readNumber_2 : List UInt8 := [28, 5, 159, 0, 36, 28, 16, 8, 159, 0, 30, 42, 180, 0, 14, 180, 0, 145, 154, 0, 24, 28, 6]
abbrev dktX12_readNumber_2 : List UInt8 := dkwX12_readNumber_2 ++ dktX12_readNumber_3
def dkwX12_readNumber_1 : List UInt8 := [180, 0, 28, 180, 0, 136, 27, 46, 42, 180, 0, 28, 180, 0, 139, 27, 46, 42, 180, 0, 14, 184, 0, 142]
abbrev dktX12_readNumber_1 : List UInt8 := dkwX12_readNumber_1 ++ dktX12_readNumber_2
def dkwX12_readNumber_0 : List UInt8 := [42, 180, 0, 28, 180, 0, 92, 27, 51, 5, 159, 0, 5, 3, 172, 42, 180, 0, 28, 182, 0, 132, 42]
abbrev dktX12_readNumber_0 : List UInt8 := dkwX12_readNumber_0 ++ dktX12_readNumber_1
theorem dksX12_readNumber_0 : cX12_readNumber.data.toList.drop 0 = dktX12_readNumber_0 := by decide +kernel
theorem dksX12_readNumber_1 : cX12_readNumber.data.toList.drop 23 = dktX12_readNumber_1 := dk_seg dksX12_readNumber_0 23 rfl rfl
theorem dksX12_readNumber_2 : cX12_readNumber.data.toList.drop 47 = dktX12_readNumber_2 := dk_seg dksX12_readNumber_1 24 rfl rfl
theorem dksX12_readNumber_3 : cX12_readNumber.data.toList.drop 70 = dktX12_readNumber_3 := dk_seg dksX12_readNumber_2 23 rfl rfl
theorem dksX12_readNumber_4 : cX12_readNumber.data.toList.drop 92 = dktX12_readNumber_4 := dk_seg dksX12_readNumber_3 22 rfl rfl
theorem dX12_readNumber_0 : decode cX12_readNumber 0 = .ok (.aload_n 0, 1) := dk_42 (dk_at dksX12_readNumber_0 0 rfl rfl)
theorem dX12_readNumber_1 : decode cX12_readNumber 1 = .ok (.getfield 28, 3) := dk_180 0 28 (dk_at dksX12_readNumber_0 1 rfl rfl)
theorem dX12_readNumber_4 : decode cX12_readNumber 4 = .ok (.getfield 92, 3) := dk_180 0 92 (dk_at dksX12_readNumber_0 4 rfl rfl)
theorem dX12_readNumber_7 : decode cX12_readNumber 7 = .ok (.iload_n 1, 1) := dk_27 (dk_at dksX12_readNumber_0 7 rfl rfl)
theorem dX12_readNumber_8 : decode cX12_readNumber 8 = .ok (.baload, 1) := dk_51 (dk_at dksX12_readNumber_0 8 rfl rfl)
theorem dX12_readNumber_9 : decode cX12_readNumber 9 = .ok (.iconst 2, 1) := dk_5 (dk_at dksX12_readNumber_0 9 rfl rfl)
theorem dX12_readNumber_10 : decode cX12_readNumber 10 = .ok (.if_icmp .eq 5, 3) := dk_159 0 5 (dk_at dksX12_readNumber_0 10 rfl rfl)
theorem dX12_readNumber_13 : decode cX12_readNumber 13 = .ok (.iconst 0, 1) := dk_3 (dk_at dksX12_readNumber_0 13 rfl rfl)
theorem dX12_readNumber_14 : decode cX12_readNumber 14 = .ok (.ireturn, 1) := dk_172 (dk_at dksX12_readNumber_0 14 rfl rfl)
theorem dX12_readNumber_15 : decode cX12_readNumber 15 = .ok (.aload_n 0, 1) := dk_42 (dk_at dksX12_readNumber_0 15 rfl rfl)
theorem dX12_readNumber_16 : decode cX12_readNumber 16 = .ok (.getfield 28, 3) := dk_180 0 28 (dk_at dksX12_readNumber_0 16 rfl rfl)
theorem dX12_readNumber_19 : decode cX12_readNumber 19 = .ok (.invokevirtual 132, 3) := dk_182 0 132 (dk_at dksX12_readNumber_0 19 rfl rfl)
theorem dX12_readNumber_22 : decode cX12_readNumber 22 = .ok (.aload_n 0, 1) := dk_42 (dk_at dksX12_readNumber_0 22 rfl rfl)
theorem dX12_readNumber_23 : decode cX12_readNumber 23 = .ok (.getfield 28, 3) := dk_180 0 28 (dk_at dksX12_readNumber_1 0 rfl rfl)
theorem dX12_readNumber_26 : decode cX12_readNumber 26 = .ok (.getfield 136, 3) := dk_180 0 136 (dk_at dksX12_readNumber_1 3 rfl rfl)
theorem dX12_readNumber_29 : decode cX12_readNumber 29 = .ok (.iload_n 1, 1) := dk_27 (dk_at dksX12_readNumber_1 6 rfl rfl)
theorem dX12_readNumber_30 : decode cX12_readNumber 30 = .ok (.iaload, 1) := dk_46 (dk_at dksX12_readNumber_1 7 rfl rfl)
theorem dX12_readNumber_31 : decode cX12_readNumber 31 = .ok (.aload_n 0, 1) := dk_42 (dk_at dksX12_readNumber_1 8 rfl rfl)
theorem dX12_readNumber_32 : decode cX12_readNumber 32 = .ok (.getfield 28, 3) := dk_180 0 28 (dk_at dksX12_readNumber_1 9 rfl rfl)
theorem dX12_readNumber_35 : decode cX12_readNumber 35 = .ok (.getfield 139, 3) := dk_180 0 139 (dk_at dksX12_readNumber_1 12 rfl rfl)
theorem dX12_readNumber_38 : decode cX12_readNumber 38 = .ok (.iload_n 1, 1) := dk_27 (dk_at dksX12_readNumber_1 15 rfl rfl)
theorem dX12_readNumber_39 : decode cX12_readNumber 39 = .ok (.iaload, 1) := dk_46 (dk_at dksX12_readNumber_1 16 rfl rfl)
theorem dX12_readNumber_40 : decode cX12_readNumber 40 = .ok (.aload_n 0, 1) := dk_42 (dk_at dksX12_readNumber_1 17 rfl rfl)
theorem dX12_readNumber_41 : decode cX12_readNumber 41 = .ok (.getfield 14, 3) := dk_180 0 14 (dk_at dksX12_readNumber_1 18 rfl rfl)
theorem dX12_readNumber_44 : decode cX12_readNumber 44 = .ok (.invokestatic 142, 3) := dk_184 0 142 (dk_at dksX12_readNumber_1 21 rfl rfl)
theorem dX12_readNumber_47 : decode cX12_readNumber 47 = .ok (.iload_n 2, 1) := dk_28 (dk_at dksX12_readNumber_2 0 rfl rfl)
theorem dX12_readNumber_48 : decode cX12_readNumber 48 = .ok (.iconst 2, 1) := dk_5 (dk_at dksX12_readNumber_2 1 rfl rfl)
theorem dX12_readNumber_49 : decode cX12_readNumber 49 = .ok (.if_icmp .eq 36, 3) := dk_159 0 36 (dk_at dksX12_readNumber_2 2 rfl rfl)
theorem dX12_readNumber_52 : decode cX12_readNumber 52 = .ok (.iload_n 2, 1) := dk_28 (dk_at dksX12_readNumber_2 5 rfl rfl)
theorem dX12_readNumber_53 : decode cX12_readNumber 53 = .ok (.bipush 8, 2) := dk_16 8 (dk_at dksX12_readNumber_2 6 rfl rfl)
theorem dX12_readNumber_55 : decode cX12_readNumber 55 = .ok (.if_icmp .eq 30, 3) := dk_159 0 30 (dk_at dksX12_readNumber_2 8 rfl rfl)
theorem dX12_readNumber_58 : decode cX12_readNumber 58 = .ok (.aload_n 0, 1) := dk_42 (dk_at dksX12_readNumber_2 11 rfl rfl)
theorem dX12_readNumber_59 : decode cX12_readNumber 59 = .ok (.getfield 14, 3) := dk_180 0 14 (dk_at dksX12_readNumber_2 12 rfl rfl)
theorem dX12_readNumber_62 : decode cX12_readNumber 62 = .ok (.getfield 145, 3) := dk_180 0 145 (dk_at dksX12_readNumber_2 15 rfl rfl)
theorem dX12_readNumber_65 : decode cX12_readNumber 65 = .ok (.ifCond .ne 24, 3) := dk_154 0 24 (dk_at dksX12_readNumber_2 18 rfl rfl)
theorem dX12_readNumber_68 : decode cX12_readNumber 68 = .ok (.iload_n 2, 1) := dk_28 (dk_at dksX12_readNumber_2 21 rfl rfl)
theorem dX12_readNumber_69 : decode cX12_readNumber 69 = .ok (.iconst 3, 1) := dk_6 (dk_at dksX12_readNumber_2 22 rfl rfl)
theorem dX12_readNumber_70 : decode cX12_readNumber 70 = .ok (.if_icmp .eq 15, 3) := dk_159 0 15 (dk_at dksX12_readNumber_3 0 rfl rfl)
theorem dX12_readNumber_73 : decode cX12_readNumber 73 = .ok (.aload_n 0, 1) := dk_42 (dk_at dksX12_readNumber_3 3 rfl rfl)
theorem dX12_readNumber_74 : decode cX12_readNumber 74 = .ok (.getfield 14, 3) := dk_180 0 14 (dk_at dksX12_readNumber_3 4 rfl rfl)
theorem dX12_readNumber_77 : decode cX12_readNumber 77 = .ok (.invokevirtual 149, 3) := dk_182 0 149 (dk_at dksX12_readNumber_3 7 rfl rfl)
theorem dX12_readNumber_80 : decode cX12_readNumber 80 = .ok (.bipush 63, 2) := dk_16 63 (dk_at dksX12_readNumber_3 10 rfl rfl)
theorem dX12_readNumber_82 : decode cX12_readNumber 82 = .ok (.if_icmp .gt 7, 3) := dk_163 0 7 (dk_at dksX12_readNumber_3 12 rfl rfl)
theorem dX12_readNumber_85 : decode cX12_readNumber 85 = .ok (.iconst 1, 1) := dk_4 (dk_at dksX12_readNumber_3 15 rfl rfl)
theorem dX12_readNumber_86 : decode cX12_readNumber 86 = .ok (.goto 4, 3) := dk_167 0 4 (dk_at dksX12_readNumber_3 16 rfl rfl)
theorem dX12_readNumber_89 : decode cX12_readNumber 89 = .ok (.iconst 0, 1) := dk_3 (dk_at dksX12_readNumber_3 19 rfl rfl)
theorem dX12_readNumber_90 : decode cX12_readNumber 90 = .ok (.istore_n 3, 1) := dk_62 (dk_at dksX12_readNumber_3 20 rfl rfl)
theorem dX12_readNumber_91 : decode cX12_readNumber 91 = .ok (.iload_n 3, 1) := dk_29 (dk_at dksX12_readNumber_3 21 rfl rfl)
theorem dX12_readNumber_92 : decode cX12_readNumber 92 = .ok (.ifCond .eq 17, 3) := dk_153 0 17 (dk_at dksX12_readNumber_4 0 rfl rfl)
theorem dX12_readNumber_95 : decode cX12_readNumber 95 = .ok (.aload_n 0, 1) := dk_42 (dk_at dksX12_readNumber_4 3 rfl rfl)
theorem dX12_readNumber_96 : decode cX12_readNumber 96 = .ok (.getfield 36, 3) := dk_180 0 36 (dk_at dksX12_readNumber_4 4 rfl rfl)
theorem dX12_readNumber_99 : decode cX12_readNumber 99 = .ok (.aload_n 0, 1) := dk_42 (dk_at dksX12_readNumber_4 7 rfl rfl)
theorem dX12_readNumber_100 : decode cX12_readNumber 100 = .ok (.getfield 14, 3) := dk_180 0 14 (dk_at dksX12_readNumber_4 8 rfl rfl)
theorem dX12_readNumber_103 : decode cX12_readNumber 103 = .ok (.invokevirtual 153, 3) := dk_182 0 153 (dk_at dksX12_readNumber_4 11 rfl rfl)
theorem dX12_readNumber_106 : decode cX12_readNumber 106 = .ok (.goto 4, 3) := dk_167 0 4 (dk_at dksX12_readNumber_4 14 rfl rfl)
theorem dX12_readNumber_109 : decode cX12_readNumber 109 = .ok (.iconst 0, 1) := dk_3 (dk_at dksX12_readNumber_4 17 rfl rfl)
theorem dX12_readNumber_110 : decode cX12_readNumber 110 = .ok (.ireturn, 1) := dk_172 (dk_at dksX12_readNumber_4 18 rfl rfl)
abbrev cX12_readString : ByteArray := prog_4_method_8_code
def yX12_readString : MethodName := ⟨RX12, "readString", "(IZ)I"⟩
def dkwX12_readString_2 : List UInt8 := [167, 0, 19, 42, 180, 0, 36, 42, 180, 0, 20, 3, 42, 180, 0, 160, 182, 0, 177, 172]
abbrev dktX12_readString_2 : List UInt8 := dkwX12_readString_2 ++ []
def dkwX12_readString_1 : List UInt8 := [153, 0, 26, 42, 180, 0, 48, 42, 180, 0, 20, 3, 42, 180, 0, 160, 182, 0, 164, 156, 0, 7, 3]
abbrev dktX12_readString_1 : List UInt8 := dkwX12_readString_1 ++ dktX12_readString_2
def dkwX12_readString_0 : List UInt8 := [42, 180, 0, 28, 180, 0, 92, 27, 51, 6, 160, 0, 11, 42, 27, 182, 0, 157, 154, 0, 5, 3, 172, 28]
abbrev dktX12_readString_0 : List UInt8 := dkwX12_readString_0 ++ dktX12_readString_1
theorem dksX12_readString_0 : cX12_readString.data.toList.drop 0 = dktX12_readString_0 := by decide +kernel
theorem dksX12_readString_1 : cX12_readString.data.toList.drop 24 = dktX12_readString_1 := dk_seg dksX12_readString_0 24 rfl rfl
theorem dksX12_readString_2 : cX12_readString.data.toList.drop 47 = dktX12_readString_2 := dk_seg dksX12_readString_1 23 rfl rfl
theorem dX12_readString_0 : decode cX12_readString 0 = .ok (.aload_n 0, 1) := dk_42 (dk_at dksX12_readString_0 0 rfl rfl)
theorem dX12_readString_1 : decode cX12_readString 1 = .ok (.getfield 28, 3) := dk_180 0 28 (dk_at dksX12_readString_0 1 rfl rfl)
theorem dX12_readString_4 : decode cX12_readString 4 = .ok (.getfield 92, 3) := dk_180 0 92 (dk_at dksX12_readString_0 4 rfl rfl)
theorem dX12_readString_7 : decode cX12_readString 7 = .ok (.iload_n 1, 1) := dk_27 (dk_at dksX12_readString_0 7 rfl rfl)
theorem dX12_readString_8 : decode cX12_readString 8 = .ok (.baload, 1) := dk_51 (dk_at dksX12_readString_0 8 rfl rfl)
theorem dX12_readString_9 : decode cX12_readString 9 = .ok (.iconst 3, 1) := dk_6 (dk_at dksX12_readString_0 9 rfl rfl)
theorem dX12_readString_10 : decode cX12_readString 10 = .ok (.if_icmp .ne 11, 3) := dk_160 0 11 (dk_at dksX12_readString_0 10 rfl rfl)
theorem dX12_readString_13 : decode cX12_readString 13 = .ok (.aload_n 0, 1) := dk_42 (dk_at dksX12_readString_0 13 rfl rfl)
theorem dX12_readString_14 : decode cX12_readString 14 = .ok (.iload_n 1, 1) := dk_27 (dk_at dksX12_readString_0 14 rfl rfl)
theorem dX12_readString_15 : decode cX12_readString 15 = .ok (.invokevirtual 157, 3) := dk_182 0 157 (dk_at dksX12_readString_0 15 rfl rfl)
theorem dX12_readString_18 : decode cX12_readString 18 = .ok (.ifCond .ne 5, 3) := dk_154 0 5 (dk_at dksX12_readString_0 18 rfl rfl)
theorem dX12_readString_21 : decode cX12_readString 21 = .ok (.iconst 0, 1) := dk_3 (dk_at dksX12_readString_0 21 rfl rfl)
theorem dX12_readString_22 : decode cX12_readString 22 = .ok (.ireturn, 1) := dk_172 (dk_at dksX12_readString_0 22 rfl rfl)
theorem dX12_readString_23 : decode cX12_readString 23 = .ok (.iload_n 2, 1) := dk_28 (dk_at dksX12_readString_0 23 rfl rfl)
theorem dX12_readString_24 : decode cX12_readString 24 = .ok (.ifCond .eq 26, 3) := dk_153 0 26 (dk_at dksX12_readString_1 0 rfl rfl)
theorem dX12_readString_27 : decode cX12_readString 27 = .ok (.aload_n 0, 1) := dk_42 (dk_at dksX12_readString_1 3 rfl rfl)
theorem dX12_readString_28 : decode cX12_readString 28 = .ok (.getfield 48, 3) := dk_180 0 48 (dk_at dksX12_readString_1 4 rfl rfl)
theorem dX12_readString_31 : decode cX12_readString 31 = .ok (.aload_n 0, 1) := dk_42 (dk_at dksX12_readString_1 7 rfl rfl)
theorem dX12_readString_32 : decode cX12_readString 32 = .ok (.getfield 20, 3) := dk_180 0 20 (dk_at dksX12_readString_1 8 rfl rfl)
theorem dX12_readString_35 : decode cX12_readString 35 = .ok (.iconst 0, 1) := dk_3 (dk_at dksX12_readString_1 11 rfl rfl)
theorem dX12_readString_36 : decode cX12_readString 36 = .ok (.aload_n 0, 1) := dk_42 (dk_at dksX12_readString_1 12 rfl rfl)
theorem dX12_readString_37 : decode cX12_readString 37 = .ok (.getfield 160, 3) := dk_180 0 160 (dk_at dksX12_readString_1 13 rfl rfl)
theorem dX12_readString_40 : decode cX12_readString 40 = .ok (.invokevirtual 164, 3) := dk_182 0 164 (dk_at dksX12_readString_1 16 rfl rfl)
theorem dX12_readString_43 : decode cX12_readString 43 = .ok (.ifCond .ge 7, 3) := dk_156 0 7 (dk_at dksX12_readString_1 19 rfl rfl)
theorem dX12_readString_46 : decode cX12_readString 46 = .ok (.iconst 0, 1) := dk_3 (dk_at dksX12_readString_1 22 rfl rfl)
theorem dX12_readString_47 : decode cX12_readString 47 = .ok (.goto 19, 3) := dk_167 0 19 (dk_at dksX12_readString_2 0 rfl rfl)
theorem dX12_readString_50 : decode cX12_readString 50 = .ok (.aload_n 0, 1) := dk_42 (dk_at dksX12_readString_2 3 rfl rfl)
theorem dX12_readString_51 : decode cX12_readString 51 = .ok (.getfield 36, 3) := dk_180 0 36 (dk_at dksX12_readString_2 4 rfl rfl)
theorem dX12_readString_54 : decode cX12_readString 54 = .ok (.aload_n 0, 1) := dk_42 (dk_at dksX12_readString_2 7 rfl rfl)
theorem dX12_readString_55 : decode cX12_readString 55 = .ok (.getfield 20, 3) := dk_180 0 20 (dk_at dksX12_readString_2 8 rfl rfl)
theorem dX12_readString_58 : decode cX12_readString 58 = .ok (.iconst 0, 1) := dk_3 (dk_at dksX12_readString_2 11 rfl rfl)
theorem dX12_readString_59 : decode cX12_readString 59 = .ok (.aload_n 0, 1) := dk_42 (dk_at dksX12_readString_2 12 rfl rfl)
theorem dX12_readString_60 : decode cX12_readString 60 = .ok (.getfield 160, 3) := dk_180 0 160 (dk_at dksX12_readString_2 13 rfl rfl)
theorem dX12_readString_63 : decode cX12_readString 63 = .ok (.invokevirtual 177, 3) := dk_182 0 177 (dk_at dksX12_readString_2 16 rfl rfl)
theorem dX12_readString_66 : decode cX12_readString 66 = .ok (.ireturn, 1) := dk_172 (dk_at dksX12_readString_2 19 rfl rfl)
abbrev cX12_unescape : ByteArray := prog_4_method_9_code
def yX12_unescape : MethodName := ⟨RX12, "unescape", "(I)Z"⟩
def dkwX12_unescape_5 : List UInt8 := [4, 167, 0, 4, 3, 172]
abbrev dktX12_unescape_5 : List UInt8 := dkwX12_unescape_5 ++ []
def dkwX12_unescape_4 : List UInt8 := [96, 181, 0, 160, 21, 4, 145, 84, 132, 3, 1, 167, 255, 176, 42, 180, 0, 160, 17, 32, 0, 163, 0, 7]
abbrev dktX12_unescape_4 : List UInt8 := dkwX12_unescape_4 ++ dktX12_unescape_5
def dkwX12_unescape_3 : List UInt8 := [160, 0, 8, 16, 10, 167, 0, 6, 44, 29, 51, 54, 4, 42, 180, 0, 20, 42, 89, 180, 0, 160, 90, 4]
abbrev dktX12_unescape_3 : List UInt8 := dkwX12_unescape_3 ++ dktX12_unescape_4
def dkwX12_unescape_2 : List UInt8 := [163, 0, 61, 44, 29, 51, 54, 4, 21, 4, 16, 92, 160, 0, 24, 132, 3, 1, 44, 29, 51, 16, 110]
abbrev dktX12_unescape_2 : List UInt8 := dkwX12_unescape_2 ++ dktX12_unescape_3
def dkwX12_unescape_1 : List UInt8 := [62, 29, 42, 180, 0, 28, 180, 0, 139, 27, 46, 4, 100, 162, 0, 71, 42, 180, 0, 160, 17, 32, 0]
abbrev dktX12_unescape_1 : List UInt8 := dkwX12_unescape_1 ++ dktX12_unescape_2
def dkwX12_unescape_0 : List UInt8 := [42, 180, 0, 28, 182, 0, 132, 77, 42, 3, 181, 0, 160, 42, 180, 0, 28, 180, 0, 136, 27, 46, 4, 96]
abbrev dktX12_unescape_0 : List UInt8 := dkwX12_unescape_0 ++ dktX12_unescape_1
theorem dksX12_unescape_0 : cX12_unescape.data.toList.drop 0 = dktX12_unescape_0 := by decide +kernel
theorem dksX12_unescape_1 : cX12_unescape.data.toList.drop 24 = dktX12_unescape_1 := dk_seg dksX12_unescape_0 24 rfl rfl
theorem dksX12_unescape_2 : cX12_unescape.data.toList.drop 47 = dktX12_unescape_2 := dk_seg dksX12_unescape_1 23 rfl rfl
theorem dksX12_unescape_3 : cX12_unescape.data.toList.drop 70 = dktX12_unescape_3 := dk_seg dksX12_unescape_2 23 rfl rfl
theorem dksX12_unescape_4 : cX12_unescape.data.toList.drop 94 = dktX12_unescape_4 := dk_seg dksX12_unescape_3 24 rfl rfl
theorem dksX12_unescape_5 : cX12_unescape.data.toList.drop 118 = dktX12_unescape_5 := dk_seg dksX12_unescape_4 24 rfl rfl
theorem dX12_unescape_0 : decode cX12_unescape 0 = .ok (.aload_n 0, 1) := dk_42 (dk_at dksX12_unescape_0 0 rfl rfl)
theorem dX12_unescape_1 : decode cX12_unescape 1 = .ok (.getfield 28, 3) := dk_180 0 28 (dk_at dksX12_unescape_0 1 rfl rfl)
theorem dX12_unescape_4 : decode cX12_unescape 4 = .ok (.invokevirtual 132, 3) := dk_182 0 132 (dk_at dksX12_unescape_0 4 rfl rfl)
theorem dX12_unescape_7 : decode cX12_unescape 7 = .ok (.astore_n 2, 1) := dk_77 (dk_at dksX12_unescape_0 7 rfl rfl)
theorem dX12_unescape_8 : decode cX12_unescape 8 = .ok (.aload_n 0, 1) := dk_42 (dk_at dksX12_unescape_0 8 rfl rfl)
theorem dX12_unescape_9 : decode cX12_unescape 9 = .ok (.iconst 0, 1) := dk_3 (dk_at dksX12_unescape_0 9 rfl rfl)
theorem dX12_unescape_10 : decode cX12_unescape 10 = .ok (.putfield 160, 3) := dk_181 0 160 (dk_at dksX12_unescape_0 10 rfl rfl)
theorem dX12_unescape_13 : decode cX12_unescape 13 = .ok (.aload_n 0, 1) := dk_42 (dk_at dksX12_unescape_0 13 rfl rfl)
theorem dX12_unescape_14 : decode cX12_unescape 14 = .ok (.getfield 28, 3) := dk_180 0 28 (dk_at dksX12_unescape_0 14 rfl rfl)
theorem dX12_unescape_17 : decode cX12_unescape 17 = .ok (.getfield 136, 3) := dk_180 0 136 (dk_at dksX12_unescape_0 17 rfl rfl)
theorem dX12_unescape_20 : decode cX12_unescape 20 = .ok (.iload_n 1, 1) := dk_27 (dk_at dksX12_unescape_0 20 rfl rfl)
theorem dX12_unescape_21 : decode cX12_unescape 21 = .ok (.iaload, 1) := dk_46 (dk_at dksX12_unescape_0 21 rfl rfl)
theorem dX12_unescape_22 : decode cX12_unescape 22 = .ok (.iconst 1, 1) := dk_4 (dk_at dksX12_unescape_0 22 rfl rfl)
theorem dX12_unescape_23 : decode cX12_unescape 23 = .ok (.iadd, 1) := dk_96 (dk_at dksX12_unescape_0 23 rfl rfl)
theorem dX12_unescape_24 : decode cX12_unescape 24 = .ok (.istore_n 3, 1) := dk_62 (dk_at dksX12_unescape_1 0 rfl rfl)
theorem dX12_unescape_25 : decode cX12_unescape 25 = .ok (.iload_n 3, 1) := dk_29 (dk_at dksX12_unescape_1 1 rfl rfl)
theorem dX12_unescape_26 : decode cX12_unescape 26 = .ok (.aload_n 0, 1) := dk_42 (dk_at dksX12_unescape_1 2 rfl rfl)
theorem dX12_unescape_27 : decode cX12_unescape 27 = .ok (.getfield 28, 3) := dk_180 0 28 (dk_at dksX12_unescape_1 3 rfl rfl)
theorem dX12_unescape_30 : decode cX12_unescape 30 = .ok (.getfield 139, 3) := dk_180 0 139 (dk_at dksX12_unescape_1 6 rfl rfl)
theorem dX12_unescape_33 : decode cX12_unescape 33 = .ok (.iload_n 1, 1) := dk_27 (dk_at dksX12_unescape_1 9 rfl rfl)
theorem dX12_unescape_34 : decode cX12_unescape 34 = .ok (.iaload, 1) := dk_46 (dk_at dksX12_unescape_1 10 rfl rfl)
theorem dX12_unescape_35 : decode cX12_unescape 35 = .ok (.iconst 1, 1) := dk_4 (dk_at dksX12_unescape_1 11 rfl rfl)
theorem dX12_unescape_36 : decode cX12_unescape 36 = .ok (.isub, 1) := dk_100 (dk_at dksX12_unescape_1 12 rfl rfl)
theorem dX12_unescape_37 : decode cX12_unescape 37 = .ok (.if_icmp .ge 71, 3) := dk_162 0 71 (dk_at dksX12_unescape_1 13 rfl rfl)
theorem dX12_unescape_40 : decode cX12_unescape 40 = .ok (.aload_n 0, 1) := dk_42 (dk_at dksX12_unescape_1 16 rfl rfl)
theorem dX12_unescape_41 : decode cX12_unescape 41 = .ok (.getfield 160, 3) := dk_180 0 160 (dk_at dksX12_unescape_1 17 rfl rfl)
theorem dX12_unescape_44 : decode cX12_unescape 44 = .ok (.sipush 8192, 3) := dk_17 32 0 (dk_at dksX12_unescape_1 20 rfl rfl)
theorem dX12_unescape_47 : decode cX12_unescape 47 = .ok (.if_icmp .gt 61, 3) := dk_163 0 61 (dk_at dksX12_unescape_2 0 rfl rfl)
theorem dX12_unescape_50 : decode cX12_unescape 50 = .ok (.aload_n 2, 1) := dk_44 (dk_at dksX12_unescape_2 3 rfl rfl)
theorem dX12_unescape_51 : decode cX12_unescape 51 = .ok (.iload_n 3, 1) := dk_29 (dk_at dksX12_unescape_2 4 rfl rfl)
theorem dX12_unescape_52 : decode cX12_unescape 52 = .ok (.baload, 1) := dk_51 (dk_at dksX12_unescape_2 5 rfl rfl)
theorem dX12_unescape_53 : decode cX12_unescape 53 = .ok (.istore 4, 2) := dk_54 4 (dk_at dksX12_unescape_2 6 rfl rfl)
theorem dX12_unescape_55 : decode cX12_unescape 55 = .ok (.iload 4, 2) := dk_21 4 (dk_at dksX12_unescape_2 8 rfl rfl)
theorem dX12_unescape_57 : decode cX12_unescape 57 = .ok (.bipush 92, 2) := dk_16 92 (dk_at dksX12_unescape_2 10 rfl rfl)
theorem dX12_unescape_59 : decode cX12_unescape 59 = .ok (.if_icmp .ne 24, 3) := dk_160 0 24 (dk_at dksX12_unescape_2 12 rfl rfl)
theorem dX12_unescape_62 : decode cX12_unescape 62 = .ok (.iinc 3 1, 3) := dk_132 3 1 (dk_at dksX12_unescape_2 15 rfl rfl)
theorem dX12_unescape_65 : decode cX12_unescape 65 = .ok (.aload_n 2, 1) := dk_44 (dk_at dksX12_unescape_2 18 rfl rfl)
theorem dX12_unescape_66 : decode cX12_unescape 66 = .ok (.iload_n 3, 1) := dk_29 (dk_at dksX12_unescape_2 19 rfl rfl)
theorem dX12_unescape_67 : decode cX12_unescape 67 = .ok (.baload, 1) := dk_51 (dk_at dksX12_unescape_2 20 rfl rfl)
theorem dX12_unescape_68 : decode cX12_unescape 68 = .ok (.bipush 110, 2) := dk_16 110 (dk_at dksX12_unescape_2 21 rfl rfl)
theorem dX12_unescape_70 : decode cX12_unescape 70 = .ok (.if_icmp .ne 8, 3) := dk_160 0 8 (dk_at dksX12_unescape_3 0 rfl rfl)
theorem dX12_unescape_73 : decode cX12_unescape 73 = .ok (.bipush 10, 2) := dk_16 10 (dk_at dksX12_unescape_3 3 rfl rfl)
theorem dX12_unescape_75 : decode cX12_unescape 75 = .ok (.goto 6, 3) := dk_167 0 6 (dk_at dksX12_unescape_3 5 rfl rfl)
theorem dX12_unescape_78 : decode cX12_unescape 78 = .ok (.aload_n 2, 1) := dk_44 (dk_at dksX12_unescape_3 8 rfl rfl)
theorem dX12_unescape_79 : decode cX12_unescape 79 = .ok (.iload_n 3, 1) := dk_29 (dk_at dksX12_unescape_3 9 rfl rfl)
theorem dX12_unescape_80 : decode cX12_unescape 80 = .ok (.baload, 1) := dk_51 (dk_at dksX12_unescape_3 10 rfl rfl)
theorem dX12_unescape_81 : decode cX12_unescape 81 = .ok (.istore 4, 2) := dk_54 4 (dk_at dksX12_unescape_3 11 rfl rfl)
theorem dX12_unescape_83 : decode cX12_unescape 83 = .ok (.aload_n 0, 1) := dk_42 (dk_at dksX12_unescape_3 13 rfl rfl)
theorem dX12_unescape_84 : decode cX12_unescape 84 = .ok (.getfield 20, 3) := dk_180 0 20 (dk_at dksX12_unescape_3 14 rfl rfl)
theorem dX12_unescape_87 : decode cX12_unescape 87 = .ok (.aload_n 0, 1) := dk_42 (dk_at dksX12_unescape_3 17 rfl rfl)
theorem dX12_unescape_88 : decode cX12_unescape 88 = .ok (.dup, 1) := dk_89 (dk_at dksX12_unescape_3 18 rfl rfl)
theorem dX12_unescape_89 : decode cX12_unescape 89 = .ok (.getfield 160, 3) := dk_180 0 160 (dk_at dksX12_unescape_3 19 rfl rfl)
theorem dX12_unescape_92 : decode cX12_unescape 92 = .ok (.dup_x1, 1) := dk_90 (dk_at dksX12_unescape_3 22 rfl rfl)
theorem dX12_unescape_93 : decode cX12_unescape 93 = .ok (.iconst 1, 1) := dk_4 (dk_at dksX12_unescape_3 23 rfl rfl)
theorem dX12_unescape_94 : decode cX12_unescape 94 = .ok (.iadd, 1) := dk_96 (dk_at dksX12_unescape_4 0 rfl rfl)
theorem dX12_unescape_95 : decode cX12_unescape 95 = .ok (.putfield 160, 3) := dk_181 0 160 (dk_at dksX12_unescape_4 1 rfl rfl)
theorem dX12_unescape_98 : decode cX12_unescape 98 = .ok (.iload 4, 2) := dk_21 4 (dk_at dksX12_unescape_4 4 rfl rfl)
theorem dX12_unescape_100 : decode cX12_unescape 100 = .ok (.i2b, 1) := dk_145 (dk_at dksX12_unescape_4 6 rfl rfl)
theorem dX12_unescape_101 : decode cX12_unescape 101 = .ok (.bastore, 1) := dk_84 (dk_at dksX12_unescape_4 7 rfl rfl)
theorem dX12_unescape_102 : decode cX12_unescape 102 = .ok (.iinc 3 1, 3) := dk_132 3 1 (dk_at dksX12_unescape_4 8 rfl rfl)
theorem dX12_unescape_105 : decode cX12_unescape 105 = .ok (.goto (-80), 3) := dk_167 255 176 (dk_at dksX12_unescape_4 11 rfl rfl)
theorem dX12_unescape_108 : decode cX12_unescape 108 = .ok (.aload_n 0, 1) := dk_42 (dk_at dksX12_unescape_4 14 rfl rfl)
theorem dX12_unescape_109 : decode cX12_unescape 109 = .ok (.getfield 160, 3) := dk_180 0 160 (dk_at dksX12_unescape_4 15 rfl rfl)
theorem dX12_unescape_112 : decode cX12_unescape 112 = .ok (.sipush 8192, 3) := dk_17 32 0 (dk_at dksX12_unescape_4 18 rfl rfl)
theorem dX12_unescape_115 : decode cX12_unescape 115 = .ok (.if_icmp .gt 7, 3) := dk_163 0 7 (dk_at dksX12_unescape_4 21 rfl rfl)
theorem dX12_unescape_118 : decode cX12_unescape 118 = .ok (.iconst 1, 1) := dk_4 (dk_at dksX12_unescape_5 0 rfl rfl)
theorem dX12_unescape_119 : decode cX12_unescape 119 = .ok (.goto 4, 3) := dk_167 0 4 (dk_at dksX12_unescape_5 1 rfl rfl)
theorem dX12_unescape_122 : decode cX12_unescape 122 = .ok (.iconst 0, 1) := dk_3 (dk_at dksX12_unescape_5 4 rfl rfl)
theorem dX12_unescape_123 : decode cX12_unescape 123 = .ok (.ireturn, 1) := dk_172 (dk_at dksX12_unescape_5 5 rfl rfl)
abbrev cX12_readBytes : ByteArray := prog_4_method_10_code
def yX12_readBytes : MethodName := ⟨RX12, "readBytes", "(I)I"⟩
def dkwX12_readBytes_5 : List UInt8 := [145, 84, 132, 4, 1, 167, 255, 202, 42, 180, 0, 36, 42, 180, 0, 20, 3, 28, 182, 0, 177, 172]
abbrev dktX12_readBytes_5 : List UInt8 := dkwX12_readBytes_5 ++ []
def dkwX12_readBytes_4 : List UInt8 := [180, 0, 20, 21, 4, 45, 21, 5, 51, 184, 0, 180, 7, 120, 45, 21, 5, 4, 96, 51, 184, 0, 180, 128]
abbrev dktX12_readBytes_4 : List UInt8 := dkwX12_readBytes_4 ++ dktX12_readBytes_5
def dkwX12_readBytes_3 : List UInt8 := [162, 0, 54, 42, 180, 0, 28, 180, 0, 136, 27, 46, 5, 96, 5, 21, 4, 104, 96, 54, 5, 42]
abbrev dktX12_readBytes_3 : List UInt8 := dkwX12_readBytes_3 ++ dktX12_readBytes_4
def dkwX12_readBytes_2 : List UInt8 := [17, 32, 0, 164, 0, 5, 3, 172, 42, 180, 0, 28, 182, 0, 132, 78, 3, 54, 4, 21, 4, 28]
abbrev dktX12_readBytes_2 : List UInt8 := dkwX12_readBytes_2 ++ dktX12_readBytes_3
def dkwX12_readBytes_1 : List UInt8 := [180, 0, 28, 180, 0, 136, 27, 46, 100, 5, 108, 4, 100, 167, 0, 4, 2, 61, 28, 155, 0, 10, 28]
abbrev dktX12_readBytes_1 : List UInt8 := dkwX12_readBytes_1 ++ dktX12_readBytes_2
def dkwX12_readBytes_0 : List UInt8 := [42, 180, 0, 28, 180, 0, 92, 27, 51, 7, 160, 0, 29, 42, 180, 0, 28, 180, 0, 139, 27, 46, 42]
abbrev dktX12_readBytes_0 : List UInt8 := dkwX12_readBytes_0 ++ dktX12_readBytes_1
theorem dksX12_readBytes_0 : cX12_readBytes.data.toList.drop 0 = dktX12_readBytes_0 := by decide +kernel
theorem dksX12_readBytes_1 : cX12_readBytes.data.toList.drop 23 = dktX12_readBytes_1 := dk_seg dksX12_readBytes_0 23 rfl rfl
theorem dksX12_readBytes_2 : cX12_readBytes.data.toList.drop 46 = dktX12_readBytes_2 := dk_seg dksX12_readBytes_1 23 rfl rfl
theorem dksX12_readBytes_3 : cX12_readBytes.data.toList.drop 68 = dktX12_readBytes_3 := dk_seg dksX12_readBytes_2 22 rfl rfl
theorem dksX12_readBytes_4 : cX12_readBytes.data.toList.drop 90 = dktX12_readBytes_4 := dk_seg dksX12_readBytes_3 22 rfl rfl
theorem dksX12_readBytes_5 : cX12_readBytes.data.toList.drop 114 = dktX12_readBytes_5 := dk_seg dksX12_readBytes_4 24 rfl rfl
theorem dX12_readBytes_0 : decode cX12_readBytes 0 = .ok (.aload_n 0, 1) := dk_42 (dk_at dksX12_readBytes_0 0 rfl rfl)
theorem dX12_readBytes_1 : decode cX12_readBytes 1 = .ok (.getfield 28, 3) := dk_180 0 28 (dk_at dksX12_readBytes_0 1 rfl rfl)
theorem dX12_readBytes_4 : decode cX12_readBytes 4 = .ok (.getfield 92, 3) := dk_180 0 92 (dk_at dksX12_readBytes_0 4 rfl rfl)
theorem dX12_readBytes_7 : decode cX12_readBytes 7 = .ok (.iload_n 1, 1) := dk_27 (dk_at dksX12_readBytes_0 7 rfl rfl)
theorem dX12_readBytes_8 : decode cX12_readBytes 8 = .ok (.baload, 1) := dk_51 (dk_at dksX12_readBytes_0 8 rfl rfl)
theorem dX12_readBytes_9 : decode cX12_readBytes 9 = .ok (.iconst 4, 1) := dk_7 (dk_at dksX12_readBytes_0 9 rfl rfl)
theorem dX12_readBytes_10 : decode cX12_readBytes 10 = .ok (.if_icmp .ne 29, 3) := dk_160 0 29 (dk_at dksX12_readBytes_0 10 rfl rfl)
theorem dX12_readBytes_13 : decode cX12_readBytes 13 = .ok (.aload_n 0, 1) := dk_42 (dk_at dksX12_readBytes_0 13 rfl rfl)
theorem dX12_readBytes_14 : decode cX12_readBytes 14 = .ok (.getfield 28, 3) := dk_180 0 28 (dk_at dksX12_readBytes_0 14 rfl rfl)
theorem dX12_readBytes_17 : decode cX12_readBytes 17 = .ok (.getfield 139, 3) := dk_180 0 139 (dk_at dksX12_readBytes_0 17 rfl rfl)
theorem dX12_readBytes_20 : decode cX12_readBytes 20 = .ok (.iload_n 1, 1) := dk_27 (dk_at dksX12_readBytes_0 20 rfl rfl)
theorem dX12_readBytes_21 : decode cX12_readBytes 21 = .ok (.iaload, 1) := dk_46 (dk_at dksX12_readBytes_0 21 rfl rfl)
theorem dX12_readBytes_22 : decode cX12_readBytes 22 = .ok (.aload_n 0, 1) := dk_42 (dk_at dksX12_readBytes_0 22 rfl rfl)
theorem dX12_readBytes_23 : decode cX12_readBytes 23 = .ok (.getfield 28, 3) := dk_180 0 28 (dk_at dksX12_readBytes_1 0 rfl rfl)
theorem dX12_readBytes_26 : decode cX12_readBytes 26 = .ok (.getfield 136, 3) := dk_180 0 136 (dk_at dksX12_readBytes_1 3 rfl rfl)
theorem dX12_readBytes_29 : decode cX12_readBytes 29 = .ok (.iload_n 1, 1) := dk_27 (dk_at dksX12_readBytes_1 6 rfl rfl)
theorem dX12_readBytes_30 : decode cX12_readBytes 30 = .ok (.iaload, 1) := dk_46 (dk_at dksX12_readBytes_1 7 rfl rfl)
theorem dX12_readBytes_31 : decode cX12_readBytes 31 = .ok (.isub, 1) := dk_100 (dk_at dksX12_readBytes_1 8 rfl rfl)
theorem dX12_readBytes_32 : decode cX12_readBytes 32 = .ok (.iconst 2, 1) := dk_5 (dk_at dksX12_readBytes_1 9 rfl rfl)
theorem dX12_readBytes_33 : decode cX12_readBytes 33 = .ok (.idiv, 1) := dk_108 (dk_at dksX12_readBytes_1 10 rfl rfl)
theorem dX12_readBytes_34 : decode cX12_readBytes 34 = .ok (.iconst 1, 1) := dk_4 (dk_at dksX12_readBytes_1 11 rfl rfl)
theorem dX12_readBytes_35 : decode cX12_readBytes 35 = .ok (.isub, 1) := dk_100 (dk_at dksX12_readBytes_1 12 rfl rfl)
theorem dX12_readBytes_36 : decode cX12_readBytes 36 = .ok (.goto 4, 3) := dk_167 0 4 (dk_at dksX12_readBytes_1 13 rfl rfl)
theorem dX12_readBytes_39 : decode cX12_readBytes 39 = .ok (.iconst (-1), 1) := dk_2 (dk_at dksX12_readBytes_1 16 rfl rfl)
theorem dX12_readBytes_40 : decode cX12_readBytes 40 = .ok (.istore_n 2, 1) := dk_61 (dk_at dksX12_readBytes_1 17 rfl rfl)
theorem dX12_readBytes_41 : decode cX12_readBytes 41 = .ok (.iload_n 2, 1) := dk_28 (dk_at dksX12_readBytes_1 18 rfl rfl)
theorem dX12_readBytes_42 : decode cX12_readBytes 42 = .ok (.ifCond .lt 10, 3) := dk_155 0 10 (dk_at dksX12_readBytes_1 19 rfl rfl)
theorem dX12_readBytes_45 : decode cX12_readBytes 45 = .ok (.iload_n 2, 1) := dk_28 (dk_at dksX12_readBytes_1 22 rfl rfl)
theorem dX12_readBytes_46 : decode cX12_readBytes 46 = .ok (.sipush 8192, 3) := dk_17 32 0 (dk_at dksX12_readBytes_2 0 rfl rfl)
theorem dX12_readBytes_49 : decode cX12_readBytes 49 = .ok (.if_icmp .le 5, 3) := dk_164 0 5 (dk_at dksX12_readBytes_2 3 rfl rfl)
theorem dX12_readBytes_52 : decode cX12_readBytes 52 = .ok (.iconst 0, 1) := dk_3 (dk_at dksX12_readBytes_2 6 rfl rfl)
theorem dX12_readBytes_53 : decode cX12_readBytes 53 = .ok (.ireturn, 1) := dk_172 (dk_at dksX12_readBytes_2 7 rfl rfl)
theorem dX12_readBytes_54 : decode cX12_readBytes 54 = .ok (.aload_n 0, 1) := dk_42 (dk_at dksX12_readBytes_2 8 rfl rfl)
theorem dX12_readBytes_55 : decode cX12_readBytes 55 = .ok (.getfield 28, 3) := dk_180 0 28 (dk_at dksX12_readBytes_2 9 rfl rfl)
theorem dX12_readBytes_58 : decode cX12_readBytes 58 = .ok (.invokevirtual 132, 3) := dk_182 0 132 (dk_at dksX12_readBytes_2 12 rfl rfl)
theorem dX12_readBytes_61 : decode cX12_readBytes 61 = .ok (.astore_n 3, 1) := dk_78 (dk_at dksX12_readBytes_2 15 rfl rfl)
theorem dX12_readBytes_62 : decode cX12_readBytes 62 = .ok (.iconst 0, 1) := dk_3 (dk_at dksX12_readBytes_2 16 rfl rfl)
theorem dX12_readBytes_63 : decode cX12_readBytes 63 = .ok (.istore 4, 2) := dk_54 4 (dk_at dksX12_readBytes_2 17 rfl rfl)
theorem dX12_readBytes_65 : decode cX12_readBytes 65 = .ok (.iload 4, 2) := dk_21 4 (dk_at dksX12_readBytes_2 19 rfl rfl)
theorem dX12_readBytes_67 : decode cX12_readBytes 67 = .ok (.iload_n 2, 1) := dk_28 (dk_at dksX12_readBytes_2 21 rfl rfl)
theorem dX12_readBytes_68 : decode cX12_readBytes 68 = .ok (.if_icmp .ge 54, 3) := dk_162 0 54 (dk_at dksX12_readBytes_3 0 rfl rfl)
theorem dX12_readBytes_71 : decode cX12_readBytes 71 = .ok (.aload_n 0, 1) := dk_42 (dk_at dksX12_readBytes_3 3 rfl rfl)
theorem dX12_readBytes_72 : decode cX12_readBytes 72 = .ok (.getfield 28, 3) := dk_180 0 28 (dk_at dksX12_readBytes_3 4 rfl rfl)
theorem dX12_readBytes_75 : decode cX12_readBytes 75 = .ok (.getfield 136, 3) := dk_180 0 136 (dk_at dksX12_readBytes_3 7 rfl rfl)
theorem dX12_readBytes_78 : decode cX12_readBytes 78 = .ok (.iload_n 1, 1) := dk_27 (dk_at dksX12_readBytes_3 10 rfl rfl)
theorem dX12_readBytes_79 : decode cX12_readBytes 79 = .ok (.iaload, 1) := dk_46 (dk_at dksX12_readBytes_3 11 rfl rfl)
theorem dX12_readBytes_80 : decode cX12_readBytes 80 = .ok (.iconst 2, 1) := dk_5 (dk_at dksX12_readBytes_3 12 rfl rfl)
theorem dX12_readBytes_81 : decode cX12_readBytes 81 = .ok (.iadd, 1) := dk_96 (dk_at dksX12_readBytes_3 13 rfl rfl)
theorem dX12_readBytes_82 : decode cX12_readBytes 82 = .ok (.iconst 2, 1) := dk_5 (dk_at dksX12_readBytes_3 14 rfl rfl)
theorem dX12_readBytes_83 : decode cX12_readBytes 83 = .ok (.iload 4, 2) := dk_21 4 (dk_at dksX12_readBytes_3 15 rfl rfl)
theorem dX12_readBytes_85 : decode cX12_readBytes 85 = .ok (.imul, 1) := dk_104 (dk_at dksX12_readBytes_3 17 rfl rfl)
theorem dX12_readBytes_86 : decode cX12_readBytes 86 = .ok (.iadd, 1) := dk_96 (dk_at dksX12_readBytes_3 18 rfl rfl)
theorem dX12_readBytes_87 : decode cX12_readBytes 87 = .ok (.istore 5, 2) := dk_54 5 (dk_at dksX12_readBytes_3 19 rfl rfl)
theorem dX12_readBytes_89 : decode cX12_readBytes 89 = .ok (.aload_n 0, 1) := dk_42 (dk_at dksX12_readBytes_3 21 rfl rfl)
theorem dX12_readBytes_90 : decode cX12_readBytes 90 = .ok (.getfield 20, 3) := dk_180 0 20 (dk_at dksX12_readBytes_4 0 rfl rfl)
theorem dX12_readBytes_93 : decode cX12_readBytes 93 = .ok (.iload 4, 2) := dk_21 4 (dk_at dksX12_readBytes_4 3 rfl rfl)
theorem dX12_readBytes_95 : decode cX12_readBytes 95 = .ok (.aload_n 3, 1) := dk_45 (dk_at dksX12_readBytes_4 5 rfl rfl)
theorem dX12_readBytes_96 : decode cX12_readBytes 96 = .ok (.iload 5, 2) := dk_21 5 (dk_at dksX12_readBytes_4 6 rfl rfl)
theorem dX12_readBytes_98 : decode cX12_readBytes 98 = .ok (.baload, 1) := dk_51 (dk_at dksX12_readBytes_4 8 rfl rfl)
theorem dX12_readBytes_99 : decode cX12_readBytes 99 = .ok (.invokestatic 180, 3) := dk_184 0 180 (dk_at dksX12_readBytes_4 9 rfl rfl)
theorem dX12_readBytes_102 : decode cX12_readBytes 102 = .ok (.iconst 4, 1) := dk_7 (dk_at dksX12_readBytes_4 12 rfl rfl)
theorem dX12_readBytes_103 : decode cX12_readBytes 103 = .ok (.ishl, 1) := dk_120 (dk_at dksX12_readBytes_4 13 rfl rfl)
theorem dX12_readBytes_104 : decode cX12_readBytes 104 = .ok (.aload_n 3, 1) := dk_45 (dk_at dksX12_readBytes_4 14 rfl rfl)
theorem dX12_readBytes_105 : decode cX12_readBytes 105 = .ok (.iload 5, 2) := dk_21 5 (dk_at dksX12_readBytes_4 15 rfl rfl)
theorem dX12_readBytes_107 : decode cX12_readBytes 107 = .ok (.iconst 1, 1) := dk_4 (dk_at dksX12_readBytes_4 17 rfl rfl)
theorem dX12_readBytes_108 : decode cX12_readBytes 108 = .ok (.iadd, 1) := dk_96 (dk_at dksX12_readBytes_4 18 rfl rfl)
theorem dX12_readBytes_109 : decode cX12_readBytes 109 = .ok (.baload, 1) := dk_51 (dk_at dksX12_readBytes_4 19 rfl rfl)
theorem dX12_readBytes_110 : decode cX12_readBytes 110 = .ok (.invokestatic 180, 3) := dk_184 0 180 (dk_at dksX12_readBytes_4 20 rfl rfl)
theorem dX12_readBytes_113 : decode cX12_readBytes 113 = .ok (.ior, 1) := dk_128 (dk_at dksX12_readBytes_4 23 rfl rfl)
theorem dX12_readBytes_114 : decode cX12_readBytes 114 = .ok (.i2b, 1) := dk_145 (dk_at dksX12_readBytes_5 0 rfl rfl)
theorem dX12_readBytes_115 : decode cX12_readBytes 115 = .ok (.bastore, 1) := dk_84 (dk_at dksX12_readBytes_5 1 rfl rfl)
theorem dX12_readBytes_116 : decode cX12_readBytes 116 = .ok (.iinc 4 1, 3) := dk_132 4 1 (dk_at dksX12_readBytes_5 2 rfl rfl)
theorem dX12_readBytes_119 : decode cX12_readBytes 119 = .ok (.goto (-54), 3) := dk_167 255 202 (dk_at dksX12_readBytes_5 5 rfl rfl)
theorem dX12_readBytes_122 : decode cX12_readBytes 122 = .ok (.aload_n 0, 1) := dk_42 (dk_at dksX12_readBytes_5 8 rfl rfl)
theorem dX12_readBytes_123 : decode cX12_readBytes 123 = .ok (.getfield 36, 3) := dk_180 0 36 (dk_at dksX12_readBytes_5 9 rfl rfl)
theorem dX12_readBytes_126 : decode cX12_readBytes 126 = .ok (.aload_n 0, 1) := dk_42 (dk_at dksX12_readBytes_5 12 rfl rfl)
theorem dX12_readBytes_127 : decode cX12_readBytes 127 = .ok (.getfield 20, 3) := dk_180 0 20 (dk_at dksX12_readBytes_5 13 rfl rfl)
theorem dX12_readBytes_130 : decode cX12_readBytes 130 = .ok (.iconst 0, 1) := dk_3 (dk_at dksX12_readBytes_5 16 rfl rfl)
theorem dX12_readBytes_131 : decode cX12_readBytes 131 = .ok (.iload_n 2, 1) := dk_28 (dk_at dksX12_readBytes_5 17 rfl rfl)
theorem dX12_readBytes_132 : decode cX12_readBytes 132 = .ok (.invokevirtual 177, 3) := dk_182 0 177 (dk_at dksX12_readBytes_5 18 rfl rfl)
theorem dX12_readBytes_135 : decode cX12_readBytes 135 = .ok (.ireturn, 1) := dk_172 (dk_at dksX12_readBytes_5 21 rfl rfl)
abbrev cX12_readWrapped : ByteArray := prog_4_method_3_code
def yX12_readWrapped : MethodName := ⟨RX12, "readWrapped", "(IIII)I"⟩
def dkwX12_readWrapped_2 : List UInt8 := [29, 21, 5, 182, 0, 121, 172]
abbrev dktX12_readWrapped_2 : List UInt8 := dkwX12_readWrapped_2 ++ []
def dkwX12_readWrapped_1 : List UInt8 := [21, 4, 182, 0, 118, 167, 0, 4, 3, 54, 5, 21, 5, 154, 0, 7, 3, 167, 0, 13, 42, 180, 0, 36]
abbrev dktX12_readWrapped_1 : List UInt8 := dkwX12_readWrapped_1 ++ dktX12_readWrapped_2
def dkwX12_readWrapped_0 : List UInt8 := [42, 180, 0, 28, 27, 28, 4, 182, 0, 64, 153, 0, 21, 42, 42, 180, 0, 28, 180, 0, 101, 27, 46]
abbrev dktX12_readWrapped_0 : List UInt8 := dkwX12_readWrapped_0 ++ dktX12_readWrapped_1
theorem dksX12_readWrapped_0 : cX12_readWrapped.data.toList.drop 0 = dktX12_readWrapped_0 := by decide +kernel
theorem dksX12_readWrapped_1 : cX12_readWrapped.data.toList.drop 23 = dktX12_readWrapped_1 := dk_seg dksX12_readWrapped_0 23 rfl rfl
theorem dksX12_readWrapped_2 : cX12_readWrapped.data.toList.drop 47 = dktX12_readWrapped_2 := dk_seg dksX12_readWrapped_1 24 rfl rfl
theorem dX12_readWrapped_0 : decode cX12_readWrapped 0 = .ok (.aload_n 0, 1) := dk_42 (dk_at dksX12_readWrapped_0 0 rfl rfl)
theorem dX12_readWrapped_1 : decode cX12_readWrapped 1 = .ok (.getfield 28, 3) := dk_180 0 28 (dk_at dksX12_readWrapped_0 1 rfl rfl)
theorem dX12_readWrapped_4 : decode cX12_readWrapped 4 = .ok (.iload_n 1, 1) := dk_27 (dk_at dksX12_readWrapped_0 4 rfl rfl)
theorem dX12_readWrapped_5 : decode cX12_readWrapped 5 = .ok (.iload_n 2, 1) := dk_28 (dk_at dksX12_readWrapped_0 5 rfl rfl)
theorem dX12_readWrapped_6 : decode cX12_readWrapped 6 = .ok (.iconst 1, 1) := dk_4 (dk_at dksX12_readWrapped_0 6 rfl rfl)
theorem dX12_readWrapped_7 : decode cX12_readWrapped 7 = .ok (.invokevirtual 64, 3) := dk_182 0 64 (dk_at dksX12_readWrapped_0 7 rfl rfl)
theorem dX12_readWrapped_10 : decode cX12_readWrapped 10 = .ok (.ifCond .eq 21, 3) := dk_153 0 21 (dk_at dksX12_readWrapped_0 10 rfl rfl)
theorem dX12_readWrapped_13 : decode cX12_readWrapped 13 = .ok (.aload_n 0, 1) := dk_42 (dk_at dksX12_readWrapped_0 13 rfl rfl)
theorem dX12_readWrapped_14 : decode cX12_readWrapped 14 = .ok (.aload_n 0, 1) := dk_42 (dk_at dksX12_readWrapped_0 14 rfl rfl)
theorem dX12_readWrapped_15 : decode cX12_readWrapped 15 = .ok (.getfield 28, 3) := dk_180 0 28 (dk_at dksX12_readWrapped_0 15 rfl rfl)
theorem dX12_readWrapped_18 : decode cX12_readWrapped 18 = .ok (.getfield 101, 3) := dk_180 0 101 (dk_at dksX12_readWrapped_0 18 rfl rfl)
theorem dX12_readWrapped_21 : decode cX12_readWrapped 21 = .ok (.iload_n 1, 1) := dk_27 (dk_at dksX12_readWrapped_0 21 rfl rfl)
theorem dX12_readWrapped_22 : decode cX12_readWrapped 22 = .ok (.iaload, 1) := dk_46 (dk_at dksX12_readWrapped_0 22 rfl rfl)
theorem dX12_readWrapped_23 : decode cX12_readWrapped 23 = .ok (.iload 4, 2) := dk_21 4 (dk_at dksX12_readWrapped_1 0 rfl rfl)
theorem dX12_readWrapped_25 : decode cX12_readWrapped 25 = .ok (.invokevirtual 118, 3) := dk_182 0 118 (dk_at dksX12_readWrapped_1 2 rfl rfl)
theorem dX12_readWrapped_28 : decode cX12_readWrapped 28 = .ok (.goto 4, 3) := dk_167 0 4 (dk_at dksX12_readWrapped_1 5 rfl rfl)
theorem dX12_readWrapped_31 : decode cX12_readWrapped 31 = .ok (.iconst 0, 1) := dk_3 (dk_at dksX12_readWrapped_1 8 rfl rfl)
theorem dX12_readWrapped_32 : decode cX12_readWrapped 32 = .ok (.istore 5, 2) := dk_54 5 (dk_at dksX12_readWrapped_1 9 rfl rfl)
theorem dX12_readWrapped_34 : decode cX12_readWrapped 34 = .ok (.iload 5, 2) := dk_21 5 (dk_at dksX12_readWrapped_1 11 rfl rfl)
theorem dX12_readWrapped_36 : decode cX12_readWrapped 36 = .ok (.ifCond .ne 7, 3) := dk_154 0 7 (dk_at dksX12_readWrapped_1 13 rfl rfl)
theorem dX12_readWrapped_39 : decode cX12_readWrapped 39 = .ok (.iconst 0, 1) := dk_3 (dk_at dksX12_readWrapped_1 16 rfl rfl)
theorem dX12_readWrapped_40 : decode cX12_readWrapped 40 = .ok (.goto 13, 3) := dk_167 0 13 (dk_at dksX12_readWrapped_1 17 rfl rfl)
theorem dX12_readWrapped_43 : decode cX12_readWrapped 43 = .ok (.aload_n 0, 1) := dk_42 (dk_at dksX12_readWrapped_1 20 rfl rfl)
theorem dX12_readWrapped_44 : decode cX12_readWrapped 44 = .ok (.getfield 36, 3) := dk_180 0 36 (dk_at dksX12_readWrapped_1 21 rfl rfl)
theorem dX12_readWrapped_47 : decode cX12_readWrapped 47 = .ok (.iload_n 3, 1) := dk_29 (dk_at dksX12_readWrapped_2 0 rfl rfl)
theorem dX12_readWrapped_48 : decode cX12_readWrapped 48 = .ok (.iload 5, 2) := dk_21 5 (dk_at dksX12_readWrapped_2 1 rfl rfl)
theorem dX12_readWrapped_50 : decode cX12_readWrapped 50 = .ok (.invokevirtual 121, 3) := dk_182 0 121 (dk_at dksX12_readWrapped_2 3 rfl rfl)
theorem dX12_readWrapped_53 : decode cX12_readWrapped 53 = .ok (.ireturn, 1) := dk_172 (dk_at dksX12_readWrapped_2 6 rfl rfl)
abbrev cX12_readComb : ByteArray := prog_4_method_4_code
def yX12_readComb : MethodName := ⟨RX12, "readComb", "(II)I"⟩
def dkwX12_readComb_4 : List UInt8 := [21, 4, 21, 5, 182, 0, 127, 172]
abbrev dktX12_readComb_4 : List UInt8 := dkwX12_readComb_4 ++ []
def dkwX12_readComb_3 : List UInt8 := [180, 0, 89, 28, 46, 182, 0, 104, 54, 5, 21, 5, 154, 0, 7, 3, 167, 0, 14, 42, 180, 0, 36]
abbrev dktX12_readComb_3 : List UInt8 := dkwX12_readComb_3 ++ dktX12_readComb_4
def dkwX12_readComb_2 : List UInt8 := [28, 46, 182, 0, 118, 54, 4, 21, 4, 154, 0, 7, 3, 167, 0, 17, 42, 29, 42, 180, 0, 32]
abbrev dktX12_readComb_2 : List UInt8 := dkwX12_readComb_2 ++ dktX12_readComb_3
def dkwX12_readComb_1 : List UInt8 := [180, 0, 32, 180, 0, 57, 28, 51, 16, 18, 159, 0, 5, 3, 172, 42, 27, 42, 180, 0, 32, 180, 0, 82]
abbrev dktX12_readComb_1 : List UInt8 := dkwX12_readComb_1 ++ dktX12_readComb_2
def dkwX12_readComb_0 : List UInt8 := [42, 180, 0, 28, 180, 0, 124, 27, 46, 62, 29, 156, 0, 10, 42, 27, 28, 182, 0, 118, 172, 42]
abbrev dktX12_readComb_0 : List UInt8 := dkwX12_readComb_0 ++ dktX12_readComb_1
theorem dksX12_readComb_0 : cX12_readComb.data.toList.drop 0 = dktX12_readComb_0 := by decide +kernel
theorem dksX12_readComb_1 : cX12_readComb.data.toList.drop 22 = dktX12_readComb_1 := dk_seg dksX12_readComb_0 22 rfl rfl
theorem dksX12_readComb_2 : cX12_readComb.data.toList.drop 46 = dktX12_readComb_2 := dk_seg dksX12_readComb_1 24 rfl rfl
theorem dksX12_readComb_3 : cX12_readComb.data.toList.drop 68 = dktX12_readComb_3 := dk_seg dksX12_readComb_2 22 rfl rfl
theorem dksX12_readComb_4 : cX12_readComb.data.toList.drop 91 = dktX12_readComb_4 := dk_seg dksX12_readComb_3 23 rfl rfl
theorem dX12_readComb_0 : decode cX12_readComb 0 = .ok (.aload_n 0, 1) := dk_42 (dk_at dksX12_readComb_0 0 rfl rfl)
theorem dX12_readComb_1 : decode cX12_readComb 1 = .ok (.getfield 28, 3) := dk_180 0 28 (dk_at dksX12_readComb_0 1 rfl rfl)
theorem dX12_readComb_4 : decode cX12_readComb 4 = .ok (.getfield 124, 3) := dk_180 0 124 (dk_at dksX12_readComb_0 4 rfl rfl)
theorem dX12_readComb_7 : decode cX12_readComb 7 = .ok (.iload_n 1, 1) := dk_27 (dk_at dksX12_readComb_0 7 rfl rfl)
theorem dX12_readComb_8 : decode cX12_readComb 8 = .ok (.iaload, 1) := dk_46 (dk_at dksX12_readComb_0 8 rfl rfl)
theorem dX12_readComb_9 : decode cX12_readComb 9 = .ok (.istore_n 3, 1) := dk_62 (dk_at dksX12_readComb_0 9 rfl rfl)
theorem dX12_readComb_10 : decode cX12_readComb 10 = .ok (.iload_n 3, 1) := dk_29 (dk_at dksX12_readComb_0 10 rfl rfl)
theorem dX12_readComb_11 : decode cX12_readComb 11 = .ok (.ifCond .ge 10, 3) := dk_156 0 10 (dk_at dksX12_readComb_0 11 rfl rfl)
theorem dX12_readComb_14 : decode cX12_readComb 14 = .ok (.aload_n 0, 1) := dk_42 (dk_at dksX12_readComb_0 14 rfl rfl)
theorem dX12_readComb_15 : decode cX12_readComb 15 = .ok (.iload_n 1, 1) := dk_27 (dk_at dksX12_readComb_0 15 rfl rfl)
theorem dX12_readComb_16 : decode cX12_readComb 16 = .ok (.iload_n 2, 1) := dk_28 (dk_at dksX12_readComb_0 16 rfl rfl)
theorem dX12_readComb_17 : decode cX12_readComb 17 = .ok (.invokevirtual 118, 3) := dk_182 0 118 (dk_at dksX12_readComb_0 17 rfl rfl)
theorem dX12_readComb_20 : decode cX12_readComb 20 = .ok (.ireturn, 1) := dk_172 (dk_at dksX12_readComb_0 20 rfl rfl)
theorem dX12_readComb_21 : decode cX12_readComb 21 = .ok (.aload_n 0, 1) := dk_42 (dk_at dksX12_readComb_0 21 rfl rfl)
theorem dX12_readComb_22 : decode cX12_readComb 22 = .ok (.getfield 32, 3) := dk_180 0 32 (dk_at dksX12_readComb_1 0 rfl rfl)
theorem dX12_readComb_25 : decode cX12_readComb 25 = .ok (.getfield 57, 3) := dk_180 0 57 (dk_at dksX12_readComb_1 3 rfl rfl)
theorem dX12_readComb_28 : decode cX12_readComb 28 = .ok (.iload_n 2, 1) := dk_28 (dk_at dksX12_readComb_1 6 rfl rfl)
theorem dX12_readComb_29 : decode cX12_readComb 29 = .ok (.baload, 1) := dk_51 (dk_at dksX12_readComb_1 7 rfl rfl)
theorem dX12_readComb_30 : decode cX12_readComb 30 = .ok (.bipush 18, 2) := dk_16 18 (dk_at dksX12_readComb_1 8 rfl rfl)
theorem dX12_readComb_32 : decode cX12_readComb 32 = .ok (.if_icmp .eq 5, 3) := dk_159 0 5 (dk_at dksX12_readComb_1 10 rfl rfl)
theorem dX12_readComb_35 : decode cX12_readComb 35 = .ok (.iconst 0, 1) := dk_3 (dk_at dksX12_readComb_1 13 rfl rfl)
theorem dX12_readComb_36 : decode cX12_readComb 36 = .ok (.ireturn, 1) := dk_172 (dk_at dksX12_readComb_1 14 rfl rfl)
theorem dX12_readComb_37 : decode cX12_readComb 37 = .ok (.aload_n 0, 1) := dk_42 (dk_at dksX12_readComb_1 15 rfl rfl)
theorem dX12_readComb_38 : decode cX12_readComb 38 = .ok (.iload_n 1, 1) := dk_27 (dk_at dksX12_readComb_1 16 rfl rfl)
theorem dX12_readComb_39 : decode cX12_readComb 39 = .ok (.aload_n 0, 1) := dk_42 (dk_at dksX12_readComb_1 17 rfl rfl)
theorem dX12_readComb_40 : decode cX12_readComb 40 = .ok (.getfield 32, 3) := dk_180 0 32 (dk_at dksX12_readComb_1 18 rfl rfl)
theorem dX12_readComb_43 : decode cX12_readComb 43 = .ok (.getfield 82, 3) := dk_180 0 82 (dk_at dksX12_readComb_1 21 rfl rfl)
theorem dX12_readComb_46 : decode cX12_readComb 46 = .ok (.iload_n 2, 1) := dk_28 (dk_at dksX12_readComb_2 0 rfl rfl)
theorem dX12_readComb_47 : decode cX12_readComb 47 = .ok (.iaload, 1) := dk_46 (dk_at dksX12_readComb_2 1 rfl rfl)
theorem dX12_readComb_48 : decode cX12_readComb 48 = .ok (.invokevirtual 118, 3) := dk_182 0 118 (dk_at dksX12_readComb_2 2 rfl rfl)
theorem dX12_readComb_51 : decode cX12_readComb 51 = .ok (.istore 4, 2) := dk_54 4 (dk_at dksX12_readComb_2 5 rfl rfl)
theorem dX12_readComb_53 : decode cX12_readComb 53 = .ok (.iload 4, 2) := dk_21 4 (dk_at dksX12_readComb_2 7 rfl rfl)
theorem dX12_readComb_55 : decode cX12_readComb 55 = .ok (.ifCond .ne 7, 3) := dk_154 0 7 (dk_at dksX12_readComb_2 9 rfl rfl)
theorem dX12_readComb_58 : decode cX12_readComb 58 = .ok (.iconst 0, 1) := dk_3 (dk_at dksX12_readComb_2 12 rfl rfl)
theorem dX12_readComb_59 : decode cX12_readComb 59 = .ok (.goto 17, 3) := dk_167 0 17 (dk_at dksX12_readComb_2 13 rfl rfl)
theorem dX12_readComb_62 : decode cX12_readComb 62 = .ok (.aload_n 0, 1) := dk_42 (dk_at dksX12_readComb_2 16 rfl rfl)
theorem dX12_readComb_63 : decode cX12_readComb 63 = .ok (.iload_n 3, 1) := dk_29 (dk_at dksX12_readComb_2 17 rfl rfl)
theorem dX12_readComb_64 : decode cX12_readComb 64 = .ok (.aload_n 0, 1) := dk_42 (dk_at dksX12_readComb_2 18 rfl rfl)
theorem dX12_readComb_65 : decode cX12_readComb 65 = .ok (.getfield 32, 3) := dk_180 0 32 (dk_at dksX12_readComb_2 19 rfl rfl)
theorem dX12_readComb_68 : decode cX12_readComb 68 = .ok (.getfield 89, 3) := dk_180 0 89 (dk_at dksX12_readComb_3 0 rfl rfl)
theorem dX12_readComb_71 : decode cX12_readComb 71 = .ok (.iload_n 2, 1) := dk_28 (dk_at dksX12_readComb_3 3 rfl rfl)
theorem dX12_readComb_72 : decode cX12_readComb 72 = .ok (.iaload, 1) := dk_46 (dk_at dksX12_readComb_3 4 rfl rfl)
theorem dX12_readComb_73 : decode cX12_readComb 73 = .ok (.invokevirtual 104, 3) := dk_182 0 104 (dk_at dksX12_readComb_3 5 rfl rfl)
theorem dX12_readComb_76 : decode cX12_readComb 76 = .ok (.istore 5, 2) := dk_54 5 (dk_at dksX12_readComb_3 8 rfl rfl)
theorem dX12_readComb_78 : decode cX12_readComb 78 = .ok (.iload 5, 2) := dk_21 5 (dk_at dksX12_readComb_3 10 rfl rfl)
theorem dX12_readComb_80 : decode cX12_readComb 80 = .ok (.ifCond .ne 7, 3) := dk_154 0 7 (dk_at dksX12_readComb_3 12 rfl rfl)
theorem dX12_readComb_83 : decode cX12_readComb 83 = .ok (.iconst 0, 1) := dk_3 (dk_at dksX12_readComb_3 15 rfl rfl)
theorem dX12_readComb_84 : decode cX12_readComb 84 = .ok (.goto 14, 3) := dk_167 0 14 (dk_at dksX12_readComb_3 16 rfl rfl)
theorem dX12_readComb_87 : decode cX12_readComb 87 = .ok (.aload_n 0, 1) := dk_42 (dk_at dksX12_readComb_3 19 rfl rfl)
theorem dX12_readComb_88 : decode cX12_readComb 88 = .ok (.getfield 36, 3) := dk_180 0 36 (dk_at dksX12_readComb_3 20 rfl rfl)
theorem dX12_readComb_91 : decode cX12_readComb 91 = .ok (.iload 4, 2) := dk_21 4 (dk_at dksX12_readComb_4 0 rfl rfl)
theorem dX12_readComb_93 : decode cX12_readComb 93 = .ok (.iload 5, 2) := dk_21 5 (dk_at dksX12_readComb_4 2 rfl rfl)
theorem dX12_readComb_95 : decode cX12_readComb 95 = .ok (.invokevirtual 127, 3) := dk_182 0 127 (dk_at dksX12_readComb_4 4 rfl rfl)
theorem dX12_readComb_98 : decode cX12_readComb 98 = .ok (.ireturn, 1) := dk_172 (dk_at dksX12_readComb_4 7 rfl rfl)
abbrev cX12_readList : ByteArray := prog_4_method_11_code
def yX12_readList : MethodName := ⟨RX12, "readList", "(II)I"⟩
def dkwX12_readList_6 : List UInt8 := [167, 0, 4, 3, 172]
abbrev dktX12_readList_6 : List UInt8 := dkwX12_readList_6 ++ []
def dkwX12_readList_5 : List UInt8 := [182, 0, 188, 54, 5, 132, 6, 255, 167, 255, 224, 42, 29, 181, 0, 185, 21, 4, 153, 0, 8, 21, 5]
abbrev dktX12_readList_5 : List UInt8 := dkwX12_readList_5 ++ dktX12_readList_6
def dkwX12_readList_4 : List UInt8 := [21, 6, 29, 161, 0, 32, 21, 4, 153, 0, 27, 42, 180, 0, 36, 42, 180, 0, 24, 21, 6, 46, 21, 5]
abbrev dktX12_readList_4 : List UInt8 := dkwX12_readList_4 ++ dktX12_readList_5
def dkwX12_readList_3 : List UInt8 := [180, 0, 124, 21, 5, 46, 54, 5, 167, 255, 195, 16, 10, 54, 5, 42, 180, 0, 185, 4, 100, 54, 6]
abbrev dktX12_readList_3 : List UInt8 := dkwX12_readList_3 ++ dktX12_readList_4
def dkwX12_readList_2 : List UInt8 := [4, 96, 181, 0, 185, 21, 6, 79, 21, 6, 153, 0, 7, 4, 167, 0, 4, 3, 54, 4, 42, 180, 0, 28]
abbrev dktX12_readList_2 : List UInt8 := dkwX12_readList_2 ++ dktX12_readList_3
def dkwX12_readList_1 : List UInt8 := [21, 4, 153, 0, 57, 42, 21, 5, 28, 182, 0, 118, 54, 6, 42, 180, 0, 24, 42, 89, 180, 0, 185, 90]
abbrev dktX12_readList_1 : List UInt8 := dkwX12_readList_1 ++ dktX12_readList_2
def dkwX12_readList_0 : List UInt8 := [42, 180, 0, 185, 62, 4, 54, 4, 42, 180, 0, 28, 180, 0, 101, 27, 46, 54, 5, 21, 5, 155, 0, 62]
abbrev dktX12_readList_0 : List UInt8 := dkwX12_readList_0 ++ dktX12_readList_1
theorem dksX12_readList_0 : cX12_readList.data.toList.drop 0 = dktX12_readList_0 := by decide +kernel
theorem dksX12_readList_1 : cX12_readList.data.toList.drop 24 = dktX12_readList_1 := dk_seg dksX12_readList_0 24 rfl rfl
theorem dksX12_readList_2 : cX12_readList.data.toList.drop 48 = dktX12_readList_2 := dk_seg dksX12_readList_1 24 rfl rfl
theorem dksX12_readList_3 : cX12_readList.data.toList.drop 72 = dktX12_readList_3 := dk_seg dksX12_readList_2 24 rfl rfl
theorem dksX12_readList_4 : cX12_readList.data.toList.drop 95 = dktX12_readList_4 := dk_seg dksX12_readList_3 23 rfl rfl
theorem dksX12_readList_5 : cX12_readList.data.toList.drop 119 = dktX12_readList_5 := dk_seg dksX12_readList_4 24 rfl rfl
theorem dksX12_readList_6 : cX12_readList.data.toList.drop 142 = dktX12_readList_6 := dk_seg dksX12_readList_5 23 rfl rfl
theorem dX12_readList_0 : decode cX12_readList 0 = .ok (.aload_n 0, 1) := dk_42 (dk_at dksX12_readList_0 0 rfl rfl)
theorem dX12_readList_1 : decode cX12_readList 1 = .ok (.getfield 185, 3) := dk_180 0 185 (dk_at dksX12_readList_0 1 rfl rfl)
theorem dX12_readList_4 : decode cX12_readList 4 = .ok (.istore_n 3, 1) := dk_62 (dk_at dksX12_readList_0 4 rfl rfl)
theorem dX12_readList_5 : decode cX12_readList 5 = .ok (.iconst 1, 1) := dk_4 (dk_at dksX12_readList_0 5 rfl rfl)
theorem dX12_readList_6 : decode cX12_readList 6 = .ok (.istore 4, 2) := dk_54 4 (dk_at dksX12_readList_0 6 rfl rfl)
theorem dX12_readList_8 : decode cX12_readList 8 = .ok (.aload_n 0, 1) := dk_42 (dk_at dksX12_readList_0 8 rfl rfl)
theorem dX12_readList_9 : decode cX12_readList 9 = .ok (.getfield 28, 3) := dk_180 0 28 (dk_at dksX12_readList_0 9 rfl rfl)
theorem dX12_readList_12 : decode cX12_readList 12 = .ok (.getfield 101, 3) := dk_180 0 101 (dk_at dksX12_readList_0 12 rfl rfl)
theorem dX12_readList_15 : decode cX12_readList 15 = .ok (.iload_n 1, 1) := dk_27 (dk_at dksX12_readList_0 15 rfl rfl)
theorem dX12_readList_16 : decode cX12_readList 16 = .ok (.iaload, 1) := dk_46 (dk_at dksX12_readList_0 16 rfl rfl)
theorem dX12_readList_17 : decode cX12_readList 17 = .ok (.istore 5, 2) := dk_54 5 (dk_at dksX12_readList_0 17 rfl rfl)
theorem dX12_readList_19 : decode cX12_readList 19 = .ok (.iload 5, 2) := dk_21 5 (dk_at dksX12_readList_0 19 rfl rfl)
theorem dX12_readList_21 : decode cX12_readList 21 = .ok (.ifCond .lt 62, 3) := dk_155 0 62 (dk_at dksX12_readList_0 21 rfl rfl)
theorem dX12_readList_24 : decode cX12_readList 24 = .ok (.iload 4, 2) := dk_21 4 (dk_at dksX12_readList_1 0 rfl rfl)
theorem dX12_readList_26 : decode cX12_readList 26 = .ok (.ifCond .eq 57, 3) := dk_153 0 57 (dk_at dksX12_readList_1 2 rfl rfl)
theorem dX12_readList_29 : decode cX12_readList 29 = .ok (.aload_n 0, 1) := dk_42 (dk_at dksX12_readList_1 5 rfl rfl)
theorem dX12_readList_30 : decode cX12_readList 30 = .ok (.iload 5, 2) := dk_21 5 (dk_at dksX12_readList_1 6 rfl rfl)
theorem dX12_readList_32 : decode cX12_readList 32 = .ok (.iload_n 2, 1) := dk_28 (dk_at dksX12_readList_1 8 rfl rfl)
theorem dX12_readList_33 : decode cX12_readList 33 = .ok (.invokevirtual 118, 3) := dk_182 0 118 (dk_at dksX12_readList_1 9 rfl rfl)
theorem dX12_readList_36 : decode cX12_readList 36 = .ok (.istore 6, 2) := dk_54 6 (dk_at dksX12_readList_1 12 rfl rfl)
theorem dX12_readList_38 : decode cX12_readList 38 = .ok (.aload_n 0, 1) := dk_42 (dk_at dksX12_readList_1 14 rfl rfl)
theorem dX12_readList_39 : decode cX12_readList 39 = .ok (.getfield 24, 3) := dk_180 0 24 (dk_at dksX12_readList_1 15 rfl rfl)
theorem dX12_readList_42 : decode cX12_readList 42 = .ok (.aload_n 0, 1) := dk_42 (dk_at dksX12_readList_1 18 rfl rfl)
theorem dX12_readList_43 : decode cX12_readList 43 = .ok (.dup, 1) := dk_89 (dk_at dksX12_readList_1 19 rfl rfl)
theorem dX12_readList_44 : decode cX12_readList 44 = .ok (.getfield 185, 3) := dk_180 0 185 (dk_at dksX12_readList_1 20 rfl rfl)
theorem dX12_readList_47 : decode cX12_readList 47 = .ok (.dup_x1, 1) := dk_90 (dk_at dksX12_readList_1 23 rfl rfl)
theorem dX12_readList_48 : decode cX12_readList 48 = .ok (.iconst 1, 1) := dk_4 (dk_at dksX12_readList_2 0 rfl rfl)
theorem dX12_readList_49 : decode cX12_readList 49 = .ok (.iadd, 1) := dk_96 (dk_at dksX12_readList_2 1 rfl rfl)
theorem dX12_readList_50 : decode cX12_readList 50 = .ok (.putfield 185, 3) := dk_181 0 185 (dk_at dksX12_readList_2 2 rfl rfl)
theorem dX12_readList_53 : decode cX12_readList 53 = .ok (.iload 6, 2) := dk_21 6 (dk_at dksX12_readList_2 5 rfl rfl)
theorem dX12_readList_55 : decode cX12_readList 55 = .ok (.iastore, 1) := dk_79 (dk_at dksX12_readList_2 7 rfl rfl)
theorem dX12_readList_56 : decode cX12_readList 56 = .ok (.iload 6, 2) := dk_21 6 (dk_at dksX12_readList_2 8 rfl rfl)
theorem dX12_readList_58 : decode cX12_readList 58 = .ok (.ifCond .eq 7, 3) := dk_153 0 7 (dk_at dksX12_readList_2 10 rfl rfl)
theorem dX12_readList_61 : decode cX12_readList 61 = .ok (.iconst 1, 1) := dk_4 (dk_at dksX12_readList_2 13 rfl rfl)
theorem dX12_readList_62 : decode cX12_readList 62 = .ok (.goto 4, 3) := dk_167 0 4 (dk_at dksX12_readList_2 14 rfl rfl)
theorem dX12_readList_65 : decode cX12_readList 65 = .ok (.iconst 0, 1) := dk_3 (dk_at dksX12_readList_2 17 rfl rfl)
theorem dX12_readList_66 : decode cX12_readList 66 = .ok (.istore 4, 2) := dk_54 4 (dk_at dksX12_readList_2 18 rfl rfl)
theorem dX12_readList_68 : decode cX12_readList 68 = .ok (.aload_n 0, 1) := dk_42 (dk_at dksX12_readList_2 20 rfl rfl)
theorem dX12_readList_69 : decode cX12_readList 69 = .ok (.getfield 28, 3) := dk_180 0 28 (dk_at dksX12_readList_2 21 rfl rfl)
theorem dX12_readList_72 : decode cX12_readList 72 = .ok (.getfield 124, 3) := dk_180 0 124 (dk_at dksX12_readList_3 0 rfl rfl)
theorem dX12_readList_75 : decode cX12_readList 75 = .ok (.iload 5, 2) := dk_21 5 (dk_at dksX12_readList_3 3 rfl rfl)
theorem dX12_readList_77 : decode cX12_readList 77 = .ok (.iaload, 1) := dk_46 (dk_at dksX12_readList_3 5 rfl rfl)
theorem dX12_readList_78 : decode cX12_readList 78 = .ok (.istore 5, 2) := dk_54 5 (dk_at dksX12_readList_3 6 rfl rfl)
theorem dX12_readList_80 : decode cX12_readList 80 = .ok (.goto (-61), 3) := dk_167 255 195 (dk_at dksX12_readList_3 8 rfl rfl)
theorem dX12_readList_83 : decode cX12_readList 83 = .ok (.bipush 10, 2) := dk_16 10 (dk_at dksX12_readList_3 11 rfl rfl)
theorem dX12_readList_85 : decode cX12_readList 85 = .ok (.istore 5, 2) := dk_54 5 (dk_at dksX12_readList_3 13 rfl rfl)
theorem dX12_readList_87 : decode cX12_readList 87 = .ok (.aload_n 0, 1) := dk_42 (dk_at dksX12_readList_3 15 rfl rfl)
theorem dX12_readList_88 : decode cX12_readList 88 = .ok (.getfield 185, 3) := dk_180 0 185 (dk_at dksX12_readList_3 16 rfl rfl)
theorem dX12_readList_91 : decode cX12_readList 91 = .ok (.iconst 1, 1) := dk_4 (dk_at dksX12_readList_3 19 rfl rfl)
theorem dX12_readList_92 : decode cX12_readList 92 = .ok (.isub, 1) := dk_100 (dk_at dksX12_readList_3 20 rfl rfl)
theorem dX12_readList_93 : decode cX12_readList 93 = .ok (.istore 6, 2) := dk_54 6 (dk_at dksX12_readList_3 21 rfl rfl)
theorem dX12_readList_95 : decode cX12_readList 95 = .ok (.iload 6, 2) := dk_21 6 (dk_at dksX12_readList_4 0 rfl rfl)
theorem dX12_readList_97 : decode cX12_readList 97 = .ok (.iload_n 3, 1) := dk_29 (dk_at dksX12_readList_4 2 rfl rfl)
theorem dX12_readList_98 : decode cX12_readList 98 = .ok (.if_icmp .lt 32, 3) := dk_161 0 32 (dk_at dksX12_readList_4 3 rfl rfl)
theorem dX12_readList_101 : decode cX12_readList 101 = .ok (.iload 4, 2) := dk_21 4 (dk_at dksX12_readList_4 6 rfl rfl)
theorem dX12_readList_103 : decode cX12_readList 103 = .ok (.ifCond .eq 27, 3) := dk_153 0 27 (dk_at dksX12_readList_4 8 rfl rfl)
theorem dX12_readList_106 : decode cX12_readList 106 = .ok (.aload_n 0, 1) := dk_42 (dk_at dksX12_readList_4 11 rfl rfl)
theorem dX12_readList_107 : decode cX12_readList 107 = .ok (.getfield 36, 3) := dk_180 0 36 (dk_at dksX12_readList_4 12 rfl rfl)
theorem dX12_readList_110 : decode cX12_readList 110 = .ok (.aload_n 0, 1) := dk_42 (dk_at dksX12_readList_4 15 rfl rfl)
theorem dX12_readList_111 : decode cX12_readList 111 = .ok (.getfield 24, 3) := dk_180 0 24 (dk_at dksX12_readList_4 16 rfl rfl)
theorem dX12_readList_114 : decode cX12_readList 114 = .ok (.iload 6, 2) := dk_21 6 (dk_at dksX12_readList_4 19 rfl rfl)
theorem dX12_readList_116 : decode cX12_readList 116 = .ok (.iaload, 1) := dk_46 (dk_at dksX12_readList_4 21 rfl rfl)
theorem dX12_readList_117 : decode cX12_readList 117 = .ok (.iload 5, 2) := dk_21 5 (dk_at dksX12_readList_4 22 rfl rfl)
theorem dX12_readList_119 : decode cX12_readList 119 = .ok (.invokevirtual 188, 3) := dk_182 0 188 (dk_at dksX12_readList_5 0 rfl rfl)
theorem dX12_readList_122 : decode cX12_readList 122 = .ok (.istore 5, 2) := dk_54 5 (dk_at dksX12_readList_5 3 rfl rfl)
theorem dX12_readList_124 : decode cX12_readList 124 = .ok (.iinc 6 (-1), 3) := dk_132 6 255 (dk_at dksX12_readList_5 5 rfl rfl)
theorem dX12_readList_127 : decode cX12_readList 127 = .ok (.goto (-32), 3) := dk_167 255 224 (dk_at dksX12_readList_5 8 rfl rfl)
theorem dX12_readList_130 : decode cX12_readList 130 = .ok (.aload_n 0, 1) := dk_42 (dk_at dksX12_readList_5 11 rfl rfl)
theorem dX12_readList_131 : decode cX12_readList 131 = .ok (.iload_n 3, 1) := dk_29 (dk_at dksX12_readList_5 12 rfl rfl)
theorem dX12_readList_132 : decode cX12_readList 132 = .ok (.putfield 185, 3) := dk_181 0 185 (dk_at dksX12_readList_5 13 rfl rfl)
theorem dX12_readList_135 : decode cX12_readList 135 = .ok (.iload 4, 2) := dk_21 4 (dk_at dksX12_readList_5 16 rfl rfl)
theorem dX12_readList_137 : decode cX12_readList 137 = .ok (.ifCond .eq 8, 3) := dk_153 0 8 (dk_at dksX12_readList_5 18 rfl rfl)
theorem dX12_readList_140 : decode cX12_readList 140 = .ok (.iload 5, 2) := dk_21 5 (dk_at dksX12_readList_5 21 rfl rfl)
theorem dX12_readList_142 : decode cX12_readList 142 = .ok (.goto 4, 3) := dk_167 0 4 (dk_at dksX12_readList_6 0 rfl rfl)
theorem dX12_readList_145 : decode cX12_readList 145 = .ok (.iconst 0, 1) := dk_3 (dk_at dksX12_readList_6 3 rfl rfl)
theorem dX12_readList_146 : decode cX12_readList 146 = .ok (.ireturn, 1) := dk_172 (dk_at dksX12_readList_6 4 rfl rfl)
abbrev cX12_readTree : ByteArray := prog_4_method_12_code
def yX12_readTree : MethodName := ⟨RX12, "readTree", "(III)I"⟩
def dkwX12_readTree_11 : List UInt8 := [167, 0, 6, 17, 16, 104, 182, 0, 199, 167, 0, 4, 3, 54, 6, 42, 21, 4, 181, 0, 185, 21, 6, 172]
abbrev dktX12_readTree_11 : List UInt8 := dkwX12_readTree_11 ++ []
def dkwX12_readTree_10 : List UInt8 := [21, 5, 153, 0, 34, 42, 180, 0, 44, 42, 180, 0, 24, 21, 4, 42, 180, 0, 185, 29, 156, 0, 7, 3]
abbrev dktX12_readTree_10 : List UInt8 := dkwX12_readTree_10 ++ dktX12_readTree_11
def dkwX12_readTree_9 : List UInt8 := [180, 0, 185, 4, 96, 181, 0, 185, 42, 180, 0, 28, 180, 0, 124, 21, 6, 46, 54, 6, 167, 255, 45]
abbrev dktX12_readTree_9 : List UInt8 := dkwX12_readTree_9 ++ dktX12_readTree_10
def dkwX12_readTree_8 : List UInt8 := [180, 0, 185, 21, 8, 79, 42, 180, 0, 24, 42, 180, 0, 185, 17, 16, 104, 96, 21, 9, 79, 42, 89]
abbrev dktX12_readTree_8 : List UInt8 := dkwX12_readTree_8 ++ dktX12_readTree_9
def dkwX12_readTree_7 : List UInt8 := [4, 100, 46, 21, 8, 28, 182, 0, 194, 156, 0, 7, 4, 167, 0, 4, 3, 54, 5, 42, 180, 0, 24, 42]
abbrev dktX12_readTree_7 : List UInt8 := dkwX12_readTree_7 ++ dktX12_readTree_8
def dkwX12_readTree_6 : List UInt8 := [153, 0, 40, 42, 180, 0, 185, 21, 4, 159, 0, 27, 42, 180, 0, 40, 42, 180, 0, 24, 42, 180, 0, 185]
abbrev dktX12_readTree_6 : List UInt8 := dkwX12_readTree_6 ++ dktX12_readTree_7
def dkwX12_readTree_5 : List UInt8 := [180, 0, 101, 21, 6, 46, 46, 29, 182, 0, 118, 54, 9, 21, 8, 153, 0, 49, 29, 155, 0, 8, 21, 9]
abbrev dktX12_readTree_5 : List UInt8 := dkwX12_readTree_5 ++ dktX12_readTree_6
def dkwX12_readTree_4 : List UInt8 := [153, 0, 7, 29, 156, 0, 7, 3, 167, 0, 26, 42, 42, 180, 0, 28, 180, 0, 124, 42, 180, 0, 28]
abbrev dktX12_readTree_4 : List UInt8 := dkwX12_readTree_4 ++ dktX12_readTree_5
def dkwX12_readTree_3 : List UInt8 := [21, 6, 167, 0, 13, 42, 180, 0, 28, 180, 0, 101, 21, 6, 46, 28, 182, 0, 118, 54, 8, 21, 8]
abbrev dktX12_readTree_3 : List UInt8 := dkwX12_readTree_3 ++ dktX12_readTree_4
def dkwX12_readTree_2 : List UInt8 := [153, 0, 7, 4, 167, 0, 4, 3, 54, 7, 21, 7, 154, 0, 7, 3, 167, 0, 27, 42, 29, 156, 0, 8]
abbrev dktX12_readTree_2 : List UInt8 := dkwX12_readTree_2 ++ dktX12_readTree_3
def dkwX12_readTree_1 : List UInt8 := [155, 0, 212, 21, 5, 153, 0, 207, 29, 155, 0, 18, 42, 180, 0, 28, 21, 6, 16, 27, 5, 182, 0, 191]
abbrev dktX12_readTree_1 : List UInt8 := dkwX12_readTree_1 ++ dktX12_readTree_2
def dkwX12_readTree_0 : List UInt8 := [42, 180, 0, 185, 54, 4, 4, 54, 5, 42, 180, 0, 28, 180, 0, 101, 27, 46, 54, 6, 21, 6]
abbrev dktX12_readTree_0 : List UInt8 := dkwX12_readTree_0 ++ dktX12_readTree_1
theorem dksX12_readTree_0 : cX12_readTree.data.toList.drop 0 = dktX12_readTree_0 := by decide +kernel
theorem dksX12_readTree_1 : cX12_readTree.data.toList.drop 22 = dktX12_readTree_1 := dk_seg dksX12_readTree_0 22 rfl rfl
theorem dksX12_readTree_2 : cX12_readTree.data.toList.drop 46 = dktX12_readTree_2 := dk_seg dksX12_readTree_1 24 rfl rfl
theorem dksX12_readTree_3 : cX12_readTree.data.toList.drop 70 = dktX12_readTree_3 := dk_seg dksX12_readTree_2 24 rfl rfl
theorem dksX12_readTree_4 : cX12_readTree.data.toList.drop 93 = dktX12_readTree_4 := dk_seg dksX12_readTree_3 23 rfl rfl
theorem dksX12_readTree_5 : cX12_readTree.data.toList.drop 116 = dktX12_readTree_5 := dk_seg dksX12_readTree_4 23 rfl rfl
theorem dksX12_readTree_6 : cX12_readTree.data.toList.drop 140 = dktX12_readTree_6 := dk_seg dksX12_readTree_5 24 rfl rfl
theorem dksX12_readTree_7 : cX12_readTree.data.toList.drop 164 = dktX12_readTree_7 := dk_seg dksX12_readTree_6 24 rfl rfl
theorem dksX12_readTree_8 : cX12_readTree.data.toList.drop 188 = dktX12_readTree_8 := dk_seg dksX12_readTree_7 24 rfl rfl
theorem dksX12_readTree_9 : cX12_readTree.data.toList.drop 211 = dktX12_readTree_9 := dk_seg dksX12_readTree_8 23 rfl rfl
theorem dksX12_readTree_10 : cX12_readTree.data.toList.drop 234 = dktX12_readTree_10 := dk_seg dksX12_readTree_9 23 rfl rfl
theorem dksX12_readTree_11 : cX12_readTree.data.toList.drop 258 = dktX12_readTree_11 := dk_seg dksX12_readTree_10 24 rfl rfl
theorem dX12_readTree_0 : decode cX12_readTree 0 = .ok (.aload_n 0, 1) := dk_42 (dk_at dksX12_readTree_0 0 rfl rfl)
theorem dX12_readTree_1 : decode cX12_readTree 1 = .ok (.getfield 185, 3) := dk_180 0 185 (dk_at dksX12_readTree_0 1 rfl rfl)
theorem dX12_readTree_4 : decode cX12_readTree 4 = .ok (.istore 4, 2) := dk_54 4 (dk_at dksX12_readTree_0 4 rfl rfl)
theorem dX12_readTree_6 : decode cX12_readTree 6 = .ok (.iconst 1, 1) := dk_4 (dk_at dksX12_readTree_0 6 rfl rfl)
theorem dX12_readTree_7 : decode cX12_readTree 7 = .ok (.istore 5, 2) := dk_54 5 (dk_at dksX12_readTree_0 7 rfl rfl)
theorem dX12_readTree_9 : decode cX12_readTree 9 = .ok (.aload_n 0, 1) := dk_42 (dk_at dksX12_readTree_0 9 rfl rfl)
theorem dX12_readTree_10 : decode cX12_readTree 10 = .ok (.getfield 28, 3) := dk_180 0 28 (dk_at dksX12_readTree_0 10 rfl rfl)
theorem dX12_readTree_13 : decode cX12_readTree 13 = .ok (.getfield 101, 3) := dk_180 0 101 (dk_at dksX12_readTree_0 13 rfl rfl)
theorem dX12_readTree_16 : decode cX12_readTree 16 = .ok (.iload_n 1, 1) := dk_27 (dk_at dksX12_readTree_0 16 rfl rfl)
theorem dX12_readTree_17 : decode cX12_readTree 17 = .ok (.iaload, 1) := dk_46 (dk_at dksX12_readTree_0 17 rfl rfl)
theorem dX12_readTree_18 : decode cX12_readTree 18 = .ok (.istore 6, 2) := dk_54 6 (dk_at dksX12_readTree_0 18 rfl rfl)
theorem dX12_readTree_20 : decode cX12_readTree 20 = .ok (.iload 6, 2) := dk_21 6 (dk_at dksX12_readTree_0 20 rfl rfl)
theorem dX12_readTree_22 : decode cX12_readTree 22 = .ok (.ifCond .lt 212, 3) := dk_155 0 212 (dk_at dksX12_readTree_1 0 rfl rfl)
theorem dX12_readTree_25 : decode cX12_readTree 25 = .ok (.iload 5, 2) := dk_21 5 (dk_at dksX12_readTree_1 3 rfl rfl)
theorem dX12_readTree_27 : decode cX12_readTree 27 = .ok (.ifCond .eq 207, 3) := dk_153 0 207 (dk_at dksX12_readTree_1 5 rfl rfl)
theorem dX12_readTree_30 : decode cX12_readTree 30 = .ok (.iload_n 3, 1) := dk_29 (dk_at dksX12_readTree_1 8 rfl rfl)
theorem dX12_readTree_31 : decode cX12_readTree 31 = .ok (.ifCond .lt 18, 3) := dk_155 0 18 (dk_at dksX12_readTree_1 9 rfl rfl)
theorem dX12_readTree_34 : decode cX12_readTree 34 = .ok (.aload_n 0, 1) := dk_42 (dk_at dksX12_readTree_1 12 rfl rfl)
theorem dX12_readTree_35 : decode cX12_readTree 35 = .ok (.getfield 28, 3) := dk_180 0 28 (dk_at dksX12_readTree_1 13 rfl rfl)
theorem dX12_readTree_38 : decode cX12_readTree 38 = .ok (.iload 6, 2) := dk_21 6 (dk_at dksX12_readTree_1 16 rfl rfl)
theorem dX12_readTree_40 : decode cX12_readTree 40 = .ok (.bipush 27, 2) := dk_16 27 (dk_at dksX12_readTree_1 18 rfl rfl)
theorem dX12_readTree_42 : decode cX12_readTree 42 = .ok (.iconst 2, 1) := dk_5 (dk_at dksX12_readTree_1 20 rfl rfl)
theorem dX12_readTree_43 : decode cX12_readTree 43 = .ok (.invokevirtual 191, 3) := dk_182 0 191 (dk_at dksX12_readTree_1 21 rfl rfl)
theorem dX12_readTree_46 : decode cX12_readTree 46 = .ok (.ifCond .eq 7, 3) := dk_153 0 7 (dk_at dksX12_readTree_2 0 rfl rfl)
theorem dX12_readTree_49 : decode cX12_readTree 49 = .ok (.iconst 1, 1) := dk_4 (dk_at dksX12_readTree_2 3 rfl rfl)
theorem dX12_readTree_50 : decode cX12_readTree 50 = .ok (.goto 4, 3) := dk_167 0 4 (dk_at dksX12_readTree_2 4 rfl rfl)
theorem dX12_readTree_53 : decode cX12_readTree 53 = .ok (.iconst 0, 1) := dk_3 (dk_at dksX12_readTree_2 7 rfl rfl)
theorem dX12_readTree_54 : decode cX12_readTree 54 = .ok (.istore 7, 2) := dk_54 7 (dk_at dksX12_readTree_2 8 rfl rfl)
theorem dX12_readTree_56 : decode cX12_readTree 56 = .ok (.iload 7, 2) := dk_21 7 (dk_at dksX12_readTree_2 10 rfl rfl)
theorem dX12_readTree_58 : decode cX12_readTree 58 = .ok (.ifCond .ne 7, 3) := dk_154 0 7 (dk_at dksX12_readTree_2 12 rfl rfl)
theorem dX12_readTree_61 : decode cX12_readTree 61 = .ok (.iconst 0, 1) := dk_3 (dk_at dksX12_readTree_2 15 rfl rfl)
theorem dX12_readTree_62 : decode cX12_readTree 62 = .ok (.goto 27, 3) := dk_167 0 27 (dk_at dksX12_readTree_2 16 rfl rfl)
theorem dX12_readTree_65 : decode cX12_readTree 65 = .ok (.aload_n 0, 1) := dk_42 (dk_at dksX12_readTree_2 19 rfl rfl)
theorem dX12_readTree_66 : decode cX12_readTree 66 = .ok (.iload_n 3, 1) := dk_29 (dk_at dksX12_readTree_2 20 rfl rfl)
theorem dX12_readTree_67 : decode cX12_readTree 67 = .ok (.ifCond .ge 8, 3) := dk_156 0 8 (dk_at dksX12_readTree_2 21 rfl rfl)
theorem dX12_readTree_70 : decode cX12_readTree 70 = .ok (.iload 6, 2) := dk_21 6 (dk_at dksX12_readTree_3 0 rfl rfl)
theorem dX12_readTree_72 : decode cX12_readTree 72 = .ok (.goto 13, 3) := dk_167 0 13 (dk_at dksX12_readTree_3 2 rfl rfl)
theorem dX12_readTree_75 : decode cX12_readTree 75 = .ok (.aload_n 0, 1) := dk_42 (dk_at dksX12_readTree_3 5 rfl rfl)
theorem dX12_readTree_76 : decode cX12_readTree 76 = .ok (.getfield 28, 3) := dk_180 0 28 (dk_at dksX12_readTree_3 6 rfl rfl)
theorem dX12_readTree_79 : decode cX12_readTree 79 = .ok (.getfield 101, 3) := dk_180 0 101 (dk_at dksX12_readTree_3 9 rfl rfl)
theorem dX12_readTree_82 : decode cX12_readTree 82 = .ok (.iload 6, 2) := dk_21 6 (dk_at dksX12_readTree_3 12 rfl rfl)
theorem dX12_readTree_84 : decode cX12_readTree 84 = .ok (.iaload, 1) := dk_46 (dk_at dksX12_readTree_3 14 rfl rfl)
theorem dX12_readTree_85 : decode cX12_readTree 85 = .ok (.iload_n 2, 1) := dk_28 (dk_at dksX12_readTree_3 15 rfl rfl)
theorem dX12_readTree_86 : decode cX12_readTree 86 = .ok (.invokevirtual 118, 3) := dk_182 0 118 (dk_at dksX12_readTree_3 16 rfl rfl)
theorem dX12_readTree_89 : decode cX12_readTree 89 = .ok (.istore 8, 2) := dk_54 8 (dk_at dksX12_readTree_3 19 rfl rfl)
theorem dX12_readTree_91 : decode cX12_readTree 91 = .ok (.iload 8, 2) := dk_21 8 (dk_at dksX12_readTree_3 21 rfl rfl)
theorem dX12_readTree_93 : decode cX12_readTree 93 = .ok (.ifCond .eq 7, 3) := dk_153 0 7 (dk_at dksX12_readTree_4 0 rfl rfl)
theorem dX12_readTree_96 : decode cX12_readTree 96 = .ok (.iload_n 3, 1) := dk_29 (dk_at dksX12_readTree_4 3 rfl rfl)
theorem dX12_readTree_97 : decode cX12_readTree 97 = .ok (.ifCond .ge 7, 3) := dk_156 0 7 (dk_at dksX12_readTree_4 4 rfl rfl)
theorem dX12_readTree_100 : decode cX12_readTree 100 = .ok (.iconst 0, 1) := dk_3 (dk_at dksX12_readTree_4 7 rfl rfl)
theorem dX12_readTree_101 : decode cX12_readTree 101 = .ok (.goto 26, 3) := dk_167 0 26 (dk_at dksX12_readTree_4 8 rfl rfl)
theorem dX12_readTree_104 : decode cX12_readTree 104 = .ok (.aload_n 0, 1) := dk_42 (dk_at dksX12_readTree_4 11 rfl rfl)
theorem dX12_readTree_105 : decode cX12_readTree 105 = .ok (.aload_n 0, 1) := dk_42 (dk_at dksX12_readTree_4 12 rfl rfl)
theorem dX12_readTree_106 : decode cX12_readTree 106 = .ok (.getfield 28, 3) := dk_180 0 28 (dk_at dksX12_readTree_4 13 rfl rfl)
theorem dX12_readTree_109 : decode cX12_readTree 109 = .ok (.getfield 124, 3) := dk_180 0 124 (dk_at dksX12_readTree_4 16 rfl rfl)
theorem dX12_readTree_112 : decode cX12_readTree 112 = .ok (.aload_n 0, 1) := dk_42 (dk_at dksX12_readTree_4 19 rfl rfl)
theorem dX12_readTree_113 : decode cX12_readTree 113 = .ok (.getfield 28, 3) := dk_180 0 28 (dk_at dksX12_readTree_4 20 rfl rfl)
theorem dX12_readTree_116 : decode cX12_readTree 116 = .ok (.getfield 101, 3) := dk_180 0 101 (dk_at dksX12_readTree_5 0 rfl rfl)
theorem dX12_readTree_119 : decode cX12_readTree 119 = .ok (.iload 6, 2) := dk_21 6 (dk_at dksX12_readTree_5 3 rfl rfl)
theorem dX12_readTree_121 : decode cX12_readTree 121 = .ok (.iaload, 1) := dk_46 (dk_at dksX12_readTree_5 5 rfl rfl)
theorem dX12_readTree_122 : decode cX12_readTree 122 = .ok (.iaload, 1) := dk_46 (dk_at dksX12_readTree_5 6 rfl rfl)
theorem dX12_readTree_123 : decode cX12_readTree 123 = .ok (.iload_n 3, 1) := dk_29 (dk_at dksX12_readTree_5 7 rfl rfl)
theorem dX12_readTree_124 : decode cX12_readTree 124 = .ok (.invokevirtual 118, 3) := dk_182 0 118 (dk_at dksX12_readTree_5 8 rfl rfl)
theorem dX12_readTree_127 : decode cX12_readTree 127 = .ok (.istore 9, 2) := dk_54 9 (dk_at dksX12_readTree_5 11 rfl rfl)
theorem dX12_readTree_129 : decode cX12_readTree 129 = .ok (.iload 8, 2) := dk_21 8 (dk_at dksX12_readTree_5 13 rfl rfl)
theorem dX12_readTree_131 : decode cX12_readTree 131 = .ok (.ifCond .eq 49, 3) := dk_153 0 49 (dk_at dksX12_readTree_5 15 rfl rfl)
theorem dX12_readTree_134 : decode cX12_readTree 134 = .ok (.iload_n 3, 1) := dk_29 (dk_at dksX12_readTree_5 18 rfl rfl)
theorem dX12_readTree_135 : decode cX12_readTree 135 = .ok (.ifCond .lt 8, 3) := dk_155 0 8 (dk_at dksX12_readTree_5 19 rfl rfl)
theorem dX12_readTree_138 : decode cX12_readTree 138 = .ok (.iload 9, 2) := dk_21 9 (dk_at dksX12_readTree_5 22 rfl rfl)
theorem dX12_readTree_140 : decode cX12_readTree 140 = .ok (.ifCond .eq 40, 3) := dk_153 0 40 (dk_at dksX12_readTree_6 0 rfl rfl)
theorem dX12_readTree_143 : decode cX12_readTree 143 = .ok (.aload_n 0, 1) := dk_42 (dk_at dksX12_readTree_6 3 rfl rfl)
theorem dX12_readTree_144 : decode cX12_readTree 144 = .ok (.getfield 185, 3) := dk_180 0 185 (dk_at dksX12_readTree_6 4 rfl rfl)
theorem dX12_readTree_147 : decode cX12_readTree 147 = .ok (.iload 4, 2) := dk_21 4 (dk_at dksX12_readTree_6 7 rfl rfl)
theorem dX12_readTree_149 : decode cX12_readTree 149 = .ok (.if_icmp .eq 27, 3) := dk_159 0 27 (dk_at dksX12_readTree_6 9 rfl rfl)
theorem dX12_readTree_152 : decode cX12_readTree 152 = .ok (.aload_n 0, 1) := dk_42 (dk_at dksX12_readTree_6 12 rfl rfl)
theorem dX12_readTree_153 : decode cX12_readTree 153 = .ok (.getfield 40, 3) := dk_180 0 40 (dk_at dksX12_readTree_6 13 rfl rfl)
theorem dX12_readTree_156 : decode cX12_readTree 156 = .ok (.aload_n 0, 1) := dk_42 (dk_at dksX12_readTree_6 16 rfl rfl)
theorem dX12_readTree_157 : decode cX12_readTree 157 = .ok (.getfield 24, 3) := dk_180 0 24 (dk_at dksX12_readTree_6 17 rfl rfl)
theorem dX12_readTree_160 : decode cX12_readTree 160 = .ok (.aload_n 0, 1) := dk_42 (dk_at dksX12_readTree_6 20 rfl rfl)
theorem dX12_readTree_161 : decode cX12_readTree 161 = .ok (.getfield 185, 3) := dk_180 0 185 (dk_at dksX12_readTree_6 21 rfl rfl)
theorem dX12_readTree_164 : decode cX12_readTree 164 = .ok (.iconst 1, 1) := dk_4 (dk_at dksX12_readTree_7 0 rfl rfl)
theorem dX12_readTree_165 : decode cX12_readTree 165 = .ok (.isub, 1) := dk_100 (dk_at dksX12_readTree_7 1 rfl rfl)
theorem dX12_readTree_166 : decode cX12_readTree 166 = .ok (.iaload, 1) := dk_46 (dk_at dksX12_readTree_7 2 rfl rfl)
theorem dX12_readTree_167 : decode cX12_readTree 167 = .ok (.iload 8, 2) := dk_21 8 (dk_at dksX12_readTree_7 3 rfl rfl)
theorem dX12_readTree_169 : decode cX12_readTree 169 = .ok (.iload_n 2, 1) := dk_28 (dk_at dksX12_readTree_7 5 rfl rfl)
theorem dX12_readTree_170 : decode cX12_readTree 170 = .ok (.invokevirtual 194, 3) := dk_182 0 194 (dk_at dksX12_readTree_7 6 rfl rfl)
theorem dX12_readTree_173 : decode cX12_readTree 173 = .ok (.ifCond .ge 7, 3) := dk_156 0 7 (dk_at dksX12_readTree_7 9 rfl rfl)
theorem dX12_readTree_176 : decode cX12_readTree 176 = .ok (.iconst 1, 1) := dk_4 (dk_at dksX12_readTree_7 12 rfl rfl)
theorem dX12_readTree_177 : decode cX12_readTree 177 = .ok (.goto 4, 3) := dk_167 0 4 (dk_at dksX12_readTree_7 13 rfl rfl)
theorem dX12_readTree_180 : decode cX12_readTree 180 = .ok (.iconst 0, 1) := dk_3 (dk_at dksX12_readTree_7 16 rfl rfl)
theorem dX12_readTree_181 : decode cX12_readTree 181 = .ok (.istore 5, 2) := dk_54 5 (dk_at dksX12_readTree_7 17 rfl rfl)
theorem dX12_readTree_183 : decode cX12_readTree 183 = .ok (.aload_n 0, 1) := dk_42 (dk_at dksX12_readTree_7 19 rfl rfl)
theorem dX12_readTree_184 : decode cX12_readTree 184 = .ok (.getfield 24, 3) := dk_180 0 24 (dk_at dksX12_readTree_7 20 rfl rfl)
theorem dX12_readTree_187 : decode cX12_readTree 187 = .ok (.aload_n 0, 1) := dk_42 (dk_at dksX12_readTree_7 23 rfl rfl)
theorem dX12_readTree_188 : decode cX12_readTree 188 = .ok (.getfield 185, 3) := dk_180 0 185 (dk_at dksX12_readTree_8 0 rfl rfl)
theorem dX12_readTree_191 : decode cX12_readTree 191 = .ok (.iload 8, 2) := dk_21 8 (dk_at dksX12_readTree_8 3 rfl rfl)
theorem dX12_readTree_193 : decode cX12_readTree 193 = .ok (.iastore, 1) := dk_79 (dk_at dksX12_readTree_8 5 rfl rfl)
theorem dX12_readTree_194 : decode cX12_readTree 194 = .ok (.aload_n 0, 1) := dk_42 (dk_at dksX12_readTree_8 6 rfl rfl)
theorem dX12_readTree_195 : decode cX12_readTree 195 = .ok (.getfield 24, 3) := dk_180 0 24 (dk_at dksX12_readTree_8 7 rfl rfl)
theorem dX12_readTree_198 : decode cX12_readTree 198 = .ok (.aload_n 0, 1) := dk_42 (dk_at dksX12_readTree_8 10 rfl rfl)
theorem dX12_readTree_199 : decode cX12_readTree 199 = .ok (.getfield 185, 3) := dk_180 0 185 (dk_at dksX12_readTree_8 11 rfl rfl)
theorem dX12_readTree_202 : decode cX12_readTree 202 = .ok (.sipush 4200, 3) := dk_17 16 104 (dk_at dksX12_readTree_8 14 rfl rfl)
theorem dX12_readTree_205 : decode cX12_readTree 205 = .ok (.iadd, 1) := dk_96 (dk_at dksX12_readTree_8 17 rfl rfl)
theorem dX12_readTree_206 : decode cX12_readTree 206 = .ok (.iload 9, 2) := dk_21 9 (dk_at dksX12_readTree_8 18 rfl rfl)
theorem dX12_readTree_208 : decode cX12_readTree 208 = .ok (.iastore, 1) := dk_79 (dk_at dksX12_readTree_8 20 rfl rfl)
theorem dX12_readTree_209 : decode cX12_readTree 209 = .ok (.aload_n 0, 1) := dk_42 (dk_at dksX12_readTree_8 21 rfl rfl)
theorem dX12_readTree_210 : decode cX12_readTree 210 = .ok (.dup, 1) := dk_89 (dk_at dksX12_readTree_8 22 rfl rfl)
theorem dX12_readTree_211 : decode cX12_readTree 211 = .ok (.getfield 185, 3) := dk_180 0 185 (dk_at dksX12_readTree_9 0 rfl rfl)
theorem dX12_readTree_214 : decode cX12_readTree 214 = .ok (.iconst 1, 1) := dk_4 (dk_at dksX12_readTree_9 3 rfl rfl)
theorem dX12_readTree_215 : decode cX12_readTree 215 = .ok (.iadd, 1) := dk_96 (dk_at dksX12_readTree_9 4 rfl rfl)
theorem dX12_readTree_216 : decode cX12_readTree 216 = .ok (.putfield 185, 3) := dk_181 0 185 (dk_at dksX12_readTree_9 5 rfl rfl)
theorem dX12_readTree_219 : decode cX12_readTree 219 = .ok (.aload_n 0, 1) := dk_42 (dk_at dksX12_readTree_9 8 rfl rfl)
theorem dX12_readTree_220 : decode cX12_readTree 220 = .ok (.getfield 28, 3) := dk_180 0 28 (dk_at dksX12_readTree_9 9 rfl rfl)
theorem dX12_readTree_223 : decode cX12_readTree 223 = .ok (.getfield 124, 3) := dk_180 0 124 (dk_at dksX12_readTree_9 12 rfl rfl)
theorem dX12_readTree_226 : decode cX12_readTree 226 = .ok (.iload 6, 2) := dk_21 6 (dk_at dksX12_readTree_9 15 rfl rfl)
theorem dX12_readTree_228 : decode cX12_readTree 228 = .ok (.iaload, 1) := dk_46 (dk_at dksX12_readTree_9 17 rfl rfl)
theorem dX12_readTree_229 : decode cX12_readTree 229 = .ok (.istore 6, 2) := dk_54 6 (dk_at dksX12_readTree_9 18 rfl rfl)
theorem dX12_readTree_231 : decode cX12_readTree 231 = .ok (.goto (-211), 3) := dk_167 255 45 (dk_at dksX12_readTree_9 20 rfl rfl)
theorem dX12_readTree_234 : decode cX12_readTree 234 = .ok (.iload 5, 2) := dk_21 5 (dk_at dksX12_readTree_10 0 rfl rfl)
theorem dX12_readTree_236 : decode cX12_readTree 236 = .ok (.ifCond .eq 34, 3) := dk_153 0 34 (dk_at dksX12_readTree_10 2 rfl rfl)
theorem dX12_readTree_239 : decode cX12_readTree 239 = .ok (.aload_n 0, 1) := dk_42 (dk_at dksX12_readTree_10 5 rfl rfl)
theorem dX12_readTree_240 : decode cX12_readTree 240 = .ok (.getfield 44, 3) := dk_180 0 44 (dk_at dksX12_readTree_10 6 rfl rfl)
theorem dX12_readTree_243 : decode cX12_readTree 243 = .ok (.aload_n 0, 1) := dk_42 (dk_at dksX12_readTree_10 9 rfl rfl)
theorem dX12_readTree_244 : decode cX12_readTree 244 = .ok (.getfield 24, 3) := dk_180 0 24 (dk_at dksX12_readTree_10 10 rfl rfl)
theorem dX12_readTree_247 : decode cX12_readTree 247 = .ok (.iload 4, 2) := dk_21 4 (dk_at dksX12_readTree_10 13 rfl rfl)
theorem dX12_readTree_249 : decode cX12_readTree 249 = .ok (.aload_n 0, 1) := dk_42 (dk_at dksX12_readTree_10 15 rfl rfl)
theorem dX12_readTree_250 : decode cX12_readTree 250 = .ok (.getfield 185, 3) := dk_180 0 185 (dk_at dksX12_readTree_10 16 rfl rfl)
theorem dX12_readTree_253 : decode cX12_readTree 253 = .ok (.iload_n 3, 1) := dk_29 (dk_at dksX12_readTree_10 19 rfl rfl)
theorem dX12_readTree_254 : decode cX12_readTree 254 = .ok (.ifCond .ge 7, 3) := dk_156 0 7 (dk_at dksX12_readTree_10 20 rfl rfl)
theorem dX12_readTree_257 : decode cX12_readTree 257 = .ok (.iconst 0, 1) := dk_3 (dk_at dksX12_readTree_10 23 rfl rfl)
theorem dX12_readTree_258 : decode cX12_readTree 258 = .ok (.goto 6, 3) := dk_167 0 6 (dk_at dksX12_readTree_11 0 rfl rfl)
theorem dX12_readTree_261 : decode cX12_readTree 261 = .ok (.sipush 4200, 3) := dk_17 16 104 (dk_at dksX12_readTree_11 3 rfl rfl)
theorem dX12_readTree_264 : decode cX12_readTree 264 = .ok (.invokevirtual 199, 3) := dk_182 0 199 (dk_at dksX12_readTree_11 6 rfl rfl)
theorem dX12_readTree_267 : decode cX12_readTree 267 = .ok (.goto 4, 3) := dk_167 0 4 (dk_at dksX12_readTree_11 9 rfl rfl)
theorem dX12_readTree_270 : decode cX12_readTree 270 = .ok (.iconst 0, 1) := dk_3 (dk_at dksX12_readTree_11 12 rfl rfl)
theorem dX12_readTree_271 : decode cX12_readTree 271 = .ok (.istore 6, 2) := dk_54 6 (dk_at dksX12_readTree_11 13 rfl rfl)
theorem dX12_readTree_273 : decode cX12_readTree 273 = .ok (.aload_n 0, 1) := dk_42 (dk_at dksX12_readTree_11 15 rfl rfl)
theorem dX12_readTree_274 : decode cX12_readTree 274 = .ok (.iload 4, 2) := dk_21 4 (dk_at dksX12_readTree_11 16 rfl rfl)
theorem dX12_readTree_276 : decode cX12_readTree 276 = .ok (.putfield 185, 3) := dk_181 0 185 (dk_at dksX12_readTree_11 18 rfl rfl)
theorem dX12_readTree_279 : decode cX12_readTree 279 = .ok (.iload 6, 2) := dk_21 6 (dk_at dksX12_readTree_11 21 rfl rfl)
theorem dX12_readTree_281 : decode cX12_readTree 281 = .ok (.ireturn, 1) := dk_172 (dk_at dksX12_readTree_11 23 rfl rfl)
abbrev cX12_address : ByteArray := prog_4_method_6_code
def yX12_address : MethodName := ⟨RX12, "address", "(I)I"⟩
def dkwX12_address_1 : List UInt8 := [180, 0, 48, 42, 180, 0, 20, 3, 42, 180, 0, 160, 182, 0, 164, 167, 0, 4, 2, 172]
abbrev dktX12_address_1 : List UInt8 := dkwX12_address_1 ++ []
def dkwX12_address_0 : List UInt8 := [42, 180, 0, 28, 180, 0, 92, 27, 51, 6, 160, 0, 30, 42, 27, 182, 0, 157, 153, 0, 22, 42]
abbrev dktX12_address_0 : List UInt8 := dkwX12_address_0 ++ dktX12_address_1
theorem dksX12_address_0 : cX12_address.data.toList.drop 0 = dktX12_address_0 := by decide +kernel
theorem dksX12_address_1 : cX12_address.data.toList.drop 22 = dktX12_address_1 := dk_seg dksX12_address_0 22 rfl rfl
theorem dX12_address_0 : decode cX12_address 0 = .ok (.aload_n 0, 1) := dk_42 (dk_at dksX12_address_0 0 rfl rfl)
theorem dX12_address_1 : decode cX12_address 1 = .ok (.getfield 28, 3) := dk_180 0 28 (dk_at dksX12_address_0 1 rfl rfl)
theorem dX12_address_4 : decode cX12_address 4 = .ok (.getfield 92, 3) := dk_180 0 92 (dk_at dksX12_address_0 4 rfl rfl)
theorem dX12_address_7 : decode cX12_address 7 = .ok (.iload_n 1, 1) := dk_27 (dk_at dksX12_address_0 7 rfl rfl)
theorem dX12_address_8 : decode cX12_address 8 = .ok (.baload, 1) := dk_51 (dk_at dksX12_address_0 8 rfl rfl)
theorem dX12_address_9 : decode cX12_address 9 = .ok (.iconst 3, 1) := dk_6 (dk_at dksX12_address_0 9 rfl rfl)
theorem dX12_address_10 : decode cX12_address 10 = .ok (.if_icmp .ne 30, 3) := dk_160 0 30 (dk_at dksX12_address_0 10 rfl rfl)
theorem dX12_address_13 : decode cX12_address 13 = .ok (.aload_n 0, 1) := dk_42 (dk_at dksX12_address_0 13 rfl rfl)
theorem dX12_address_14 : decode cX12_address 14 = .ok (.iload_n 1, 1) := dk_27 (dk_at dksX12_address_0 14 rfl rfl)
theorem dX12_address_15 : decode cX12_address 15 = .ok (.invokevirtual 157, 3) := dk_182 0 157 (dk_at dksX12_address_0 15 rfl rfl)
theorem dX12_address_18 : decode cX12_address 18 = .ok (.ifCond .eq 22, 3) := dk_153 0 22 (dk_at dksX12_address_0 18 rfl rfl)
theorem dX12_address_21 : decode cX12_address 21 = .ok (.aload_n 0, 1) := dk_42 (dk_at dksX12_address_0 21 rfl rfl)
theorem dX12_address_22 : decode cX12_address 22 = .ok (.getfield 48, 3) := dk_180 0 48 (dk_at dksX12_address_1 0 rfl rfl)
theorem dX12_address_25 : decode cX12_address 25 = .ok (.aload_n 0, 1) := dk_42 (dk_at dksX12_address_1 3 rfl rfl)
theorem dX12_address_26 : decode cX12_address 26 = .ok (.getfield 20, 3) := dk_180 0 20 (dk_at dksX12_address_1 4 rfl rfl)
theorem dX12_address_29 : decode cX12_address 29 = .ok (.iconst 0, 1) := dk_3 (dk_at dksX12_address_1 7 rfl rfl)
theorem dX12_address_30 : decode cX12_address 30 = .ok (.aload_n 0, 1) := dk_42 (dk_at dksX12_address_1 8 rfl rfl)
theorem dX12_address_31 : decode cX12_address 31 = .ok (.getfield 160, 3) := dk_180 0 160 (dk_at dksX12_address_1 9 rfl rfl)
theorem dX12_address_34 : decode cX12_address 34 = .ok (.invokevirtual 164, 3) := dk_182 0 164 (dk_at dksX12_address_1 12 rfl rfl)
theorem dX12_address_37 : decode cX12_address 37 = .ok (.goto 4, 3) := dk_167 0 4 (dk_at dksX12_address_1 15 rfl rfl)
theorem dX12_address_40 : decode cX12_address 40 = .ok (.iconst (-1), 1) := dk_2 (dk_at dksX12_address_1 18 rfl rfl)
theorem dX12_address_41 : decode cX12_address 41 = .ok (.ireturn, 1) := dk_172 (dk_at dksX12_address_1 19 rfl rfl)
abbrev cX12_entry : ByteArray := prog_4_method_7_code
def yX12_entry : MethodName := ⟨RX12, "entry", "(LContractLedger$Names;)I"⟩
def dkwX12_entry_1 : List UInt8 := [180, 0, 169, 42, 180, 0, 160, 182, 0, 174, 172]
abbrev dktX12_entry_1 : List UInt8 := dkwX12_entry_1 ++ []
def dkwX12_entry_0 : List UInt8 := [42, 180, 0, 48, 180, 0, 169, 154, 0, 7, 3, 167, 0, 22, 43, 42, 180, 0, 20, 42, 180, 0, 48]
abbrev dktX12_entry_0 : List UInt8 := dkwX12_entry_0 ++ dktX12_entry_1
theorem dksX12_entry_0 : cX12_entry.data.toList.drop 0 = dktX12_entry_0 := by decide +kernel
theorem dksX12_entry_1 : cX12_entry.data.toList.drop 23 = dktX12_entry_1 := dk_seg dksX12_entry_0 23 rfl rfl
theorem dX12_entry_0 : decode cX12_entry 0 = .ok (.aload_n 0, 1) := dk_42 (dk_at dksX12_entry_0 0 rfl rfl)
theorem dX12_entry_1 : decode cX12_entry 1 = .ok (.getfield 48, 3) := dk_180 0 48 (dk_at dksX12_entry_0 1 rfl rfl)
theorem dX12_entry_4 : decode cX12_entry 4 = .ok (.getfield 169, 3) := dk_180 0 169 (dk_at dksX12_entry_0 4 rfl rfl)
theorem dX12_entry_7 : decode cX12_entry 7 = .ok (.ifCond .ne 7, 3) := dk_154 0 7 (dk_at dksX12_entry_0 7 rfl rfl)
theorem dX12_entry_10 : decode cX12_entry 10 = .ok (.iconst 0, 1) := dk_3 (dk_at dksX12_entry_0 10 rfl rfl)
theorem dX12_entry_11 : decode cX12_entry 11 = .ok (.goto 22, 3) := dk_167 0 22 (dk_at dksX12_entry_0 11 rfl rfl)
theorem dX12_entry_14 : decode cX12_entry 14 = .ok (.aload_n 1, 1) := dk_43 (dk_at dksX12_entry_0 14 rfl rfl)
theorem dX12_entry_15 : decode cX12_entry 15 = .ok (.aload_n 0, 1) := dk_42 (dk_at dksX12_entry_0 15 rfl rfl)
theorem dX12_entry_16 : decode cX12_entry 16 = .ok (.getfield 20, 3) := dk_180 0 20 (dk_at dksX12_entry_0 16 rfl rfl)
theorem dX12_entry_19 : decode cX12_entry 19 = .ok (.aload_n 0, 1) := dk_42 (dk_at dksX12_entry_0 19 rfl rfl)
theorem dX12_entry_20 : decode cX12_entry 20 = .ok (.getfield 48, 3) := dk_180 0 48 (dk_at dksX12_entry_0 20 rfl rfl)
theorem dX12_entry_23 : decode cX12_entry 23 = .ok (.getfield 169, 3) := dk_180 0 169 (dk_at dksX12_entry_1 0 rfl rfl)
theorem dX12_entry_26 : decode cX12_entry 26 = .ok (.aload_n 0, 1) := dk_42 (dk_at dksX12_entry_1 3 rfl rfl)
theorem dX12_entry_27 : decode cX12_entry 27 = .ok (.getfield 160, 3) := dk_180 0 160 (dk_at dksX12_entry_1 4 rfl rfl)
theorem dX12_entry_30 : decode cX12_entry 30 = .ok (.invokevirtual 174, 3) := dk_182 0 174 (dk_at dksX12_entry_1 7 rfl rfl)
theorem dX12_entry_33 : decode cX12_entry 33 = .ok (.ireturn, 1) := dk_172 (dk_at dksX12_entry_1 10 rfl rfl)
theorem q379 : (Jvm.Cond.initialized "ContractLedger$Data") ∈ lw_all := lw_g (lw_at lw_m1 22 rfl) rfl
theorem q637 : (Jvm.Cond.fieldLink "ContractLedger$Data" (145 : Nat) "ContractLedger$Whole" "negative" "Z") ∈ lw_all := lw_g (lw_at lw_m2 40 rfl) rfl
theorem q654 : (Jvm.Cond.fieldLink "ContractLedger$Data" (92 : Nat) "ContractLedger$Terms" "kinds" "[B") ∈ lw_all := lw_g (lw_at lw_m2 57 rfl) rfl
theorem q658 : (Jvm.Cond.fieldLink "ContractLedger$Data" (95 : Nat) "ContractLedger$Terms" "names" "[B") ∈ lw_all := lw_g (lw_at lw_m2 61 rfl) rfl
theorem q662 : (Jvm.Cond.fieldLink "ContractLedger$Data" (136 : Nat) "ContractLedger$Terms" "starts" "[I") ∈ lw_all := lw_g (lw_at lw_m2 65 rfl) rfl
theorem q665 : (Jvm.Cond.fieldLink "ContractLedger$Data" (139 : Nat) "ContractLedger$Terms" "ends" "[I") ∈ lw_all := lw_g (lw_at lw_m2 68 rfl) rfl
theorem q668 : (Jvm.Cond.fieldLink "ContractLedger$Data" (52 : Nat) "ContractLedger$Terms" "marks" "[I") ∈ lw_all := lw_g (lw_at lw_m2 71 rfl) rfl
theorem q673 : (Jvm.Cond.fieldLink "ContractLedger$Data" (101 : Nat) "ContractLedger$Terms" "firsts" "[I") ∈ lw_all := lw_g (lw_at lw_m2 76 rfl) rfl
theorem q677 : (Jvm.Cond.fieldLink "ContractLedger$Data" (124 : Nat) "ContractLedger$Terms" "nexts" "[I") ∈ lw_all := lw_g (lw_at lw_m2 80 rfl) rfl
theorem q681 : (Jvm.Cond.fieldLink "ContractLedger$Data" (98 : Nat) "ContractLedger$Terms" "counts" "[I") ∈ lw_all := lw_g (lw_at lw_m2 84 rfl) rfl
theorem q752 : (Jvm.Cond.fieldLink "ContractLedger$Data" (57 : Nat) "ContractLedger$Types" "words" "[B") ∈ lw_all := lw_g (lw_at lw_m2 155 rfl) rfl
theorem q758 : (Jvm.Cond.fieldLink "ContractLedger$Data" (82 : Nat) "ContractLedger$Types" "lefts" "[I") ∈ lw_all := lw_g (lw_at lw_m2 161 rfl) rfl
theorem q764 : (Jvm.Cond.fieldLink "ContractLedger$Data" (89 : Nat) "ContractLedger$Types" "rights" "[I") ∈ lw_all := lw_g (lw_at lw_m2 167 rfl) rfl
theorem q871 : (Jvm.Cond.fieldLink "ContractLedger$Data" (169 : Nat) "ContractLedger$Addresses" "mark" "I") ∈ lw_all := lw_g (lw_at lw_m3 34 rfl) rfl
theorem q880 : (Jvm.Cond.instantiable "ContractLedger$Data" (11 : Nat)) ∈ lw_all := lw_g (lw_at lw_m3 43 rfl) rfl
theorem q882 : (Jvm.Cond.instanceMethod ({ cls := "ContractLedger$Data", name := "<init>", desc := "(LContractLedger$Terms;LContractLedger$Types;LContractLedger$Memory;LContractLedger$Order;LContractLedger$Trees;LContractLedger$Addresses;)V" } : Jvm.MethodName)) ∈ lw_all := lw_g (lw_at lw_m3 45 rfl) rfl
theorem q883 : (Jvm.Cond.code ({ cls := "ContractLedger$Data", name := "<init>", desc := "(LContractLedger$Terms;LContractLedger$Types;LContractLedger$Memory;LContractLedger$Order;LContractLedger$Trees;LContractLedger$Addresses;)V" } : Jvm.MethodName) prog_4_method_1_code (7 : Nat) (Option.none : Option Jvm.ClassFile.FieldType)) ∈ lw_all := lw_g (lw_at lw_m3 46 rfl) rfl
theorem q884 : (Jvm.Cond.methodLink "ContractLedger$Data" (3 : Nat) ({ cls := "java/lang/Object", name := "<init>", desc := "()V" } : Jvm.MethodName)) ∈ lw_all := lw_g (lw_at lw_m3 47 rfl) rfl
theorem q885 : (Jvm.Cond.classLink "ContractLedger$Data" (9 : Nat) "ContractLedger$Whole") ∈ lw_all := lw_g (lw_at lw_m3 48 rfl) rfl
theorem q886 : (Jvm.Cond.methodLink "ContractLedger$Data" (11 : Nat) ({ cls := "ContractLedger$Whole", name := "<init>", desc := "(I)V" } : Jvm.MethodName)) ∈ lw_all := lw_g (lw_at lw_m3 49 rfl) rfl
theorem q887 : (Jvm.Cond.fieldLink "ContractLedger$Data" (28 : Nat) "ContractLedger$Data" "terms" "LContractLedger$Terms;") ∈ lw_all := lw_g (lw_at lw_m3 50 rfl) rfl
theorem q888 : (Jvm.Cond.fieldLink "ContractLedger$Data" (32 : Nat) "ContractLedger$Data" "types" "LContractLedger$Types;") ∈ lw_all := lw_g (lw_at lw_m3 51 rfl) rfl
theorem q889 : (Jvm.Cond.fieldLink "ContractLedger$Data" (36 : Nat) "ContractLedger$Data" "memory" "LContractLedger$Memory;") ∈ lw_all := lw_g (lw_at lw_m3 52 rfl) rfl
theorem q890 : (Jvm.Cond.fieldLink "ContractLedger$Data" (40 : Nat) "ContractLedger$Data" "order" "LContractLedger$Order;") ∈ lw_all := lw_g (lw_at lw_m3 53 rfl) rfl
theorem q891 : (Jvm.Cond.fieldLink "ContractLedger$Data" (44 : Nat) "ContractLedger$Data" "trees" "LContractLedger$Trees;") ∈ lw_all := lw_g (lw_at lw_m3 54 rfl) rfl
theorem q892 : (Jvm.Cond.fieldLink "ContractLedger$Data" (48 : Nat) "ContractLedger$Data" "addresses" "LContractLedger$Addresses;") ∈ lw_all := lw_g (lw_at lw_m3 55 rfl) rfl
theorem q893 : (Jvm.Cond.fieldLink "ContractLedger$Data" (14 : Nat) "ContractLedger$Data" "number" "LContractLedger$Whole;") ∈ lw_all := lw_g (lw_at lw_m3 56 rfl) rfl
theorem q894 : (Jvm.Cond.fieldLink "ContractLedger$Data" (20 : Nat) "ContractLedger$Data" "bytes" "[B") ∈ lw_all := lw_g (lw_at lw_m3 57 rfl) rfl
theorem q895 : (Jvm.Cond.fieldLink "ContractLedger$Data" (160 : Nat) "ContractLedger$Data" "count" "I") ∈ lw_all := lw_g (lw_at lw_m3 58 rfl) rfl
theorem q896 : (Jvm.Cond.fieldLink "ContractLedger$Data" (24 : Nat) "ContractLedger$Data" "row" "[I") ∈ lw_all := lw_g (lw_at lw_m3 59 rfl) rfl
theorem q897 : (Jvm.Cond.fieldLink "ContractLedger$Data" (185 : Nat) "ContractLedger$Data" "rowTop" "I") ∈ lw_all := lw_g (lw_at lw_m3 60 rfl) rfl
theorem q898 : (Jvm.Cond.laysFinal "ContractLedger$Data" "ContractLedger$Data" "terms" "LContractLedger$Terms;") ∈ lw_all := lw_g (lw_at lw_m3 61 rfl) rfl
theorem q899 : (Jvm.Cond.soleField "ContractLedger$Data" "terms") ∈ lw_all := lw_g (lw_at lw_m3 62 rfl) rfl
theorem q900 : (Jvm.Cond.laysFinal "ContractLedger$Data" "ContractLedger$Data" "types" "LContractLedger$Types;") ∈ lw_all := lw_g (lw_at lw_m3 63 rfl) rfl
theorem q901 : (Jvm.Cond.soleField "ContractLedger$Data" "types") ∈ lw_all := lw_g (lw_at lw_m3 64 rfl) rfl
theorem q902 : (Jvm.Cond.laysFinal "ContractLedger$Data" "ContractLedger$Data" "memory" "LContractLedger$Memory;") ∈ lw_all := lw_g (lw_at lw_m3 65 rfl) rfl
theorem q903 : (Jvm.Cond.soleField "ContractLedger$Data" "memory") ∈ lw_all := lw_g (lw_at lw_m3 66 rfl) rfl
theorem q904 : (Jvm.Cond.laysFinal "ContractLedger$Data" "ContractLedger$Data" "order" "LContractLedger$Order;") ∈ lw_all := lw_g (lw_at lw_m3 67 rfl) rfl
theorem q905 : (Jvm.Cond.soleField "ContractLedger$Data" "order") ∈ lw_all := lw_g (lw_at lw_m3 68 rfl) rfl
theorem q906 : (Jvm.Cond.laysFinal "ContractLedger$Data" "ContractLedger$Data" "trees" "LContractLedger$Trees;") ∈ lw_all := lw_g (lw_at lw_m3 69 rfl) rfl
theorem q907 : (Jvm.Cond.soleField "ContractLedger$Data" "trees") ∈ lw_all := lw_g (lw_at lw_m3 70 rfl) rfl
theorem q908 : (Jvm.Cond.laysFinal "ContractLedger$Data" "ContractLedger$Data" "addresses" "LContractLedger$Addresses;") ∈ lw_all := lw_g (lw_at lw_m3 71 rfl) rfl
theorem q909 : (Jvm.Cond.soleField "ContractLedger$Data" "addresses") ∈ lw_all := lw_g (lw_at lw_m3 72 rfl) rfl
theorem q910 : (Jvm.Cond.laysFinal "ContractLedger$Data" "ContractLedger$Data" "number" "LContractLedger$Whole;") ∈ lw_all := lw_g (lw_at lw_m3 73 rfl) rfl
theorem q911 : (Jvm.Cond.soleField "ContractLedger$Data" "number") ∈ lw_all := lw_g (lw_at lw_m3 74 rfl) rfl
theorem q912 : (Jvm.Cond.laysFinal "ContractLedger$Data" "ContractLedger$Data" "bytes" "[B") ∈ lw_all := lw_g (lw_at lw_m3 75 rfl) rfl
theorem q913 : (Jvm.Cond.soleField "ContractLedger$Data" "bytes") ∈ lw_all := lw_g (lw_at lw_m3 76 rfl) rfl
theorem q914 : (Jvm.Cond.lays "ContractLedger$Data" "ContractLedger$Data" "count" "I") ∈ lw_all := lw_g (lw_at lw_m3 77 rfl) rfl
theorem q915 : (Jvm.Cond.soleField "ContractLedger$Data" "count") ∈ lw_all := lw_g (lw_at lw_m3 78 rfl) rfl
theorem q916 : (Jvm.Cond.laysFinal "ContractLedger$Data" "ContractLedger$Data" "row" "[I") ∈ lw_all := lw_g (lw_at lw_m3 79 rfl) rfl
theorem q917 : (Jvm.Cond.soleField "ContractLedger$Data" "row") ∈ lw_all := lw_g (lw_at lw_m3 80 rfl) rfl
theorem q918 : (Jvm.Cond.lays "ContractLedger$Data" "ContractLedger$Data" "rowTop" "I") ∈ lw_all := lw_g (lw_at lw_m3 81 rfl) rfl
theorem q919 : (Jvm.Cond.soleField "ContractLedger$Data" "rowTop") ∈ lw_all := lw_g (lw_at lw_m3 82 rfl) rfl
theorem q920 : (Jvm.Cond.superclass "ContractLedger$Data" "java/lang/Object") ∈ lw_all := lw_g (lw_at lw_m3 83 rfl) rfl
theorem q1937 : (Jvm.Cond.instanceMethod ({ cls := "ContractLedger$Data", name := "read", desc := "(II)I" } : Jvm.MethodName)) ∈ lw_all := lw_g (lw_at lw_m7 140 rfl) rfl
theorem q1938 : (Jvm.Cond.selects "ContractLedger$Data" ({ cls := "ContractLedger$Data", name := "read", desc := "(II)I" } : Jvm.MethodName) ({ cls := "ContractLedger$Data", name := "read", desc := "(II)I" } : Jvm.MethodName)) ∈ lw_all := lw_g (lw_at lw_m7 141 rfl) rfl
theorem q1939 : (Jvm.Cond.code ({ cls := "ContractLedger$Data", name := "read", desc := "(II)I" } : Jvm.MethodName) prog_4_method_2_code (4 : Nat) (Option.some Jvm.ClassFile.FieldType.int)) ∈ lw_all := lw_g (lw_at lw_m7 142 rfl) rfl
theorem q1940 : (Jvm.Cond.methodLink "ContractLedger$Data" (64 : Nat) ({ cls := "ContractLedger$Terms", name := "is", desc := "(III)Z" } : Jvm.MethodName)) ∈ lw_all := lw_g (lw_at lw_m7 143 rfl) rfl
theorem q1941 : (Jvm.Cond.methodLink "ContractLedger$Data" (70 : Nat) ({ cls := "ContractLedger$Data", name := "readNumber", desc := "(II)I" } : Jvm.MethodName)) ∈ lw_all := lw_g (lw_at lw_m7 144 rfl) rfl
theorem q1942 : (Jvm.Cond.privateMethod ({ cls := "ContractLedger$Data", name := "readNumber", desc := "(II)I" } : Jvm.MethodName)) ∈ lw_tbl := lw_at lw_m7 145 rfl
theorem q1943 : (Jvm.Cond.instanceMethod ({ cls := "ContractLedger$Data", name := "readNumber", desc := "(II)I" } : Jvm.MethodName)) ∈ lw_all := lw_g (lw_at lw_m7 146 rfl) rfl
theorem q1944 : (Jvm.Cond.code ({ cls := "ContractLedger$Data", name := "readNumber", desc := "(II)I" } : Jvm.MethodName) prog_4_method_5_code (4 : Nat) (Option.some Jvm.ClassFile.FieldType.int)) ∈ lw_all := lw_g (lw_at lw_m7 147 rfl) rfl
theorem q1945 : (Jvm.Cond.methodLink "ContractLedger$Data" (132 : Nat) ({ cls := "ContractLedger$Terms", name := "text", desc := "()[B" } : Jvm.MethodName)) ∈ lw_all := lw_g (lw_at lw_m7 148 rfl) rfl
theorem q1946 : (Jvm.Cond.methodLink "ContractLedger$Data" (142 : Nat) ({ cls := "ContractLedger$Terms", name := "number", desc := "([BIILContractLedger$Whole;)V" } : Jvm.MethodName)) ∈ lw_all := lw_g (lw_at lw_m7 149 rfl) rfl
theorem q1947 : (Jvm.Cond.methodLink "ContractLedger$Data" (149 : Nat) ({ cls := "ContractLedger$Whole", name := "bits", desc := "()I" } : Jvm.MethodName)) ∈ lw_all := lw_g (lw_at lw_m7 150 rfl) rfl
theorem q1948 : (Jvm.Cond.methodLink "ContractLedger$Data" (153 : Nat) ({ cls := "ContractLedger$Memory", name := "ofWhole", desc := "(LContractLedger$Whole;)I" } : Jvm.MethodName)) ∈ lw_all := lw_g (lw_at lw_m7 151 rfl) rfl
theorem q1980 : (Jvm.Cond.methodLink "ContractLedger$Data" (74 : Nat) ({ cls := "ContractLedger$Data", name := "readString", desc := "(IZ)I" } : Jvm.MethodName)) ∈ lw_all := lw_g (lw_at lw_m7 183 rfl) rfl
theorem q1981 : (Jvm.Cond.privateMethod ({ cls := "ContractLedger$Data", name := "readString", desc := "(IZ)I" } : Jvm.MethodName)) ∈ lw_tbl := lw_at lw_m7 184 rfl
theorem q1982 : (Jvm.Cond.instanceMethod ({ cls := "ContractLedger$Data", name := "readString", desc := "(IZ)I" } : Jvm.MethodName)) ∈ lw_all := lw_g (lw_at lw_m7 185 rfl) rfl
theorem q1983 : (Jvm.Cond.code ({ cls := "ContractLedger$Data", name := "readString", desc := "(IZ)I" } : Jvm.MethodName) prog_4_method_8_code (3 : Nat) (Option.some Jvm.ClassFile.FieldType.int)) ∈ lw_all := lw_g (lw_at lw_m7 186 rfl) rfl
theorem q1984 : (Jvm.Cond.methodLink "ContractLedger$Data" (157 : Nat) ({ cls := "ContractLedger$Data", name := "unescape", desc := "(I)Z" } : Jvm.MethodName)) ∈ lw_all := lw_g (lw_at lw_m7 187 rfl) rfl
theorem q1985 : (Jvm.Cond.privateMethod ({ cls := "ContractLedger$Data", name := "unescape", desc := "(I)Z" } : Jvm.MethodName)) ∈ lw_tbl := lw_at lw_m7 188 rfl
theorem q1986 : (Jvm.Cond.instanceMethod ({ cls := "ContractLedger$Data", name := "unescape", desc := "(I)Z" } : Jvm.MethodName)) ∈ lw_all := lw_g (lw_at lw_m7 189 rfl) rfl
theorem q1987 : (Jvm.Cond.code ({ cls := "ContractLedger$Data", name := "unescape", desc := "(I)Z" } : Jvm.MethodName) prog_4_method_9_code (5 : Nat) (Option.some Jvm.ClassFile.FieldType.boolean)) ∈ lw_all := lw_g (lw_at lw_m7 190 rfl) rfl
theorem q1988 : (Jvm.Cond.methodLink "ContractLedger$Data" (164 : Nat) ({ cls := "ContractLedger$Addresses", name := "read", desc := "([BII)I" } : Jvm.MethodName)) ∈ lw_all := lw_g (lw_at lw_m7 191 rfl) rfl
theorem q1997 : (Jvm.Cond.methodLink "ContractLedger$Data" (177 : Nat) ({ cls := "ContractLedger$Memory", name := "ofBytes", desc := "([BII)I" } : Jvm.MethodName)) ∈ lw_all := lw_g (lw_at lw_m7 200 rfl) rfl
theorem q2013 : (Jvm.Cond.methodLink "ContractLedger$Data" (78 : Nat) ({ cls := "ContractLedger$Data", name := "readBytes", desc := "(I)I" } : Jvm.MethodName)) ∈ lw_all := lw_g (lw_at lw_m7 216 rfl) rfl
theorem q2014 : (Jvm.Cond.privateMethod ({ cls := "ContractLedger$Data", name := "readBytes", desc := "(I)I" } : Jvm.MethodName)) ∈ lw_tbl := lw_at lw_m7 217 rfl
theorem q2015 : (Jvm.Cond.instanceMethod ({ cls := "ContractLedger$Data", name := "readBytes", desc := "(I)I" } : Jvm.MethodName)) ∈ lw_all := lw_g (lw_at lw_m7 218 rfl) rfl
theorem q2016 : (Jvm.Cond.code ({ cls := "ContractLedger$Data", name := "readBytes", desc := "(I)I" } : Jvm.MethodName) prog_4_method_10_code (6 : Nat) (Option.some Jvm.ClassFile.FieldType.int)) ∈ lw_all := lw_g (lw_at lw_m7 219 rfl) rfl
theorem q2017 : (Jvm.Cond.methodLink "ContractLedger$Data" (180 : Nat) ({ cls := "ContractLedger$Signs", name := "hex", desc := "(I)I" } : Jvm.MethodName)) ∈ lw_all := lw_g (lw_at lw_m7 220 rfl) rfl
theorem q2018 : (Jvm.Cond.methodLink "ContractLedger$Data" (85 : Nat) ({ cls := "ContractLedger$Data", name := "readWrapped", desc := "(IIII)I" } : Jvm.MethodName)) ∈ lw_all := lw_g (lw_at lw_m7 221 rfl) rfl
theorem q2019 : (Jvm.Cond.privateMethod ({ cls := "ContractLedger$Data", name := "readWrapped", desc := "(IIII)I" } : Jvm.MethodName)) ∈ lw_tbl := lw_at lw_m7 222 rfl
theorem q2020 : (Jvm.Cond.instanceMethod ({ cls := "ContractLedger$Data", name := "readWrapped", desc := "(IIII)I" } : Jvm.MethodName)) ∈ lw_all := lw_g (lw_at lw_m7 223 rfl) rfl
theorem q2021 : (Jvm.Cond.code ({ cls := "ContractLedger$Data", name := "readWrapped", desc := "(IIII)I" } : Jvm.MethodName) prog_4_method_3_code (6 : Nat) (Option.some Jvm.ClassFile.FieldType.int)) ∈ lw_all := lw_g (lw_at lw_m7 224 rfl) rfl
theorem q2022 : (Jvm.Cond.methodLink "ContractLedger$Data" (118 : Nat) ({ cls := "ContractLedger$Data", name := "read", desc := "(II)I" } : Jvm.MethodName)) ∈ lw_all := lw_g (lw_at lw_m7 225 rfl) rfl
theorem q2023 : (Jvm.Cond.methodLink "ContractLedger$Data" (121 : Nat) ({ cls := "ContractLedger$Memory", name := "wrap", desc := "(II)I" } : Jvm.MethodName)) ∈ lw_all := lw_g (lw_at lw_m7 226 rfl) rfl
theorem q2049 : (Jvm.Cond.methodLink "ContractLedger$Data" (104 : Nat) ({ cls := "ContractLedger$Data", name := "readComb", desc := "(II)I" } : Jvm.MethodName)) ∈ lw_all := lw_g (lw_at lw_m8 12 rfl) rfl
theorem q2050 : (Jvm.Cond.privateMethod ({ cls := "ContractLedger$Data", name := "readComb", desc := "(II)I" } : Jvm.MethodName)) ∈ lw_tbl := lw_at lw_m8 13 rfl
theorem q2051 : (Jvm.Cond.instanceMethod ({ cls := "ContractLedger$Data", name := "readComb", desc := "(II)I" } : Jvm.MethodName)) ∈ lw_all := lw_g (lw_at lw_m8 14 rfl) rfl
theorem q2052 : (Jvm.Cond.code ({ cls := "ContractLedger$Data", name := "readComb", desc := "(II)I" } : Jvm.MethodName) prog_4_method_4_code (6 : Nat) (Option.some Jvm.ClassFile.FieldType.int)) ∈ lw_all := lw_g (lw_at lw_m8 15 rfl) rfl
theorem q2053 : (Jvm.Cond.methodLink "ContractLedger$Data" (127 : Nat) ({ cls := "ContractLedger$Memory", name := "pair", desc := "(II)I" } : Jvm.MethodName)) ∈ lw_all := lw_g (lw_at lw_m8 16 rfl) rfl
theorem q2057 : (Jvm.Cond.methodLink "ContractLedger$Data" (107 : Nat) ({ cls := "ContractLedger$Terms", name := "isSequence", desc := "(I)Z" } : Jvm.MethodName)) ∈ lw_all := lw_g (lw_at lw_m8 20 rfl) rfl
theorem q2058 : (Jvm.Cond.methodLink "ContractLedger$Data" (111 : Nat) ({ cls := "ContractLedger$Data", name := "readList", desc := "(II)I" } : Jvm.MethodName)) ∈ lw_all := lw_g (lw_at lw_m8 21 rfl) rfl
theorem q2059 : (Jvm.Cond.privateMethod ({ cls := "ContractLedger$Data", name := "readList", desc := "(II)I" } : Jvm.MethodName)) ∈ lw_tbl := lw_at lw_m8 22 rfl
theorem q2060 : (Jvm.Cond.instanceMethod ({ cls := "ContractLedger$Data", name := "readList", desc := "(II)I" } : Jvm.MethodName)) ∈ lw_all := lw_g (lw_at lw_m8 23 rfl) rfl
theorem q2061 : (Jvm.Cond.code ({ cls := "ContractLedger$Data", name := "readList", desc := "(II)I" } : Jvm.MethodName) prog_4_method_11_code (7 : Nat) (Option.some Jvm.ClassFile.FieldType.int)) ∈ lw_all := lw_g (lw_at lw_m8 24 rfl) rfl
theorem q2062 : (Jvm.Cond.methodLink "ContractLedger$Data" (188 : Nat) ({ cls := "ContractLedger$Memory", name := "cons", desc := "(II)I" } : Jvm.MethodName)) ∈ lw_all := lw_g (lw_at lw_m8 25 rfl) rfl
theorem q2070 : (Jvm.Cond.methodLink "ContractLedger$Data" (114 : Nat) ({ cls := "ContractLedger$Data", name := "readTree", desc := "(III)I" } : Jvm.MethodName)) ∈ lw_all := lw_g (lw_at lw_m8 33 rfl) rfl
theorem q2071 : (Jvm.Cond.privateMethod ({ cls := "ContractLedger$Data", name := "readTree", desc := "(III)I" } : Jvm.MethodName)) ∈ lw_tbl := lw_at lw_m8 34 rfl
theorem q2072 : (Jvm.Cond.instanceMethod ({ cls := "ContractLedger$Data", name := "readTree", desc := "(III)I" } : Jvm.MethodName)) ∈ lw_all := lw_g (lw_at lw_m8 35 rfl) rfl
theorem q2073 : (Jvm.Cond.code ({ cls := "ContractLedger$Data", name := "readTree", desc := "(III)I" } : Jvm.MethodName) prog_4_method_12_code (10 : Nat) (Option.some Jvm.ClassFile.FieldType.int)) ∈ lw_all := lw_g (lw_at lw_m8 36 rfl) rfl
theorem q2074 : (Jvm.Cond.methodLink "ContractLedger$Data" (191 : Nat) ({ cls := "ContractLedger$Terms", name := "isBare", desc := "(III)Z" } : Jvm.MethodName)) ∈ lw_all := lw_g (lw_at lw_m8 37 rfl) rfl
theorem q2075 : (Jvm.Cond.methodLink "ContractLedger$Data" (194 : Nat) ({ cls := "ContractLedger$Order", name := "compare", desc := "(III)I" } : Jvm.MethodName)) ∈ lw_all := lw_g (lw_at lw_m8 38 rfl) rfl
theorem q2121 : (Jvm.Cond.methodLink "ContractLedger$Data" (199 : Nat) ({ cls := "ContractLedger$Trees", name := "build", desc := "([IIII)I" } : Jvm.MethodName)) ∈ lw_all := lw_g (lw_at lw_m8 84 rfl) rfl
theorem q2535 : (Jvm.Cond.instanceMethod ({ cls := "ContractLedger$Data", name := "address", desc := "(I)I" } : Jvm.MethodName)) ∈ lw_all := lw_g (lw_at lw_m10 18 rfl) rfl
theorem q2536 : (Jvm.Cond.selects "ContractLedger$Data" ({ cls := "ContractLedger$Data", name := "address", desc := "(I)I" } : Jvm.MethodName) ({ cls := "ContractLedger$Data", name := "address", desc := "(I)I" } : Jvm.MethodName)) ∈ lw_all := lw_g (lw_at lw_m10 19 rfl) rfl
theorem q2537 : (Jvm.Cond.code ({ cls := "ContractLedger$Data", name := "address", desc := "(I)I" } : Jvm.MethodName) prog_4_method_6_code (2 : Nat) (Option.some Jvm.ClassFile.FieldType.int)) ∈ lw_all := lw_g (lw_at lw_m10 20 rfl) rfl
theorem q2539 : (Jvm.Cond.instanceMethod ({ cls := "ContractLedger$Data", name := "entry", desc := "(LContractLedger$Names;)I" } : Jvm.MethodName)) ∈ lw_all := lw_g (lw_at lw_m10 22 rfl) rfl
theorem q2540 : (Jvm.Cond.selects "ContractLedger$Data" ({ cls := "ContractLedger$Data", name := "entry", desc := "(LContractLedger$Names;)I" } : Jvm.MethodName) ({ cls := "ContractLedger$Data", name := "entry", desc := "(LContractLedger$Names;)I" } : Jvm.MethodName)) ∈ lw_all := lw_g (lw_at lw_m10 23 rfl) rfl
theorem q2541 : (Jvm.Cond.code ({ cls := "ContractLedger$Data", name := "entry", desc := "(LContractLedger$Names;)I" } : Jvm.MethodName) prog_4_method_7_code (2 : Nat) (Option.some Jvm.ClassFile.FieldType.int)) ∈ lw_all := lw_g (lw_at lw_m10 24 rfl) rfl
theorem q2542 : (Jvm.Cond.methodLink "ContractLedger$Data" (174 : Nat) ({ cls := "ContractLedger$Names", name := "find", desc := "([BII)I" } : Jvm.MethodName)) ∈ lw_all := lw_g (lw_at lw_m10 25 rfl) rfl
set_option maxRecDepth 100000
set_option maxRecDepth 100000 in
set_option maxRecDepth 100000 in
abbrev cX13_init : ByteArray := prog_7_method_1_code
def yX13_init : MethodName := ⟨RX13, "<init>", "(LContractLedger$Types;LContractLedger$Memory;LContractLedger$Order;LContractLedger$Trees;LContractLedger$Addresses;)V"⟩
def dkwX13_init_2 : List UInt8 := [42, 25, 5, 181, 0, 40, 177]
abbrev dktX13_init_2 : List UInt8 := dkwX13_init_2 ++ []
def dkwX13_init_1 : List UInt8 := [181, 0, 20, 42, 43, 181, 0, 24, 42, 44, 181, 0, 28, 42, 45, 181, 0, 32, 42, 25, 4, 181, 0, 36]
abbrev dktX13_init_1 : List UInt8 := dkwX13_init_1 ++ dktX13_init_2
def dkwX13_init_0 : List UInt8 := [42, 183, 0, 3, 42, 187, 0, 9, 89, 17, 0, 200, 183, 0, 11, 181, 0, 14, 42, 17, 70, 80, 188, 10]
abbrev dktX13_init_0 : List UInt8 := dkwX13_init_0 ++ dktX13_init_1
theorem dksX13_init_0 : cX13_init.data.toList.drop 0 = dktX13_init_0 := by decide +kernel
theorem dksX13_init_1 : cX13_init.data.toList.drop 24 = dktX13_init_1 := dk_seg dksX13_init_0 24 rfl rfl
theorem dksX13_init_2 : cX13_init.data.toList.drop 48 = dktX13_init_2 := dk_seg dksX13_init_1 24 rfl rfl
theorem dX13_init_0 : decode cX13_init 0 = .ok (.aload_n 0, 1) := dk_42 (dk_at dksX13_init_0 0 rfl rfl)
theorem dX13_init_1 : decode cX13_init 1 = .ok (.invokespecial 3, 3) := dk_183 0 3 (dk_at dksX13_init_0 1 rfl rfl)
theorem dX13_init_4 : decode cX13_init 4 = .ok (.aload_n 0, 1) := dk_42 (dk_at dksX13_init_0 4 rfl rfl)
theorem dX13_init_5 : decode cX13_init 5 = .ok (.new 9, 3) := dk_187 0 9 (dk_at dksX13_init_0 5 rfl rfl)
theorem dX13_init_8 : decode cX13_init 8 = .ok (.dup, 1) := dk_89 (dk_at dksX13_init_0 8 rfl rfl)
theorem dX13_init_9 : decode cX13_init 9 = .ok (.sipush 200, 3) := dk_17 0 200 (dk_at dksX13_init_0 9 rfl rfl)
theorem dX13_init_12 : decode cX13_init 12 = .ok (.invokespecial 11, 3) := dk_183 0 11 (dk_at dksX13_init_0 12 rfl rfl)
theorem dX13_init_15 : decode cX13_init 15 = .ok (.putfield 14, 3) := dk_181 0 14 (dk_at dksX13_init_0 15 rfl rfl)
theorem dX13_init_18 : decode cX13_init 18 = .ok (.aload_n 0, 1) := dk_42 (dk_at dksX13_init_0 18 rfl rfl)
theorem dX13_init_19 : decode cX13_init 19 = .ok (.sipush 18000, 3) := dk_17 70 80 (dk_at dksX13_init_0 19 rfl rfl)
theorem dX13_init_22 : decode cX13_init 22 = .ok (.newarray .int, 2) := dk_188_10 (dk_at dksX13_init_0 22 rfl rfl)
theorem dX13_init_24 : decode cX13_init 24 = .ok (.putfield 20, 3) := dk_181 0 20 (dk_at dksX13_init_1 0 rfl rfl)
theorem dX13_init_27 : decode cX13_init 27 = .ok (.aload_n 0, 1) := dk_42 (dk_at dksX13_init_1 3 rfl rfl)
theorem dX13_init_28 : decode cX13_init 28 = .ok (.aload_n 1, 1) := dk_43 (dk_at dksX13_init_1 4 rfl rfl)
theorem dX13_init_29 : decode cX13_init 29 = .ok (.putfield 24, 3) := dk_181 0 24 (dk_at dksX13_init_1 5 rfl rfl)
theorem dX13_init_32 : decode cX13_init 32 = .ok (.aload_n 0, 1) := dk_42 (dk_at dksX13_init_1 8 rfl rfl)
theorem dX13_init_33 : decode cX13_init 33 = .ok (.aload_n 2, 1) := dk_44 (dk_at dksX13_init_1 9 rfl rfl)
theorem dX13_init_34 : decode cX13_init 34 = .ok (.putfield 28, 3) := dk_181 0 28 (dk_at dksX13_init_1 10 rfl rfl)
theorem dX13_init_37 : decode cX13_init 37 = .ok (.aload_n 0, 1) := dk_42 (dk_at dksX13_init_1 13 rfl rfl)
theorem dX13_init_38 : decode cX13_init 38 = .ok (.aload_n 3, 1) := dk_45 (dk_at dksX13_init_1 14 rfl rfl)
theorem dX13_init_39 : decode cX13_init 39 = .ok (.putfield 32, 3) := dk_181 0 32 (dk_at dksX13_init_1 15 rfl rfl)
theorem dX13_init_42 : decode cX13_init 42 = .ok (.aload_n 0, 1) := dk_42 (dk_at dksX13_init_1 18 rfl rfl)
theorem dX13_init_43 : decode cX13_init 43 = .ok (.aload 4, 2) := dk_25 4 (dk_at dksX13_init_1 19 rfl rfl)
theorem dX13_init_45 : decode cX13_init 45 = .ok (.putfield 36, 3) := dk_181 0 36 (dk_at dksX13_init_1 21 rfl rfl)
theorem dX13_init_48 : decode cX13_init 48 = .ok (.aload_n 0, 1) := dk_42 (dk_at dksX13_init_2 0 rfl rfl)
theorem dX13_init_49 : decode cX13_init 49 = .ok (.aload 5, 2) := dk_25 5 (dk_at dksX13_init_2 1 rfl rfl)
theorem dX13_init_51 : decode cX13_init 51 = .ok (.putfield 40, 3) := dk_181 0 40 (dk_at dksX13_init_2 3 rfl rfl)
theorem dX13_init_54 : decode cX13_init 54 = .ok (.return_, 1) := dk_177 (dk_at dksX13_init_2 6 rfl rfl)
abbrev cX13_write : ByteArray := prog_7_method_2_code
def yX13_write : MethodName := ⟨RX13, "write", "([BIII)V"⟩
def dkwX13_write_0 : List UInt8 := [42, 43, 181, 0, 44, 42, 28, 181, 0, 48, 42, 29, 21, 4, 182, 0, 52, 177]
abbrev dktX13_write_0 : List UInt8 := dkwX13_write_0 ++ []
theorem dksX13_write_0 : cX13_write.data.toList.drop 0 = dktX13_write_0 := by decide +kernel
theorem dX13_write_0 : decode cX13_write 0 = .ok (.aload_n 0, 1) := dk_42 (dk_at dksX13_write_0 0 rfl rfl)
theorem dX13_write_1 : decode cX13_write 1 = .ok (.aload_n 1, 1) := dk_43 (dk_at dksX13_write_0 1 rfl rfl)
theorem dX13_write_2 : decode cX13_write 2 = .ok (.putfield 44, 3) := dk_181 0 44 (dk_at dksX13_write_0 2 rfl rfl)
theorem dX13_write_5 : decode cX13_write 5 = .ok (.aload_n 0, 1) := dk_42 (dk_at dksX13_write_0 5 rfl rfl)
theorem dX13_write_6 : decode cX13_write 6 = .ok (.iload_n 2, 1) := dk_28 (dk_at dksX13_write_0 6 rfl rfl)
theorem dX13_write_7 : decode cX13_write 7 = .ok (.putfield 48, 3) := dk_181 0 48 (dk_at dksX13_write_0 7 rfl rfl)
theorem dX13_write_10 : decode cX13_write 10 = .ok (.aload_n 0, 1) := dk_42 (dk_at dksX13_write_0 10 rfl rfl)
theorem dX13_write_11 : decode cX13_write 11 = .ok (.iload_n 3, 1) := dk_29 (dk_at dksX13_write_0 11 rfl rfl)
theorem dX13_write_12 : decode cX13_write 12 = .ok (.iload 4, 2) := dk_21 4 (dk_at dksX13_write_0 12 rfl rfl)
theorem dX13_write_14 : decode cX13_write 14 = .ok (.invokevirtual 52, 3) := dk_182 0 52 (dk_at dksX13_write_0 14 rfl rfl)
theorem dX13_write_17 : decode cX13_write 17 = .ok (.return_, 1) := dk_177 (dk_at dksX13_write_0 17 rfl rfl)
abbrev cX13_put : ByteArray := prog_7_method_5_code
def yX13_put : MethodName := ⟨RX13, "put", "(II)V"⟩
def dkwX13_put_12 : List UInt8 := [180, 0, 24, 180, 0, 84, 28, 46, 182, 0, 100, 167, 0, 8, 42, 27, 182, 0, 103, 177]
abbrev dktX13_put_12 : List UInt8 := dkwX13_put_12 ++ []
def dkwX13_put_11 : List UInt8 := [180, 0, 28, 27, 182, 0, 94, 8, 100, 182, 0, 97, 42, 27, 42, 180, 0, 24, 180, 0, 73, 28, 46, 42]
abbrev dktX13_put_11 : List UInt8 := dkwX13_put_11 ++ dktX13_put_12
def dkwX13_put_10 : List UInt8 := [27, 42, 180, 0, 24, 180, 0, 73, 28, 46, 182, 0, 91, 167, 0, 53, 42, 5, 182, 0, 56, 42, 42]
abbrev dktX13_put_10 : List UInt8 := dkwX13_put_10 ++ dktX13_put_11
def dkwX13_put_9 : List UInt8 := [180, 0, 28, 27, 6, 182, 0, 87, 42, 180, 0, 24, 180, 0, 84, 28, 46, 182, 0, 52, 167, 0, 70, 42]
abbrev dktX13_put_9 : List UInt8 := dkwX13_put_9 ++ dktX13_put_10
def dkwX13_put_8 : List UInt8 := [42, 42, 180, 0, 28, 27, 5, 182, 0, 87, 42, 180, 0, 24, 180, 0, 73, 28, 46, 182, 0, 52, 42, 42]
abbrev dktX13_put_8 : List UInt8 := dkwX13_put_8 ++ dktX13_put_9
def dkwX13_put_7 : List UInt8 := [27, 42, 180, 0, 24, 180, 0, 84, 28, 46, 182, 0, 76, 167, 0, 125, 42, 16, 7, 16, 7, 182, 0, 63]
abbrev dktX13_put_7 : List UInt8 := dkwX13_put_7 ++ dktX13_put_8
def dkwX13_put_6 : List UInt8 := [160, 0, 21, 42, 8, 27, 42, 180, 0, 24, 180, 0, 73, 28, 46, 182, 0, 76, 167, 0, 144, 42, 16, 8]
abbrev dktX13_put_6 : List UInt8 := dkwX13_put_6 ++ dktX13_put_7
def dkwX13_put_5 : List UInt8 := [180, 0, 24, 180, 0, 73, 28, 46, 182, 0, 76, 167, 0, 174, 42, 180, 0, 28, 27, 182, 0, 80, 8]
abbrev dktX13_put_5 : List UInt8 := dkwX13_put_5 ++ dktX13_put_6
def dkwX13_put_4 : List UInt8 := [167, 0, 209, 27, 16, 8, 160, 0, 13, 42, 6, 16, 6, 182, 0, 63, 167, 0, 193, 42, 16, 9, 27, 42]
abbrev dktX13_put_4 : List UInt8 := dkwX13_put_4 ++ dktX13_put_5
def dkwX13_put_3 : List UInt8 := [182, 0, 63, 167, 0, 229, 42, 29, 16, 6, 160, 0, 8, 16, 10, 167, 0, 4, 4, 27, 182, 0, 70]
abbrev dktX13_put_3 : List UInt8 := dkwX13_put_3 ++ dktX13_put_4
def dkwX13_put_2 : List UInt8 := [42, 6, 16, 11, 182, 0, 63, 167, 0, 249, 42, 6, 27, 16, 6, 160, 0, 8, 16, 10, 167, 0, 4, 6]
abbrev dktX13_put_2 : List UInt8 := dkwX13_put_2 ++ dktX13_put_3
def dkwX13_put_1 : List UInt8 := [170, 0, 0, 1, 84, 0, 0, 0, 0, 0, 0, 0, 18, 0, 0, 0, 89, 0, 0, 0, 99, 0, 0, 1, 84, 0, 0, 1, 84, 0, 0, 1, 84, 0, 0, 0, 119, 0, 0, 0, 119, 0, 0, 0, 119, 0, 0, 1, 84, 0, 0, 1, 84, 0, 0, 0, 139, 0, 0, 1, 22, 0, 0, 1, 39, 0, 0, 1, 84, 0, 0, 0, 174, 0, 0, 1, 39, 0, 0, 1, 39, 0, 0, 1, 84, 0, 0, 0, 223]
abbrev dktX13_put_1 : List UInt8 := dkwX13_put_1 ++ dktX13_put_2
def dkwX13_put_0 : List UInt8 := [42, 180, 0, 24, 180, 0, 58, 28, 51, 62, 29]
abbrev dktX13_put_0 : List UInt8 := dkwX13_put_0 ++ dktX13_put_1
theorem dksX13_put_0 : cX13_put.data.toList.drop 0 = dktX13_put_0 := by decide +kernel
theorem dksX13_put_1 : cX13_put.data.toList.drop 11 = dktX13_put_1 := dk_seg dksX13_put_0 11 rfl rfl
theorem dksX13_put_2 : cX13_put.data.toList.drop 100 = dktX13_put_2 := dk_seg dksX13_put_1 89 rfl rfl
theorem dksX13_put_3 : cX13_put.data.toList.drop 124 = dktX13_put_3 := dk_seg dksX13_put_2 24 rfl rfl
theorem dksX13_put_4 : cX13_put.data.toList.drop 147 = dktX13_put_4 := dk_seg dksX13_put_3 23 rfl rfl
theorem dksX13_put_5 : cX13_put.data.toList.drop 171 = dktX13_put_5 := dk_seg dksX13_put_4 24 rfl rfl
theorem dksX13_put_6 : cX13_put.data.toList.drop 194 = dktX13_put_6 := dk_seg dksX13_put_5 23 rfl rfl
theorem dksX13_put_7 : cX13_put.data.toList.drop 218 = dktX13_put_7 := dk_seg dksX13_put_6 24 rfl rfl
theorem dksX13_put_8 : cX13_put.data.toList.drop 242 = dktX13_put_8 := dk_seg dksX13_put_7 24 rfl rfl
theorem dksX13_put_9 : cX13_put.data.toList.drop 266 = dktX13_put_9 := dk_seg dksX13_put_8 24 rfl rfl
theorem dksX13_put_10 : cX13_put.data.toList.drop 290 = dktX13_put_10 := dk_seg dksX13_put_9 24 rfl rfl
theorem dksX13_put_11 : cX13_put.data.toList.drop 313 = dktX13_put_11 := dk_seg dksX13_put_10 23 rfl rfl
theorem dksX13_put_12 : cX13_put.data.toList.drop 337 = dktX13_put_12 := dk_seg dksX13_put_11 24 rfl rfl
theorem dX13_put_0 : decode cX13_put 0 = .ok (.aload_n 0, 1) := dk_42 (dk_at dksX13_put_0 0 rfl rfl)
theorem dX13_put_1 : decode cX13_put 1 = .ok (.getfield 24, 3) := dk_180 0 24 (dk_at dksX13_put_0 1 rfl rfl)
theorem dX13_put_4 : decode cX13_put 4 = .ok (.getfield 58, 3) := dk_180 0 58 (dk_at dksX13_put_0 4 rfl rfl)
theorem dX13_put_7 : decode cX13_put 7 = .ok (.iload_n 2, 1) := dk_28 (dk_at dksX13_put_0 7 rfl rfl)
theorem dX13_put_8 : decode cX13_put 8 = .ok (.baload, 1) := dk_51 (dk_at dksX13_put_0 8 rfl rfl)
theorem dX13_put_9 : decode cX13_put 9 = .ok (.istore_n 3, 1) := dk_62 (dk_at dksX13_put_0 9 rfl rfl)
theorem dX13_put_10 : decode cX13_put 10 = .ok (.iload_n 3, 1) := dk_29 (dk_at dksX13_put_0 10 rfl rfl)
theorem dX13_put_11 : decode cX13_put 11 = .ok (.tableswitch 340 0 18 #[89, 99, 340, 340, 340, 119, 119, 119, 340, 340, 139, 278, 295, 340, 174, 295, 295, 340, 223], 89) := by decide +kernel
theorem dX13_put_100 : decode cX13_put 100 = .ok (.aload_n 0, 1) := dk_42 (dk_at dksX13_put_2 0 rfl rfl)
theorem dX13_put_101 : decode cX13_put 101 = .ok (.iconst 3, 1) := dk_6 (dk_at dksX13_put_2 1 rfl rfl)
theorem dX13_put_102 : decode cX13_put 102 = .ok (.bipush 11, 2) := dk_16 11 (dk_at dksX13_put_2 2 rfl rfl)
theorem dX13_put_104 : decode cX13_put 104 = .ok (.invokevirtual 63, 3) := dk_182 0 63 (dk_at dksX13_put_2 4 rfl rfl)
theorem dX13_put_107 : decode cX13_put 107 = .ok (.goto 249, 3) := dk_167 0 249 (dk_at dksX13_put_2 7 rfl rfl)
theorem dX13_put_110 : decode cX13_put 110 = .ok (.aload_n 0, 1) := dk_42 (dk_at dksX13_put_2 10 rfl rfl)
theorem dX13_put_111 : decode cX13_put 111 = .ok (.iconst 3, 1) := dk_6 (dk_at dksX13_put_2 11 rfl rfl)
theorem dX13_put_112 : decode cX13_put 112 = .ok (.iload_n 1, 1) := dk_27 (dk_at dksX13_put_2 12 rfl rfl)
theorem dX13_put_113 : decode cX13_put 113 = .ok (.bipush 6, 2) := dk_16 6 (dk_at dksX13_put_2 13 rfl rfl)
theorem dX13_put_115 : decode cX13_put 115 = .ok (.if_icmp .ne 8, 3) := dk_160 0 8 (dk_at dksX13_put_2 15 rfl rfl)
theorem dX13_put_118 : decode cX13_put 118 = .ok (.bipush 10, 2) := dk_16 10 (dk_at dksX13_put_2 18 rfl rfl)
theorem dX13_put_120 : decode cX13_put 120 = .ok (.goto 4, 3) := dk_167 0 4 (dk_at dksX13_put_2 20 rfl rfl)
theorem dX13_put_123 : decode cX13_put 123 = .ok (.iconst 3, 1) := dk_6 (dk_at dksX13_put_2 23 rfl rfl)
theorem dX13_put_124 : decode cX13_put 124 = .ok (.invokevirtual 63, 3) := dk_182 0 63 (dk_at dksX13_put_3 0 rfl rfl)
theorem dX13_put_127 : decode cX13_put 127 = .ok (.goto 229, 3) := dk_167 0 229 (dk_at dksX13_put_3 3 rfl rfl)
theorem dX13_put_130 : decode cX13_put 130 = .ok (.aload_n 0, 1) := dk_42 (dk_at dksX13_put_3 6 rfl rfl)
theorem dX13_put_131 : decode cX13_put 131 = .ok (.iload_n 3, 1) := dk_29 (dk_at dksX13_put_3 7 rfl rfl)
theorem dX13_put_132 : decode cX13_put 132 = .ok (.bipush 6, 2) := dk_16 6 (dk_at dksX13_put_3 8 rfl rfl)
theorem dX13_put_134 : decode cX13_put 134 = .ok (.if_icmp .ne 8, 3) := dk_160 0 8 (dk_at dksX13_put_3 10 rfl rfl)
theorem dX13_put_137 : decode cX13_put 137 = .ok (.bipush 10, 2) := dk_16 10 (dk_at dksX13_put_3 13 rfl rfl)
theorem dX13_put_139 : decode cX13_put 139 = .ok (.goto 4, 3) := dk_167 0 4 (dk_at dksX13_put_3 15 rfl rfl)
theorem dX13_put_142 : decode cX13_put 142 = .ok (.iconst 1, 1) := dk_4 (dk_at dksX13_put_3 18 rfl rfl)
theorem dX13_put_143 : decode cX13_put 143 = .ok (.iload_n 1, 1) := dk_27 (dk_at dksX13_put_3 19 rfl rfl)
theorem dX13_put_144 : decode cX13_put 144 = .ok (.invokevirtual 70, 3) := dk_182 0 70 (dk_at dksX13_put_3 20 rfl rfl)
theorem dX13_put_147 : decode cX13_put 147 = .ok (.goto 209, 3) := dk_167 0 209 (dk_at dksX13_put_4 0 rfl rfl)
theorem dX13_put_150 : decode cX13_put 150 = .ok (.iload_n 1, 1) := dk_27 (dk_at dksX13_put_4 3 rfl rfl)
theorem dX13_put_151 : decode cX13_put 151 = .ok (.bipush 8, 2) := dk_16 8 (dk_at dksX13_put_4 4 rfl rfl)
theorem dX13_put_153 : decode cX13_put 153 = .ok (.if_icmp .ne 13, 3) := dk_160 0 13 (dk_at dksX13_put_4 6 rfl rfl)
theorem dX13_put_156 : decode cX13_put 156 = .ok (.aload_n 0, 1) := dk_42 (dk_at dksX13_put_4 9 rfl rfl)
theorem dX13_put_157 : decode cX13_put 157 = .ok (.iconst 3, 1) := dk_6 (dk_at dksX13_put_4 10 rfl rfl)
theorem dX13_put_158 : decode cX13_put 158 = .ok (.bipush 6, 2) := dk_16 6 (dk_at dksX13_put_4 11 rfl rfl)
theorem dX13_put_160 : decode cX13_put 160 = .ok (.invokevirtual 63, 3) := dk_182 0 63 (dk_at dksX13_put_4 13 rfl rfl)
theorem dX13_put_163 : decode cX13_put 163 = .ok (.goto 193, 3) := dk_167 0 193 (dk_at dksX13_put_4 16 rfl rfl)
theorem dX13_put_166 : decode cX13_put 166 = .ok (.aload_n 0, 1) := dk_42 (dk_at dksX13_put_4 19 rfl rfl)
theorem dX13_put_167 : decode cX13_put 167 = .ok (.bipush 9, 2) := dk_16 9 (dk_at dksX13_put_4 20 rfl rfl)
theorem dX13_put_169 : decode cX13_put 169 = .ok (.iload_n 1, 1) := dk_27 (dk_at dksX13_put_4 22 rfl rfl)
theorem dX13_put_170 : decode cX13_put 170 = .ok (.aload_n 0, 1) := dk_42 (dk_at dksX13_put_4 23 rfl rfl)
theorem dX13_put_171 : decode cX13_put 171 = .ok (.getfield 24, 3) := dk_180 0 24 (dk_at dksX13_put_5 0 rfl rfl)
theorem dX13_put_174 : decode cX13_put 174 = .ok (.getfield 73, 3) := dk_180 0 73 (dk_at dksX13_put_5 3 rfl rfl)
theorem dX13_put_177 : decode cX13_put 177 = .ok (.iload_n 2, 1) := dk_28 (dk_at dksX13_put_5 6 rfl rfl)
theorem dX13_put_178 : decode cX13_put 178 = .ok (.iaload, 1) := dk_46 (dk_at dksX13_put_5 7 rfl rfl)
theorem dX13_put_179 : decode cX13_put 179 = .ok (.invokevirtual 76, 3) := dk_182 0 76 (dk_at dksX13_put_5 8 rfl rfl)
theorem dX13_put_182 : decode cX13_put 182 = .ok (.goto 174, 3) := dk_167 0 174 (dk_at dksX13_put_5 11 rfl rfl)
theorem dX13_put_185 : decode cX13_put 185 = .ok (.aload_n 0, 1) := dk_42 (dk_at dksX13_put_5 14 rfl rfl)
theorem dX13_put_186 : decode cX13_put 186 = .ok (.getfield 28, 3) := dk_180 0 28 (dk_at dksX13_put_5 15 rfl rfl)
theorem dX13_put_189 : decode cX13_put 189 = .ok (.iload_n 1, 1) := dk_27 (dk_at dksX13_put_5 18 rfl rfl)
theorem dX13_put_190 : decode cX13_put 190 = .ok (.invokevirtual 80, 3) := dk_182 0 80 (dk_at dksX13_put_5 19 rfl rfl)
theorem dX13_put_193 : decode cX13_put 193 = .ok (.iconst 5, 1) := dk_8 (dk_at dksX13_put_5 22 rfl rfl)
theorem dX13_put_194 : decode cX13_put 194 = .ok (.if_icmp .ne 21, 3) := dk_160 0 21 (dk_at dksX13_put_6 0 rfl rfl)
theorem dX13_put_197 : decode cX13_put 197 = .ok (.aload_n 0, 1) := dk_42 (dk_at dksX13_put_6 3 rfl rfl)
theorem dX13_put_198 : decode cX13_put 198 = .ok (.iconst 5, 1) := dk_8 (dk_at dksX13_put_6 4 rfl rfl)
theorem dX13_put_199 : decode cX13_put 199 = .ok (.iload_n 1, 1) := dk_27 (dk_at dksX13_put_6 5 rfl rfl)
theorem dX13_put_200 : decode cX13_put 200 = .ok (.aload_n 0, 1) := dk_42 (dk_at dksX13_put_6 6 rfl rfl)
theorem dX13_put_201 : decode cX13_put 201 = .ok (.getfield 24, 3) := dk_180 0 24 (dk_at dksX13_put_6 7 rfl rfl)
theorem dX13_put_204 : decode cX13_put 204 = .ok (.getfield 73, 3) := dk_180 0 73 (dk_at dksX13_put_6 10 rfl rfl)
theorem dX13_put_207 : decode cX13_put 207 = .ok (.iload_n 2, 1) := dk_28 (dk_at dksX13_put_6 13 rfl rfl)
theorem dX13_put_208 : decode cX13_put 208 = .ok (.iaload, 1) := dk_46 (dk_at dksX13_put_6 14 rfl rfl)
theorem dX13_put_209 : decode cX13_put 209 = .ok (.invokevirtual 76, 3) := dk_182 0 76 (dk_at dksX13_put_6 15 rfl rfl)
theorem dX13_put_212 : decode cX13_put 212 = .ok (.goto 144, 3) := dk_167 0 144 (dk_at dksX13_put_6 18 rfl rfl)
theorem dX13_put_215 : decode cX13_put 215 = .ok (.aload_n 0, 1) := dk_42 (dk_at dksX13_put_6 21 rfl rfl)
theorem dX13_put_216 : decode cX13_put 216 = .ok (.bipush 8, 2) := dk_16 8 (dk_at dksX13_put_6 22 rfl rfl)
theorem dX13_put_218 : decode cX13_put 218 = .ok (.iload_n 1, 1) := dk_27 (dk_at dksX13_put_7 0 rfl rfl)
theorem dX13_put_219 : decode cX13_put 219 = .ok (.aload_n 0, 1) := dk_42 (dk_at dksX13_put_7 1 rfl rfl)
theorem dX13_put_220 : decode cX13_put 220 = .ok (.getfield 24, 3) := dk_180 0 24 (dk_at dksX13_put_7 2 rfl rfl)
theorem dX13_put_223 : decode cX13_put 223 = .ok (.getfield 84, 3) := dk_180 0 84 (dk_at dksX13_put_7 5 rfl rfl)
theorem dX13_put_226 : decode cX13_put 226 = .ok (.iload_n 2, 1) := dk_28 (dk_at dksX13_put_7 8 rfl rfl)
theorem dX13_put_227 : decode cX13_put 227 = .ok (.iaload, 1) := dk_46 (dk_at dksX13_put_7 9 rfl rfl)
theorem dX13_put_228 : decode cX13_put 228 = .ok (.invokevirtual 76, 3) := dk_182 0 76 (dk_at dksX13_put_7 10 rfl rfl)
theorem dX13_put_231 : decode cX13_put 231 = .ok (.goto 125, 3) := dk_167 0 125 (dk_at dksX13_put_7 13 rfl rfl)
theorem dX13_put_234 : decode cX13_put 234 = .ok (.aload_n 0, 1) := dk_42 (dk_at dksX13_put_7 16 rfl rfl)
theorem dX13_put_235 : decode cX13_put 235 = .ok (.bipush 7, 2) := dk_16 7 (dk_at dksX13_put_7 17 rfl rfl)
theorem dX13_put_237 : decode cX13_put 237 = .ok (.bipush 7, 2) := dk_16 7 (dk_at dksX13_put_7 19 rfl rfl)
theorem dX13_put_239 : decode cX13_put 239 = .ok (.invokevirtual 63, 3) := dk_182 0 63 (dk_at dksX13_put_7 21 rfl rfl)
theorem dX13_put_242 : decode cX13_put 242 = .ok (.aload_n 0, 1) := dk_42 (dk_at dksX13_put_8 0 rfl rfl)
theorem dX13_put_243 : decode cX13_put 243 = .ok (.aload_n 0, 1) := dk_42 (dk_at dksX13_put_8 1 rfl rfl)
theorem dX13_put_244 : decode cX13_put 244 = .ok (.getfield 28, 3) := dk_180 0 28 (dk_at dksX13_put_8 2 rfl rfl)
theorem dX13_put_247 : decode cX13_put 247 = .ok (.iload_n 1, 1) := dk_27 (dk_at dksX13_put_8 5 rfl rfl)
theorem dX13_put_248 : decode cX13_put 248 = .ok (.iconst 2, 1) := dk_5 (dk_at dksX13_put_8 6 rfl rfl)
theorem dX13_put_249 : decode cX13_put 249 = .ok (.invokevirtual 87, 3) := dk_182 0 87 (dk_at dksX13_put_8 7 rfl rfl)
theorem dX13_put_252 : decode cX13_put 252 = .ok (.aload_n 0, 1) := dk_42 (dk_at dksX13_put_8 10 rfl rfl)
theorem dX13_put_253 : decode cX13_put 253 = .ok (.getfield 24, 3) := dk_180 0 24 (dk_at dksX13_put_8 11 rfl rfl)
theorem dX13_put_256 : decode cX13_put 256 = .ok (.getfield 73, 3) := dk_180 0 73 (dk_at dksX13_put_8 14 rfl rfl)
theorem dX13_put_259 : decode cX13_put 259 = .ok (.iload_n 2, 1) := dk_28 (dk_at dksX13_put_8 17 rfl rfl)
theorem dX13_put_260 : decode cX13_put 260 = .ok (.iaload, 1) := dk_46 (dk_at dksX13_put_8 18 rfl rfl)
theorem dX13_put_261 : decode cX13_put 261 = .ok (.invokevirtual 52, 3) := dk_182 0 52 (dk_at dksX13_put_8 19 rfl rfl)
theorem dX13_put_264 : decode cX13_put 264 = .ok (.aload_n 0, 1) := dk_42 (dk_at dksX13_put_8 22 rfl rfl)
theorem dX13_put_265 : decode cX13_put 265 = .ok (.aload_n 0, 1) := dk_42 (dk_at dksX13_put_8 23 rfl rfl)
theorem dX13_put_266 : decode cX13_put 266 = .ok (.getfield 28, 3) := dk_180 0 28 (dk_at dksX13_put_9 0 rfl rfl)
theorem dX13_put_269 : decode cX13_put 269 = .ok (.iload_n 1, 1) := dk_27 (dk_at dksX13_put_9 3 rfl rfl)
theorem dX13_put_270 : decode cX13_put 270 = .ok (.iconst 3, 1) := dk_6 (dk_at dksX13_put_9 4 rfl rfl)
theorem dX13_put_271 : decode cX13_put 271 = .ok (.invokevirtual 87, 3) := dk_182 0 87 (dk_at dksX13_put_9 5 rfl rfl)
theorem dX13_put_274 : decode cX13_put 274 = .ok (.aload_n 0, 1) := dk_42 (dk_at dksX13_put_9 8 rfl rfl)
theorem dX13_put_275 : decode cX13_put 275 = .ok (.getfield 24, 3) := dk_180 0 24 (dk_at dksX13_put_9 9 rfl rfl)
theorem dX13_put_278 : decode cX13_put 278 = .ok (.getfield 84, 3) := dk_180 0 84 (dk_at dksX13_put_9 12 rfl rfl)
theorem dX13_put_281 : decode cX13_put 281 = .ok (.iload_n 2, 1) := dk_28 (dk_at dksX13_put_9 15 rfl rfl)
theorem dX13_put_282 : decode cX13_put 282 = .ok (.iaload, 1) := dk_46 (dk_at dksX13_put_9 16 rfl rfl)
theorem dX13_put_283 : decode cX13_put 283 = .ok (.invokevirtual 52, 3) := dk_182 0 52 (dk_at dksX13_put_9 17 rfl rfl)
theorem dX13_put_286 : decode cX13_put 286 = .ok (.goto 70, 3) := dk_167 0 70 (dk_at dksX13_put_9 20 rfl rfl)
theorem dX13_put_289 : decode cX13_put 289 = .ok (.aload_n 0, 1) := dk_42 (dk_at dksX13_put_9 23 rfl rfl)
theorem dX13_put_290 : decode cX13_put 290 = .ok (.iload_n 1, 1) := dk_27 (dk_at dksX13_put_10 0 rfl rfl)
theorem dX13_put_291 : decode cX13_put 291 = .ok (.aload_n 0, 1) := dk_42 (dk_at dksX13_put_10 1 rfl rfl)
theorem dX13_put_292 : decode cX13_put 292 = .ok (.getfield 24, 3) := dk_180 0 24 (dk_at dksX13_put_10 2 rfl rfl)
theorem dX13_put_295 : decode cX13_put 295 = .ok (.getfield 73, 3) := dk_180 0 73 (dk_at dksX13_put_10 5 rfl rfl)
theorem dX13_put_298 : decode cX13_put 298 = .ok (.iload_n 2, 1) := dk_28 (dk_at dksX13_put_10 8 rfl rfl)
theorem dX13_put_299 : decode cX13_put 299 = .ok (.iaload, 1) := dk_46 (dk_at dksX13_put_10 9 rfl rfl)
theorem dX13_put_300 : decode cX13_put 300 = .ok (.invokevirtual 91, 3) := dk_182 0 91 (dk_at dksX13_put_10 10 rfl rfl)
theorem dX13_put_303 : decode cX13_put 303 = .ok (.goto 53, 3) := dk_167 0 53 (dk_at dksX13_put_10 13 rfl rfl)
theorem dX13_put_306 : decode cX13_put 306 = .ok (.aload_n 0, 1) := dk_42 (dk_at dksX13_put_10 16 rfl rfl)
theorem dX13_put_307 : decode cX13_put 307 = .ok (.iconst 2, 1) := dk_5 (dk_at dksX13_put_10 17 rfl rfl)
theorem dX13_put_308 : decode cX13_put 308 = .ok (.invokevirtual 56, 3) := dk_182 0 56 (dk_at dksX13_put_10 18 rfl rfl)
theorem dX13_put_311 : decode cX13_put 311 = .ok (.aload_n 0, 1) := dk_42 (dk_at dksX13_put_10 21 rfl rfl)
theorem dX13_put_312 : decode cX13_put 312 = .ok (.aload_n 0, 1) := dk_42 (dk_at dksX13_put_10 22 rfl rfl)
theorem dX13_put_313 : decode cX13_put 313 = .ok (.getfield 28, 3) := dk_180 0 28 (dk_at dksX13_put_11 0 rfl rfl)
theorem dX13_put_316 : decode cX13_put 316 = .ok (.iload_n 1, 1) := dk_27 (dk_at dksX13_put_11 3 rfl rfl)
theorem dX13_put_317 : decode cX13_put 317 = .ok (.invokevirtual 94, 3) := dk_182 0 94 (dk_at dksX13_put_11 4 rfl rfl)
theorem dX13_put_320 : decode cX13_put 320 = .ok (.iconst 5, 1) := dk_8 (dk_at dksX13_put_11 7 rfl rfl)
theorem dX13_put_321 : decode cX13_put 321 = .ok (.isub, 1) := dk_100 (dk_at dksX13_put_11 8 rfl rfl)
theorem dX13_put_322 : decode cX13_put 322 = .ok (.invokevirtual 97, 3) := dk_182 0 97 (dk_at dksX13_put_11 9 rfl rfl)
theorem dX13_put_325 : decode cX13_put 325 = .ok (.aload_n 0, 1) := dk_42 (dk_at dksX13_put_11 12 rfl rfl)
theorem dX13_put_326 : decode cX13_put 326 = .ok (.iload_n 1, 1) := dk_27 (dk_at dksX13_put_11 13 rfl rfl)
theorem dX13_put_327 : decode cX13_put 327 = .ok (.aload_n 0, 1) := dk_42 (dk_at dksX13_put_11 14 rfl rfl)
theorem dX13_put_328 : decode cX13_put 328 = .ok (.getfield 24, 3) := dk_180 0 24 (dk_at dksX13_put_11 15 rfl rfl)
theorem dX13_put_331 : decode cX13_put 331 = .ok (.getfield 73, 3) := dk_180 0 73 (dk_at dksX13_put_11 18 rfl rfl)
theorem dX13_put_334 : decode cX13_put 334 = .ok (.iload_n 2, 1) := dk_28 (dk_at dksX13_put_11 21 rfl rfl)
theorem dX13_put_335 : decode cX13_put 335 = .ok (.iaload, 1) := dk_46 (dk_at dksX13_put_11 22 rfl rfl)
theorem dX13_put_336 : decode cX13_put 336 = .ok (.aload_n 0, 1) := dk_42 (dk_at dksX13_put_11 23 rfl rfl)
theorem dX13_put_337 : decode cX13_put 337 = .ok (.getfield 24, 3) := dk_180 0 24 (dk_at dksX13_put_12 0 rfl rfl)
theorem dX13_put_340 : decode cX13_put 340 = .ok (.getfield 84, 3) := dk_180 0 84 (dk_at dksX13_put_12 3 rfl rfl)
theorem dX13_put_343 : decode cX13_put 343 = .ok (.iload_n 2, 1) := dk_28 (dk_at dksX13_put_12 6 rfl rfl)
theorem dX13_put_344 : decode cX13_put 344 = .ok (.iaload, 1) := dk_46 (dk_at dksX13_put_12 7 rfl rfl)
theorem dX13_put_345 : decode cX13_put 345 = .ok (.invokevirtual 100, 3) := dk_182 0 100 (dk_at dksX13_put_12 8 rfl rfl)
theorem dX13_put_348 : decode cX13_put 348 = .ok (.goto 8, 3) := dk_167 0 8 (dk_at dksX13_put_12 11 rfl rfl)
theorem dX13_put_351 : decode cX13_put 351 = .ok (.aload_n 0, 1) := dk_42 (dk_at dksX13_put_12 14 rfl rfl)
theorem dX13_put_352 : decode cX13_put 352 = .ok (.iload_n 1, 1) := dk_27 (dk_at dksX13_put_12 15 rfl rfl)
theorem dX13_put_353 : decode cX13_put 353 = .ok (.invokevirtual 103, 3) := dk_182 0 103 (dk_at dksX13_put_12 16 rfl rfl)
theorem dX13_put_356 : decode cX13_put 356 = .ok (.return_, 1) := dk_177 (dk_at dksX13_put_12 19 rfl rfl)
abbrev cX13_two : ByteArray := prog_7_method_6_code
def yX13_two : MethodName := ⟨RX13, "two", "(II)V"⟩
def dkwX13_two_0 : List UInt8 := [42, 27, 182, 0, 56, 42, 28, 182, 0, 56, 177]
abbrev dktX13_two_0 : List UInt8 := dkwX13_two_0 ++ []
theorem dksX13_two_0 : cX13_two.data.toList.drop 0 = dktX13_two_0 := by decide +kernel
theorem dX13_two_0 : decode cX13_two 0 = .ok (.aload_n 0, 1) := dk_42 (dk_at dksX13_two_0 0 rfl rfl)
theorem dX13_two_1 : decode cX13_two 1 = .ok (.iload_n 1, 1) := dk_27 (dk_at dksX13_two_0 1 rfl rfl)
theorem dX13_two_2 : decode cX13_two 2 = .ok (.invokevirtual 56, 3) := dk_182 0 56 (dk_at dksX13_two_0 2 rfl rfl)
theorem dX13_two_5 : decode cX13_two 5 = .ok (.aload_n 0, 1) := dk_42 (dk_at dksX13_two_0 5 rfl rfl)
theorem dX13_two_6 : decode cX13_two 6 = .ok (.iload_n 2, 1) := dk_28 (dk_at dksX13_two_0 6 rfl rfl)
theorem dX13_two_7 : decode cX13_two 7 = .ok (.invokevirtual 56, 3) := dk_182 0 56 (dk_at dksX13_two_0 7 rfl rfl)
theorem dX13_two_10 : decode cX13_two 10 = .ok (.return_, 1) := dk_177 (dk_at dksX13_two_0 10 rfl rfl)
abbrev cX13_put_2 : ByteArray := prog_7_method_3_code
def yX13_put_2 : MethodName := ⟨RX13, "put", "(I)V"⟩
def dkwX13_put_2_0 : List UInt8 := [42, 180, 0, 44, 42, 89, 180, 0, 48, 90, 4, 96, 181, 0, 48, 27, 145, 84, 177]
abbrev dktX13_put_2_0 : List UInt8 := dkwX13_put_2_0 ++ []
theorem dksX13_put_2_0 : cX13_put_2.data.toList.drop 0 = dktX13_put_2_0 := by decide +kernel
theorem dX13_put_2_0 : decode cX13_put_2 0 = .ok (.aload_n 0, 1) := dk_42 (dk_at dksX13_put_2_0 0 rfl rfl)
theorem dX13_put_2_1 : decode cX13_put_2 1 = .ok (.getfield 44, 3) := dk_180 0 44 (dk_at dksX13_put_2_0 1 rfl rfl)
theorem dX13_put_2_4 : decode cX13_put_2 4 = .ok (.aload_n 0, 1) := dk_42 (dk_at dksX13_put_2_0 4 rfl rfl)
theorem dX13_put_2_5 : decode cX13_put_2 5 = .ok (.dup, 1) := dk_89 (dk_at dksX13_put_2_0 5 rfl rfl)
theorem dX13_put_2_6 : decode cX13_put_2 6 = .ok (.getfield 48, 3) := dk_180 0 48 (dk_at dksX13_put_2_0 6 rfl rfl)
theorem dX13_put_2_9 : decode cX13_put_2 9 = .ok (.dup_x1, 1) := dk_90 (dk_at dksX13_put_2_0 9 rfl rfl)
theorem dX13_put_2_10 : decode cX13_put_2 10 = .ok (.iconst 1, 1) := dk_4 (dk_at dksX13_put_2_0 10 rfl rfl)
theorem dX13_put_2_11 : decode cX13_put_2 11 = .ok (.iadd, 1) := dk_96 (dk_at dksX13_put_2_0 11 rfl rfl)
theorem dX13_put_2_12 : decode cX13_put_2 12 = .ok (.putfield 48, 3) := dk_181 0 48 (dk_at dksX13_put_2_0 12 rfl rfl)
theorem dX13_put_2_15 : decode cX13_put_2 15 = .ok (.iload_n 1, 1) := dk_27 (dk_at dksX13_put_2_0 15 rfl rfl)
theorem dX13_put_2_16 : decode cX13_put_2 16 = .ok (.i2b, 1) := dk_145 (dk_at dksX13_put_2_0 16 rfl rfl)
theorem dX13_put_2_17 : decode cX13_put_2 17 = .ok (.bastore, 1) := dk_84 (dk_at dksX13_put_2_0 17 rfl rfl)
theorem dX13_put_2_18 : decode cX13_put_2 18 = .ok (.return_, 1) := dk_177 (dk_at dksX13_put_2_0 18 rfl rfl)
abbrev cX13_putBytes : ByteArray := prog_7_method_8_code
def yX13_putBytes : MethodName := ⟨RX13, "putBytes", "(II)V"⟩
def dkwX13_putBytes_2 : List UInt8 := [177]
abbrev dktX13_putBytes_2 : List UInt8 := dkwX13_putBytes_2 ++ []
def dkwX13_putBytes_1 : List UInt8 := [29, 162, 0, 23, 42, 42, 180, 0, 28, 28, 21, 4, 182, 0, 109, 182, 0, 56, 132, 4, 1, 167, 255, 233]
abbrev dktX13_putBytes_1 : List UInt8 := dkwX13_putBytes_1 ++ dktX13_putBytes_2
def dkwX13_putBytes_0 : List UInt8 := [42, 27, 182, 0, 56, 42, 180, 0, 28, 28, 182, 0, 106, 62, 42, 29, 182, 0, 97, 3, 54, 4, 21, 4]
abbrev dktX13_putBytes_0 : List UInt8 := dkwX13_putBytes_0 ++ dktX13_putBytes_1
theorem dksX13_putBytes_0 : cX13_putBytes.data.toList.drop 0 = dktX13_putBytes_0 := by decide +kernel
theorem dksX13_putBytes_1 : cX13_putBytes.data.toList.drop 24 = dktX13_putBytes_1 := dk_seg dksX13_putBytes_0 24 rfl rfl
theorem dksX13_putBytes_2 : cX13_putBytes.data.toList.drop 48 = dktX13_putBytes_2 := dk_seg dksX13_putBytes_1 24 rfl rfl
theorem dX13_putBytes_0 : decode cX13_putBytes 0 = .ok (.aload_n 0, 1) := dk_42 (dk_at dksX13_putBytes_0 0 rfl rfl)
theorem dX13_putBytes_1 : decode cX13_putBytes 1 = .ok (.iload_n 1, 1) := dk_27 (dk_at dksX13_putBytes_0 1 rfl rfl)
theorem dX13_putBytes_2 : decode cX13_putBytes 2 = .ok (.invokevirtual 56, 3) := dk_182 0 56 (dk_at dksX13_putBytes_0 2 rfl rfl)
theorem dX13_putBytes_5 : decode cX13_putBytes 5 = .ok (.aload_n 0, 1) := dk_42 (dk_at dksX13_putBytes_0 5 rfl rfl)
theorem dX13_putBytes_6 : decode cX13_putBytes 6 = .ok (.getfield 28, 3) := dk_180 0 28 (dk_at dksX13_putBytes_0 6 rfl rfl)
theorem dX13_putBytes_9 : decode cX13_putBytes 9 = .ok (.iload_n 2, 1) := dk_28 (dk_at dksX13_putBytes_0 9 rfl rfl)
theorem dX13_putBytes_10 : decode cX13_putBytes 10 = .ok (.invokevirtual 106, 3) := dk_182 0 106 (dk_at dksX13_putBytes_0 10 rfl rfl)
theorem dX13_putBytes_13 : decode cX13_putBytes 13 = .ok (.istore_n 3, 1) := dk_62 (dk_at dksX13_putBytes_0 13 rfl rfl)
theorem dX13_putBytes_14 : decode cX13_putBytes 14 = .ok (.aload_n 0, 1) := dk_42 (dk_at dksX13_putBytes_0 14 rfl rfl)
theorem dX13_putBytes_15 : decode cX13_putBytes 15 = .ok (.iload_n 3, 1) := dk_29 (dk_at dksX13_putBytes_0 15 rfl rfl)
theorem dX13_putBytes_16 : decode cX13_putBytes 16 = .ok (.invokevirtual 97, 3) := dk_182 0 97 (dk_at dksX13_putBytes_0 16 rfl rfl)
theorem dX13_putBytes_19 : decode cX13_putBytes 19 = .ok (.iconst 0, 1) := dk_3 (dk_at dksX13_putBytes_0 19 rfl rfl)
theorem dX13_putBytes_20 : decode cX13_putBytes 20 = .ok (.istore 4, 2) := dk_54 4 (dk_at dksX13_putBytes_0 20 rfl rfl)
theorem dX13_putBytes_22 : decode cX13_putBytes 22 = .ok (.iload 4, 2) := dk_21 4 (dk_at dksX13_putBytes_0 22 rfl rfl)
theorem dX13_putBytes_24 : decode cX13_putBytes 24 = .ok (.iload_n 3, 1) := dk_29 (dk_at dksX13_putBytes_1 0 rfl rfl)
theorem dX13_putBytes_25 : decode cX13_putBytes 25 = .ok (.if_icmp .ge 23, 3) := dk_162 0 23 (dk_at dksX13_putBytes_1 1 rfl rfl)
theorem dX13_putBytes_28 : decode cX13_putBytes 28 = .ok (.aload_n 0, 1) := dk_42 (dk_at dksX13_putBytes_1 4 rfl rfl)
theorem dX13_putBytes_29 : decode cX13_putBytes 29 = .ok (.aload_n 0, 1) := dk_42 (dk_at dksX13_putBytes_1 5 rfl rfl)
theorem dX13_putBytes_30 : decode cX13_putBytes 30 = .ok (.getfield 28, 3) := dk_180 0 28 (dk_at dksX13_putBytes_1 6 rfl rfl)
theorem dX13_putBytes_33 : decode cX13_putBytes 33 = .ok (.iload_n 2, 1) := dk_28 (dk_at dksX13_putBytes_1 9 rfl rfl)
theorem dX13_putBytes_34 : decode cX13_putBytes 34 = .ok (.iload 4, 2) := dk_21 4 (dk_at dksX13_putBytes_1 10 rfl rfl)
theorem dX13_putBytes_36 : decode cX13_putBytes 36 = .ok (.invokevirtual 109, 3) := dk_182 0 109 (dk_at dksX13_putBytes_1 12 rfl rfl)
theorem dX13_putBytes_39 : decode cX13_putBytes 39 = .ok (.invokevirtual 56, 3) := dk_182 0 56 (dk_at dksX13_putBytes_1 15 rfl rfl)
theorem dX13_putBytes_42 : decode cX13_putBytes 42 = .ok (.iinc 4 1, 3) := dk_132 4 1 (dk_at dksX13_putBytes_1 18 rfl rfl)
theorem dX13_putBytes_45 : decode cX13_putBytes 45 = .ok (.goto (-23), 3) := dk_167 255 233 (dk_at dksX13_putBytes_1 21 rfl rfl)
theorem dX13_putBytes_48 : decode cX13_putBytes 48 = .ok (.return_, 1) := dk_177 (dk_at dksX13_putBytes_2 0 rfl rfl)
abbrev cX13_putInt : ByteArray := prog_7_method_4_code
def yX13_putInt : MethodName := ⟨RX13, "putInt", "(I)V"⟩
def dkwX13_putInt_0 : List UInt8 := [16, 24, 61, 28, 155, 0, 16, 42, 27, 28, 122, 182, 0, 56, 132, 2, 248, 167, 255, 242, 177]
abbrev dktX13_putInt_0 : List UInt8 := dkwX13_putInt_0 ++ []
theorem dksX13_putInt_0 : cX13_putInt.data.toList.drop 0 = dktX13_putInt_0 := by decide +kernel
theorem dX13_putInt_0 : decode cX13_putInt 0 = .ok (.bipush 24, 2) := dk_16 24 (dk_at dksX13_putInt_0 0 rfl rfl)
theorem dX13_putInt_2 : decode cX13_putInt 2 = .ok (.istore_n 2, 1) := dk_61 (dk_at dksX13_putInt_0 2 rfl rfl)
theorem dX13_putInt_3 : decode cX13_putInt 3 = .ok (.iload_n 2, 1) := dk_28 (dk_at dksX13_putInt_0 3 rfl rfl)
theorem dX13_putInt_4 : decode cX13_putInt 4 = .ok (.ifCond .lt 16, 3) := dk_155 0 16 (dk_at dksX13_putInt_0 4 rfl rfl)
theorem dX13_putInt_7 : decode cX13_putInt 7 = .ok (.aload_n 0, 1) := dk_42 (dk_at dksX13_putInt_0 7 rfl rfl)
theorem dX13_putInt_8 : decode cX13_putInt 8 = .ok (.iload_n 1, 1) := dk_27 (dk_at dksX13_putInt_0 8 rfl rfl)
theorem dX13_putInt_9 : decode cX13_putInt 9 = .ok (.iload_n 2, 1) := dk_28 (dk_at dksX13_putInt_0 9 rfl rfl)
theorem dX13_putInt_10 : decode cX13_putInt 10 = .ok (.ishr, 1) := dk_122 (dk_at dksX13_putInt_0 10 rfl rfl)
theorem dX13_putInt_11 : decode cX13_putInt 11 = .ok (.invokevirtual 56, 3) := dk_182 0 56 (dk_at dksX13_putInt_0 11 rfl rfl)
theorem dX13_putInt_14 : decode cX13_putInt 14 = .ok (.iinc 2 (-8), 3) := dk_132 2 248 (dk_at dksX13_putInt_0 14 rfl rfl)
theorem dX13_putInt_17 : decode cX13_putInt 17 = .ok (.goto (-14), 3) := dk_167 255 242 (dk_at dksX13_putInt_0 17 rfl rfl)
theorem dX13_putInt_20 : decode cX13_putInt 20 = .ok (.return_, 1) := dk_177 (dk_at dksX13_putInt_0 20 rfl rfl)
abbrev cX13_wrapped : ByteArray := prog_7_method_7_code
def yX13_wrapped : MethodName := ⟨RX13, "wrapped", "(III)V"⟩
def dkwX13_wrapped_0 : List UInt8 := [42, 8, 27, 182, 0, 63, 42, 42, 180, 0, 28, 28, 5, 182, 0, 87, 29, 182, 0, 52, 177]
abbrev dktX13_wrapped_0 : List UInt8 := dkwX13_wrapped_0 ++ []
theorem dksX13_wrapped_0 : cX13_wrapped.data.toList.drop 0 = dktX13_wrapped_0 := by decide +kernel
theorem dX13_wrapped_0 : decode cX13_wrapped 0 = .ok (.aload_n 0, 1) := dk_42 (dk_at dksX13_wrapped_0 0 rfl rfl)
theorem dX13_wrapped_1 : decode cX13_wrapped 1 = .ok (.iconst 5, 1) := dk_8 (dk_at dksX13_wrapped_0 1 rfl rfl)
theorem dX13_wrapped_2 : decode cX13_wrapped 2 = .ok (.iload_n 1, 1) := dk_27 (dk_at dksX13_wrapped_0 2 rfl rfl)
theorem dX13_wrapped_3 : decode cX13_wrapped 3 = .ok (.invokevirtual 63, 3) := dk_182 0 63 (dk_at dksX13_wrapped_0 3 rfl rfl)
theorem dX13_wrapped_6 : decode cX13_wrapped 6 = .ok (.aload_n 0, 1) := dk_42 (dk_at dksX13_wrapped_0 6 rfl rfl)
theorem dX13_wrapped_7 : decode cX13_wrapped 7 = .ok (.aload_n 0, 1) := dk_42 (dk_at dksX13_wrapped_0 7 rfl rfl)
theorem dX13_wrapped_8 : decode cX13_wrapped 8 = .ok (.getfield 28, 3) := dk_180 0 28 (dk_at dksX13_wrapped_0 8 rfl rfl)
theorem dX13_wrapped_11 : decode cX13_wrapped 11 = .ok (.iload_n 2, 1) := dk_28 (dk_at dksX13_wrapped_0 11 rfl rfl)
theorem dX13_wrapped_12 : decode cX13_wrapped 12 = .ok (.iconst 2, 1) := dk_5 (dk_at dksX13_wrapped_0 12 rfl rfl)
theorem dX13_wrapped_13 : decode cX13_wrapped 13 = .ok (.invokevirtual 87, 3) := dk_182 0 87 (dk_at dksX13_wrapped_0 13 rfl rfl)
theorem dX13_wrapped_16 : decode cX13_wrapped 16 = .ok (.iload_n 3, 1) := dk_29 (dk_at dksX13_wrapped_0 16 rfl rfl)
theorem dX13_wrapped_17 : decode cX13_wrapped 17 = .ok (.invokevirtual 52, 3) := dk_182 0 52 (dk_at dksX13_wrapped_0 17 rfl rfl)
theorem dX13_wrapped_20 : decode cX13_wrapped 20 = .ok (.return_, 1) := dk_177 (dk_at dksX13_wrapped_0 20 rfl rfl)
abbrev cX13_putList : ByteArray := prog_7_method_9_code
def yX13_putList : MethodName := ⟨RX13, "putList", "(II)V"⟩
def dkwX13_putList_2 : List UInt8 := [182, 0, 87, 62, 167, 255, 226, 177]
abbrev dktX13_putList_2 : List UInt8 := dkwX13_putList_2 ++ []
def dkwX13_putList_1 : List UInt8 := [159, 0, 30, 42, 42, 180, 0, 28, 29, 5, 182, 0, 87, 28, 182, 0, 52, 42, 180, 0, 28, 29, 6]
abbrev dktX13_putList_1 : List UInt8 := dkwX13_putList_1 ++ dktX13_putList_2
def dkwX13_putList_0 : List UInt8 := [42, 5, 182, 0, 56, 42, 42, 180, 0, 28, 27, 182, 0, 94, 8, 100, 182, 0, 97, 27, 62, 29, 16, 10]
abbrev dktX13_putList_0 : List UInt8 := dkwX13_putList_0 ++ dktX13_putList_1
theorem dksX13_putList_0 : cX13_putList.data.toList.drop 0 = dktX13_putList_0 := by decide +kernel
theorem dksX13_putList_1 : cX13_putList.data.toList.drop 24 = dktX13_putList_1 := dk_seg dksX13_putList_0 24 rfl rfl
theorem dksX13_putList_2 : cX13_putList.data.toList.drop 47 = dktX13_putList_2 := dk_seg dksX13_putList_1 23 rfl rfl
theorem dX13_putList_0 : decode cX13_putList 0 = .ok (.aload_n 0, 1) := dk_42 (dk_at dksX13_putList_0 0 rfl rfl)
theorem dX13_putList_1 : decode cX13_putList 1 = .ok (.iconst 2, 1) := dk_5 (dk_at dksX13_putList_0 1 rfl rfl)
theorem dX13_putList_2 : decode cX13_putList 2 = .ok (.invokevirtual 56, 3) := dk_182 0 56 (dk_at dksX13_putList_0 2 rfl rfl)
theorem dX13_putList_5 : decode cX13_putList 5 = .ok (.aload_n 0, 1) := dk_42 (dk_at dksX13_putList_0 5 rfl rfl)
theorem dX13_putList_6 : decode cX13_putList 6 = .ok (.aload_n 0, 1) := dk_42 (dk_at dksX13_putList_0 6 rfl rfl)
theorem dX13_putList_7 : decode cX13_putList 7 = .ok (.getfield 28, 3) := dk_180 0 28 (dk_at dksX13_putList_0 7 rfl rfl)
theorem dX13_putList_10 : decode cX13_putList 10 = .ok (.iload_n 1, 1) := dk_27 (dk_at dksX13_putList_0 10 rfl rfl)
theorem dX13_putList_11 : decode cX13_putList 11 = .ok (.invokevirtual 94, 3) := dk_182 0 94 (dk_at dksX13_putList_0 11 rfl rfl)
theorem dX13_putList_14 : decode cX13_putList 14 = .ok (.iconst 5, 1) := dk_8 (dk_at dksX13_putList_0 14 rfl rfl)
theorem dX13_putList_15 : decode cX13_putList 15 = .ok (.isub, 1) := dk_100 (dk_at dksX13_putList_0 15 rfl rfl)
theorem dX13_putList_16 : decode cX13_putList 16 = .ok (.invokevirtual 97, 3) := dk_182 0 97 (dk_at dksX13_putList_0 16 rfl rfl)
theorem dX13_putList_19 : decode cX13_putList 19 = .ok (.iload_n 1, 1) := dk_27 (dk_at dksX13_putList_0 19 rfl rfl)
theorem dX13_putList_20 : decode cX13_putList 20 = .ok (.istore_n 3, 1) := dk_62 (dk_at dksX13_putList_0 20 rfl rfl)
theorem dX13_putList_21 : decode cX13_putList 21 = .ok (.iload_n 3, 1) := dk_29 (dk_at dksX13_putList_0 21 rfl rfl)
theorem dX13_putList_22 : decode cX13_putList 22 = .ok (.bipush 10, 2) := dk_16 10 (dk_at dksX13_putList_0 22 rfl rfl)
theorem dX13_putList_24 : decode cX13_putList 24 = .ok (.if_icmp .eq 30, 3) := dk_159 0 30 (dk_at dksX13_putList_1 0 rfl rfl)
theorem dX13_putList_27 : decode cX13_putList 27 = .ok (.aload_n 0, 1) := dk_42 (dk_at dksX13_putList_1 3 rfl rfl)
theorem dX13_putList_28 : decode cX13_putList 28 = .ok (.aload_n 0, 1) := dk_42 (dk_at dksX13_putList_1 4 rfl rfl)
theorem dX13_putList_29 : decode cX13_putList 29 = .ok (.getfield 28, 3) := dk_180 0 28 (dk_at dksX13_putList_1 5 rfl rfl)
theorem dX13_putList_32 : decode cX13_putList 32 = .ok (.iload_n 3, 1) := dk_29 (dk_at dksX13_putList_1 8 rfl rfl)
theorem dX13_putList_33 : decode cX13_putList 33 = .ok (.iconst 2, 1) := dk_5 (dk_at dksX13_putList_1 9 rfl rfl)
theorem dX13_putList_34 : decode cX13_putList 34 = .ok (.invokevirtual 87, 3) := dk_182 0 87 (dk_at dksX13_putList_1 10 rfl rfl)
theorem dX13_putList_37 : decode cX13_putList 37 = .ok (.iload_n 2, 1) := dk_28 (dk_at dksX13_putList_1 13 rfl rfl)
theorem dX13_putList_38 : decode cX13_putList 38 = .ok (.invokevirtual 52, 3) := dk_182 0 52 (dk_at dksX13_putList_1 14 rfl rfl)
theorem dX13_putList_41 : decode cX13_putList 41 = .ok (.aload_n 0, 1) := dk_42 (dk_at dksX13_putList_1 17 rfl rfl)
theorem dX13_putList_42 : decode cX13_putList 42 = .ok (.getfield 28, 3) := dk_180 0 28 (dk_at dksX13_putList_1 18 rfl rfl)
theorem dX13_putList_45 : decode cX13_putList 45 = .ok (.iload_n 3, 1) := dk_29 (dk_at dksX13_putList_1 21 rfl rfl)
theorem dX13_putList_46 : decode cX13_putList 46 = .ok (.iconst 3, 1) := dk_6 (dk_at dksX13_putList_1 22 rfl rfl)
theorem dX13_putList_47 : decode cX13_putList 47 = .ok (.invokevirtual 87, 3) := dk_182 0 87 (dk_at dksX13_putList_2 0 rfl rfl)
theorem dX13_putList_50 : decode cX13_putList 50 = .ok (.istore_n 3, 1) := dk_62 (dk_at dksX13_putList_2 3 rfl rfl)
theorem dX13_putList_51 : decode cX13_putList 51 = .ok (.goto (-30), 3) := dk_167 255 226 (dk_at dksX13_putList_2 4 rfl rfl)
theorem dX13_putList_54 : decode cX13_putList 54 = .ok (.return_, 1) := dk_177 (dk_at dksX13_putList_2 7 rfl rfl)
abbrev cX13_putTree : ByteArray := prog_7_method_10_code
def yX13_putTree : MethodName := ⟨RX13, "putTree", "(III)V"⟩
def dkwX13_putTree_4 : List UInt8 := [182, 0, 87, 28, 29, 182, 0, 100, 177]
abbrev dktX13_putTree_4 : List UInt8 := dkwX13_putTree_4 ++ []
def dkwX13_putTree_3 : List UInt8 := [182, 0, 52, 42, 42, 180, 0, 28, 27, 6, 182, 0, 87, 29, 182, 0, 52, 42, 42, 180, 0, 28, 27, 8]
abbrev dktX13_putTree_3 : List UInt8 := dkwX13_putTree_3 ++ dktX13_putTree_4
def dkwX13_putTree_2 : List UInt8 := [182, 0, 52, 167, 0, 38, 42, 16, 7, 7, 182, 0, 63, 42, 42, 180, 0, 28, 27, 5, 182, 0, 87, 28]
abbrev dktX13_putTree_2 : List UInt8 := dkwX13_putTree_2 ++ dktX13_putTree_3
def dkwX13_putTree_1 : List UInt8 := [180, 0, 28, 27, 6, 182, 0, 87, 154, 0, 20, 42, 42, 180, 0, 28, 27, 5, 182, 0, 87, 28]
abbrev dktX13_putTree_1 : List UInt8 := dkwX13_putTree_1 ++ dktX13_putTree_2
def dkwX13_putTree_0 : List UInt8 := [27, 16, 12, 160, 0, 4, 177, 42, 42, 180, 0, 28, 27, 7, 182, 0, 87, 28, 29, 182, 0, 100, 42]
abbrev dktX13_putTree_0 : List UInt8 := dkwX13_putTree_0 ++ dktX13_putTree_1
theorem dksX13_putTree_0 : cX13_putTree.data.toList.drop 0 = dktX13_putTree_0 := by decide +kernel
theorem dksX13_putTree_1 : cX13_putTree.data.toList.drop 23 = dktX13_putTree_1 := dk_seg dksX13_putTree_0 23 rfl rfl
theorem dksX13_putTree_2 : cX13_putTree.data.toList.drop 45 = dktX13_putTree_2 := dk_seg dksX13_putTree_1 22 rfl rfl
theorem dksX13_putTree_3 : cX13_putTree.data.toList.drop 69 = dktX13_putTree_3 := dk_seg dksX13_putTree_2 24 rfl rfl
theorem dksX13_putTree_4 : cX13_putTree.data.toList.drop 93 = dktX13_putTree_4 := dk_seg dksX13_putTree_3 24 rfl rfl
theorem dX13_putTree_0 : decode cX13_putTree 0 = .ok (.iload_n 1, 1) := dk_27 (dk_at dksX13_putTree_0 0 rfl rfl)
theorem dX13_putTree_1 : decode cX13_putTree 1 = .ok (.bipush 12, 2) := dk_16 12 (dk_at dksX13_putTree_0 1 rfl rfl)
theorem dX13_putTree_3 : decode cX13_putTree 3 = .ok (.if_icmp .ne 4, 3) := dk_160 0 4 (dk_at dksX13_putTree_0 3 rfl rfl)
theorem dX13_putTree_6 : decode cX13_putTree 6 = .ok (.return_, 1) := dk_177 (dk_at dksX13_putTree_0 6 rfl rfl)
theorem dX13_putTree_7 : decode cX13_putTree 7 = .ok (.aload_n 0, 1) := dk_42 (dk_at dksX13_putTree_0 7 rfl rfl)
theorem dX13_putTree_8 : decode cX13_putTree 8 = .ok (.aload_n 0, 1) := dk_42 (dk_at dksX13_putTree_0 8 rfl rfl)
theorem dX13_putTree_9 : decode cX13_putTree 9 = .ok (.getfield 28, 3) := dk_180 0 28 (dk_at dksX13_putTree_0 9 rfl rfl)
theorem dX13_putTree_12 : decode cX13_putTree 12 = .ok (.iload_n 1, 1) := dk_27 (dk_at dksX13_putTree_0 12 rfl rfl)
theorem dX13_putTree_13 : decode cX13_putTree 13 = .ok (.iconst 4, 1) := dk_7 (dk_at dksX13_putTree_0 13 rfl rfl)
theorem dX13_putTree_14 : decode cX13_putTree 14 = .ok (.invokevirtual 87, 3) := dk_182 0 87 (dk_at dksX13_putTree_0 14 rfl rfl)
theorem dX13_putTree_17 : decode cX13_putTree 17 = .ok (.iload_n 2, 1) := dk_28 (dk_at dksX13_putTree_0 17 rfl rfl)
theorem dX13_putTree_18 : decode cX13_putTree 18 = .ok (.iload_n 3, 1) := dk_29 (dk_at dksX13_putTree_0 18 rfl rfl)
theorem dX13_putTree_19 : decode cX13_putTree 19 = .ok (.invokevirtual 100, 3) := dk_182 0 100 (dk_at dksX13_putTree_0 19 rfl rfl)
theorem dX13_putTree_22 : decode cX13_putTree 22 = .ok (.aload_n 0, 1) := dk_42 (dk_at dksX13_putTree_0 22 rfl rfl)
theorem dX13_putTree_23 : decode cX13_putTree 23 = .ok (.getfield 28, 3) := dk_180 0 28 (dk_at dksX13_putTree_1 0 rfl rfl)
theorem dX13_putTree_26 : decode cX13_putTree 26 = .ok (.iload_n 1, 1) := dk_27 (dk_at dksX13_putTree_1 3 rfl rfl)
theorem dX13_putTree_27 : decode cX13_putTree 27 = .ok (.iconst 3, 1) := dk_6 (dk_at dksX13_putTree_1 4 rfl rfl)
theorem dX13_putTree_28 : decode cX13_putTree 28 = .ok (.invokevirtual 87, 3) := dk_182 0 87 (dk_at dksX13_putTree_1 5 rfl rfl)
theorem dX13_putTree_31 : decode cX13_putTree 31 = .ok (.ifCond .ne 20, 3) := dk_154 0 20 (dk_at dksX13_putTree_1 8 rfl rfl)
theorem dX13_putTree_34 : decode cX13_putTree 34 = .ok (.aload_n 0, 1) := dk_42 (dk_at dksX13_putTree_1 11 rfl rfl)
theorem dX13_putTree_35 : decode cX13_putTree 35 = .ok (.aload_n 0, 1) := dk_42 (dk_at dksX13_putTree_1 12 rfl rfl)
theorem dX13_putTree_36 : decode cX13_putTree 36 = .ok (.getfield 28, 3) := dk_180 0 28 (dk_at dksX13_putTree_1 13 rfl rfl)
theorem dX13_putTree_39 : decode cX13_putTree 39 = .ok (.iload_n 1, 1) := dk_27 (dk_at dksX13_putTree_1 16 rfl rfl)
theorem dX13_putTree_40 : decode cX13_putTree 40 = .ok (.iconst 2, 1) := dk_5 (dk_at dksX13_putTree_1 17 rfl rfl)
theorem dX13_putTree_41 : decode cX13_putTree 41 = .ok (.invokevirtual 87, 3) := dk_182 0 87 (dk_at dksX13_putTree_1 18 rfl rfl)
theorem dX13_putTree_44 : decode cX13_putTree 44 = .ok (.iload_n 2, 1) := dk_28 (dk_at dksX13_putTree_1 21 rfl rfl)
theorem dX13_putTree_45 : decode cX13_putTree 45 = .ok (.invokevirtual 52, 3) := dk_182 0 52 (dk_at dksX13_putTree_2 0 rfl rfl)
theorem dX13_putTree_48 : decode cX13_putTree 48 = .ok (.goto 38, 3) := dk_167 0 38 (dk_at dksX13_putTree_2 3 rfl rfl)
theorem dX13_putTree_51 : decode cX13_putTree 51 = .ok (.aload_n 0, 1) := dk_42 (dk_at dksX13_putTree_2 6 rfl rfl)
theorem dX13_putTree_52 : decode cX13_putTree 52 = .ok (.bipush 7, 2) := dk_16 7 (dk_at dksX13_putTree_2 7 rfl rfl)
theorem dX13_putTree_54 : decode cX13_putTree 54 = .ok (.iconst 4, 1) := dk_7 (dk_at dksX13_putTree_2 9 rfl rfl)
theorem dX13_putTree_55 : decode cX13_putTree 55 = .ok (.invokevirtual 63, 3) := dk_182 0 63 (dk_at dksX13_putTree_2 10 rfl rfl)
theorem dX13_putTree_58 : decode cX13_putTree 58 = .ok (.aload_n 0, 1) := dk_42 (dk_at dksX13_putTree_2 13 rfl rfl)
theorem dX13_putTree_59 : decode cX13_putTree 59 = .ok (.aload_n 0, 1) := dk_42 (dk_at dksX13_putTree_2 14 rfl rfl)
theorem dX13_putTree_60 : decode cX13_putTree 60 = .ok (.getfield 28, 3) := dk_180 0 28 (dk_at dksX13_putTree_2 15 rfl rfl)
theorem dX13_putTree_63 : decode cX13_putTree 63 = .ok (.iload_n 1, 1) := dk_27 (dk_at dksX13_putTree_2 18 rfl rfl)
theorem dX13_putTree_64 : decode cX13_putTree 64 = .ok (.iconst 2, 1) := dk_5 (dk_at dksX13_putTree_2 19 rfl rfl)
theorem dX13_putTree_65 : decode cX13_putTree 65 = .ok (.invokevirtual 87, 3) := dk_182 0 87 (dk_at dksX13_putTree_2 20 rfl rfl)
theorem dX13_putTree_68 : decode cX13_putTree 68 = .ok (.iload_n 2, 1) := dk_28 (dk_at dksX13_putTree_2 23 rfl rfl)
theorem dX13_putTree_69 : decode cX13_putTree 69 = .ok (.invokevirtual 52, 3) := dk_182 0 52 (dk_at dksX13_putTree_3 0 rfl rfl)
theorem dX13_putTree_72 : decode cX13_putTree 72 = .ok (.aload_n 0, 1) := dk_42 (dk_at dksX13_putTree_3 3 rfl rfl)
theorem dX13_putTree_73 : decode cX13_putTree 73 = .ok (.aload_n 0, 1) := dk_42 (dk_at dksX13_putTree_3 4 rfl rfl)
theorem dX13_putTree_74 : decode cX13_putTree 74 = .ok (.getfield 28, 3) := dk_180 0 28 (dk_at dksX13_putTree_3 5 rfl rfl)
theorem dX13_putTree_77 : decode cX13_putTree 77 = .ok (.iload_n 1, 1) := dk_27 (dk_at dksX13_putTree_3 8 rfl rfl)
theorem dX13_putTree_78 : decode cX13_putTree 78 = .ok (.iconst 3, 1) := dk_6 (dk_at dksX13_putTree_3 9 rfl rfl)
theorem dX13_putTree_79 : decode cX13_putTree 79 = .ok (.invokevirtual 87, 3) := dk_182 0 87 (dk_at dksX13_putTree_3 10 rfl rfl)
theorem dX13_putTree_82 : decode cX13_putTree 82 = .ok (.iload_n 3, 1) := dk_29 (dk_at dksX13_putTree_3 13 rfl rfl)
theorem dX13_putTree_83 : decode cX13_putTree 83 = .ok (.invokevirtual 52, 3) := dk_182 0 52 (dk_at dksX13_putTree_3 14 rfl rfl)
theorem dX13_putTree_86 : decode cX13_putTree 86 = .ok (.aload_n 0, 1) := dk_42 (dk_at dksX13_putTree_3 17 rfl rfl)
theorem dX13_putTree_87 : decode cX13_putTree 87 = .ok (.aload_n 0, 1) := dk_42 (dk_at dksX13_putTree_3 18 rfl rfl)
theorem dX13_putTree_88 : decode cX13_putTree 88 = .ok (.getfield 28, 3) := dk_180 0 28 (dk_at dksX13_putTree_3 19 rfl rfl)
theorem dX13_putTree_91 : decode cX13_putTree 91 = .ok (.iload_n 1, 1) := dk_27 (dk_at dksX13_putTree_3 22 rfl rfl)
theorem dX13_putTree_92 : decode cX13_putTree 92 = .ok (.iconst 5, 1) := dk_8 (dk_at dksX13_putTree_3 23 rfl rfl)
theorem dX13_putTree_93 : decode cX13_putTree 93 = .ok (.invokevirtual 87, 3) := dk_182 0 87 (dk_at dksX13_putTree_4 0 rfl rfl)
theorem dX13_putTree_96 : decode cX13_putTree 96 = .ok (.iload_n 2, 1) := dk_28 (dk_at dksX13_putTree_4 3 rfl rfl)
theorem dX13_putTree_97 : decode cX13_putTree 97 = .ok (.iload_n 3, 1) := dk_29 (dk_at dksX13_putTree_4 4 rfl rfl)
theorem dX13_putTree_98 : decode cX13_putTree 98 = .ok (.invokevirtual 100, 3) := dk_182 0 100 (dk_at dksX13_putTree_4 5 rfl rfl)
theorem dX13_putTree_101 : decode cX13_putTree 101 = .ok (.return_, 1) := dk_177 (dk_at dksX13_putTree_4 8 rfl rfl)
abbrev cX13_putNumber : ByteArray := prog_7_method_11_code
def yX13_putNumber : MethodName := ⟨RX13, "putNumber", "(I)V"⟩
def dkwX13_putNumber_4 : List UInt8 := [16, 7, 96, 164, 0, 9, 17, 0, 128, 167, 0, 4, 3, 128, 182, 0, 56, 132, 4, 7, 167, 255, 220, 177]
abbrev dktX13_putNumber_4 : List UInt8 := dkwX13_putNumber_4 ++ []
def dkwX13_putNumber_3 : List UInt8 := [182, 0, 56, 16, 6, 54, 4, 21, 4, 28, 162, 0, 36, 42, 42, 21, 4, 182, 0, 127, 28, 21, 4]
abbrev dktX13_putNumber_3 : List UInt8 := dkwX13_putNumber_3 ++ dktX13_putNumber_4
def dkwX13_putNumber_2 : List UInt8 := [153, 0, 8, 16, 64, 167, 0, 4, 3, 128, 28, 16, 6, 164, 0, 9, 17, 0, 128, 167, 0, 4, 3, 128]
abbrev dktX13_putNumber_2 : List UInt8 := dkwX13_putNumber_2 ++ dktX13_putNumber_3
def dkwX13_putNumber_1 : List UInt8 := [61, 42, 180, 0, 14, 3, 182, 0, 120, 16, 63, 126, 62, 42, 29, 42, 180, 0, 14, 180, 0, 123]
abbrev dktX13_putNumber_1 : List UInt8 := dkwX13_putNumber_1 ++ dktX13_putNumber_2
def dkwX13_putNumber_0 : List UInt8 := [42, 3, 182, 0, 56, 42, 180, 0, 28, 27, 42, 180, 0, 14, 182, 0, 112, 42, 180, 0, 14, 182, 0, 116]
abbrev dktX13_putNumber_0 : List UInt8 := dkwX13_putNumber_0 ++ dktX13_putNumber_1
theorem dksX13_putNumber_0 : cX13_putNumber.data.toList.drop 0 = dktX13_putNumber_0 := by decide +kernel
theorem dksX13_putNumber_1 : cX13_putNumber.data.toList.drop 24 = dktX13_putNumber_1 := dk_seg dksX13_putNumber_0 24 rfl rfl
theorem dksX13_putNumber_2 : cX13_putNumber.data.toList.drop 46 = dktX13_putNumber_2 := dk_seg dksX13_putNumber_1 22 rfl rfl
theorem dksX13_putNumber_3 : cX13_putNumber.data.toList.drop 70 = dktX13_putNumber_3 := dk_seg dksX13_putNumber_2 24 rfl rfl
theorem dksX13_putNumber_4 : cX13_putNumber.data.toList.drop 93 = dktX13_putNumber_4 := dk_seg dksX13_putNumber_3 23 rfl rfl
theorem dX13_putNumber_0 : decode cX13_putNumber 0 = .ok (.aload_n 0, 1) := dk_42 (dk_at dksX13_putNumber_0 0 rfl rfl)
theorem dX13_putNumber_1 : decode cX13_putNumber 1 = .ok (.iconst 0, 1) := dk_3 (dk_at dksX13_putNumber_0 1 rfl rfl)
theorem dX13_putNumber_2 : decode cX13_putNumber 2 = .ok (.invokevirtual 56, 3) := dk_182 0 56 (dk_at dksX13_putNumber_0 2 rfl rfl)
theorem dX13_putNumber_5 : decode cX13_putNumber 5 = .ok (.aload_n 0, 1) := dk_42 (dk_at dksX13_putNumber_0 5 rfl rfl)
theorem dX13_putNumber_6 : decode cX13_putNumber 6 = .ok (.getfield 28, 3) := dk_180 0 28 (dk_at dksX13_putNumber_0 6 rfl rfl)
theorem dX13_putNumber_9 : decode cX13_putNumber 9 = .ok (.iload_n 1, 1) := dk_27 (dk_at dksX13_putNumber_0 9 rfl rfl)
theorem dX13_putNumber_10 : decode cX13_putNumber 10 = .ok (.aload_n 0, 1) := dk_42 (dk_at dksX13_putNumber_0 10 rfl rfl)
theorem dX13_putNumber_11 : decode cX13_putNumber 11 = .ok (.getfield 14, 3) := dk_180 0 14 (dk_at dksX13_putNumber_0 11 rfl rfl)
theorem dX13_putNumber_14 : decode cX13_putNumber 14 = .ok (.invokevirtual 112, 3) := dk_182 0 112 (dk_at dksX13_putNumber_0 14 rfl rfl)
theorem dX13_putNumber_17 : decode cX13_putNumber 17 = .ok (.aload_n 0, 1) := dk_42 (dk_at dksX13_putNumber_0 17 rfl rfl)
theorem dX13_putNumber_18 : decode cX13_putNumber 18 = .ok (.getfield 14, 3) := dk_180 0 14 (dk_at dksX13_putNumber_0 18 rfl rfl)
theorem dX13_putNumber_21 : decode cX13_putNumber 21 = .ok (.invokevirtual 116, 3) := dk_182 0 116 (dk_at dksX13_putNumber_0 21 rfl rfl)
theorem dX13_putNumber_24 : decode cX13_putNumber 24 = .ok (.istore_n 2, 1) := dk_61 (dk_at dksX13_putNumber_1 0 rfl rfl)
theorem dX13_putNumber_25 : decode cX13_putNumber 25 = .ok (.aload_n 0, 1) := dk_42 (dk_at dksX13_putNumber_1 1 rfl rfl)
theorem dX13_putNumber_26 : decode cX13_putNumber 26 = .ok (.getfield 14, 3) := dk_180 0 14 (dk_at dksX13_putNumber_1 2 rfl rfl)
theorem dX13_putNumber_29 : decode cX13_putNumber 29 = .ok (.iconst 0, 1) := dk_3 (dk_at dksX13_putNumber_1 5 rfl rfl)
theorem dX13_putNumber_30 : decode cX13_putNumber 30 = .ok (.invokevirtual 120, 3) := dk_182 0 120 (dk_at dksX13_putNumber_1 6 rfl rfl)
theorem dX13_putNumber_33 : decode cX13_putNumber 33 = .ok (.bipush 63, 2) := dk_16 63 (dk_at dksX13_putNumber_1 9 rfl rfl)
theorem dX13_putNumber_35 : decode cX13_putNumber 35 = .ok (.iand, 1) := dk_126 (dk_at dksX13_putNumber_1 11 rfl rfl)
theorem dX13_putNumber_36 : decode cX13_putNumber 36 = .ok (.istore_n 3, 1) := dk_62 (dk_at dksX13_putNumber_1 12 rfl rfl)
theorem dX13_putNumber_37 : decode cX13_putNumber 37 = .ok (.aload_n 0, 1) := dk_42 (dk_at dksX13_putNumber_1 13 rfl rfl)
theorem dX13_putNumber_38 : decode cX13_putNumber 38 = .ok (.iload_n 3, 1) := dk_29 (dk_at dksX13_putNumber_1 14 rfl rfl)
theorem dX13_putNumber_39 : decode cX13_putNumber 39 = .ok (.aload_n 0, 1) := dk_42 (dk_at dksX13_putNumber_1 15 rfl rfl)
theorem dX13_putNumber_40 : decode cX13_putNumber 40 = .ok (.getfield 14, 3) := dk_180 0 14 (dk_at dksX13_putNumber_1 16 rfl rfl)
theorem dX13_putNumber_43 : decode cX13_putNumber 43 = .ok (.getfield 123, 3) := dk_180 0 123 (dk_at dksX13_putNumber_1 19 rfl rfl)
theorem dX13_putNumber_46 : decode cX13_putNumber 46 = .ok (.ifCond .eq 8, 3) := dk_153 0 8 (dk_at dksX13_putNumber_2 0 rfl rfl)
theorem dX13_putNumber_49 : decode cX13_putNumber 49 = .ok (.bipush 64, 2) := dk_16 64 (dk_at dksX13_putNumber_2 3 rfl rfl)
theorem dX13_putNumber_51 : decode cX13_putNumber 51 = .ok (.goto 4, 3) := dk_167 0 4 (dk_at dksX13_putNumber_2 5 rfl rfl)
theorem dX13_putNumber_54 : decode cX13_putNumber 54 = .ok (.iconst 0, 1) := dk_3 (dk_at dksX13_putNumber_2 8 rfl rfl)
theorem dX13_putNumber_55 : decode cX13_putNumber 55 = .ok (.ior, 1) := dk_128 (dk_at dksX13_putNumber_2 9 rfl rfl)
theorem dX13_putNumber_56 : decode cX13_putNumber 56 = .ok (.iload_n 2, 1) := dk_28 (dk_at dksX13_putNumber_2 10 rfl rfl)
theorem dX13_putNumber_57 : decode cX13_putNumber 57 = .ok (.bipush 6, 2) := dk_16 6 (dk_at dksX13_putNumber_2 11 rfl rfl)
theorem dX13_putNumber_59 : decode cX13_putNumber 59 = .ok (.if_icmp .le 9, 3) := dk_164 0 9 (dk_at dksX13_putNumber_2 13 rfl rfl)
theorem dX13_putNumber_62 : decode cX13_putNumber 62 = .ok (.sipush 128, 3) := dk_17 0 128 (dk_at dksX13_putNumber_2 16 rfl rfl)
theorem dX13_putNumber_65 : decode cX13_putNumber 65 = .ok (.goto 4, 3) := dk_167 0 4 (dk_at dksX13_putNumber_2 19 rfl rfl)
theorem dX13_putNumber_68 : decode cX13_putNumber 68 = .ok (.iconst 0, 1) := dk_3 (dk_at dksX13_putNumber_2 22 rfl rfl)
theorem dX13_putNumber_69 : decode cX13_putNumber 69 = .ok (.ior, 1) := dk_128 (dk_at dksX13_putNumber_2 23 rfl rfl)
theorem dX13_putNumber_70 : decode cX13_putNumber 70 = .ok (.invokevirtual 56, 3) := dk_182 0 56 (dk_at dksX13_putNumber_3 0 rfl rfl)
theorem dX13_putNumber_73 : decode cX13_putNumber 73 = .ok (.bipush 6, 2) := dk_16 6 (dk_at dksX13_putNumber_3 3 rfl rfl)
theorem dX13_putNumber_75 : decode cX13_putNumber 75 = .ok (.istore 4, 2) := dk_54 4 (dk_at dksX13_putNumber_3 5 rfl rfl)
theorem dX13_putNumber_77 : decode cX13_putNumber 77 = .ok (.iload 4, 2) := dk_21 4 (dk_at dksX13_putNumber_3 7 rfl rfl)
theorem dX13_putNumber_79 : decode cX13_putNumber 79 = .ok (.iload_n 2, 1) := dk_28 (dk_at dksX13_putNumber_3 9 rfl rfl)
theorem dX13_putNumber_80 : decode cX13_putNumber 80 = .ok (.if_icmp .ge 36, 3) := dk_162 0 36 (dk_at dksX13_putNumber_3 10 rfl rfl)
theorem dX13_putNumber_83 : decode cX13_putNumber 83 = .ok (.aload_n 0, 1) := dk_42 (dk_at dksX13_putNumber_3 13 rfl rfl)
theorem dX13_putNumber_84 : decode cX13_putNumber 84 = .ok (.aload_n 0, 1) := dk_42 (dk_at dksX13_putNumber_3 14 rfl rfl)
theorem dX13_putNumber_85 : decode cX13_putNumber 85 = .ok (.iload 4, 2) := dk_21 4 (dk_at dksX13_putNumber_3 15 rfl rfl)
theorem dX13_putNumber_87 : decode cX13_putNumber 87 = .ok (.invokevirtual 127, 3) := dk_182 0 127 (dk_at dksX13_putNumber_3 17 rfl rfl)
theorem dX13_putNumber_90 : decode cX13_putNumber 90 = .ok (.iload_n 2, 1) := dk_28 (dk_at dksX13_putNumber_3 20 rfl rfl)
theorem dX13_putNumber_91 : decode cX13_putNumber 91 = .ok (.iload 4, 2) := dk_21 4 (dk_at dksX13_putNumber_3 21 rfl rfl)
theorem dX13_putNumber_93 : decode cX13_putNumber 93 = .ok (.bipush 7, 2) := dk_16 7 (dk_at dksX13_putNumber_4 0 rfl rfl)
theorem dX13_putNumber_95 : decode cX13_putNumber 95 = .ok (.iadd, 1) := dk_96 (dk_at dksX13_putNumber_4 2 rfl rfl)
theorem dX13_putNumber_96 : decode cX13_putNumber 96 = .ok (.if_icmp .le 9, 3) := dk_164 0 9 (dk_at dksX13_putNumber_4 3 rfl rfl)
theorem dX13_putNumber_99 : decode cX13_putNumber 99 = .ok (.sipush 128, 3) := dk_17 0 128 (dk_at dksX13_putNumber_4 6 rfl rfl)
theorem dX13_putNumber_102 : decode cX13_putNumber 102 = .ok (.goto 4, 3) := dk_167 0 4 (dk_at dksX13_putNumber_4 9 rfl rfl)
theorem dX13_putNumber_105 : decode cX13_putNumber 105 = .ok (.iconst 0, 1) := dk_3 (dk_at dksX13_putNumber_4 12 rfl rfl)
theorem dX13_putNumber_106 : decode cX13_putNumber 106 = .ok (.ior, 1) := dk_128 (dk_at dksX13_putNumber_4 13 rfl rfl)
theorem dX13_putNumber_107 : decode cX13_putNumber 107 = .ok (.invokevirtual 56, 3) := dk_182 0 56 (dk_at dksX13_putNumber_4 14 rfl rfl)
theorem dX13_putNumber_110 : decode cX13_putNumber 110 = .ok (.iinc 4 7, 3) := dk_132 4 7 (dk_at dksX13_putNumber_4 17 rfl rfl)
theorem dX13_putNumber_113 : decode cX13_putNumber 113 = .ok (.goto (-36), 3) := dk_167 255 220 (dk_at dksX13_putNumber_4 20 rfl rfl)
theorem dX13_putNumber_116 : decode cX13_putNumber 116 = .ok (.return_, 1) := dk_177 (dk_at dksX13_putNumber_4 23 rfl rfl)
abbrev cX13_bitsAt : ByteArray := prog_7_method_12_code
def yX13_bitsAt : MethodName := ⟨RX13, "bitsAt", "(I)I"⟩
def dkwX13_bitsAt_1 : List UInt8 := [120, 128, 61, 28, 27, 16, 15, 126, 124, 16, 127, 126, 172]
abbrev dktX13_bitsAt_1 : List UInt8 := dkwX13_bitsAt_1 ++ []
def dkwX13_bitsAt_0 : List UInt8 := [42, 180, 0, 14, 27, 7, 122, 182, 0, 120, 42, 180, 0, 14, 27, 7, 122, 4, 96, 182, 0, 120, 16, 16]
abbrev dktX13_bitsAt_0 : List UInt8 := dkwX13_bitsAt_0 ++ dktX13_bitsAt_1
theorem dksX13_bitsAt_0 : cX13_bitsAt.data.toList.drop 0 = dktX13_bitsAt_0 := by decide +kernel
theorem dksX13_bitsAt_1 : cX13_bitsAt.data.toList.drop 24 = dktX13_bitsAt_1 := dk_seg dksX13_bitsAt_0 24 rfl rfl
theorem dX13_bitsAt_0 : decode cX13_bitsAt 0 = .ok (.aload_n 0, 1) := dk_42 (dk_at dksX13_bitsAt_0 0 rfl rfl)
theorem dX13_bitsAt_1 : decode cX13_bitsAt 1 = .ok (.getfield 14, 3) := dk_180 0 14 (dk_at dksX13_bitsAt_0 1 rfl rfl)
theorem dX13_bitsAt_4 : decode cX13_bitsAt 4 = .ok (.iload_n 1, 1) := dk_27 (dk_at dksX13_bitsAt_0 4 rfl rfl)
theorem dX13_bitsAt_5 : decode cX13_bitsAt 5 = .ok (.iconst 4, 1) := dk_7 (dk_at dksX13_bitsAt_0 5 rfl rfl)
theorem dX13_bitsAt_6 : decode cX13_bitsAt 6 = .ok (.ishr, 1) := dk_122 (dk_at dksX13_bitsAt_0 6 rfl rfl)
theorem dX13_bitsAt_7 : decode cX13_bitsAt 7 = .ok (.invokevirtual 120, 3) := dk_182 0 120 (dk_at dksX13_bitsAt_0 7 rfl rfl)
theorem dX13_bitsAt_10 : decode cX13_bitsAt 10 = .ok (.aload_n 0, 1) := dk_42 (dk_at dksX13_bitsAt_0 10 rfl rfl)
theorem dX13_bitsAt_11 : decode cX13_bitsAt 11 = .ok (.getfield 14, 3) := dk_180 0 14 (dk_at dksX13_bitsAt_0 11 rfl rfl)
theorem dX13_bitsAt_14 : decode cX13_bitsAt 14 = .ok (.iload_n 1, 1) := dk_27 (dk_at dksX13_bitsAt_0 14 rfl rfl)
theorem dX13_bitsAt_15 : decode cX13_bitsAt 15 = .ok (.iconst 4, 1) := dk_7 (dk_at dksX13_bitsAt_0 15 rfl rfl)
theorem dX13_bitsAt_16 : decode cX13_bitsAt 16 = .ok (.ishr, 1) := dk_122 (dk_at dksX13_bitsAt_0 16 rfl rfl)
theorem dX13_bitsAt_17 : decode cX13_bitsAt 17 = .ok (.iconst 1, 1) := dk_4 (dk_at dksX13_bitsAt_0 17 rfl rfl)
theorem dX13_bitsAt_18 : decode cX13_bitsAt 18 = .ok (.iadd, 1) := dk_96 (dk_at dksX13_bitsAt_0 18 rfl rfl)
theorem dX13_bitsAt_19 : decode cX13_bitsAt 19 = .ok (.invokevirtual 120, 3) := dk_182 0 120 (dk_at dksX13_bitsAt_0 19 rfl rfl)
theorem dX13_bitsAt_22 : decode cX13_bitsAt 22 = .ok (.bipush 16, 2) := dk_16 16 (dk_at dksX13_bitsAt_0 22 rfl rfl)
theorem dX13_bitsAt_24 : decode cX13_bitsAt 24 = .ok (.ishl, 1) := dk_120 (dk_at dksX13_bitsAt_1 0 rfl rfl)
theorem dX13_bitsAt_25 : decode cX13_bitsAt 25 = .ok (.ior, 1) := dk_128 (dk_at dksX13_bitsAt_1 1 rfl rfl)
theorem dX13_bitsAt_26 : decode cX13_bitsAt 26 = .ok (.istore_n 2, 1) := dk_61 (dk_at dksX13_bitsAt_1 2 rfl rfl)
theorem dX13_bitsAt_27 : decode cX13_bitsAt 27 = .ok (.iload_n 2, 1) := dk_28 (dk_at dksX13_bitsAt_1 3 rfl rfl)
theorem dX13_bitsAt_28 : decode cX13_bitsAt 28 = .ok (.iload_n 1, 1) := dk_27 (dk_at dksX13_bitsAt_1 4 rfl rfl)
theorem dX13_bitsAt_29 : decode cX13_bitsAt 29 = .ok (.bipush 15, 2) := dk_16 15 (dk_at dksX13_bitsAt_1 5 rfl rfl)
theorem dX13_bitsAt_31 : decode cX13_bitsAt 31 = .ok (.iand, 1) := dk_126 (dk_at dksX13_bitsAt_1 7 rfl rfl)
theorem dX13_bitsAt_32 : decode cX13_bitsAt 32 = .ok (.iushr, 1) := dk_124 (dk_at dksX13_bitsAt_1 8 rfl rfl)
theorem dX13_bitsAt_33 : decode cX13_bitsAt 33 = .ok (.bipush 127, 2) := dk_16 127 (dk_at dksX13_bitsAt_1 9 rfl rfl)
theorem dX13_bitsAt_35 : decode cX13_bitsAt 35 = .ok (.iand, 1) := dk_126 (dk_at dksX13_bitsAt_1 11 rfl rfl)
theorem dX13_bitsAt_36 : decode cX13_bitsAt 36 = .ok (.ireturn, 1) := dk_172 (dk_at dksX13_bitsAt_1 12 rfl rfl)
abbrev cX13_read : ByteArray := prog_7_method_14_code
def yX13_read : MethodName := ⟨RX13, "read", "(II)I"⟩
def dkwX13_read_3 : List UInt8 := [167, 0, 4, 3, 172]
abbrev dktX13_read_3 : List UInt8 := dkwX13_read_3 ++ []
def dkwX13_read_2 : List UInt8 := [172, 42, 28, 182, 0, 141, 62, 29, 153, 0, 18, 42, 180, 0, 130, 42, 180, 0, 132, 160, 0, 7, 29]
abbrev dktX13_read_2 : List UInt8 := dkwX13_read_2 ++ dktX13_read_3
def dkwX13_read_1 : List UInt8 := [181, 0, 138, 42, 180, 0, 132, 153, 0, 16, 42, 180, 0, 28, 27, 3, 182, 0, 109, 8, 159, 0, 5, 3]
abbrev dktX13_read_1 : List UInt8 := dkwX13_read_1 ++ dktX13_read_2
def dkwX13_read_0 : List UInt8 := [42, 27, 181, 0, 135, 42, 4, 181, 0, 130, 42, 42, 180, 0, 28, 27, 182, 0, 106, 181, 0, 132, 42, 3]
abbrev dktX13_read_0 : List UInt8 := dkwX13_read_0 ++ dktX13_read_1
theorem dksX13_read_0 : cX13_read.data.toList.drop 0 = dktX13_read_0 := by decide +kernel
theorem dksX13_read_1 : cX13_read.data.toList.drop 24 = dktX13_read_1 := dk_seg dksX13_read_0 24 rfl rfl
theorem dksX13_read_2 : cX13_read.data.toList.drop 48 = dktX13_read_2 := dk_seg dksX13_read_1 24 rfl rfl
theorem dksX13_read_3 : cX13_read.data.toList.drop 71 = dktX13_read_3 := dk_seg dksX13_read_2 23 rfl rfl
theorem dX13_read_0 : decode cX13_read 0 = .ok (.aload_n 0, 1) := dk_42 (dk_at dksX13_read_0 0 rfl rfl)
theorem dX13_read_1 : decode cX13_read 1 = .ok (.iload_n 1, 1) := dk_27 (dk_at dksX13_read_0 1 rfl rfl)
theorem dX13_read_2 : decode cX13_read 2 = .ok (.putfield 135, 3) := dk_181 0 135 (dk_at dksX13_read_0 2 rfl rfl)
theorem dX13_read_5 : decode cX13_read 5 = .ok (.aload_n 0, 1) := dk_42 (dk_at dksX13_read_0 5 rfl rfl)
theorem dX13_read_6 : decode cX13_read 6 = .ok (.iconst 1, 1) := dk_4 (dk_at dksX13_read_0 6 rfl rfl)
theorem dX13_read_7 : decode cX13_read 7 = .ok (.putfield 130, 3) := dk_181 0 130 (dk_at dksX13_read_0 7 rfl rfl)
theorem dX13_read_10 : decode cX13_read 10 = .ok (.aload_n 0, 1) := dk_42 (dk_at dksX13_read_0 10 rfl rfl)
theorem dX13_read_11 : decode cX13_read 11 = .ok (.aload_n 0, 1) := dk_42 (dk_at dksX13_read_0 11 rfl rfl)
theorem dX13_read_12 : decode cX13_read 12 = .ok (.getfield 28, 3) := dk_180 0 28 (dk_at dksX13_read_0 12 rfl rfl)
theorem dX13_read_15 : decode cX13_read 15 = .ok (.iload_n 1, 1) := dk_27 (dk_at dksX13_read_0 15 rfl rfl)
theorem dX13_read_16 : decode cX13_read 16 = .ok (.invokevirtual 106, 3) := dk_182 0 106 (dk_at dksX13_read_0 16 rfl rfl)
theorem dX13_read_19 : decode cX13_read 19 = .ok (.putfield 132, 3) := dk_181 0 132 (dk_at dksX13_read_0 19 rfl rfl)
theorem dX13_read_22 : decode cX13_read 22 = .ok (.aload_n 0, 1) := dk_42 (dk_at dksX13_read_0 22 rfl rfl)
theorem dX13_read_23 : decode cX13_read 23 = .ok (.iconst 0, 1) := dk_3 (dk_at dksX13_read_0 23 rfl rfl)
theorem dX13_read_24 : decode cX13_read 24 = .ok (.putfield 138, 3) := dk_181 0 138 (dk_at dksX13_read_1 0 rfl rfl)
theorem dX13_read_27 : decode cX13_read 27 = .ok (.aload_n 0, 1) := dk_42 (dk_at dksX13_read_1 3 rfl rfl)
theorem dX13_read_28 : decode cX13_read 28 = .ok (.getfield 132, 3) := dk_180 0 132 (dk_at dksX13_read_1 4 rfl rfl)
theorem dX13_read_31 : decode cX13_read 31 = .ok (.ifCond .eq 16, 3) := dk_153 0 16 (dk_at dksX13_read_1 7 rfl rfl)
theorem dX13_read_34 : decode cX13_read 34 = .ok (.aload_n 0, 1) := dk_42 (dk_at dksX13_read_1 10 rfl rfl)
theorem dX13_read_35 : decode cX13_read 35 = .ok (.getfield 28, 3) := dk_180 0 28 (dk_at dksX13_read_1 11 rfl rfl)
theorem dX13_read_38 : decode cX13_read 38 = .ok (.iload_n 1, 1) := dk_27 (dk_at dksX13_read_1 14 rfl rfl)
theorem dX13_read_39 : decode cX13_read 39 = .ok (.iconst 0, 1) := dk_3 (dk_at dksX13_read_1 15 rfl rfl)
theorem dX13_read_40 : decode cX13_read 40 = .ok (.invokevirtual 109, 3) := dk_182 0 109 (dk_at dksX13_read_1 16 rfl rfl)
theorem dX13_read_43 : decode cX13_read 43 = .ok (.iconst 5, 1) := dk_8 (dk_at dksX13_read_1 19 rfl rfl)
theorem dX13_read_44 : decode cX13_read 44 = .ok (.if_icmp .eq 5, 3) := dk_159 0 5 (dk_at dksX13_read_1 20 rfl rfl)
theorem dX13_read_47 : decode cX13_read 47 = .ok (.iconst 0, 1) := dk_3 (dk_at dksX13_read_1 23 rfl rfl)
theorem dX13_read_48 : decode cX13_read 48 = .ok (.ireturn, 1) := dk_172 (dk_at dksX13_read_2 0 rfl rfl)
theorem dX13_read_49 : decode cX13_read 49 = .ok (.aload_n 0, 1) := dk_42 (dk_at dksX13_read_2 1 rfl rfl)
theorem dX13_read_50 : decode cX13_read 50 = .ok (.iload_n 2, 1) := dk_28 (dk_at dksX13_read_2 2 rfl rfl)
theorem dX13_read_51 : decode cX13_read 51 = .ok (.invokevirtual 141, 3) := dk_182 0 141 (dk_at dksX13_read_2 3 rfl rfl)
theorem dX13_read_54 : decode cX13_read 54 = .ok (.istore_n 3, 1) := dk_62 (dk_at dksX13_read_2 6 rfl rfl)
theorem dX13_read_55 : decode cX13_read 55 = .ok (.iload_n 3, 1) := dk_29 (dk_at dksX13_read_2 7 rfl rfl)
theorem dX13_read_56 : decode cX13_read 56 = .ok (.ifCond .eq 18, 3) := dk_153 0 18 (dk_at dksX13_read_2 8 rfl rfl)
theorem dX13_read_59 : decode cX13_read 59 = .ok (.aload_n 0, 1) := dk_42 (dk_at dksX13_read_2 11 rfl rfl)
theorem dX13_read_60 : decode cX13_read 60 = .ok (.getfield 130, 3) := dk_180 0 130 (dk_at dksX13_read_2 12 rfl rfl)
theorem dX13_read_63 : decode cX13_read 63 = .ok (.aload_n 0, 1) := dk_42 (dk_at dksX13_read_2 15 rfl rfl)
theorem dX13_read_64 : decode cX13_read 64 = .ok (.getfield 132, 3) := dk_180 0 132 (dk_at dksX13_read_2 16 rfl rfl)
theorem dX13_read_67 : decode cX13_read 67 = .ok (.if_icmp .ne 7, 3) := dk_160 0 7 (dk_at dksX13_read_2 19 rfl rfl)
theorem dX13_read_70 : decode cX13_read 70 = .ok (.iload_n 3, 1) := dk_29 (dk_at dksX13_read_2 22 rfl rfl)
theorem dX13_read_71 : decode cX13_read 71 = .ok (.goto 4, 3) := dk_167 0 4 (dk_at dksX13_read_3 0 rfl rfl)
theorem dX13_read_74 : decode cX13_read 74 = .ok (.iconst 0, 1) := dk_3 (dk_at dksX13_read_3 3 rfl rfl)
theorem dX13_read_75 : decode cX13_read 75 = .ok (.ireturn, 1) := dk_172 (dk_at dksX13_read_3 4 rfl rfl)
abbrev cX13_get : ByteArray := prog_7_method_17_code
def yX13_get : MethodName := ⟨RX13, "get", "(I)I"⟩
def dkwX13_get_11 : List UInt8 := [42, 180, 0, 28, 29, 21, 4, 182, 0, 157, 172, 42, 27, 28, 182, 0, 160, 172, 42, 28, 182, 0, 163, 172]
abbrev dktX13_get_11 : List UInt8 := dkwX13_get_11 ++ []
def dkwX13_get_10 : List UInt8 := [42, 42, 180, 0, 24, 180, 0, 84, 27, 46, 182, 0, 141, 54, 4, 21, 4, 154, 0, 7, 3, 167, 0, 13]
abbrev dktX13_get_10 : List UInt8 := dkwX13_get_10 ++ dktX13_get_11
def dkwX13_get_9 : List UInt8 := [180, 0, 24, 180, 0, 73, 27, 46, 182, 0, 141, 167, 0, 4, 3, 62, 29, 154, 0, 7, 3, 167, 0, 16]
abbrev dktX13_get_9 : List UInt8 := dkwX13_get_9 ++ dktX13_get_10
def dkwX13_get_8 : List UInt8 := [46, 182, 0, 154, 167, 0, 4, 3, 172, 42, 16, 7, 16, 7, 182, 0, 147, 153, 0, 19, 42, 42]
abbrev dktX13_get_8 : List UInt8 := dkwX13_get_8 ++ dktX13_get_9
def dkwX13_get_7 : List UInt8 := [167, 0, 32, 42, 8, 16, 8, 182, 0, 147, 153, 0, 21, 42, 16, 6, 42, 180, 0, 24, 180, 0, 84, 27]
abbrev dktX13_get_7 : List UInt8 := dkwX13_get_7 ++ dktX13_get_8
def dkwX13_get_6 : List UInt8 := [172, 42, 8, 8, 182, 0, 147, 153, 0, 20, 42, 8, 42, 180, 0, 24, 180, 0, 73, 27, 46, 182, 0, 154]
abbrev dktX13_get_6 : List UInt8 := dkwX13_get_6 ++ dktX13_get_7
def dkwX13_get_5 : List UInt8 := [182, 0, 147, 153, 0, 20, 42, 7, 42, 180, 0, 24, 180, 0, 73, 27, 46, 182, 0, 154, 167, 0, 4, 3]
abbrev dktX13_get_5 : List UInt8 := dkwX13_get_5 ++ dktX13_get_6
def dkwX13_get_4 : List UInt8 := [28, 182, 0, 151, 172, 42, 6, 16, 6, 182, 0, 147, 153, 0, 8, 16, 8, 167, 0, 31, 42, 8, 16, 9]
abbrev dktX13_get_4 : List UInt8 := dkwX13_get_4 ++ dktX13_get_5
def dkwX13_get_3 : List UInt8 := [153, 0, 8, 16, 6, 167, 0, 17, 42, 6, 6, 182, 0, 147, 153, 0, 7, 7, 167, 0, 4, 3, 172, 42]
abbrev dktX13_get_3 : List UInt8 := dkwX13_get_3 ++ dktX13_get_4
def dkwX13_get_2 : List UInt8 := [42, 6, 16, 11, 182, 0, 147, 153, 0, 7, 5, 167, 0, 4, 3, 172, 42, 6, 16, 10, 182, 0, 147]
abbrev dktX13_get_2 : List UInt8 := dkwX13_get_2 ++ dktX13_get_3
def dkwX13_get_1 : List UInt8 := [170, 0, 0, 1, 64, 0, 0, 0, 0, 0, 0, 0, 18, 0, 0, 0, 89, 0, 0, 0, 105, 0, 0, 1, 64, 0, 0, 1, 64, 0, 0, 1, 64, 0, 0, 0, 135, 0, 0, 0, 135, 0, 0, 0, 135, 0, 0, 1, 64, 0, 0, 1, 64, 0, 0, 0, 141, 0, 0, 1, 57, 0, 0, 1, 57, 0, 0, 1, 64, 0, 0, 0, 185, 0, 0, 1, 57, 0, 0, 1, 64, 0, 0, 1, 64, 0, 0, 0, 241]
abbrev dktX13_get_1 : List UInt8 := dkwX13_get_1 ++ dktX13_get_2
def dkwX13_get_0 : List UInt8 := [42, 180, 0, 24, 180, 0, 58, 27, 51, 61, 28]
abbrev dktX13_get_0 : List UInt8 := dkwX13_get_0 ++ dktX13_get_1
theorem dksX13_get_0 : cX13_get.data.toList.drop 0 = dktX13_get_0 := by decide +kernel
theorem dksX13_get_1 : cX13_get.data.toList.drop 11 = dktX13_get_1 := dk_seg dksX13_get_0 11 rfl rfl
theorem dksX13_get_2 : cX13_get.data.toList.drop 100 = dktX13_get_2 := dk_seg dksX13_get_1 89 rfl rfl
theorem dksX13_get_3 : cX13_get.data.toList.drop 123 = dktX13_get_3 := dk_seg dksX13_get_2 23 rfl rfl
theorem dksX13_get_4 : cX13_get.data.toList.drop 147 = dktX13_get_4 := dk_seg dksX13_get_3 24 rfl rfl
theorem dksX13_get_5 : cX13_get.data.toList.drop 171 = dktX13_get_5 := dk_seg dksX13_get_4 24 rfl rfl
theorem dksX13_get_6 : cX13_get.data.toList.drop 195 = dktX13_get_6 := dk_seg dksX13_get_5 24 rfl rfl
theorem dksX13_get_7 : cX13_get.data.toList.drop 219 = dktX13_get_7 := dk_seg dksX13_get_6 24 rfl rfl
theorem dksX13_get_8 : cX13_get.data.toList.drop 243 = dktX13_get_8 := dk_seg dksX13_get_7 24 rfl rfl
theorem dksX13_get_9 : cX13_get.data.toList.drop 265 = dktX13_get_9 := dk_seg dksX13_get_8 22 rfl rfl
theorem dksX13_get_10 : cX13_get.data.toList.drop 289 = dktX13_get_10 := dk_seg dksX13_get_9 24 rfl rfl
theorem dksX13_get_11 : cX13_get.data.toList.drop 313 = dktX13_get_11 := dk_seg dksX13_get_10 24 rfl rfl
theorem dX13_get_0 : decode cX13_get 0 = .ok (.aload_n 0, 1) := dk_42 (dk_at dksX13_get_0 0 rfl rfl)
theorem dX13_get_1 : decode cX13_get 1 = .ok (.getfield 24, 3) := dk_180 0 24 (dk_at dksX13_get_0 1 rfl rfl)
theorem dX13_get_4 : decode cX13_get 4 = .ok (.getfield 58, 3) := dk_180 0 58 (dk_at dksX13_get_0 4 rfl rfl)
theorem dX13_get_7 : decode cX13_get 7 = .ok (.iload_n 1, 1) := dk_27 (dk_at dksX13_get_0 7 rfl rfl)
theorem dX13_get_8 : decode cX13_get 8 = .ok (.baload, 1) := dk_51 (dk_at dksX13_get_0 8 rfl rfl)
theorem dX13_get_9 : decode cX13_get 9 = .ok (.istore_n 2, 1) := dk_61 (dk_at dksX13_get_0 9 rfl rfl)
theorem dX13_get_10 : decode cX13_get 10 = .ok (.iload_n 2, 1) := dk_28 (dk_at dksX13_get_0 10 rfl rfl)
theorem dX13_get_11 : decode cX13_get 11 = .ok (.tableswitch 320 0 18 #[89, 105, 320, 320, 320, 135, 135, 135, 320, 320, 141, 313, 313, 320, 185, 313, 320, 320, 241], 89) := by decide +kernel
theorem dX13_get_100 : decode cX13_get 100 = .ok (.aload_n 0, 1) := dk_42 (dk_at dksX13_get_2 0 rfl rfl)
theorem dX13_get_101 : decode cX13_get 101 = .ok (.iconst 3, 1) := dk_6 (dk_at dksX13_get_2 1 rfl rfl)
theorem dX13_get_102 : decode cX13_get 102 = .ok (.bipush 11, 2) := dk_16 11 (dk_at dksX13_get_2 2 rfl rfl)
theorem dX13_get_104 : decode cX13_get 104 = .ok (.invokevirtual 147, 3) := dk_182 0 147 (dk_at dksX13_get_2 4 rfl rfl)
theorem dX13_get_107 : decode cX13_get 107 = .ok (.ifCond .eq 7, 3) := dk_153 0 7 (dk_at dksX13_get_2 7 rfl rfl)
theorem dX13_get_110 : decode cX13_get 110 = .ok (.iconst 2, 1) := dk_5 (dk_at dksX13_get_2 10 rfl rfl)
theorem dX13_get_111 : decode cX13_get 111 = .ok (.goto 4, 3) := dk_167 0 4 (dk_at dksX13_get_2 11 rfl rfl)
theorem dX13_get_114 : decode cX13_get 114 = .ok (.iconst 0, 1) := dk_3 (dk_at dksX13_get_2 14 rfl rfl)
theorem dX13_get_115 : decode cX13_get 115 = .ok (.ireturn, 1) := dk_172 (dk_at dksX13_get_2 15 rfl rfl)
theorem dX13_get_116 : decode cX13_get 116 = .ok (.aload_n 0, 1) := dk_42 (dk_at dksX13_get_2 16 rfl rfl)
theorem dX13_get_117 : decode cX13_get 117 = .ok (.iconst 3, 1) := dk_6 (dk_at dksX13_get_2 17 rfl rfl)
theorem dX13_get_118 : decode cX13_get 118 = .ok (.bipush 10, 2) := dk_16 10 (dk_at dksX13_get_2 18 rfl rfl)
theorem dX13_get_120 : decode cX13_get 120 = .ok (.invokevirtual 147, 3) := dk_182 0 147 (dk_at dksX13_get_2 20 rfl rfl)
theorem dX13_get_123 : decode cX13_get 123 = .ok (.ifCond .eq 8, 3) := dk_153 0 8 (dk_at dksX13_get_3 0 rfl rfl)
theorem dX13_get_126 : decode cX13_get 126 = .ok (.bipush 6, 2) := dk_16 6 (dk_at dksX13_get_3 3 rfl rfl)
theorem dX13_get_128 : decode cX13_get 128 = .ok (.goto 17, 3) := dk_167 0 17 (dk_at dksX13_get_3 5 rfl rfl)
theorem dX13_get_131 : decode cX13_get 131 = .ok (.aload_n 0, 1) := dk_42 (dk_at dksX13_get_3 8 rfl rfl)
theorem dX13_get_132 : decode cX13_get 132 = .ok (.iconst 3, 1) := dk_6 (dk_at dksX13_get_3 9 rfl rfl)
theorem dX13_get_133 : decode cX13_get 133 = .ok (.iconst 3, 1) := dk_6 (dk_at dksX13_get_3 10 rfl rfl)
theorem dX13_get_134 : decode cX13_get 134 = .ok (.invokevirtual 147, 3) := dk_182 0 147 (dk_at dksX13_get_3 11 rfl rfl)
theorem dX13_get_137 : decode cX13_get 137 = .ok (.ifCond .eq 7, 3) := dk_153 0 7 (dk_at dksX13_get_3 14 rfl rfl)
theorem dX13_get_140 : decode cX13_get 140 = .ok (.iconst 4, 1) := dk_7 (dk_at dksX13_get_3 17 rfl rfl)
theorem dX13_get_141 : decode cX13_get 141 = .ok (.goto 4, 3) := dk_167 0 4 (dk_at dksX13_get_3 18 rfl rfl)
theorem dX13_get_144 : decode cX13_get 144 = .ok (.iconst 0, 1) := dk_3 (dk_at dksX13_get_3 21 rfl rfl)
theorem dX13_get_145 : decode cX13_get 145 = .ok (.ireturn, 1) := dk_172 (dk_at dksX13_get_3 22 rfl rfl)
theorem dX13_get_146 : decode cX13_get 146 = .ok (.aload_n 0, 1) := dk_42 (dk_at dksX13_get_3 23 rfl rfl)
theorem dX13_get_147 : decode cX13_get 147 = .ok (.iload_n 2, 1) := dk_28 (dk_at dksX13_get_4 0 rfl rfl)
theorem dX13_get_148 : decode cX13_get 148 = .ok (.invokevirtual 151, 3) := dk_182 0 151 (dk_at dksX13_get_4 1 rfl rfl)
theorem dX13_get_151 : decode cX13_get 151 = .ok (.ireturn, 1) := dk_172 (dk_at dksX13_get_4 4 rfl rfl)
theorem dX13_get_152 : decode cX13_get 152 = .ok (.aload_n 0, 1) := dk_42 (dk_at dksX13_get_4 5 rfl rfl)
theorem dX13_get_153 : decode cX13_get 153 = .ok (.iconst 3, 1) := dk_6 (dk_at dksX13_get_4 6 rfl rfl)
theorem dX13_get_154 : decode cX13_get 154 = .ok (.bipush 6, 2) := dk_16 6 (dk_at dksX13_get_4 7 rfl rfl)
theorem dX13_get_156 : decode cX13_get 156 = .ok (.invokevirtual 147, 3) := dk_182 0 147 (dk_at dksX13_get_4 9 rfl rfl)
theorem dX13_get_159 : decode cX13_get 159 = .ok (.ifCond .eq 8, 3) := dk_153 0 8 (dk_at dksX13_get_4 12 rfl rfl)
theorem dX13_get_162 : decode cX13_get 162 = .ok (.bipush 8, 2) := dk_16 8 (dk_at dksX13_get_4 15 rfl rfl)
theorem dX13_get_164 : decode cX13_get 164 = .ok (.goto 31, 3) := dk_167 0 31 (dk_at dksX13_get_4 17 rfl rfl)
theorem dX13_get_167 : decode cX13_get 167 = .ok (.aload_n 0, 1) := dk_42 (dk_at dksX13_get_4 20 rfl rfl)
theorem dX13_get_168 : decode cX13_get 168 = .ok (.iconst 5, 1) := dk_8 (dk_at dksX13_get_4 21 rfl rfl)
theorem dX13_get_169 : decode cX13_get 169 = .ok (.bipush 9, 2) := dk_16 9 (dk_at dksX13_get_4 22 rfl rfl)
theorem dX13_get_171 : decode cX13_get 171 = .ok (.invokevirtual 147, 3) := dk_182 0 147 (dk_at dksX13_get_5 0 rfl rfl)
theorem dX13_get_174 : decode cX13_get 174 = .ok (.ifCond .eq 20, 3) := dk_153 0 20 (dk_at dksX13_get_5 3 rfl rfl)
theorem dX13_get_177 : decode cX13_get 177 = .ok (.aload_n 0, 1) := dk_42 (dk_at dksX13_get_5 6 rfl rfl)
theorem dX13_get_178 : decode cX13_get 178 = .ok (.iconst 4, 1) := dk_7 (dk_at dksX13_get_5 7 rfl rfl)
theorem dX13_get_179 : decode cX13_get 179 = .ok (.aload_n 0, 1) := dk_42 (dk_at dksX13_get_5 8 rfl rfl)
theorem dX13_get_180 : decode cX13_get 180 = .ok (.getfield 24, 3) := dk_180 0 24 (dk_at dksX13_get_5 9 rfl rfl)
theorem dX13_get_183 : decode cX13_get 183 = .ok (.getfield 73, 3) := dk_180 0 73 (dk_at dksX13_get_5 12 rfl rfl)
theorem dX13_get_186 : decode cX13_get 186 = .ok (.iload_n 1, 1) := dk_27 (dk_at dksX13_get_5 15 rfl rfl)
theorem dX13_get_187 : decode cX13_get 187 = .ok (.iaload, 1) := dk_46 (dk_at dksX13_get_5 16 rfl rfl)
theorem dX13_get_188 : decode cX13_get 188 = .ok (.invokevirtual 154, 3) := dk_182 0 154 (dk_at dksX13_get_5 17 rfl rfl)
theorem dX13_get_191 : decode cX13_get 191 = .ok (.goto 4, 3) := dk_167 0 4 (dk_at dksX13_get_5 20 rfl rfl)
theorem dX13_get_194 : decode cX13_get 194 = .ok (.iconst 0, 1) := dk_3 (dk_at dksX13_get_5 23 rfl rfl)
theorem dX13_get_195 : decode cX13_get 195 = .ok (.ireturn, 1) := dk_172 (dk_at dksX13_get_6 0 rfl rfl)
theorem dX13_get_196 : decode cX13_get 196 = .ok (.aload_n 0, 1) := dk_42 (dk_at dksX13_get_6 1 rfl rfl)
theorem dX13_get_197 : decode cX13_get 197 = .ok (.iconst 5, 1) := dk_8 (dk_at dksX13_get_6 2 rfl rfl)
theorem dX13_get_198 : decode cX13_get 198 = .ok (.iconst 5, 1) := dk_8 (dk_at dksX13_get_6 3 rfl rfl)
theorem dX13_get_199 : decode cX13_get 199 = .ok (.invokevirtual 147, 3) := dk_182 0 147 (dk_at dksX13_get_6 4 rfl rfl)
theorem dX13_get_202 : decode cX13_get 202 = .ok (.ifCond .eq 20, 3) := dk_153 0 20 (dk_at dksX13_get_6 7 rfl rfl)
theorem dX13_get_205 : decode cX13_get 205 = .ok (.aload_n 0, 1) := dk_42 (dk_at dksX13_get_6 10 rfl rfl)
theorem dX13_get_206 : decode cX13_get 206 = .ok (.iconst 5, 1) := dk_8 (dk_at dksX13_get_6 11 rfl rfl)
theorem dX13_get_207 : decode cX13_get 207 = .ok (.aload_n 0, 1) := dk_42 (dk_at dksX13_get_6 12 rfl rfl)
theorem dX13_get_208 : decode cX13_get 208 = .ok (.getfield 24, 3) := dk_180 0 24 (dk_at dksX13_get_6 13 rfl rfl)
theorem dX13_get_211 : decode cX13_get 211 = .ok (.getfield 73, 3) := dk_180 0 73 (dk_at dksX13_get_6 16 rfl rfl)
theorem dX13_get_214 : decode cX13_get 214 = .ok (.iload_n 1, 1) := dk_27 (dk_at dksX13_get_6 19 rfl rfl)
theorem dX13_get_215 : decode cX13_get 215 = .ok (.iaload, 1) := dk_46 (dk_at dksX13_get_6 20 rfl rfl)
theorem dX13_get_216 : decode cX13_get 216 = .ok (.invokevirtual 154, 3) := dk_182 0 154 (dk_at dksX13_get_6 21 rfl rfl)
theorem dX13_get_219 : decode cX13_get 219 = .ok (.goto 32, 3) := dk_167 0 32 (dk_at dksX13_get_7 0 rfl rfl)
theorem dX13_get_222 : decode cX13_get 222 = .ok (.aload_n 0, 1) := dk_42 (dk_at dksX13_get_7 3 rfl rfl)
theorem dX13_get_223 : decode cX13_get 223 = .ok (.iconst 5, 1) := dk_8 (dk_at dksX13_get_7 4 rfl rfl)
theorem dX13_get_224 : decode cX13_get 224 = .ok (.bipush 8, 2) := dk_16 8 (dk_at dksX13_get_7 5 rfl rfl)
theorem dX13_get_226 : decode cX13_get 226 = .ok (.invokevirtual 147, 3) := dk_182 0 147 (dk_at dksX13_get_7 7 rfl rfl)
theorem dX13_get_229 : decode cX13_get 229 = .ok (.ifCond .eq 21, 3) := dk_153 0 21 (dk_at dksX13_get_7 10 rfl rfl)
theorem dX13_get_232 : decode cX13_get 232 = .ok (.aload_n 0, 1) := dk_42 (dk_at dksX13_get_7 13 rfl rfl)
theorem dX13_get_233 : decode cX13_get 233 = .ok (.bipush 6, 2) := dk_16 6 (dk_at dksX13_get_7 14 rfl rfl)
theorem dX13_get_235 : decode cX13_get 235 = .ok (.aload_n 0, 1) := dk_42 (dk_at dksX13_get_7 16 rfl rfl)
theorem dX13_get_236 : decode cX13_get 236 = .ok (.getfield 24, 3) := dk_180 0 24 (dk_at dksX13_get_7 17 rfl rfl)
theorem dX13_get_239 : decode cX13_get 239 = .ok (.getfield 84, 3) := dk_180 0 84 (dk_at dksX13_get_7 20 rfl rfl)
theorem dX13_get_242 : decode cX13_get 242 = .ok (.iload_n 1, 1) := dk_27 (dk_at dksX13_get_7 23 rfl rfl)
theorem dX13_get_243 : decode cX13_get 243 = .ok (.iaload, 1) := dk_46 (dk_at dksX13_get_8 0 rfl rfl)
theorem dX13_get_244 : decode cX13_get 244 = .ok (.invokevirtual 154, 3) := dk_182 0 154 (dk_at dksX13_get_8 1 rfl rfl)
theorem dX13_get_247 : decode cX13_get 247 = .ok (.goto 4, 3) := dk_167 0 4 (dk_at dksX13_get_8 4 rfl rfl)
theorem dX13_get_250 : decode cX13_get 250 = .ok (.iconst 0, 1) := dk_3 (dk_at dksX13_get_8 7 rfl rfl)
theorem dX13_get_251 : decode cX13_get 251 = .ok (.ireturn, 1) := dk_172 (dk_at dksX13_get_8 8 rfl rfl)
theorem dX13_get_252 : decode cX13_get 252 = .ok (.aload_n 0, 1) := dk_42 (dk_at dksX13_get_8 9 rfl rfl)
theorem dX13_get_253 : decode cX13_get 253 = .ok (.bipush 7, 2) := dk_16 7 (dk_at dksX13_get_8 10 rfl rfl)
theorem dX13_get_255 : decode cX13_get 255 = .ok (.bipush 7, 2) := dk_16 7 (dk_at dksX13_get_8 12 rfl rfl)
theorem dX13_get_257 : decode cX13_get 257 = .ok (.invokevirtual 147, 3) := dk_182 0 147 (dk_at dksX13_get_8 14 rfl rfl)
theorem dX13_get_260 : decode cX13_get 260 = .ok (.ifCond .eq 19, 3) := dk_153 0 19 (dk_at dksX13_get_8 17 rfl rfl)
theorem dX13_get_263 : decode cX13_get 263 = .ok (.aload_n 0, 1) := dk_42 (dk_at dksX13_get_8 20 rfl rfl)
theorem dX13_get_264 : decode cX13_get 264 = .ok (.aload_n 0, 1) := dk_42 (dk_at dksX13_get_8 21 rfl rfl)
theorem dX13_get_265 : decode cX13_get 265 = .ok (.getfield 24, 3) := dk_180 0 24 (dk_at dksX13_get_9 0 rfl rfl)
theorem dX13_get_268 : decode cX13_get 268 = .ok (.getfield 73, 3) := dk_180 0 73 (dk_at dksX13_get_9 3 rfl rfl)
theorem dX13_get_271 : decode cX13_get 271 = .ok (.iload_n 1, 1) := dk_27 (dk_at dksX13_get_9 6 rfl rfl)
theorem dX13_get_272 : decode cX13_get 272 = .ok (.iaload, 1) := dk_46 (dk_at dksX13_get_9 7 rfl rfl)
theorem dX13_get_273 : decode cX13_get 273 = .ok (.invokevirtual 141, 3) := dk_182 0 141 (dk_at dksX13_get_9 8 rfl rfl)
theorem dX13_get_276 : decode cX13_get 276 = .ok (.goto 4, 3) := dk_167 0 4 (dk_at dksX13_get_9 11 rfl rfl)
theorem dX13_get_279 : decode cX13_get 279 = .ok (.iconst 0, 1) := dk_3 (dk_at dksX13_get_9 14 rfl rfl)
theorem dX13_get_280 : decode cX13_get 280 = .ok (.istore_n 3, 1) := dk_62 (dk_at dksX13_get_9 15 rfl rfl)
theorem dX13_get_281 : decode cX13_get 281 = .ok (.iload_n 3, 1) := dk_29 (dk_at dksX13_get_9 16 rfl rfl)
theorem dX13_get_282 : decode cX13_get 282 = .ok (.ifCond .ne 7, 3) := dk_154 0 7 (dk_at dksX13_get_9 17 rfl rfl)
theorem dX13_get_285 : decode cX13_get 285 = .ok (.iconst 0, 1) := dk_3 (dk_at dksX13_get_9 20 rfl rfl)
theorem dX13_get_286 : decode cX13_get 286 = .ok (.goto 16, 3) := dk_167 0 16 (dk_at dksX13_get_9 21 rfl rfl)
theorem dX13_get_289 : decode cX13_get 289 = .ok (.aload_n 0, 1) := dk_42 (dk_at dksX13_get_10 0 rfl rfl)
theorem dX13_get_290 : decode cX13_get 290 = .ok (.aload_n 0, 1) := dk_42 (dk_at dksX13_get_10 1 rfl rfl)
theorem dX13_get_291 : decode cX13_get 291 = .ok (.getfield 24, 3) := dk_180 0 24 (dk_at dksX13_get_10 2 rfl rfl)
theorem dX13_get_294 : decode cX13_get 294 = .ok (.getfield 84, 3) := dk_180 0 84 (dk_at dksX13_get_10 5 rfl rfl)
theorem dX13_get_297 : decode cX13_get 297 = .ok (.iload_n 1, 1) := dk_27 (dk_at dksX13_get_10 8 rfl rfl)
theorem dX13_get_298 : decode cX13_get 298 = .ok (.iaload, 1) := dk_46 (dk_at dksX13_get_10 9 rfl rfl)
theorem dX13_get_299 : decode cX13_get 299 = .ok (.invokevirtual 141, 3) := dk_182 0 141 (dk_at dksX13_get_10 10 rfl rfl)
theorem dX13_get_302 : decode cX13_get 302 = .ok (.istore 4, 2) := dk_54 4 (dk_at dksX13_get_10 13 rfl rfl)
theorem dX13_get_304 : decode cX13_get 304 = .ok (.iload 4, 2) := dk_21 4 (dk_at dksX13_get_10 15 rfl rfl)
theorem dX13_get_306 : decode cX13_get 306 = .ok (.ifCond .ne 7, 3) := dk_154 0 7 (dk_at dksX13_get_10 17 rfl rfl)
theorem dX13_get_309 : decode cX13_get 309 = .ok (.iconst 0, 1) := dk_3 (dk_at dksX13_get_10 20 rfl rfl)
theorem dX13_get_310 : decode cX13_get 310 = .ok (.goto 13, 3) := dk_167 0 13 (dk_at dksX13_get_10 21 rfl rfl)
theorem dX13_get_313 : decode cX13_get 313 = .ok (.aload_n 0, 1) := dk_42 (dk_at dksX13_get_11 0 rfl rfl)
theorem dX13_get_314 : decode cX13_get 314 = .ok (.getfield 28, 3) := dk_180 0 28 (dk_at dksX13_get_11 1 rfl rfl)
theorem dX13_get_317 : decode cX13_get 317 = .ok (.iload_n 3, 1) := dk_29 (dk_at dksX13_get_11 4 rfl rfl)
theorem dX13_get_318 : decode cX13_get 318 = .ok (.iload 4, 2) := dk_21 4 (dk_at dksX13_get_11 5 rfl rfl)
theorem dX13_get_320 : decode cX13_get 320 = .ok (.invokevirtual 157, 3) := dk_182 0 157 (dk_at dksX13_get_11 7 rfl rfl)
theorem dX13_get_323 : decode cX13_get 323 = .ok (.ireturn, 1) := dk_172 (dk_at dksX13_get_11 10 rfl rfl)
theorem dX13_get_324 : decode cX13_get 324 = .ok (.aload_n 0, 1) := dk_42 (dk_at dksX13_get_11 11 rfl rfl)
theorem dX13_get_325 : decode cX13_get 325 = .ok (.iload_n 1, 1) := dk_27 (dk_at dksX13_get_11 12 rfl rfl)
theorem dX13_get_326 : decode cX13_get 326 = .ok (.iload_n 2, 1) := dk_28 (dk_at dksX13_get_11 13 rfl rfl)
theorem dX13_get_327 : decode cX13_get 327 = .ok (.invokevirtual 160, 3) := dk_182 0 160 (dk_at dksX13_get_11 14 rfl rfl)
theorem dX13_get_330 : decode cX13_get 330 = .ok (.ireturn, 1) := dk_172 (dk_at dksX13_get_11 17 rfl rfl)
theorem dX13_get_331 : decode cX13_get 331 = .ok (.aload_n 0, 1) := dk_42 (dk_at dksX13_get_11 18 rfl rfl)
theorem dX13_get_332 : decode cX13_get 332 = .ok (.iload_n 2, 1) := dk_28 (dk_at dksX13_get_11 19 rfl rfl)
theorem dX13_get_333 : decode cX13_get 333 = .ok (.invokevirtual 163, 3) := dk_182 0 163 (dk_at dksX13_get_11 20 rfl rfl)
theorem dX13_get_336 : decode cX13_get 336 = .ok (.ireturn, 1) := dk_172 (dk_at dksX13_get_11 23 rfl rfl)
abbrev cX13_eat : ByteArray := prog_7_method_15_code
def yX13_eat : MethodName := ⟨RX13, "eat", "(II)Z"⟩
def dkwX13_eat_1 : List UInt8 := [42, 89, 180, 0, 130, 29, 153, 0, 7, 5, 167, 0, 4, 3, 96, 181, 0, 130, 29, 172]
abbrev dktX13_eat_1 : List UInt8 := dkwX13_eat_1 ++ []
def dkwX13_eat_0 : List UInt8 := [42, 3, 182, 0, 144, 27, 160, 0, 16, 42, 4, 182, 0, 144, 28, 160, 0, 7, 4, 167, 0, 4, 3, 62]
abbrev dktX13_eat_0 : List UInt8 := dkwX13_eat_0 ++ dktX13_eat_1
theorem dksX13_eat_0 : cX13_eat.data.toList.drop 0 = dktX13_eat_0 := by decide +kernel
theorem dksX13_eat_1 : cX13_eat.data.toList.drop 24 = dktX13_eat_1 := dk_seg dksX13_eat_0 24 rfl rfl
theorem dX13_eat_0 : decode cX13_eat 0 = .ok (.aload_n 0, 1) := dk_42 (dk_at dksX13_eat_0 0 rfl rfl)
theorem dX13_eat_1 : decode cX13_eat 1 = .ok (.iconst 0, 1) := dk_3 (dk_at dksX13_eat_0 1 rfl rfl)
theorem dX13_eat_2 : decode cX13_eat 2 = .ok (.invokevirtual 144, 3) := dk_182 0 144 (dk_at dksX13_eat_0 2 rfl rfl)
theorem dX13_eat_5 : decode cX13_eat 5 = .ok (.iload_n 1, 1) := dk_27 (dk_at dksX13_eat_0 5 rfl rfl)
theorem dX13_eat_6 : decode cX13_eat 6 = .ok (.if_icmp .ne 16, 3) := dk_160 0 16 (dk_at dksX13_eat_0 6 rfl rfl)
theorem dX13_eat_9 : decode cX13_eat 9 = .ok (.aload_n 0, 1) := dk_42 (dk_at dksX13_eat_0 9 rfl rfl)
theorem dX13_eat_10 : decode cX13_eat 10 = .ok (.iconst 1, 1) := dk_4 (dk_at dksX13_eat_0 10 rfl rfl)
theorem dX13_eat_11 : decode cX13_eat 11 = .ok (.invokevirtual 144, 3) := dk_182 0 144 (dk_at dksX13_eat_0 11 rfl rfl)
theorem dX13_eat_14 : decode cX13_eat 14 = .ok (.iload_n 2, 1) := dk_28 (dk_at dksX13_eat_0 14 rfl rfl)
theorem dX13_eat_15 : decode cX13_eat 15 = .ok (.if_icmp .ne 7, 3) := dk_160 0 7 (dk_at dksX13_eat_0 15 rfl rfl)
theorem dX13_eat_18 : decode cX13_eat 18 = .ok (.iconst 1, 1) := dk_4 (dk_at dksX13_eat_0 18 rfl rfl)
theorem dX13_eat_19 : decode cX13_eat 19 = .ok (.goto 4, 3) := dk_167 0 4 (dk_at dksX13_eat_0 19 rfl rfl)
theorem dX13_eat_22 : decode cX13_eat 22 = .ok (.iconst 0, 1) := dk_3 (dk_at dksX13_eat_0 22 rfl rfl)
theorem dX13_eat_23 : decode cX13_eat 23 = .ok (.istore_n 3, 1) := dk_62 (dk_at dksX13_eat_0 23 rfl rfl)
theorem dX13_eat_24 : decode cX13_eat 24 = .ok (.aload_n 0, 1) := dk_42 (dk_at dksX13_eat_1 0 rfl rfl)
theorem dX13_eat_25 : decode cX13_eat 25 = .ok (.dup, 1) := dk_89 (dk_at dksX13_eat_1 1 rfl rfl)
theorem dX13_eat_26 : decode cX13_eat 26 = .ok (.getfield 130, 3) := dk_180 0 130 (dk_at dksX13_eat_1 2 rfl rfl)
theorem dX13_eat_29 : decode cX13_eat 29 = .ok (.iload_n 3, 1) := dk_29 (dk_at dksX13_eat_1 5 rfl rfl)
theorem dX13_eat_30 : decode cX13_eat 30 = .ok (.ifCond .eq 7, 3) := dk_153 0 7 (dk_at dksX13_eat_1 6 rfl rfl)
theorem dX13_eat_33 : decode cX13_eat 33 = .ok (.iconst 2, 1) := dk_5 (dk_at dksX13_eat_1 9 rfl rfl)
theorem dX13_eat_34 : decode cX13_eat 34 = .ok (.goto 4, 3) := dk_167 0 4 (dk_at dksX13_eat_1 10 rfl rfl)
theorem dX13_eat_37 : decode cX13_eat 37 = .ok (.iconst 0, 1) := dk_3 (dk_at dksX13_eat_1 13 rfl rfl)
theorem dX13_eat_38 : decode cX13_eat 38 = .ok (.iadd, 1) := dk_96 (dk_at dksX13_eat_1 14 rfl rfl)
theorem dX13_eat_39 : decode cX13_eat 39 = .ok (.putfield 130, 3) := dk_181 0 130 (dk_at dksX13_eat_1 15 rfl rfl)
theorem dX13_eat_42 : decode cX13_eat 42 = .ok (.iload_n 3, 1) := dk_29 (dk_at dksX13_eat_1 18 rfl rfl)
theorem dX13_eat_43 : decode cX13_eat 43 = .ok (.ireturn, 1) := dk_172 (dk_at dksX13_eat_1 19 rfl rfl)
abbrev cX13_peek : ByteArray := prog_7_method_13_code
def yX13_peek : MethodName := ⟨RX13, "peek", "(I)I"⟩
def dkwX13_peek_1 : List UInt8 := [180, 0, 130, 27, 96, 182, 0, 109, 167, 0, 4, 2, 172]
abbrev dktX13_peek_1 : List UInt8 := dkwX13_peek_1 ++ []
def dkwX13_peek_0 : List UInt8 := [42, 180, 0, 130, 27, 96, 42, 180, 0, 132, 162, 0, 23, 42, 180, 0, 28, 42, 180, 0, 135, 42]
abbrev dktX13_peek_0 : List UInt8 := dkwX13_peek_0 ++ dktX13_peek_1
theorem dksX13_peek_0 : cX13_peek.data.toList.drop 0 = dktX13_peek_0 := by decide +kernel
theorem dksX13_peek_1 : cX13_peek.data.toList.drop 22 = dktX13_peek_1 := dk_seg dksX13_peek_0 22 rfl rfl
theorem dX13_peek_0 : decode cX13_peek 0 = .ok (.aload_n 0, 1) := dk_42 (dk_at dksX13_peek_0 0 rfl rfl)
theorem dX13_peek_1 : decode cX13_peek 1 = .ok (.getfield 130, 3) := dk_180 0 130 (dk_at dksX13_peek_0 1 rfl rfl)
theorem dX13_peek_4 : decode cX13_peek 4 = .ok (.iload_n 1, 1) := dk_27 (dk_at dksX13_peek_0 4 rfl rfl)
theorem dX13_peek_5 : decode cX13_peek 5 = .ok (.iadd, 1) := dk_96 (dk_at dksX13_peek_0 5 rfl rfl)
theorem dX13_peek_6 : decode cX13_peek 6 = .ok (.aload_n 0, 1) := dk_42 (dk_at dksX13_peek_0 6 rfl rfl)
theorem dX13_peek_7 : decode cX13_peek 7 = .ok (.getfield 132, 3) := dk_180 0 132 (dk_at dksX13_peek_0 7 rfl rfl)
theorem dX13_peek_10 : decode cX13_peek 10 = .ok (.if_icmp .ge 23, 3) := dk_162 0 23 (dk_at dksX13_peek_0 10 rfl rfl)
theorem dX13_peek_13 : decode cX13_peek 13 = .ok (.aload_n 0, 1) := dk_42 (dk_at dksX13_peek_0 13 rfl rfl)
theorem dX13_peek_14 : decode cX13_peek 14 = .ok (.getfield 28, 3) := dk_180 0 28 (dk_at dksX13_peek_0 14 rfl rfl)
theorem dX13_peek_17 : decode cX13_peek 17 = .ok (.aload_n 0, 1) := dk_42 (dk_at dksX13_peek_0 17 rfl rfl)
theorem dX13_peek_18 : decode cX13_peek 18 = .ok (.getfield 135, 3) := dk_180 0 135 (dk_at dksX13_peek_0 18 rfl rfl)
theorem dX13_peek_21 : decode cX13_peek 21 = .ok (.aload_n 0, 1) := dk_42 (dk_at dksX13_peek_0 21 rfl rfl)
theorem dX13_peek_22 : decode cX13_peek 22 = .ok (.getfield 130, 3) := dk_180 0 130 (dk_at dksX13_peek_1 0 rfl rfl)
theorem dX13_peek_25 : decode cX13_peek 25 = .ok (.iload_n 1, 1) := dk_27 (dk_at dksX13_peek_1 3 rfl rfl)
theorem dX13_peek_26 : decode cX13_peek 26 = .ok (.iadd, 1) := dk_96 (dk_at dksX13_peek_1 4 rfl rfl)
theorem dX13_peek_27 : decode cX13_peek 27 = .ok (.invokevirtual 109, 3) := dk_182 0 109 (dk_at dksX13_peek_1 5 rfl rfl)
theorem dX13_peek_30 : decode cX13_peek 30 = .ok (.goto 4, 3) := dk_167 0 4 (dk_at dksX13_peek_1 8 rfl rfl)
theorem dX13_peek_33 : decode cX13_peek 33 = .ok (.iconst (-1), 1) := dk_2 (dk_at dksX13_peek_1 11 rfl rfl)
theorem dX13_peek_34 : decode cX13_peek 34 = .ok (.ireturn, 1) := dk_172 (dk_at dksX13_peek_1 12 rfl rfl)
abbrev cX13_getBytes : ByteArray := prog_7_method_19_code
def yX13_getBytes : MethodName := ⟨RX13, "getBytes", "(I)I"⟩
def dkwX13_getBytes_6 : List UInt8 := [180, 0, 40, 42, 180, 0, 28, 21, 4, 182, 0, 184, 156, 0, 7, 3, 167, 0, 5, 21, 4, 172]
abbrev dktX13_getBytes_6 : List UInt8 := dkwX13_getBytes_6 ++ []
def dkwX13_getBytes_5 : List UInt8 := [132, 5, 1, 167, 255, 205, 42, 89, 180, 0, 130, 29, 96, 181, 0, 130, 27, 16, 7, 160, 0, 23, 42]
abbrev dktX13_getBytes_5 : List UInt8 := dkwX13_getBytes_5 ++ dktX13_getBytes_6
def dkwX13_getBytes_4 : List UInt8 := [21, 6, 16, 10, 159, 0, 5, 3, 172, 42, 180, 0, 28, 21, 4, 21, 5, 21, 6, 182, 0, 181]
abbrev dktX13_getBytes_4 : List UInt8 := dkwX13_getBytes_4 ++ dktX13_getBytes_5
def dkwX13_getBytes_3 : List UInt8 := [162, 0, 51, 42, 21, 5, 182, 0, 144, 54, 6, 28, 154, 0, 20, 21, 6, 184, 0, 175, 154, 0, 12]
abbrev dktX13_getBytes_3 : List UInt8 := dkwX13_getBytes_3 ++ dktX13_getBytes_4
def dkwX13_getBytes_2 : List UInt8 := [29, 156, 0, 5, 3, 172, 42, 180, 0, 28, 29, 182, 0, 172, 54, 4, 3, 54, 5, 21, 5, 29]
abbrev dktX13_getBytes_2 : List UInt8 := dkwX13_getBytes_2 ++ dktX13_getBytes_3
def dkwX13_getBytes_1 : List UInt8 := [167, 0, 4, 4, 159, 0, 5, 3, 172, 42, 89, 180, 0, 130, 4, 96, 181, 0, 130, 42, 182, 0, 169, 62]
abbrev dktX13_getBytes_1 : List UInt8 := dkwX13_getBytes_1 ++ dktX13_getBytes_2
def dkwX13_getBytes_0 : List UInt8 := [27, 16, 6, 160, 0, 7, 4, 167, 0, 4, 3, 61, 42, 3, 182, 0, 144, 28, 153, 0, 8, 16, 10]
abbrev dktX13_getBytes_0 : List UInt8 := dkwX13_getBytes_0 ++ dktX13_getBytes_1
theorem dksX13_getBytes_0 : cX13_getBytes.data.toList.drop 0 = dktX13_getBytes_0 := by decide +kernel
theorem dksX13_getBytes_1 : cX13_getBytes.data.toList.drop 23 = dktX13_getBytes_1 := dk_seg dksX13_getBytes_0 23 rfl rfl
theorem dksX13_getBytes_2 : cX13_getBytes.data.toList.drop 47 = dktX13_getBytes_2 := dk_seg dksX13_getBytes_1 24 rfl rfl
theorem dksX13_getBytes_3 : cX13_getBytes.data.toList.drop 69 = dktX13_getBytes_3 := dk_seg dksX13_getBytes_2 22 rfl rfl
theorem dksX13_getBytes_4 : cX13_getBytes.data.toList.drop 92 = dktX13_getBytes_4 := dk_seg dksX13_getBytes_3 23 rfl rfl
theorem dksX13_getBytes_5 : cX13_getBytes.data.toList.drop 114 = dktX13_getBytes_5 := dk_seg dksX13_getBytes_4 22 rfl rfl
theorem dksX13_getBytes_6 : cX13_getBytes.data.toList.drop 137 = dktX13_getBytes_6 := dk_seg dksX13_getBytes_5 23 rfl rfl
theorem dX13_getBytes_0 : decode cX13_getBytes 0 = .ok (.iload_n 1, 1) := dk_27 (dk_at dksX13_getBytes_0 0 rfl rfl)
theorem dX13_getBytes_1 : decode cX13_getBytes 1 = .ok (.bipush 6, 2) := dk_16 6 (dk_at dksX13_getBytes_0 1 rfl rfl)
theorem dX13_getBytes_3 : decode cX13_getBytes 3 = .ok (.if_icmp .ne 7, 3) := dk_160 0 7 (dk_at dksX13_getBytes_0 3 rfl rfl)
theorem dX13_getBytes_6 : decode cX13_getBytes 6 = .ok (.iconst 1, 1) := dk_4 (dk_at dksX13_getBytes_0 6 rfl rfl)
theorem dX13_getBytes_7 : decode cX13_getBytes 7 = .ok (.goto 4, 3) := dk_167 0 4 (dk_at dksX13_getBytes_0 7 rfl rfl)
theorem dX13_getBytes_10 : decode cX13_getBytes 10 = .ok (.iconst 0, 1) := dk_3 (dk_at dksX13_getBytes_0 10 rfl rfl)
theorem dX13_getBytes_11 : decode cX13_getBytes 11 = .ok (.istore_n 2, 1) := dk_61 (dk_at dksX13_getBytes_0 11 rfl rfl)
theorem dX13_getBytes_12 : decode cX13_getBytes 12 = .ok (.aload_n 0, 1) := dk_42 (dk_at dksX13_getBytes_0 12 rfl rfl)
theorem dX13_getBytes_13 : decode cX13_getBytes 13 = .ok (.iconst 0, 1) := dk_3 (dk_at dksX13_getBytes_0 13 rfl rfl)
theorem dX13_getBytes_14 : decode cX13_getBytes 14 = .ok (.invokevirtual 144, 3) := dk_182 0 144 (dk_at dksX13_getBytes_0 14 rfl rfl)
theorem dX13_getBytes_17 : decode cX13_getBytes 17 = .ok (.iload_n 2, 1) := dk_28 (dk_at dksX13_getBytes_0 17 rfl rfl)
theorem dX13_getBytes_18 : decode cX13_getBytes 18 = .ok (.ifCond .eq 8, 3) := dk_153 0 8 (dk_at dksX13_getBytes_0 18 rfl rfl)
theorem dX13_getBytes_21 : decode cX13_getBytes 21 = .ok (.bipush 10, 2) := dk_16 10 (dk_at dksX13_getBytes_0 21 rfl rfl)
theorem dX13_getBytes_23 : decode cX13_getBytes 23 = .ok (.goto 4, 3) := dk_167 0 4 (dk_at dksX13_getBytes_1 0 rfl rfl)
theorem dX13_getBytes_26 : decode cX13_getBytes 26 = .ok (.iconst 1, 1) := dk_4 (dk_at dksX13_getBytes_1 3 rfl rfl)
theorem dX13_getBytes_27 : decode cX13_getBytes 27 = .ok (.if_icmp .eq 5, 3) := dk_159 0 5 (dk_at dksX13_getBytes_1 4 rfl rfl)
theorem dX13_getBytes_30 : decode cX13_getBytes 30 = .ok (.iconst 0, 1) := dk_3 (dk_at dksX13_getBytes_1 7 rfl rfl)
theorem dX13_getBytes_31 : decode cX13_getBytes 31 = .ok (.ireturn, 1) := dk_172 (dk_at dksX13_getBytes_1 8 rfl rfl)
theorem dX13_getBytes_32 : decode cX13_getBytes 32 = .ok (.aload_n 0, 1) := dk_42 (dk_at dksX13_getBytes_1 9 rfl rfl)
theorem dX13_getBytes_33 : decode cX13_getBytes 33 = .ok (.dup, 1) := dk_89 (dk_at dksX13_getBytes_1 10 rfl rfl)
theorem dX13_getBytes_34 : decode cX13_getBytes 34 = .ok (.getfield 130, 3) := dk_180 0 130 (dk_at dksX13_getBytes_1 11 rfl rfl)
theorem dX13_getBytes_37 : decode cX13_getBytes 37 = .ok (.iconst 1, 1) := dk_4 (dk_at dksX13_getBytes_1 14 rfl rfl)
theorem dX13_getBytes_38 : decode cX13_getBytes 38 = .ok (.iadd, 1) := dk_96 (dk_at dksX13_getBytes_1 15 rfl rfl)
theorem dX13_getBytes_39 : decode cX13_getBytes 39 = .ok (.putfield 130, 3) := dk_181 0 130 (dk_at dksX13_getBytes_1 16 rfl rfl)
theorem dX13_getBytes_42 : decode cX13_getBytes 42 = .ok (.aload_n 0, 1) := dk_42 (dk_at dksX13_getBytes_1 19 rfl rfl)
theorem dX13_getBytes_43 : decode cX13_getBytes 43 = .ok (.invokevirtual 169, 3) := dk_182 0 169 (dk_at dksX13_getBytes_1 20 rfl rfl)
theorem dX13_getBytes_46 : decode cX13_getBytes 46 = .ok (.istore_n 3, 1) := dk_62 (dk_at dksX13_getBytes_1 23 rfl rfl)
theorem dX13_getBytes_47 : decode cX13_getBytes 47 = .ok (.iload_n 3, 1) := dk_29 (dk_at dksX13_getBytes_2 0 rfl rfl)
theorem dX13_getBytes_48 : decode cX13_getBytes 48 = .ok (.ifCond .ge 5, 3) := dk_156 0 5 (dk_at dksX13_getBytes_2 1 rfl rfl)
theorem dX13_getBytes_51 : decode cX13_getBytes 51 = .ok (.iconst 0, 1) := dk_3 (dk_at dksX13_getBytes_2 4 rfl rfl)
theorem dX13_getBytes_52 : decode cX13_getBytes 52 = .ok (.ireturn, 1) := dk_172 (dk_at dksX13_getBytes_2 5 rfl rfl)
theorem dX13_getBytes_53 : decode cX13_getBytes 53 = .ok (.aload_n 0, 1) := dk_42 (dk_at dksX13_getBytes_2 6 rfl rfl)
theorem dX13_getBytes_54 : decode cX13_getBytes 54 = .ok (.getfield 28, 3) := dk_180 0 28 (dk_at dksX13_getBytes_2 7 rfl rfl)
theorem dX13_getBytes_57 : decode cX13_getBytes 57 = .ok (.iload_n 3, 1) := dk_29 (dk_at dksX13_getBytes_2 10 rfl rfl)
theorem dX13_getBytes_58 : decode cX13_getBytes 58 = .ok (.invokevirtual 172, 3) := dk_182 0 172 (dk_at dksX13_getBytes_2 11 rfl rfl)
theorem dX13_getBytes_61 : decode cX13_getBytes 61 = .ok (.istore 4, 2) := dk_54 4 (dk_at dksX13_getBytes_2 14 rfl rfl)
theorem dX13_getBytes_63 : decode cX13_getBytes 63 = .ok (.iconst 0, 1) := dk_3 (dk_at dksX13_getBytes_2 16 rfl rfl)
theorem dX13_getBytes_64 : decode cX13_getBytes 64 = .ok (.istore 5, 2) := dk_54 5 (dk_at dksX13_getBytes_2 17 rfl rfl)
theorem dX13_getBytes_66 : decode cX13_getBytes 66 = .ok (.iload 5, 2) := dk_21 5 (dk_at dksX13_getBytes_2 19 rfl rfl)
theorem dX13_getBytes_68 : decode cX13_getBytes 68 = .ok (.iload_n 3, 1) := dk_29 (dk_at dksX13_getBytes_2 21 rfl rfl)
theorem dX13_getBytes_69 : decode cX13_getBytes 69 = .ok (.if_icmp .ge 51, 3) := dk_162 0 51 (dk_at dksX13_getBytes_3 0 rfl rfl)
theorem dX13_getBytes_72 : decode cX13_getBytes 72 = .ok (.aload_n 0, 1) := dk_42 (dk_at dksX13_getBytes_3 3 rfl rfl)
theorem dX13_getBytes_73 : decode cX13_getBytes 73 = .ok (.iload 5, 2) := dk_21 5 (dk_at dksX13_getBytes_3 4 rfl rfl)
theorem dX13_getBytes_75 : decode cX13_getBytes 75 = .ok (.invokevirtual 144, 3) := dk_182 0 144 (dk_at dksX13_getBytes_3 6 rfl rfl)
theorem dX13_getBytes_78 : decode cX13_getBytes 78 = .ok (.istore 6, 2) := dk_54 6 (dk_at dksX13_getBytes_3 9 rfl rfl)
theorem dX13_getBytes_80 : decode cX13_getBytes 80 = .ok (.iload_n 2, 1) := dk_28 (dk_at dksX13_getBytes_3 11 rfl rfl)
theorem dX13_getBytes_81 : decode cX13_getBytes 81 = .ok (.ifCond .ne 20, 3) := dk_154 0 20 (dk_at dksX13_getBytes_3 12 rfl rfl)
theorem dX13_getBytes_84 : decode cX13_getBytes 84 = .ok (.iload 6, 2) := dk_21 6 (dk_at dksX13_getBytes_3 15 rfl rfl)
theorem dX13_getBytes_86 : decode cX13_getBytes 86 = .ok (.invokestatic 175, 3) := dk_184 0 175 (dk_at dksX13_getBytes_3 17 rfl rfl)
theorem dX13_getBytes_89 : decode cX13_getBytes 89 = .ok (.ifCond .ne 12, 3) := dk_154 0 12 (dk_at dksX13_getBytes_3 20 rfl rfl)
theorem dX13_getBytes_92 : decode cX13_getBytes 92 = .ok (.iload 6, 2) := dk_21 6 (dk_at dksX13_getBytes_4 0 rfl rfl)
theorem dX13_getBytes_94 : decode cX13_getBytes 94 = .ok (.bipush 10, 2) := dk_16 10 (dk_at dksX13_getBytes_4 2 rfl rfl)
theorem dX13_getBytes_96 : decode cX13_getBytes 96 = .ok (.if_icmp .eq 5, 3) := dk_159 0 5 (dk_at dksX13_getBytes_4 4 rfl rfl)
theorem dX13_getBytes_99 : decode cX13_getBytes 99 = .ok (.iconst 0, 1) := dk_3 (dk_at dksX13_getBytes_4 7 rfl rfl)
theorem dX13_getBytes_100 : decode cX13_getBytes 100 = .ok (.ireturn, 1) := dk_172 (dk_at dksX13_getBytes_4 8 rfl rfl)
theorem dX13_getBytes_101 : decode cX13_getBytes 101 = .ok (.aload_n 0, 1) := dk_42 (dk_at dksX13_getBytes_4 9 rfl rfl)
theorem dX13_getBytes_102 : decode cX13_getBytes 102 = .ok (.getfield 28, 3) := dk_180 0 28 (dk_at dksX13_getBytes_4 10 rfl rfl)
theorem dX13_getBytes_105 : decode cX13_getBytes 105 = .ok (.iload 4, 2) := dk_21 4 (dk_at dksX13_getBytes_4 13 rfl rfl)
theorem dX13_getBytes_107 : decode cX13_getBytes 107 = .ok (.iload 5, 2) := dk_21 5 (dk_at dksX13_getBytes_4 15 rfl rfl)
theorem dX13_getBytes_109 : decode cX13_getBytes 109 = .ok (.iload 6, 2) := dk_21 6 (dk_at dksX13_getBytes_4 17 rfl rfl)
theorem dX13_getBytes_111 : decode cX13_getBytes 111 = .ok (.invokevirtual 181, 3) := dk_182 0 181 (dk_at dksX13_getBytes_4 19 rfl rfl)
theorem dX13_getBytes_114 : decode cX13_getBytes 114 = .ok (.iinc 5 1, 3) := dk_132 5 1 (dk_at dksX13_getBytes_5 0 rfl rfl)
theorem dX13_getBytes_117 : decode cX13_getBytes 117 = .ok (.goto (-51), 3) := dk_167 255 205 (dk_at dksX13_getBytes_5 3 rfl rfl)
theorem dX13_getBytes_120 : decode cX13_getBytes 120 = .ok (.aload_n 0, 1) := dk_42 (dk_at dksX13_getBytes_5 6 rfl rfl)
theorem dX13_getBytes_121 : decode cX13_getBytes 121 = .ok (.dup, 1) := dk_89 (dk_at dksX13_getBytes_5 7 rfl rfl)
theorem dX13_getBytes_122 : decode cX13_getBytes 122 = .ok (.getfield 130, 3) := dk_180 0 130 (dk_at dksX13_getBytes_5 8 rfl rfl)
theorem dX13_getBytes_125 : decode cX13_getBytes 125 = .ok (.iload_n 3, 1) := dk_29 (dk_at dksX13_getBytes_5 11 rfl rfl)
theorem dX13_getBytes_126 : decode cX13_getBytes 126 = .ok (.iadd, 1) := dk_96 (dk_at dksX13_getBytes_5 12 rfl rfl)
theorem dX13_getBytes_127 : decode cX13_getBytes 127 = .ok (.putfield 130, 3) := dk_181 0 130 (dk_at dksX13_getBytes_5 13 rfl rfl)
theorem dX13_getBytes_130 : decode cX13_getBytes 130 = .ok (.iload_n 1, 1) := dk_27 (dk_at dksX13_getBytes_5 16 rfl rfl)
theorem dX13_getBytes_131 : decode cX13_getBytes 131 = .ok (.bipush 7, 2) := dk_16 7 (dk_at dksX13_getBytes_5 17 rfl rfl)
theorem dX13_getBytes_133 : decode cX13_getBytes 133 = .ok (.if_icmp .ne 23, 3) := dk_160 0 23 (dk_at dksX13_getBytes_5 19 rfl rfl)
theorem dX13_getBytes_136 : decode cX13_getBytes 136 = .ok (.aload_n 0, 1) := dk_42 (dk_at dksX13_getBytes_5 22 rfl rfl)
theorem dX13_getBytes_137 : decode cX13_getBytes 137 = .ok (.getfield 40, 3) := dk_180 0 40 (dk_at dksX13_getBytes_6 0 rfl rfl)
theorem dX13_getBytes_140 : decode cX13_getBytes 140 = .ok (.aload_n 0, 1) := dk_42 (dk_at dksX13_getBytes_6 3 rfl rfl)
theorem dX13_getBytes_141 : decode cX13_getBytes 141 = .ok (.getfield 28, 3) := dk_180 0 28 (dk_at dksX13_getBytes_6 4 rfl rfl)
theorem dX13_getBytes_144 : decode cX13_getBytes 144 = .ok (.iload 4, 2) := dk_21 4 (dk_at dksX13_getBytes_6 7 rfl rfl)
theorem dX13_getBytes_146 : decode cX13_getBytes 146 = .ok (.invokevirtual 184, 3) := dk_182 0 184 (dk_at dksX13_getBytes_6 9 rfl rfl)
theorem dX13_getBytes_149 : decode cX13_getBytes 149 = .ok (.ifCond .ge 7, 3) := dk_156 0 7 (dk_at dksX13_getBytes_6 12 rfl rfl)
theorem dX13_getBytes_152 : decode cX13_getBytes 152 = .ok (.iconst 0, 1) := dk_3 (dk_at dksX13_getBytes_6 15 rfl rfl)
theorem dX13_getBytes_153 : decode cX13_getBytes 153 = .ok (.goto 5, 3) := dk_167 0 5 (dk_at dksX13_getBytes_6 16 rfl rfl)
theorem dX13_getBytes_156 : decode cX13_getBytes 156 = .ok (.iload 4, 2) := dk_21 4 (dk_at dksX13_getBytes_6 19 rfl rfl)
theorem dX13_getBytes_158 : decode cX13_getBytes 158 = .ok (.ireturn, 1) := dk_172 (dk_at dksX13_getBytes_6 21 rfl rfl)
abbrev cX13_getCount : ByteArray := prog_7_method_16_code
def yX13_getCount : MethodName := ⟨RX13, "getCount", "()I"⟩
def dkwX13_getCount_3 : List UInt8 := [164, 0, 7, 2, 167, 0, 4, 27, 172]
abbrev dktX13_getCount_3 : List UInt8 := dkwX13_getCount_3 ++ []
def dkwX13_getCount_2 : List UInt8 := [42, 89, 180, 0, 130, 7, 96, 181, 0, 130, 27, 155, 0, 16, 27, 42, 180, 0, 132, 42, 180, 0, 130, 100]
abbrev dktX13_getCount_2 : List UInt8 := dkwX13_getCount_2 ++ dktX13_getCount_3
def dkwX13_getCount_1 : List UInt8 := [4, 182, 0, 144, 16, 16, 120, 128, 42, 5, 182, 0, 144, 16, 8, 120, 128, 42, 6, 182, 0, 144, 128, 60]
abbrev dktX13_getCount_1 : List UInt8 := dkwX13_getCount_1 ++ dktX13_getCount_2
def dkwX13_getCount_0 : List UInt8 := [42, 180, 0, 130, 7, 96, 42, 180, 0, 132, 164, 0, 5, 2, 172, 42, 3, 182, 0, 144, 16, 24, 120, 42]
abbrev dktX13_getCount_0 : List UInt8 := dkwX13_getCount_0 ++ dktX13_getCount_1
theorem dksX13_getCount_0 : cX13_getCount.data.toList.drop 0 = dktX13_getCount_0 := by decide +kernel
theorem dksX13_getCount_1 : cX13_getCount.data.toList.drop 24 = dktX13_getCount_1 := dk_seg dksX13_getCount_0 24 rfl rfl
theorem dksX13_getCount_2 : cX13_getCount.data.toList.drop 48 = dktX13_getCount_2 := dk_seg dksX13_getCount_1 24 rfl rfl
theorem dksX13_getCount_3 : cX13_getCount.data.toList.drop 72 = dktX13_getCount_3 := dk_seg dksX13_getCount_2 24 rfl rfl
theorem dX13_getCount_0 : decode cX13_getCount 0 = .ok (.aload_n 0, 1) := dk_42 (dk_at dksX13_getCount_0 0 rfl rfl)
theorem dX13_getCount_1 : decode cX13_getCount 1 = .ok (.getfield 130, 3) := dk_180 0 130 (dk_at dksX13_getCount_0 1 rfl rfl)
theorem dX13_getCount_4 : decode cX13_getCount 4 = .ok (.iconst 4, 1) := dk_7 (dk_at dksX13_getCount_0 4 rfl rfl)
theorem dX13_getCount_5 : decode cX13_getCount 5 = .ok (.iadd, 1) := dk_96 (dk_at dksX13_getCount_0 5 rfl rfl)
theorem dX13_getCount_6 : decode cX13_getCount 6 = .ok (.aload_n 0, 1) := dk_42 (dk_at dksX13_getCount_0 6 rfl rfl)
theorem dX13_getCount_7 : decode cX13_getCount 7 = .ok (.getfield 132, 3) := dk_180 0 132 (dk_at dksX13_getCount_0 7 rfl rfl)
theorem dX13_getCount_10 : decode cX13_getCount 10 = .ok (.if_icmp .le 5, 3) := dk_164 0 5 (dk_at dksX13_getCount_0 10 rfl rfl)
theorem dX13_getCount_13 : decode cX13_getCount 13 = .ok (.iconst (-1), 1) := dk_2 (dk_at dksX13_getCount_0 13 rfl rfl)
theorem dX13_getCount_14 : decode cX13_getCount 14 = .ok (.ireturn, 1) := dk_172 (dk_at dksX13_getCount_0 14 rfl rfl)
theorem dX13_getCount_15 : decode cX13_getCount 15 = .ok (.aload_n 0, 1) := dk_42 (dk_at dksX13_getCount_0 15 rfl rfl)
theorem dX13_getCount_16 : decode cX13_getCount 16 = .ok (.iconst 0, 1) := dk_3 (dk_at dksX13_getCount_0 16 rfl rfl)
theorem dX13_getCount_17 : decode cX13_getCount 17 = .ok (.invokevirtual 144, 3) := dk_182 0 144 (dk_at dksX13_getCount_0 17 rfl rfl)
theorem dX13_getCount_20 : decode cX13_getCount 20 = .ok (.bipush 24, 2) := dk_16 24 (dk_at dksX13_getCount_0 20 rfl rfl)
theorem dX13_getCount_22 : decode cX13_getCount 22 = .ok (.ishl, 1) := dk_120 (dk_at dksX13_getCount_0 22 rfl rfl)
theorem dX13_getCount_23 : decode cX13_getCount 23 = .ok (.aload_n 0, 1) := dk_42 (dk_at dksX13_getCount_0 23 rfl rfl)
theorem dX13_getCount_24 : decode cX13_getCount 24 = .ok (.iconst 1, 1) := dk_4 (dk_at dksX13_getCount_1 0 rfl rfl)
theorem dX13_getCount_25 : decode cX13_getCount 25 = .ok (.invokevirtual 144, 3) := dk_182 0 144 (dk_at dksX13_getCount_1 1 rfl rfl)
theorem dX13_getCount_28 : decode cX13_getCount 28 = .ok (.bipush 16, 2) := dk_16 16 (dk_at dksX13_getCount_1 4 rfl rfl)
theorem dX13_getCount_30 : decode cX13_getCount 30 = .ok (.ishl, 1) := dk_120 (dk_at dksX13_getCount_1 6 rfl rfl)
theorem dX13_getCount_31 : decode cX13_getCount 31 = .ok (.ior, 1) := dk_128 (dk_at dksX13_getCount_1 7 rfl rfl)
theorem dX13_getCount_32 : decode cX13_getCount 32 = .ok (.aload_n 0, 1) := dk_42 (dk_at dksX13_getCount_1 8 rfl rfl)
theorem dX13_getCount_33 : decode cX13_getCount 33 = .ok (.iconst 2, 1) := dk_5 (dk_at dksX13_getCount_1 9 rfl rfl)
theorem dX13_getCount_34 : decode cX13_getCount 34 = .ok (.invokevirtual 144, 3) := dk_182 0 144 (dk_at dksX13_getCount_1 10 rfl rfl)
theorem dX13_getCount_37 : decode cX13_getCount 37 = .ok (.bipush 8, 2) := dk_16 8 (dk_at dksX13_getCount_1 13 rfl rfl)
theorem dX13_getCount_39 : decode cX13_getCount 39 = .ok (.ishl, 1) := dk_120 (dk_at dksX13_getCount_1 15 rfl rfl)
theorem dX13_getCount_40 : decode cX13_getCount 40 = .ok (.ior, 1) := dk_128 (dk_at dksX13_getCount_1 16 rfl rfl)
theorem dX13_getCount_41 : decode cX13_getCount 41 = .ok (.aload_n 0, 1) := dk_42 (dk_at dksX13_getCount_1 17 rfl rfl)
theorem dX13_getCount_42 : decode cX13_getCount 42 = .ok (.iconst 3, 1) := dk_6 (dk_at dksX13_getCount_1 18 rfl rfl)
theorem dX13_getCount_43 : decode cX13_getCount 43 = .ok (.invokevirtual 144, 3) := dk_182 0 144 (dk_at dksX13_getCount_1 19 rfl rfl)
theorem dX13_getCount_46 : decode cX13_getCount 46 = .ok (.ior, 1) := dk_128 (dk_at dksX13_getCount_1 22 rfl rfl)
theorem dX13_getCount_47 : decode cX13_getCount 47 = .ok (.istore_n 1, 1) := dk_60 (dk_at dksX13_getCount_1 23 rfl rfl)
theorem dX13_getCount_48 : decode cX13_getCount 48 = .ok (.aload_n 0, 1) := dk_42 (dk_at dksX13_getCount_2 0 rfl rfl)
theorem dX13_getCount_49 : decode cX13_getCount 49 = .ok (.dup, 1) := dk_89 (dk_at dksX13_getCount_2 1 rfl rfl)
theorem dX13_getCount_50 : decode cX13_getCount 50 = .ok (.getfield 130, 3) := dk_180 0 130 (dk_at dksX13_getCount_2 2 rfl rfl)
theorem dX13_getCount_53 : decode cX13_getCount 53 = .ok (.iconst 4, 1) := dk_7 (dk_at dksX13_getCount_2 5 rfl rfl)
theorem dX13_getCount_54 : decode cX13_getCount 54 = .ok (.iadd, 1) := dk_96 (dk_at dksX13_getCount_2 6 rfl rfl)
theorem dX13_getCount_55 : decode cX13_getCount 55 = .ok (.putfield 130, 3) := dk_181 0 130 (dk_at dksX13_getCount_2 7 rfl rfl)
theorem dX13_getCount_58 : decode cX13_getCount 58 = .ok (.iload_n 1, 1) := dk_27 (dk_at dksX13_getCount_2 10 rfl rfl)
theorem dX13_getCount_59 : decode cX13_getCount 59 = .ok (.ifCond .lt 16, 3) := dk_155 0 16 (dk_at dksX13_getCount_2 11 rfl rfl)
theorem dX13_getCount_62 : decode cX13_getCount 62 = .ok (.iload_n 1, 1) := dk_27 (dk_at dksX13_getCount_2 14 rfl rfl)
theorem dX13_getCount_63 : decode cX13_getCount 63 = .ok (.aload_n 0, 1) := dk_42 (dk_at dksX13_getCount_2 15 rfl rfl)
theorem dX13_getCount_64 : decode cX13_getCount 64 = .ok (.getfield 132, 3) := dk_180 0 132 (dk_at dksX13_getCount_2 16 rfl rfl)
theorem dX13_getCount_67 : decode cX13_getCount 67 = .ok (.aload_n 0, 1) := dk_42 (dk_at dksX13_getCount_2 19 rfl rfl)
theorem dX13_getCount_68 : decode cX13_getCount 68 = .ok (.getfield 130, 3) := dk_180 0 130 (dk_at dksX13_getCount_2 20 rfl rfl)
theorem dX13_getCount_71 : decode cX13_getCount 71 = .ok (.isub, 1) := dk_100 (dk_at dksX13_getCount_2 23 rfl rfl)
theorem dX13_getCount_72 : decode cX13_getCount 72 = .ok (.if_icmp .le 7, 3) := dk_164 0 7 (dk_at dksX13_getCount_3 0 rfl rfl)
theorem dX13_getCount_75 : decode cX13_getCount 75 = .ok (.iconst (-1), 1) := dk_2 (dk_at dksX13_getCount_3 3 rfl rfl)
theorem dX13_getCount_76 : decode cX13_getCount 76 = .ok (.goto 4, 3) := dk_167 0 4 (dk_at dksX13_getCount_3 4 rfl rfl)
theorem dX13_getCount_79 : decode cX13_getCount 79 = .ok (.iload_n 1, 1) := dk_27 (dk_at dksX13_getCount_3 7 rfl rfl)
theorem dX13_getCount_80 : decode cX13_getCount 80 = .ok (.ireturn, 1) := dk_172 (dk_at dksX13_getCount_3 8 rfl rfl)
abbrev cX13_getWrapped : ByteArray := prog_7_method_18_code
def yX13_getWrapped : MethodName := ⟨RX13, "getWrapped", "(II)I"⟩
def dkwX13_getWrapped_0 : List UInt8 := [42, 28, 182, 0, 141, 62, 29, 154, 0, 7, 3, 167, 0, 12, 42, 180, 0, 28, 27, 29, 182, 0, 166, 172]
abbrev dktX13_getWrapped_0 : List UInt8 := dkwX13_getWrapped_0 ++ []
theorem dksX13_getWrapped_0 : cX13_getWrapped.data.toList.drop 0 = dktX13_getWrapped_0 := by decide +kernel
theorem dX13_getWrapped_0 : decode cX13_getWrapped 0 = .ok (.aload_n 0, 1) := dk_42 (dk_at dksX13_getWrapped_0 0 rfl rfl)
theorem dX13_getWrapped_1 : decode cX13_getWrapped 1 = .ok (.iload_n 2, 1) := dk_28 (dk_at dksX13_getWrapped_0 1 rfl rfl)
theorem dX13_getWrapped_2 : decode cX13_getWrapped 2 = .ok (.invokevirtual 141, 3) := dk_182 0 141 (dk_at dksX13_getWrapped_0 2 rfl rfl)
theorem dX13_getWrapped_5 : decode cX13_getWrapped 5 = .ok (.istore_n 3, 1) := dk_62 (dk_at dksX13_getWrapped_0 5 rfl rfl)
theorem dX13_getWrapped_6 : decode cX13_getWrapped 6 = .ok (.iload_n 3, 1) := dk_29 (dk_at dksX13_getWrapped_0 6 rfl rfl)
theorem dX13_getWrapped_7 : decode cX13_getWrapped 7 = .ok (.ifCond .ne 7, 3) := dk_154 0 7 (dk_at dksX13_getWrapped_0 7 rfl rfl)
theorem dX13_getWrapped_10 : decode cX13_getWrapped 10 = .ok (.iconst 0, 1) := dk_3 (dk_at dksX13_getWrapped_0 10 rfl rfl)
theorem dX13_getWrapped_11 : decode cX13_getWrapped 11 = .ok (.goto 12, 3) := dk_167 0 12 (dk_at dksX13_getWrapped_0 11 rfl rfl)
theorem dX13_getWrapped_14 : decode cX13_getWrapped 14 = .ok (.aload_n 0, 1) := dk_42 (dk_at dksX13_getWrapped_0 14 rfl rfl)
theorem dX13_getWrapped_15 : decode cX13_getWrapped 15 = .ok (.getfield 28, 3) := dk_180 0 28 (dk_at dksX13_getWrapped_0 15 rfl rfl)
theorem dX13_getWrapped_18 : decode cX13_getWrapped 18 = .ok (.iload_n 1, 1) := dk_27 (dk_at dksX13_getWrapped_0 18 rfl rfl)
theorem dX13_getWrapped_19 : decode cX13_getWrapped 19 = .ok (.iload_n 3, 1) := dk_29 (dk_at dksX13_getWrapped_0 19 rfl rfl)
theorem dX13_getWrapped_20 : decode cX13_getWrapped 20 = .ok (.invokevirtual 166, 3) := dk_182 0 166 (dk_at dksX13_getWrapped_0 20 rfl rfl)
theorem dX13_getWrapped_23 : decode cX13_getWrapped 23 = .ok (.ireturn, 1) := dk_172 (dk_at dksX13_getWrapped_0 23 rfl rfl)
abbrev cX13_getSequence : ByteArray := prog_7_method_22_code
def yX13_getSequence : MethodName := ⟨RX13, "getSequence", "(II)I"⟩
def dkwX13_getSequence_6 : List UInt8 := [17, 35, 40, 167, 0, 4, 3, 182, 0, 218, 54, 7, 42, 21, 5, 181, 0, 138, 21, 7, 172]
abbrev dktX13_getSequence_6 : List UInt8 := dkwX13_getSequence_6 ++ []
def dkwX13_getSequence_5 : List UInt8 := [167, 0, 33, 42, 180, 0, 36, 42, 180, 0, 20, 21, 5, 42, 180, 0, 138, 28, 16, 15, 160, 0, 9]
abbrev dktX13_getSequence_5 : List UInt8 := dkwX13_getSequence_5 ++ dktX13_getSequence_6
def dkwX13_getSequence_4 : List UInt8 := [181, 0, 132, 21, 6, 154, 0, 7, 3, 167, 0, 48, 28, 16, 11, 160, 0, 12, 42, 21, 5, 182, 0, 215]
abbrev dktX13_getSequence_4 : List UInt8 := dkwX13_getSequence_4 ++ dktX13_getSequence_5
def dkwX13_getSequence_3 : List UInt8 := [180, 0, 132, 162, 0, 16, 42, 27, 28, 21, 5, 182, 0, 211, 54, 6, 167, 255, 230, 42, 21, 4]
abbrev dktX13_getSequence_3 : List UInt8 := dkwX13_getSequence_3 ++ dktX13_getSequence_4
def dkwX13_getSequence_2 : List UInt8 := [181, 0, 132, 42, 180, 0, 138, 54, 5, 4, 54, 6, 21, 6, 153, 0, 27, 42, 180, 0, 130, 42]
abbrev dktX13_getSequence_2 : List UInt8 := dkwX13_getSequence_2 ++ dktX13_getSequence_3
def dkwX13_getSequence_1 : List UInt8 := [182, 0, 169, 62, 29, 156, 0, 5, 3, 172, 42, 180, 0, 132, 54, 4, 42, 42, 180, 0, 130, 29, 96]
abbrev dktX13_getSequence_1 : List UInt8 := dkwX13_getSequence_1 ++ dktX13_getSequence_2
def dkwX13_getSequence_0 : List UInt8 := [42, 3, 182, 0, 144, 5, 159, 0, 5, 3, 172, 42, 89, 180, 0, 130, 4, 96, 181, 0, 130, 42]
abbrev dktX13_getSequence_0 : List UInt8 := dkwX13_getSequence_0 ++ dktX13_getSequence_1
theorem dksX13_getSequence_0 : cX13_getSequence.data.toList.drop 0 = dktX13_getSequence_0 := by decide +kernel
theorem dksX13_getSequence_1 : cX13_getSequence.data.toList.drop 22 = dktX13_getSequence_1 := dk_seg dksX13_getSequence_0 22 rfl rfl
theorem dksX13_getSequence_2 : cX13_getSequence.data.toList.drop 45 = dktX13_getSequence_2 := dk_seg dksX13_getSequence_1 23 rfl rfl
theorem dksX13_getSequence_3 : cX13_getSequence.data.toList.drop 67 = dktX13_getSequence_3 := dk_seg dksX13_getSequence_2 22 rfl rfl
theorem dksX13_getSequence_4 : cX13_getSequence.data.toList.drop 89 = dktX13_getSequence_4 := dk_seg dksX13_getSequence_3 22 rfl rfl
theorem dksX13_getSequence_5 : cX13_getSequence.data.toList.drop 113 = dktX13_getSequence_5 := dk_seg dksX13_getSequence_4 24 rfl rfl
theorem dksX13_getSequence_6 : cX13_getSequence.data.toList.drop 136 = dktX13_getSequence_6 := dk_seg dksX13_getSequence_5 23 rfl rfl
theorem dX13_getSequence_0 : decode cX13_getSequence 0 = .ok (.aload_n 0, 1) := dk_42 (dk_at dksX13_getSequence_0 0 rfl rfl)
theorem dX13_getSequence_1 : decode cX13_getSequence 1 = .ok (.iconst 0, 1) := dk_3 (dk_at dksX13_getSequence_0 1 rfl rfl)
theorem dX13_getSequence_2 : decode cX13_getSequence 2 = .ok (.invokevirtual 144, 3) := dk_182 0 144 (dk_at dksX13_getSequence_0 2 rfl rfl)
theorem dX13_getSequence_5 : decode cX13_getSequence 5 = .ok (.iconst 2, 1) := dk_5 (dk_at dksX13_getSequence_0 5 rfl rfl)
theorem dX13_getSequence_6 : decode cX13_getSequence 6 = .ok (.if_icmp .eq 5, 3) := dk_159 0 5 (dk_at dksX13_getSequence_0 6 rfl rfl)
theorem dX13_getSequence_9 : decode cX13_getSequence 9 = .ok (.iconst 0, 1) := dk_3 (dk_at dksX13_getSequence_0 9 rfl rfl)
theorem dX13_getSequence_10 : decode cX13_getSequence 10 = .ok (.ireturn, 1) := dk_172 (dk_at dksX13_getSequence_0 10 rfl rfl)
theorem dX13_getSequence_11 : decode cX13_getSequence 11 = .ok (.aload_n 0, 1) := dk_42 (dk_at dksX13_getSequence_0 11 rfl rfl)
theorem dX13_getSequence_12 : decode cX13_getSequence 12 = .ok (.dup, 1) := dk_89 (dk_at dksX13_getSequence_0 12 rfl rfl)
theorem dX13_getSequence_13 : decode cX13_getSequence 13 = .ok (.getfield 130, 3) := dk_180 0 130 (dk_at dksX13_getSequence_0 13 rfl rfl)
theorem dX13_getSequence_16 : decode cX13_getSequence 16 = .ok (.iconst 1, 1) := dk_4 (dk_at dksX13_getSequence_0 16 rfl rfl)
theorem dX13_getSequence_17 : decode cX13_getSequence 17 = .ok (.iadd, 1) := dk_96 (dk_at dksX13_getSequence_0 17 rfl rfl)
theorem dX13_getSequence_18 : decode cX13_getSequence 18 = .ok (.putfield 130, 3) := dk_181 0 130 (dk_at dksX13_getSequence_0 18 rfl rfl)
theorem dX13_getSequence_21 : decode cX13_getSequence 21 = .ok (.aload_n 0, 1) := dk_42 (dk_at dksX13_getSequence_0 21 rfl rfl)
theorem dX13_getSequence_22 : decode cX13_getSequence 22 = .ok (.invokevirtual 169, 3) := dk_182 0 169 (dk_at dksX13_getSequence_1 0 rfl rfl)
theorem dX13_getSequence_25 : decode cX13_getSequence 25 = .ok (.istore_n 3, 1) := dk_62 (dk_at dksX13_getSequence_1 3 rfl rfl)
theorem dX13_getSequence_26 : decode cX13_getSequence 26 = .ok (.iload_n 3, 1) := dk_29 (dk_at dksX13_getSequence_1 4 rfl rfl)
theorem dX13_getSequence_27 : decode cX13_getSequence 27 = .ok (.ifCond .ge 5, 3) := dk_156 0 5 (dk_at dksX13_getSequence_1 5 rfl rfl)
theorem dX13_getSequence_30 : decode cX13_getSequence 30 = .ok (.iconst 0, 1) := dk_3 (dk_at dksX13_getSequence_1 8 rfl rfl)
theorem dX13_getSequence_31 : decode cX13_getSequence 31 = .ok (.ireturn, 1) := dk_172 (dk_at dksX13_getSequence_1 9 rfl rfl)
theorem dX13_getSequence_32 : decode cX13_getSequence 32 = .ok (.aload_n 0, 1) := dk_42 (dk_at dksX13_getSequence_1 10 rfl rfl)
theorem dX13_getSequence_33 : decode cX13_getSequence 33 = .ok (.getfield 132, 3) := dk_180 0 132 (dk_at dksX13_getSequence_1 11 rfl rfl)
theorem dX13_getSequence_36 : decode cX13_getSequence 36 = .ok (.istore 4, 2) := dk_54 4 (dk_at dksX13_getSequence_1 14 rfl rfl)
theorem dX13_getSequence_38 : decode cX13_getSequence 38 = .ok (.aload_n 0, 1) := dk_42 (dk_at dksX13_getSequence_1 16 rfl rfl)
theorem dX13_getSequence_39 : decode cX13_getSequence 39 = .ok (.aload_n 0, 1) := dk_42 (dk_at dksX13_getSequence_1 17 rfl rfl)
theorem dX13_getSequence_40 : decode cX13_getSequence 40 = .ok (.getfield 130, 3) := dk_180 0 130 (dk_at dksX13_getSequence_1 18 rfl rfl)
theorem dX13_getSequence_43 : decode cX13_getSequence 43 = .ok (.iload_n 3, 1) := dk_29 (dk_at dksX13_getSequence_1 21 rfl rfl)
theorem dX13_getSequence_44 : decode cX13_getSequence 44 = .ok (.iadd, 1) := dk_96 (dk_at dksX13_getSequence_1 22 rfl rfl)
theorem dX13_getSequence_45 : decode cX13_getSequence 45 = .ok (.putfield 132, 3) := dk_181 0 132 (dk_at dksX13_getSequence_2 0 rfl rfl)
theorem dX13_getSequence_48 : decode cX13_getSequence 48 = .ok (.aload_n 0, 1) := dk_42 (dk_at dksX13_getSequence_2 3 rfl rfl)
theorem dX13_getSequence_49 : decode cX13_getSequence 49 = .ok (.getfield 138, 3) := dk_180 0 138 (dk_at dksX13_getSequence_2 4 rfl rfl)
theorem dX13_getSequence_52 : decode cX13_getSequence 52 = .ok (.istore 5, 2) := dk_54 5 (dk_at dksX13_getSequence_2 7 rfl rfl)
theorem dX13_getSequence_54 : decode cX13_getSequence 54 = .ok (.iconst 1, 1) := dk_4 (dk_at dksX13_getSequence_2 9 rfl rfl)
theorem dX13_getSequence_55 : decode cX13_getSequence 55 = .ok (.istore 6, 2) := dk_54 6 (dk_at dksX13_getSequence_2 10 rfl rfl)
theorem dX13_getSequence_57 : decode cX13_getSequence 57 = .ok (.iload 6, 2) := dk_21 6 (dk_at dksX13_getSequence_2 12 rfl rfl)
theorem dX13_getSequence_59 : decode cX13_getSequence 59 = .ok (.ifCond .eq 27, 3) := dk_153 0 27 (dk_at dksX13_getSequence_2 14 rfl rfl)
theorem dX13_getSequence_62 : decode cX13_getSequence 62 = .ok (.aload_n 0, 1) := dk_42 (dk_at dksX13_getSequence_2 17 rfl rfl)
theorem dX13_getSequence_63 : decode cX13_getSequence 63 = .ok (.getfield 130, 3) := dk_180 0 130 (dk_at dksX13_getSequence_2 18 rfl rfl)
theorem dX13_getSequence_66 : decode cX13_getSequence 66 = .ok (.aload_n 0, 1) := dk_42 (dk_at dksX13_getSequence_2 21 rfl rfl)
theorem dX13_getSequence_67 : decode cX13_getSequence 67 = .ok (.getfield 132, 3) := dk_180 0 132 (dk_at dksX13_getSequence_3 0 rfl rfl)
theorem dX13_getSequence_70 : decode cX13_getSequence 70 = .ok (.if_icmp .ge 16, 3) := dk_162 0 16 (dk_at dksX13_getSequence_3 3 rfl rfl)
theorem dX13_getSequence_73 : decode cX13_getSequence 73 = .ok (.aload_n 0, 1) := dk_42 (dk_at dksX13_getSequence_3 6 rfl rfl)
theorem dX13_getSequence_74 : decode cX13_getSequence 74 = .ok (.iload_n 1, 1) := dk_27 (dk_at dksX13_getSequence_3 7 rfl rfl)
theorem dX13_getSequence_75 : decode cX13_getSequence 75 = .ok (.iload_n 2, 1) := dk_28 (dk_at dksX13_getSequence_3 8 rfl rfl)
theorem dX13_getSequence_76 : decode cX13_getSequence 76 = .ok (.iload 5, 2) := dk_21 5 (dk_at dksX13_getSequence_3 9 rfl rfl)
theorem dX13_getSequence_78 : decode cX13_getSequence 78 = .ok (.invokevirtual 211, 3) := dk_182 0 211 (dk_at dksX13_getSequence_3 11 rfl rfl)
theorem dX13_getSequence_81 : decode cX13_getSequence 81 = .ok (.istore 6, 2) := dk_54 6 (dk_at dksX13_getSequence_3 14 rfl rfl)
theorem dX13_getSequence_83 : decode cX13_getSequence 83 = .ok (.goto (-26), 3) := dk_167 255 230 (dk_at dksX13_getSequence_3 16 rfl rfl)
theorem dX13_getSequence_86 : decode cX13_getSequence 86 = .ok (.aload_n 0, 1) := dk_42 (dk_at dksX13_getSequence_3 19 rfl rfl)
theorem dX13_getSequence_87 : decode cX13_getSequence 87 = .ok (.iload 4, 2) := dk_21 4 (dk_at dksX13_getSequence_3 20 rfl rfl)
theorem dX13_getSequence_89 : decode cX13_getSequence 89 = .ok (.putfield 132, 3) := dk_181 0 132 (dk_at dksX13_getSequence_4 0 rfl rfl)
theorem dX13_getSequence_92 : decode cX13_getSequence 92 = .ok (.iload 6, 2) := dk_21 6 (dk_at dksX13_getSequence_4 3 rfl rfl)
theorem dX13_getSequence_94 : decode cX13_getSequence 94 = .ok (.ifCond .ne 7, 3) := dk_154 0 7 (dk_at dksX13_getSequence_4 5 rfl rfl)
theorem dX13_getSequence_97 : decode cX13_getSequence 97 = .ok (.iconst 0, 1) := dk_3 (dk_at dksX13_getSequence_4 8 rfl rfl)
theorem dX13_getSequence_98 : decode cX13_getSequence 98 = .ok (.goto 48, 3) := dk_167 0 48 (dk_at dksX13_getSequence_4 9 rfl rfl)
theorem dX13_getSequence_101 : decode cX13_getSequence 101 = .ok (.iload_n 2, 1) := dk_28 (dk_at dksX13_getSequence_4 12 rfl rfl)
theorem dX13_getSequence_102 : decode cX13_getSequence 102 = .ok (.bipush 11, 2) := dk_16 11 (dk_at dksX13_getSequence_4 13 rfl rfl)
theorem dX13_getSequence_104 : decode cX13_getSequence 104 = .ok (.if_icmp .ne 12, 3) := dk_160 0 12 (dk_at dksX13_getSequence_4 15 rfl rfl)
theorem dX13_getSequence_107 : decode cX13_getSequence 107 = .ok (.aload_n 0, 1) := dk_42 (dk_at dksX13_getSequence_4 18 rfl rfl)
theorem dX13_getSequence_108 : decode cX13_getSequence 108 = .ok (.iload 5, 2) := dk_21 5 (dk_at dksX13_getSequence_4 19 rfl rfl)
theorem dX13_getSequence_110 : decode cX13_getSequence 110 = .ok (.invokevirtual 215, 3) := dk_182 0 215 (dk_at dksX13_getSequence_4 21 rfl rfl)
theorem dX13_getSequence_113 : decode cX13_getSequence 113 = .ok (.goto 33, 3) := dk_167 0 33 (dk_at dksX13_getSequence_5 0 rfl rfl)
theorem dX13_getSequence_116 : decode cX13_getSequence 116 = .ok (.aload_n 0, 1) := dk_42 (dk_at dksX13_getSequence_5 3 rfl rfl)
theorem dX13_getSequence_117 : decode cX13_getSequence 117 = .ok (.getfield 36, 3) := dk_180 0 36 (dk_at dksX13_getSequence_5 4 rfl rfl)
theorem dX13_getSequence_120 : decode cX13_getSequence 120 = .ok (.aload_n 0, 1) := dk_42 (dk_at dksX13_getSequence_5 7 rfl rfl)
theorem dX13_getSequence_121 : decode cX13_getSequence 121 = .ok (.getfield 20, 3) := dk_180 0 20 (dk_at dksX13_getSequence_5 8 rfl rfl)
theorem dX13_getSequence_124 : decode cX13_getSequence 124 = .ok (.iload 5, 2) := dk_21 5 (dk_at dksX13_getSequence_5 11 rfl rfl)
theorem dX13_getSequence_126 : decode cX13_getSequence 126 = .ok (.aload_n 0, 1) := dk_42 (dk_at dksX13_getSequence_5 13 rfl rfl)
theorem dX13_getSequence_127 : decode cX13_getSequence 127 = .ok (.getfield 138, 3) := dk_180 0 138 (dk_at dksX13_getSequence_5 14 rfl rfl)
theorem dX13_getSequence_130 : decode cX13_getSequence 130 = .ok (.iload_n 2, 1) := dk_28 (dk_at dksX13_getSequence_5 17 rfl rfl)
theorem dX13_getSequence_131 : decode cX13_getSequence 131 = .ok (.bipush 15, 2) := dk_16 15 (dk_at dksX13_getSequence_5 18 rfl rfl)
theorem dX13_getSequence_133 : decode cX13_getSequence 133 = .ok (.if_icmp .ne 9, 3) := dk_160 0 9 (dk_at dksX13_getSequence_5 20 rfl rfl)
theorem dX13_getSequence_136 : decode cX13_getSequence 136 = .ok (.sipush 9000, 3) := dk_17 35 40 (dk_at dksX13_getSequence_6 0 rfl rfl)
theorem dX13_getSequence_139 : decode cX13_getSequence 139 = .ok (.goto 4, 3) := dk_167 0 4 (dk_at dksX13_getSequence_6 3 rfl rfl)
theorem dX13_getSequence_142 : decode cX13_getSequence 142 = .ok (.iconst 0, 1) := dk_3 (dk_at dksX13_getSequence_6 6 rfl rfl)
theorem dX13_getSequence_143 : decode cX13_getSequence 143 = .ok (.invokevirtual 218, 3) := dk_182 0 218 (dk_at dksX13_getSequence_6 7 rfl rfl)
theorem dX13_getSequence_146 : decode cX13_getSequence 146 = .ok (.istore 7, 2) := dk_54 7 (dk_at dksX13_getSequence_6 10 rfl rfl)
theorem dX13_getSequence_148 : decode cX13_getSequence 148 = .ok (.aload_n 0, 1) := dk_42 (dk_at dksX13_getSequence_6 12 rfl rfl)
theorem dX13_getSequence_149 : decode cX13_getSequence 149 = .ok (.iload 5, 2) := dk_21 5 (dk_at dksX13_getSequence_6 13 rfl rfl)
theorem dX13_getSequence_151 : decode cX13_getSequence 151 = .ok (.putfield 138, 3) := dk_181 0 138 (dk_at dksX13_getSequence_6 15 rfl rfl)
theorem dX13_getSequence_154 : decode cX13_getSequence 154 = .ok (.iload 7, 2) := dk_21 7 (dk_at dksX13_getSequence_6 18 rfl rfl)
theorem dX13_getSequence_156 : decode cX13_getSequence 156 = .ok (.ireturn, 1) := dk_172 (dk_at dksX13_getSequence_6 20 rfl rfl)
abbrev cX13_element : ByteArray := prog_7_method_23_code
def yX13_element : MethodName := ⟨RX13, "element", "(III)Z"⟩
def dkwX13_element_6 : List UInt8 := [180, 0, 138, 17, 35, 40, 96, 21, 6, 79, 42, 89, 180, 0, 138, 4, 96, 181, 0, 138, 4, 172]
abbrev dktX13_element_6 : List UInt8 := dkwX13_element_6 ++ []
def dkwX13_element_5 : List UInt8 := [182, 0, 224, 155, 0, 5, 3, 172, 42, 180, 0, 20, 42, 180, 0, 138, 21, 5, 79, 42, 180, 0, 20, 42]
abbrev dktX13_element_5 : List UInt8 := dkwX13_element_5 ++ dktX13_element_6
def dkwX13_element_4 : List UInt8 := [164, 0, 30, 42, 180, 0, 32, 42, 180, 0, 20, 42, 180, 0, 138, 4, 100, 46, 21, 5, 21, 4]
abbrev dktX13_element_4 : List UInt8 := dkwX13_element_4 ++ dktX13_element_5
def dkwX13_element_3 : List UInt8 := [28, 16, 15, 160, 0, 8, 21, 6, 153, 0, 42, 28, 16, 11, 159, 0, 38, 42, 180, 0, 138, 29]
abbrev dktX13_element_3 : List UInt8 := dkwX13_element_3 ++ dktX13_element_4
def dkwX13_element_2 : List UInt8 := [42, 42, 180, 0, 24, 180, 0, 84, 27, 46, 182, 0, 141, 167, 0, 4, 3, 54, 6, 21, 5, 153, 0, 53]
abbrev dktX13_element_2 : List UInt8 := dkwX13_element_2 ++ dktX13_element_3
def dkwX13_element_1 : List UInt8 := [154, 0, 5, 3, 172, 42, 21, 4, 182, 0, 141, 54, 5, 21, 5, 153, 0, 25, 28, 16, 15, 160, 0, 19]
abbrev dktX13_element_1 : List UInt8 := dkwX13_element_1 ++ dktX13_element_2
def dkwX13_element_0 : List UInt8 := [42, 180, 0, 24, 180, 0, 73, 27, 46, 54, 4, 28, 16, 15, 160, 0, 15, 42, 16, 7, 7, 182, 0, 147]
abbrev dktX13_element_0 : List UInt8 := dkwX13_element_0 ++ dktX13_element_1
theorem dksX13_element_0 : cX13_element.data.toList.drop 0 = dktX13_element_0 := by decide +kernel
theorem dksX13_element_1 : cX13_element.data.toList.drop 24 = dktX13_element_1 := dk_seg dksX13_element_0 24 rfl rfl
theorem dksX13_element_2 : cX13_element.data.toList.drop 48 = dktX13_element_2 := dk_seg dksX13_element_1 24 rfl rfl
theorem dksX13_element_3 : cX13_element.data.toList.drop 72 = dktX13_element_3 := dk_seg dksX13_element_2 24 rfl rfl
theorem dksX13_element_4 : cX13_element.data.toList.drop 94 = dktX13_element_4 := dk_seg dksX13_element_3 22 rfl rfl
theorem dksX13_element_5 : cX13_element.data.toList.drop 116 = dktX13_element_5 := dk_seg dksX13_element_4 22 rfl rfl
theorem dksX13_element_6 : cX13_element.data.toList.drop 140 = dktX13_element_6 := dk_seg dksX13_element_5 24 rfl rfl
theorem dX13_element_0 : decode cX13_element 0 = .ok (.aload_n 0, 1) := dk_42 (dk_at dksX13_element_0 0 rfl rfl)
theorem dX13_element_1 : decode cX13_element 1 = .ok (.getfield 24, 3) := dk_180 0 24 (dk_at dksX13_element_0 1 rfl rfl)
theorem dX13_element_4 : decode cX13_element 4 = .ok (.getfield 73, 3) := dk_180 0 73 (dk_at dksX13_element_0 4 rfl rfl)
theorem dX13_element_7 : decode cX13_element 7 = .ok (.iload_n 1, 1) := dk_27 (dk_at dksX13_element_0 7 rfl rfl)
theorem dX13_element_8 : decode cX13_element 8 = .ok (.iaload, 1) := dk_46 (dk_at dksX13_element_0 8 rfl rfl)
theorem dX13_element_9 : decode cX13_element 9 = .ok (.istore 4, 2) := dk_54 4 (dk_at dksX13_element_0 9 rfl rfl)
theorem dX13_element_11 : decode cX13_element 11 = .ok (.iload_n 2, 1) := dk_28 (dk_at dksX13_element_0 11 rfl rfl)
theorem dX13_element_12 : decode cX13_element 12 = .ok (.bipush 15, 2) := dk_16 15 (dk_at dksX13_element_0 12 rfl rfl)
theorem dX13_element_14 : decode cX13_element 14 = .ok (.if_icmp .ne 15, 3) := dk_160 0 15 (dk_at dksX13_element_0 14 rfl rfl)
theorem dX13_element_17 : decode cX13_element 17 = .ok (.aload_n 0, 1) := dk_42 (dk_at dksX13_element_0 17 rfl rfl)
theorem dX13_element_18 : decode cX13_element 18 = .ok (.bipush 7, 2) := dk_16 7 (dk_at dksX13_element_0 18 rfl rfl)
theorem dX13_element_20 : decode cX13_element 20 = .ok (.iconst 4, 1) := dk_7 (dk_at dksX13_element_0 20 rfl rfl)
theorem dX13_element_21 : decode cX13_element 21 = .ok (.invokevirtual 147, 3) := dk_182 0 147 (dk_at dksX13_element_0 21 rfl rfl)
theorem dX13_element_24 : decode cX13_element 24 = .ok (.ifCond .ne 5, 3) := dk_154 0 5 (dk_at dksX13_element_1 0 rfl rfl)
theorem dX13_element_27 : decode cX13_element 27 = .ok (.iconst 0, 1) := dk_3 (dk_at dksX13_element_1 3 rfl rfl)
theorem dX13_element_28 : decode cX13_element 28 = .ok (.ireturn, 1) := dk_172 (dk_at dksX13_element_1 4 rfl rfl)
theorem dX13_element_29 : decode cX13_element 29 = .ok (.aload_n 0, 1) := dk_42 (dk_at dksX13_element_1 5 rfl rfl)
theorem dX13_element_30 : decode cX13_element 30 = .ok (.iload 4, 2) := dk_21 4 (dk_at dksX13_element_1 6 rfl rfl)
theorem dX13_element_32 : decode cX13_element 32 = .ok (.invokevirtual 141, 3) := dk_182 0 141 (dk_at dksX13_element_1 8 rfl rfl)
theorem dX13_element_35 : decode cX13_element 35 = .ok (.istore 5, 2) := dk_54 5 (dk_at dksX13_element_1 11 rfl rfl)
theorem dX13_element_37 : decode cX13_element 37 = .ok (.iload 5, 2) := dk_21 5 (dk_at dksX13_element_1 13 rfl rfl)
theorem dX13_element_39 : decode cX13_element 39 = .ok (.ifCond .eq 25, 3) := dk_153 0 25 (dk_at dksX13_element_1 15 rfl rfl)
theorem dX13_element_42 : decode cX13_element 42 = .ok (.iload_n 2, 1) := dk_28 (dk_at dksX13_element_1 18 rfl rfl)
theorem dX13_element_43 : decode cX13_element 43 = .ok (.bipush 15, 2) := dk_16 15 (dk_at dksX13_element_1 19 rfl rfl)
theorem dX13_element_45 : decode cX13_element 45 = .ok (.if_icmp .ne 19, 3) := dk_160 0 19 (dk_at dksX13_element_1 21 rfl rfl)
theorem dX13_element_48 : decode cX13_element 48 = .ok (.aload_n 0, 1) := dk_42 (dk_at dksX13_element_2 0 rfl rfl)
theorem dX13_element_49 : decode cX13_element 49 = .ok (.aload_n 0, 1) := dk_42 (dk_at dksX13_element_2 1 rfl rfl)
theorem dX13_element_50 : decode cX13_element 50 = .ok (.getfield 24, 3) := dk_180 0 24 (dk_at dksX13_element_2 2 rfl rfl)
theorem dX13_element_53 : decode cX13_element 53 = .ok (.getfield 84, 3) := dk_180 0 84 (dk_at dksX13_element_2 5 rfl rfl)
theorem dX13_element_56 : decode cX13_element 56 = .ok (.iload_n 1, 1) := dk_27 (dk_at dksX13_element_2 8 rfl rfl)
theorem dX13_element_57 : decode cX13_element 57 = .ok (.iaload, 1) := dk_46 (dk_at dksX13_element_2 9 rfl rfl)
theorem dX13_element_58 : decode cX13_element 58 = .ok (.invokevirtual 141, 3) := dk_182 0 141 (dk_at dksX13_element_2 10 rfl rfl)
theorem dX13_element_61 : decode cX13_element 61 = .ok (.goto 4, 3) := dk_167 0 4 (dk_at dksX13_element_2 13 rfl rfl)
theorem dX13_element_64 : decode cX13_element 64 = .ok (.iconst 0, 1) := dk_3 (dk_at dksX13_element_2 16 rfl rfl)
theorem dX13_element_65 : decode cX13_element 65 = .ok (.istore 6, 2) := dk_54 6 (dk_at dksX13_element_2 17 rfl rfl)
theorem dX13_element_67 : decode cX13_element 67 = .ok (.iload 5, 2) := dk_21 5 (dk_at dksX13_element_2 19 rfl rfl)
theorem dX13_element_69 : decode cX13_element 69 = .ok (.ifCond .eq 53, 3) := dk_153 0 53 (dk_at dksX13_element_2 21 rfl rfl)
theorem dX13_element_72 : decode cX13_element 72 = .ok (.iload_n 2, 1) := dk_28 (dk_at dksX13_element_3 0 rfl rfl)
theorem dX13_element_73 : decode cX13_element 73 = .ok (.bipush 15, 2) := dk_16 15 (dk_at dksX13_element_3 1 rfl rfl)
theorem dX13_element_75 : decode cX13_element 75 = .ok (.if_icmp .ne 8, 3) := dk_160 0 8 (dk_at dksX13_element_3 3 rfl rfl)
theorem dX13_element_78 : decode cX13_element 78 = .ok (.iload 6, 2) := dk_21 6 (dk_at dksX13_element_3 6 rfl rfl)
theorem dX13_element_80 : decode cX13_element 80 = .ok (.ifCond .eq 42, 3) := dk_153 0 42 (dk_at dksX13_element_3 8 rfl rfl)
theorem dX13_element_83 : decode cX13_element 83 = .ok (.iload_n 2, 1) := dk_28 (dk_at dksX13_element_3 11 rfl rfl)
theorem dX13_element_84 : decode cX13_element 84 = .ok (.bipush 11, 2) := dk_16 11 (dk_at dksX13_element_3 12 rfl rfl)
theorem dX13_element_86 : decode cX13_element 86 = .ok (.if_icmp .eq 38, 3) := dk_159 0 38 (dk_at dksX13_element_3 14 rfl rfl)
theorem dX13_element_89 : decode cX13_element 89 = .ok (.aload_n 0, 1) := dk_42 (dk_at dksX13_element_3 17 rfl rfl)
theorem dX13_element_90 : decode cX13_element 90 = .ok (.getfield 138, 3) := dk_180 0 138 (dk_at dksX13_element_3 18 rfl rfl)
theorem dX13_element_93 : decode cX13_element 93 = .ok (.iload_n 3, 1) := dk_29 (dk_at dksX13_element_3 21 rfl rfl)
theorem dX13_element_94 : decode cX13_element 94 = .ok (.if_icmp .le 30, 3) := dk_164 0 30 (dk_at dksX13_element_4 0 rfl rfl)
theorem dX13_element_97 : decode cX13_element 97 = .ok (.aload_n 0, 1) := dk_42 (dk_at dksX13_element_4 3 rfl rfl)
theorem dX13_element_98 : decode cX13_element 98 = .ok (.getfield 32, 3) := dk_180 0 32 (dk_at dksX13_element_4 4 rfl rfl)
theorem dX13_element_101 : decode cX13_element 101 = .ok (.aload_n 0, 1) := dk_42 (dk_at dksX13_element_4 7 rfl rfl)
theorem dX13_element_102 : decode cX13_element 102 = .ok (.getfield 20, 3) := dk_180 0 20 (dk_at dksX13_element_4 8 rfl rfl)
theorem dX13_element_105 : decode cX13_element 105 = .ok (.aload_n 0, 1) := dk_42 (dk_at dksX13_element_4 11 rfl rfl)
theorem dX13_element_106 : decode cX13_element 106 = .ok (.getfield 138, 3) := dk_180 0 138 (dk_at dksX13_element_4 12 rfl rfl)
theorem dX13_element_109 : decode cX13_element 109 = .ok (.iconst 1, 1) := dk_4 (dk_at dksX13_element_4 15 rfl rfl)
theorem dX13_element_110 : decode cX13_element 110 = .ok (.isub, 1) := dk_100 (dk_at dksX13_element_4 16 rfl rfl)
theorem dX13_element_111 : decode cX13_element 111 = .ok (.iaload, 1) := dk_46 (dk_at dksX13_element_4 17 rfl rfl)
theorem dX13_element_112 : decode cX13_element 112 = .ok (.iload 5, 2) := dk_21 5 (dk_at dksX13_element_4 18 rfl rfl)
theorem dX13_element_114 : decode cX13_element 114 = .ok (.iload 4, 2) := dk_21 4 (dk_at dksX13_element_4 20 rfl rfl)
theorem dX13_element_116 : decode cX13_element 116 = .ok (.invokevirtual 224, 3) := dk_182 0 224 (dk_at dksX13_element_5 0 rfl rfl)
theorem dX13_element_119 : decode cX13_element 119 = .ok (.ifCond .lt 5, 3) := dk_155 0 5 (dk_at dksX13_element_5 3 rfl rfl)
theorem dX13_element_122 : decode cX13_element 122 = .ok (.iconst 0, 1) := dk_3 (dk_at dksX13_element_5 6 rfl rfl)
theorem dX13_element_123 : decode cX13_element 123 = .ok (.ireturn, 1) := dk_172 (dk_at dksX13_element_5 7 rfl rfl)
theorem dX13_element_124 : decode cX13_element 124 = .ok (.aload_n 0, 1) := dk_42 (dk_at dksX13_element_5 8 rfl rfl)
theorem dX13_element_125 : decode cX13_element 125 = .ok (.getfield 20, 3) := dk_180 0 20 (dk_at dksX13_element_5 9 rfl rfl)
theorem dX13_element_128 : decode cX13_element 128 = .ok (.aload_n 0, 1) := dk_42 (dk_at dksX13_element_5 12 rfl rfl)
theorem dX13_element_129 : decode cX13_element 129 = .ok (.getfield 138, 3) := dk_180 0 138 (dk_at dksX13_element_5 13 rfl rfl)
theorem dX13_element_132 : decode cX13_element 132 = .ok (.iload 5, 2) := dk_21 5 (dk_at dksX13_element_5 16 rfl rfl)
theorem dX13_element_134 : decode cX13_element 134 = .ok (.iastore, 1) := dk_79 (dk_at dksX13_element_5 18 rfl rfl)
theorem dX13_element_135 : decode cX13_element 135 = .ok (.aload_n 0, 1) := dk_42 (dk_at dksX13_element_5 19 rfl rfl)
theorem dX13_element_136 : decode cX13_element 136 = .ok (.getfield 20, 3) := dk_180 0 20 (dk_at dksX13_element_5 20 rfl rfl)
theorem dX13_element_139 : decode cX13_element 139 = .ok (.aload_n 0, 1) := dk_42 (dk_at dksX13_element_5 23 rfl rfl)
theorem dX13_element_140 : decode cX13_element 140 = .ok (.getfield 138, 3) := dk_180 0 138 (dk_at dksX13_element_6 0 rfl rfl)
theorem dX13_element_143 : decode cX13_element 143 = .ok (.sipush 9000, 3) := dk_17 35 40 (dk_at dksX13_element_6 3 rfl rfl)
theorem dX13_element_146 : decode cX13_element 146 = .ok (.iadd, 1) := dk_96 (dk_at dksX13_element_6 6 rfl rfl)
theorem dX13_element_147 : decode cX13_element 147 = .ok (.iload 6, 2) := dk_21 6 (dk_at dksX13_element_6 7 rfl rfl)
theorem dX13_element_149 : decode cX13_element 149 = .ok (.iastore, 1) := dk_79 (dk_at dksX13_element_6 9 rfl rfl)
theorem dX13_element_150 : decode cX13_element 150 = .ok (.aload_n 0, 1) := dk_42 (dk_at dksX13_element_6 10 rfl rfl)
theorem dX13_element_151 : decode cX13_element 151 = .ok (.dup, 1) := dk_89 (dk_at dksX13_element_6 11 rfl rfl)
theorem dX13_element_152 : decode cX13_element 152 = .ok (.getfield 138, 3) := dk_180 0 138 (dk_at dksX13_element_6 12 rfl rfl)
theorem dX13_element_155 : decode cX13_element 155 = .ok (.iconst 1, 1) := dk_4 (dk_at dksX13_element_6 15 rfl rfl)
theorem dX13_element_156 : decode cX13_element 156 = .ok (.iadd, 1) := dk_96 (dk_at dksX13_element_6 16 rfl rfl)
theorem dX13_element_157 : decode cX13_element 157 = .ok (.putfield 138, 3) := dk_181 0 138 (dk_at dksX13_element_6 17 rfl rfl)
theorem dX13_element_160 : decode cX13_element 160 = .ok (.iconst 1, 1) := dk_4 (dk_at dksX13_element_6 20 rfl rfl)
theorem dX13_element_161 : decode cX13_element 161 = .ok (.ireturn, 1) := dk_172 (dk_at dksX13_element_6 21 rfl rfl)
abbrev cX13_list : ByteArray := prog_7_method_24_code
def yX13_list : MethodName := ⟨RX13, "list", "(I)I"⟩
def dkwX13_list_1 : List UInt8 := [46, 28, 182, 0, 230, 61, 132, 3, 255, 167, 255, 233, 28, 172]
abbrev dktX13_list_1 : List UInt8 := dkwX13_list_1 ++ []
def dkwX13_list_0 : List UInt8 := [16, 10, 61, 42, 180, 0, 138, 4, 100, 62, 29, 27, 161, 0, 24, 42, 180, 0, 28, 42, 180, 0, 20, 29]
abbrev dktX13_list_0 : List UInt8 := dkwX13_list_0 ++ dktX13_list_1
theorem dksX13_list_0 : cX13_list.data.toList.drop 0 = dktX13_list_0 := by decide +kernel
theorem dksX13_list_1 : cX13_list.data.toList.drop 24 = dktX13_list_1 := dk_seg dksX13_list_0 24 rfl rfl
theorem dX13_list_0 : decode cX13_list 0 = .ok (.bipush 10, 2) := dk_16 10 (dk_at dksX13_list_0 0 rfl rfl)
theorem dX13_list_2 : decode cX13_list 2 = .ok (.istore_n 2, 1) := dk_61 (dk_at dksX13_list_0 2 rfl rfl)
theorem dX13_list_3 : decode cX13_list 3 = .ok (.aload_n 0, 1) := dk_42 (dk_at dksX13_list_0 3 rfl rfl)
theorem dX13_list_4 : decode cX13_list 4 = .ok (.getfield 138, 3) := dk_180 0 138 (dk_at dksX13_list_0 4 rfl rfl)
theorem dX13_list_7 : decode cX13_list 7 = .ok (.iconst 1, 1) := dk_4 (dk_at dksX13_list_0 7 rfl rfl)
theorem dX13_list_8 : decode cX13_list 8 = .ok (.isub, 1) := dk_100 (dk_at dksX13_list_0 8 rfl rfl)
theorem dX13_list_9 : decode cX13_list 9 = .ok (.istore_n 3, 1) := dk_62 (dk_at dksX13_list_0 9 rfl rfl)
theorem dX13_list_10 : decode cX13_list 10 = .ok (.iload_n 3, 1) := dk_29 (dk_at dksX13_list_0 10 rfl rfl)
theorem dX13_list_11 : decode cX13_list 11 = .ok (.iload_n 1, 1) := dk_27 (dk_at dksX13_list_0 11 rfl rfl)
theorem dX13_list_12 : decode cX13_list 12 = .ok (.if_icmp .lt 24, 3) := dk_161 0 24 (dk_at dksX13_list_0 12 rfl rfl)
theorem dX13_list_15 : decode cX13_list 15 = .ok (.aload_n 0, 1) := dk_42 (dk_at dksX13_list_0 15 rfl rfl)
theorem dX13_list_16 : decode cX13_list 16 = .ok (.getfield 28, 3) := dk_180 0 28 (dk_at dksX13_list_0 16 rfl rfl)
theorem dX13_list_19 : decode cX13_list 19 = .ok (.aload_n 0, 1) := dk_42 (dk_at dksX13_list_0 19 rfl rfl)
theorem dX13_list_20 : decode cX13_list 20 = .ok (.getfield 20, 3) := dk_180 0 20 (dk_at dksX13_list_0 20 rfl rfl)
theorem dX13_list_23 : decode cX13_list 23 = .ok (.iload_n 3, 1) := dk_29 (dk_at dksX13_list_0 23 rfl rfl)
theorem dX13_list_24 : decode cX13_list 24 = .ok (.iaload, 1) := dk_46 (dk_at dksX13_list_1 0 rfl rfl)
theorem dX13_list_25 : decode cX13_list 25 = .ok (.iload_n 2, 1) := dk_28 (dk_at dksX13_list_1 1 rfl rfl)
theorem dX13_list_26 : decode cX13_list 26 = .ok (.invokevirtual 230, 3) := dk_182 0 230 (dk_at dksX13_list_1 2 rfl rfl)
theorem dX13_list_29 : decode cX13_list 29 = .ok (.istore_n 2, 1) := dk_61 (dk_at dksX13_list_1 5 rfl rfl)
theorem dX13_list_30 : decode cX13_list 30 = .ok (.iinc 3 (-1), 3) := dk_132 3 255 (dk_at dksX13_list_1 6 rfl rfl)
theorem dX13_list_33 : decode cX13_list 33 = .ok (.goto (-23), 3) := dk_167 255 233 (dk_at dksX13_list_1 9 rfl rfl)
theorem dX13_list_36 : decode cX13_list 36 = .ok (.iload_n 2, 1) := dk_28 (dk_at dksX13_list_1 12 rfl rfl)
theorem dX13_list_37 : decode cX13_list 37 = .ok (.ireturn, 1) := dk_172 (dk_at dksX13_list_1 13 rfl rfl)
abbrev cX13_getNumber : ByteArray := prog_7_method_20_code
def yX13_getNumber : MethodName := ⟨RX13, "getNumber", "(I)I"⟩
def dkwX13_getNumber_10 : List UInt8 := [21, 5, 153, 0, 17, 42, 180, 0, 28, 42, 180, 0, 14, 182, 0, 203, 167, 0, 4, 3, 172]
abbrev dktX13_getNumber_10 : List UInt8 := dkwX13_getNumber_10 ++ []
def dkwX13_getNumber_9 : List UInt8 := [182, 0, 116, 16, 63, 163, 0, 7, 4, 167, 0, 4, 3, 54, 5, 42, 180, 0, 14, 29, 181, 0, 123]
abbrev dktX13_getNumber_9 : List UInt8 := dkwX13_getNumber_9 ++ dktX13_getNumber_10
def dkwX13_getNumber_8 : List UInt8 := [159, 0, 30, 27, 16, 8, 159, 0, 24, 29, 154, 0, 24, 27, 6, 159, 0, 15, 42, 180, 0, 14]
abbrev dktX13_getNumber_8 : List UInt8 := dkwX13_getNumber_8 ++ dktX13_getNumber_9
def dkwX13_getNumber_7 : List UInt8 := [180, 0, 14, 182, 0, 199, 154, 0, 7, 4, 167, 0, 4, 3, 54, 5, 21, 5, 153, 0, 39, 27, 5]
abbrev dktX13_getNumber_7 : List UInt8 := dkwX13_getNumber_7 ++ dktX13_getNumber_8
def dkwX13_getNumber_6 : List UInt8 := [17, 0, 128, 162, 0, 34, 42, 180, 0, 14, 182, 0, 116, 17, 4, 0, 163, 0, 21, 29, 153, 0, 13, 42]
abbrev dktX13_getNumber_6 : List UInt8 := dkwX13_getNumber_6 ++ dktX13_getNumber_7
def dkwX13_getNumber_5 : List UInt8 := [167, 255, 207, 42, 89, 180, 0, 130, 4, 96, 181, 0, 130, 42, 180, 0, 14, 16, 80, 182, 0, 196, 28]
abbrev dktX13_getNumber_5 : List UInt8 := dkwX13_getNumber_5 ++ dktX13_getNumber_6
def dkwX13_getNumber_4 : List UInt8 := [182, 0, 144, 61, 28, 157, 0, 5, 3, 172, 42, 21, 4, 28, 16, 127, 126, 182, 0, 193, 132, 4, 7]
abbrev dktX13_getNumber_4 : List UInt8 := dkwX13_getNumber_4 ++ dktX13_getNumber_5
def dkwX13_getNumber_3 : List UInt8 := [164, 0, 49, 21, 4, 17, 4, 0, 163, 0, 41, 42, 89, 180, 0, 130, 4, 96, 181, 0, 130, 42, 3]
abbrev dktX13_getNumber_3 : List UInt8 := dkwX13_getNumber_3 ++ dktX13_getNumber_4
def dkwX13_getNumber_2 : List UInt8 := [4, 167, 0, 4, 3, 62, 16, 6, 54, 4, 42, 3, 28, 16, 63, 126, 182, 0, 193, 28, 16, 127]
abbrev dktX13_getNumber_2 : List UInt8 := dkwX13_getNumber_2 ++ dktX13_getNumber_3
def dkwX13_getNumber_1 : List UInt8 := [182, 0, 144, 61, 28, 156, 0, 5, 3, 172, 42, 180, 0, 14, 182, 0, 190, 28, 16, 64, 126, 153, 0, 7]
abbrev dktX13_getNumber_1 : List UInt8 := dkwX13_getNumber_1 ++ dktX13_getNumber_2
def dkwX13_getNumber_0 : List UInt8 := [42, 3, 182, 0, 144, 153, 0, 5, 3, 172, 42, 89, 180, 0, 130, 4, 96, 181, 0, 130, 42, 3]
abbrev dktX13_getNumber_0 : List UInt8 := dkwX13_getNumber_0 ++ dktX13_getNumber_1
theorem dksX13_getNumber_0 : cX13_getNumber.data.toList.drop 0 = dktX13_getNumber_0 := by decide +kernel
theorem dksX13_getNumber_1 : cX13_getNumber.data.toList.drop 22 = dktX13_getNumber_1 := dk_seg dksX13_getNumber_0 22 rfl rfl
theorem dksX13_getNumber_2 : cX13_getNumber.data.toList.drop 46 = dktX13_getNumber_2 := dk_seg dksX13_getNumber_1 24 rfl rfl
theorem dksX13_getNumber_3 : cX13_getNumber.data.toList.drop 68 = dktX13_getNumber_3 := dk_seg dksX13_getNumber_2 22 rfl rfl
theorem dksX13_getNumber_4 : cX13_getNumber.data.toList.drop 91 = dktX13_getNumber_4 := dk_seg dksX13_getNumber_3 23 rfl rfl
theorem dksX13_getNumber_5 : cX13_getNumber.data.toList.drop 114 = dktX13_getNumber_5 := dk_seg dksX13_getNumber_4 23 rfl rfl
theorem dksX13_getNumber_6 : cX13_getNumber.data.toList.drop 137 = dktX13_getNumber_6 := dk_seg dksX13_getNumber_5 23 rfl rfl
theorem dksX13_getNumber_7 : cX13_getNumber.data.toList.drop 161 = dktX13_getNumber_7 := dk_seg dksX13_getNumber_6 24 rfl rfl
theorem dksX13_getNumber_8 : cX13_getNumber.data.toList.drop 184 = dktX13_getNumber_8 := dk_seg dksX13_getNumber_7 23 rfl rfl
theorem dksX13_getNumber_9 : cX13_getNumber.data.toList.drop 206 = dktX13_getNumber_9 := dk_seg dksX13_getNumber_8 22 rfl rfl
theorem dksX13_getNumber_10 : cX13_getNumber.data.toList.drop 229 = dktX13_getNumber_10 := dk_seg dksX13_getNumber_9 23 rfl rfl
theorem dX13_getNumber_0 : decode cX13_getNumber 0 = .ok (.aload_n 0, 1) := dk_42 (dk_at dksX13_getNumber_0 0 rfl rfl)
theorem dX13_getNumber_1 : decode cX13_getNumber 1 = .ok (.iconst 0, 1) := dk_3 (dk_at dksX13_getNumber_0 1 rfl rfl)
theorem dX13_getNumber_2 : decode cX13_getNumber 2 = .ok (.invokevirtual 144, 3) := dk_182 0 144 (dk_at dksX13_getNumber_0 2 rfl rfl)
theorem dX13_getNumber_5 : decode cX13_getNumber 5 = .ok (.ifCond .eq 5, 3) := dk_153 0 5 (dk_at dksX13_getNumber_0 5 rfl rfl)
theorem dX13_getNumber_8 : decode cX13_getNumber 8 = .ok (.iconst 0, 1) := dk_3 (dk_at dksX13_getNumber_0 8 rfl rfl)
theorem dX13_getNumber_9 : decode cX13_getNumber 9 = .ok (.ireturn, 1) := dk_172 (dk_at dksX13_getNumber_0 9 rfl rfl)
theorem dX13_getNumber_10 : decode cX13_getNumber 10 = .ok (.aload_n 0, 1) := dk_42 (dk_at dksX13_getNumber_0 10 rfl rfl)
theorem dX13_getNumber_11 : decode cX13_getNumber 11 = .ok (.dup, 1) := dk_89 (dk_at dksX13_getNumber_0 11 rfl rfl)
theorem dX13_getNumber_12 : decode cX13_getNumber 12 = .ok (.getfield 130, 3) := dk_180 0 130 (dk_at dksX13_getNumber_0 12 rfl rfl)
theorem dX13_getNumber_15 : decode cX13_getNumber 15 = .ok (.iconst 1, 1) := dk_4 (dk_at dksX13_getNumber_0 15 rfl rfl)
theorem dX13_getNumber_16 : decode cX13_getNumber 16 = .ok (.iadd, 1) := dk_96 (dk_at dksX13_getNumber_0 16 rfl rfl)
theorem dX13_getNumber_17 : decode cX13_getNumber 17 = .ok (.putfield 130, 3) := dk_181 0 130 (dk_at dksX13_getNumber_0 17 rfl rfl)
theorem dX13_getNumber_20 : decode cX13_getNumber 20 = .ok (.aload_n 0, 1) := dk_42 (dk_at dksX13_getNumber_0 20 rfl rfl)
theorem dX13_getNumber_21 : decode cX13_getNumber 21 = .ok (.iconst 0, 1) := dk_3 (dk_at dksX13_getNumber_0 21 rfl rfl)
theorem dX13_getNumber_22 : decode cX13_getNumber 22 = .ok (.invokevirtual 144, 3) := dk_182 0 144 (dk_at dksX13_getNumber_1 0 rfl rfl)
theorem dX13_getNumber_25 : decode cX13_getNumber 25 = .ok (.istore_n 2, 1) := dk_61 (dk_at dksX13_getNumber_1 3 rfl rfl)
theorem dX13_getNumber_26 : decode cX13_getNumber 26 = .ok (.iload_n 2, 1) := dk_28 (dk_at dksX13_getNumber_1 4 rfl rfl)
theorem dX13_getNumber_27 : decode cX13_getNumber 27 = .ok (.ifCond .ge 5, 3) := dk_156 0 5 (dk_at dksX13_getNumber_1 5 rfl rfl)
theorem dX13_getNumber_30 : decode cX13_getNumber 30 = .ok (.iconst 0, 1) := dk_3 (dk_at dksX13_getNumber_1 8 rfl rfl)
theorem dX13_getNumber_31 : decode cX13_getNumber 31 = .ok (.ireturn, 1) := dk_172 (dk_at dksX13_getNumber_1 9 rfl rfl)
theorem dX13_getNumber_32 : decode cX13_getNumber 32 = .ok (.aload_n 0, 1) := dk_42 (dk_at dksX13_getNumber_1 10 rfl rfl)
theorem dX13_getNumber_33 : decode cX13_getNumber 33 = .ok (.getfield 14, 3) := dk_180 0 14 (dk_at dksX13_getNumber_1 11 rfl rfl)
theorem dX13_getNumber_36 : decode cX13_getNumber 36 = .ok (.invokevirtual 190, 3) := dk_182 0 190 (dk_at dksX13_getNumber_1 14 rfl rfl)
theorem dX13_getNumber_39 : decode cX13_getNumber 39 = .ok (.iload_n 2, 1) := dk_28 (dk_at dksX13_getNumber_1 17 rfl rfl)
theorem dX13_getNumber_40 : decode cX13_getNumber 40 = .ok (.bipush 64, 2) := dk_16 64 (dk_at dksX13_getNumber_1 18 rfl rfl)
theorem dX13_getNumber_42 : decode cX13_getNumber 42 = .ok (.iand, 1) := dk_126 (dk_at dksX13_getNumber_1 20 rfl rfl)
theorem dX13_getNumber_43 : decode cX13_getNumber 43 = .ok (.ifCond .eq 7, 3) := dk_153 0 7 (dk_at dksX13_getNumber_1 21 rfl rfl)
theorem dX13_getNumber_46 : decode cX13_getNumber 46 = .ok (.iconst 1, 1) := dk_4 (dk_at dksX13_getNumber_2 0 rfl rfl)
theorem dX13_getNumber_47 : decode cX13_getNumber 47 = .ok (.goto 4, 3) := dk_167 0 4 (dk_at dksX13_getNumber_2 1 rfl rfl)
theorem dX13_getNumber_50 : decode cX13_getNumber 50 = .ok (.iconst 0, 1) := dk_3 (dk_at dksX13_getNumber_2 4 rfl rfl)
theorem dX13_getNumber_51 : decode cX13_getNumber 51 = .ok (.istore_n 3, 1) := dk_62 (dk_at dksX13_getNumber_2 5 rfl rfl)
theorem dX13_getNumber_52 : decode cX13_getNumber 52 = .ok (.bipush 6, 2) := dk_16 6 (dk_at dksX13_getNumber_2 6 rfl rfl)
theorem dX13_getNumber_54 : decode cX13_getNumber 54 = .ok (.istore 4, 2) := dk_54 4 (dk_at dksX13_getNumber_2 8 rfl rfl)
theorem dX13_getNumber_56 : decode cX13_getNumber 56 = .ok (.aload_n 0, 1) := dk_42 (dk_at dksX13_getNumber_2 10 rfl rfl)
theorem dX13_getNumber_57 : decode cX13_getNumber 57 = .ok (.iconst 0, 1) := dk_3 (dk_at dksX13_getNumber_2 11 rfl rfl)
theorem dX13_getNumber_58 : decode cX13_getNumber 58 = .ok (.iload_n 2, 1) := dk_28 (dk_at dksX13_getNumber_2 12 rfl rfl)
theorem dX13_getNumber_59 : decode cX13_getNumber 59 = .ok (.bipush 63, 2) := dk_16 63 (dk_at dksX13_getNumber_2 13 rfl rfl)
theorem dX13_getNumber_61 : decode cX13_getNumber 61 = .ok (.iand, 1) := dk_126 (dk_at dksX13_getNumber_2 15 rfl rfl)
theorem dX13_getNumber_62 : decode cX13_getNumber 62 = .ok (.invokevirtual 193, 3) := dk_182 0 193 (dk_at dksX13_getNumber_2 16 rfl rfl)
theorem dX13_getNumber_65 : decode cX13_getNumber 65 = .ok (.iload_n 2, 1) := dk_28 (dk_at dksX13_getNumber_2 19 rfl rfl)
theorem dX13_getNumber_66 : decode cX13_getNumber 66 = .ok (.bipush 127, 2) := dk_16 127 (dk_at dksX13_getNumber_2 20 rfl rfl)
theorem dX13_getNumber_68 : decode cX13_getNumber 68 = .ok (.if_icmp .le 49, 3) := dk_164 0 49 (dk_at dksX13_getNumber_3 0 rfl rfl)
theorem dX13_getNumber_71 : decode cX13_getNumber 71 = .ok (.iload 4, 2) := dk_21 4 (dk_at dksX13_getNumber_3 3 rfl rfl)
theorem dX13_getNumber_73 : decode cX13_getNumber 73 = .ok (.sipush 1024, 3) := dk_17 4 0 (dk_at dksX13_getNumber_3 5 rfl rfl)
theorem dX13_getNumber_76 : decode cX13_getNumber 76 = .ok (.if_icmp .gt 41, 3) := dk_163 0 41 (dk_at dksX13_getNumber_3 8 rfl rfl)
theorem dX13_getNumber_79 : decode cX13_getNumber 79 = .ok (.aload_n 0, 1) := dk_42 (dk_at dksX13_getNumber_3 11 rfl rfl)
theorem dX13_getNumber_80 : decode cX13_getNumber 80 = .ok (.dup, 1) := dk_89 (dk_at dksX13_getNumber_3 12 rfl rfl)
theorem dX13_getNumber_81 : decode cX13_getNumber 81 = .ok (.getfield 130, 3) := dk_180 0 130 (dk_at dksX13_getNumber_3 13 rfl rfl)
theorem dX13_getNumber_84 : decode cX13_getNumber 84 = .ok (.iconst 1, 1) := dk_4 (dk_at dksX13_getNumber_3 16 rfl rfl)
theorem dX13_getNumber_85 : decode cX13_getNumber 85 = .ok (.iadd, 1) := dk_96 (dk_at dksX13_getNumber_3 17 rfl rfl)
theorem dX13_getNumber_86 : decode cX13_getNumber 86 = .ok (.putfield 130, 3) := dk_181 0 130 (dk_at dksX13_getNumber_3 18 rfl rfl)
theorem dX13_getNumber_89 : decode cX13_getNumber 89 = .ok (.aload_n 0, 1) := dk_42 (dk_at dksX13_getNumber_3 21 rfl rfl)
theorem dX13_getNumber_90 : decode cX13_getNumber 90 = .ok (.iconst 0, 1) := dk_3 (dk_at dksX13_getNumber_3 22 rfl rfl)
theorem dX13_getNumber_91 : decode cX13_getNumber 91 = .ok (.invokevirtual 144, 3) := dk_182 0 144 (dk_at dksX13_getNumber_4 0 rfl rfl)
theorem dX13_getNumber_94 : decode cX13_getNumber 94 = .ok (.istore_n 2, 1) := dk_61 (dk_at dksX13_getNumber_4 3 rfl rfl)
theorem dX13_getNumber_95 : decode cX13_getNumber 95 = .ok (.iload_n 2, 1) := dk_28 (dk_at dksX13_getNumber_4 4 rfl rfl)
theorem dX13_getNumber_96 : decode cX13_getNumber 96 = .ok (.ifCond .gt 5, 3) := dk_157 0 5 (dk_at dksX13_getNumber_4 5 rfl rfl)
theorem dX13_getNumber_99 : decode cX13_getNumber 99 = .ok (.iconst 0, 1) := dk_3 (dk_at dksX13_getNumber_4 8 rfl rfl)
theorem dX13_getNumber_100 : decode cX13_getNumber 100 = .ok (.ireturn, 1) := dk_172 (dk_at dksX13_getNumber_4 9 rfl rfl)
theorem dX13_getNumber_101 : decode cX13_getNumber 101 = .ok (.aload_n 0, 1) := dk_42 (dk_at dksX13_getNumber_4 10 rfl rfl)
theorem dX13_getNumber_102 : decode cX13_getNumber 102 = .ok (.iload 4, 2) := dk_21 4 (dk_at dksX13_getNumber_4 11 rfl rfl)
theorem dX13_getNumber_104 : decode cX13_getNumber 104 = .ok (.iload_n 2, 1) := dk_28 (dk_at dksX13_getNumber_4 13 rfl rfl)
theorem dX13_getNumber_105 : decode cX13_getNumber 105 = .ok (.bipush 127, 2) := dk_16 127 (dk_at dksX13_getNumber_4 14 rfl rfl)
theorem dX13_getNumber_107 : decode cX13_getNumber 107 = .ok (.iand, 1) := dk_126 (dk_at dksX13_getNumber_4 16 rfl rfl)
theorem dX13_getNumber_108 : decode cX13_getNumber 108 = .ok (.invokevirtual 193, 3) := dk_182 0 193 (dk_at dksX13_getNumber_4 17 rfl rfl)
theorem dX13_getNumber_111 : decode cX13_getNumber 111 = .ok (.iinc 4 7, 3) := dk_132 4 7 (dk_at dksX13_getNumber_4 20 rfl rfl)
theorem dX13_getNumber_114 : decode cX13_getNumber 114 = .ok (.goto (-49), 3) := dk_167 255 207 (dk_at dksX13_getNumber_5 0 rfl rfl)
theorem dX13_getNumber_117 : decode cX13_getNumber 117 = .ok (.aload_n 0, 1) := dk_42 (dk_at dksX13_getNumber_5 3 rfl rfl)
theorem dX13_getNumber_118 : decode cX13_getNumber 118 = .ok (.dup, 1) := dk_89 (dk_at dksX13_getNumber_5 4 rfl rfl)
theorem dX13_getNumber_119 : decode cX13_getNumber 119 = .ok (.getfield 130, 3) := dk_180 0 130 (dk_at dksX13_getNumber_5 5 rfl rfl)
theorem dX13_getNumber_122 : decode cX13_getNumber 122 = .ok (.iconst 1, 1) := dk_4 (dk_at dksX13_getNumber_5 8 rfl rfl)
theorem dX13_getNumber_123 : decode cX13_getNumber 123 = .ok (.iadd, 1) := dk_96 (dk_at dksX13_getNumber_5 9 rfl rfl)
theorem dX13_getNumber_124 : decode cX13_getNumber 124 = .ok (.putfield 130, 3) := dk_181 0 130 (dk_at dksX13_getNumber_5 10 rfl rfl)
theorem dX13_getNumber_127 : decode cX13_getNumber 127 = .ok (.aload_n 0, 1) := dk_42 (dk_at dksX13_getNumber_5 13 rfl rfl)
theorem dX13_getNumber_128 : decode cX13_getNumber 128 = .ok (.getfield 14, 3) := dk_180 0 14 (dk_at dksX13_getNumber_5 14 rfl rfl)
theorem dX13_getNumber_131 : decode cX13_getNumber 131 = .ok (.bipush 80, 2) := dk_16 80 (dk_at dksX13_getNumber_5 17 rfl rfl)
theorem dX13_getNumber_133 : decode cX13_getNumber 133 = .ok (.invokevirtual 196, 3) := dk_182 0 196 (dk_at dksX13_getNumber_5 19 rfl rfl)
theorem dX13_getNumber_136 : decode cX13_getNumber 136 = .ok (.iload_n 2, 1) := dk_28 (dk_at dksX13_getNumber_5 22 rfl rfl)
theorem dX13_getNumber_137 : decode cX13_getNumber 137 = .ok (.sipush 128, 3) := dk_17 0 128 (dk_at dksX13_getNumber_6 0 rfl rfl)
theorem dX13_getNumber_140 : decode cX13_getNumber 140 = .ok (.if_icmp .ge 34, 3) := dk_162 0 34 (dk_at dksX13_getNumber_6 3 rfl rfl)
theorem dX13_getNumber_143 : decode cX13_getNumber 143 = .ok (.aload_n 0, 1) := dk_42 (dk_at dksX13_getNumber_6 6 rfl rfl)
theorem dX13_getNumber_144 : decode cX13_getNumber 144 = .ok (.getfield 14, 3) := dk_180 0 14 (dk_at dksX13_getNumber_6 7 rfl rfl)
theorem dX13_getNumber_147 : decode cX13_getNumber 147 = .ok (.invokevirtual 116, 3) := dk_182 0 116 (dk_at dksX13_getNumber_6 10 rfl rfl)
theorem dX13_getNumber_150 : decode cX13_getNumber 150 = .ok (.sipush 1024, 3) := dk_17 4 0 (dk_at dksX13_getNumber_6 13 rfl rfl)
theorem dX13_getNumber_153 : decode cX13_getNumber 153 = .ok (.if_icmp .gt 21, 3) := dk_163 0 21 (dk_at dksX13_getNumber_6 16 rfl rfl)
theorem dX13_getNumber_156 : decode cX13_getNumber 156 = .ok (.iload_n 3, 1) := dk_29 (dk_at dksX13_getNumber_6 19 rfl rfl)
theorem dX13_getNumber_157 : decode cX13_getNumber 157 = .ok (.ifCond .eq 13, 3) := dk_153 0 13 (dk_at dksX13_getNumber_6 20 rfl rfl)
theorem dX13_getNumber_160 : decode cX13_getNumber 160 = .ok (.aload_n 0, 1) := dk_42 (dk_at dksX13_getNumber_6 23 rfl rfl)
theorem dX13_getNumber_161 : decode cX13_getNumber 161 = .ok (.getfield 14, 3) := dk_180 0 14 (dk_at dksX13_getNumber_7 0 rfl rfl)
theorem dX13_getNumber_164 : decode cX13_getNumber 164 = .ok (.invokevirtual 199, 3) := dk_182 0 199 (dk_at dksX13_getNumber_7 3 rfl rfl)
theorem dX13_getNumber_167 : decode cX13_getNumber 167 = .ok (.ifCond .ne 7, 3) := dk_154 0 7 (dk_at dksX13_getNumber_7 6 rfl rfl)
theorem dX13_getNumber_170 : decode cX13_getNumber 170 = .ok (.iconst 1, 1) := dk_4 (dk_at dksX13_getNumber_7 9 rfl rfl)
theorem dX13_getNumber_171 : decode cX13_getNumber 171 = .ok (.goto 4, 3) := dk_167 0 4 (dk_at dksX13_getNumber_7 10 rfl rfl)
theorem dX13_getNumber_174 : decode cX13_getNumber 174 = .ok (.iconst 0, 1) := dk_3 (dk_at dksX13_getNumber_7 13 rfl rfl)
theorem dX13_getNumber_175 : decode cX13_getNumber 175 = .ok (.istore 5, 2) := dk_54 5 (dk_at dksX13_getNumber_7 14 rfl rfl)
theorem dX13_getNumber_177 : decode cX13_getNumber 177 = .ok (.iload 5, 2) := dk_21 5 (dk_at dksX13_getNumber_7 16 rfl rfl)
theorem dX13_getNumber_179 : decode cX13_getNumber 179 = .ok (.ifCond .eq 39, 3) := dk_153 0 39 (dk_at dksX13_getNumber_7 18 rfl rfl)
theorem dX13_getNumber_182 : decode cX13_getNumber 182 = .ok (.iload_n 1, 1) := dk_27 (dk_at dksX13_getNumber_7 21 rfl rfl)
theorem dX13_getNumber_183 : decode cX13_getNumber 183 = .ok (.iconst 2, 1) := dk_5 (dk_at dksX13_getNumber_7 22 rfl rfl)
theorem dX13_getNumber_184 : decode cX13_getNumber 184 = .ok (.if_icmp .eq 30, 3) := dk_159 0 30 (dk_at dksX13_getNumber_8 0 rfl rfl)
theorem dX13_getNumber_187 : decode cX13_getNumber 187 = .ok (.iload_n 1, 1) := dk_27 (dk_at dksX13_getNumber_8 3 rfl rfl)
theorem dX13_getNumber_188 : decode cX13_getNumber 188 = .ok (.bipush 8, 2) := dk_16 8 (dk_at dksX13_getNumber_8 4 rfl rfl)
theorem dX13_getNumber_190 : decode cX13_getNumber 190 = .ok (.if_icmp .eq 24, 3) := dk_159 0 24 (dk_at dksX13_getNumber_8 6 rfl rfl)
theorem dX13_getNumber_193 : decode cX13_getNumber 193 = .ok (.iload_n 3, 1) := dk_29 (dk_at dksX13_getNumber_8 9 rfl rfl)
theorem dX13_getNumber_194 : decode cX13_getNumber 194 = .ok (.ifCond .ne 24, 3) := dk_154 0 24 (dk_at dksX13_getNumber_8 10 rfl rfl)
theorem dX13_getNumber_197 : decode cX13_getNumber 197 = .ok (.iload_n 1, 1) := dk_27 (dk_at dksX13_getNumber_8 13 rfl rfl)
theorem dX13_getNumber_198 : decode cX13_getNumber 198 = .ok (.iconst 3, 1) := dk_6 (dk_at dksX13_getNumber_8 14 rfl rfl)
theorem dX13_getNumber_199 : decode cX13_getNumber 199 = .ok (.if_icmp .eq 15, 3) := dk_159 0 15 (dk_at dksX13_getNumber_8 15 rfl rfl)
theorem dX13_getNumber_202 : decode cX13_getNumber 202 = .ok (.aload_n 0, 1) := dk_42 (dk_at dksX13_getNumber_8 18 rfl rfl)
theorem dX13_getNumber_203 : decode cX13_getNumber 203 = .ok (.getfield 14, 3) := dk_180 0 14 (dk_at dksX13_getNumber_8 19 rfl rfl)
theorem dX13_getNumber_206 : decode cX13_getNumber 206 = .ok (.invokevirtual 116, 3) := dk_182 0 116 (dk_at dksX13_getNumber_9 0 rfl rfl)
theorem dX13_getNumber_209 : decode cX13_getNumber 209 = .ok (.bipush 63, 2) := dk_16 63 (dk_at dksX13_getNumber_9 3 rfl rfl)
theorem dX13_getNumber_211 : decode cX13_getNumber 211 = .ok (.if_icmp .gt 7, 3) := dk_163 0 7 (dk_at dksX13_getNumber_9 5 rfl rfl)
theorem dX13_getNumber_214 : decode cX13_getNumber 214 = .ok (.iconst 1, 1) := dk_4 (dk_at dksX13_getNumber_9 8 rfl rfl)
theorem dX13_getNumber_215 : decode cX13_getNumber 215 = .ok (.goto 4, 3) := dk_167 0 4 (dk_at dksX13_getNumber_9 9 rfl rfl)
theorem dX13_getNumber_218 : decode cX13_getNumber 218 = .ok (.iconst 0, 1) := dk_3 (dk_at dksX13_getNumber_9 12 rfl rfl)
theorem dX13_getNumber_219 : decode cX13_getNumber 219 = .ok (.istore 5, 2) := dk_54 5 (dk_at dksX13_getNumber_9 13 rfl rfl)
theorem dX13_getNumber_221 : decode cX13_getNumber 221 = .ok (.aload_n 0, 1) := dk_42 (dk_at dksX13_getNumber_9 15 rfl rfl)
theorem dX13_getNumber_222 : decode cX13_getNumber 222 = .ok (.getfield 14, 3) := dk_180 0 14 (dk_at dksX13_getNumber_9 16 rfl rfl)
theorem dX13_getNumber_225 : decode cX13_getNumber 225 = .ok (.iload_n 3, 1) := dk_29 (dk_at dksX13_getNumber_9 19 rfl rfl)
theorem dX13_getNumber_226 : decode cX13_getNumber 226 = .ok (.putfield 123, 3) := dk_181 0 123 (dk_at dksX13_getNumber_9 20 rfl rfl)
theorem dX13_getNumber_229 : decode cX13_getNumber 229 = .ok (.iload 5, 2) := dk_21 5 (dk_at dksX13_getNumber_10 0 rfl rfl)
theorem dX13_getNumber_231 : decode cX13_getNumber 231 = .ok (.ifCond .eq 17, 3) := dk_153 0 17 (dk_at dksX13_getNumber_10 2 rfl rfl)
theorem dX13_getNumber_234 : decode cX13_getNumber 234 = .ok (.aload_n 0, 1) := dk_42 (dk_at dksX13_getNumber_10 5 rfl rfl)
theorem dX13_getNumber_235 : decode cX13_getNumber 235 = .ok (.getfield 28, 3) := dk_180 0 28 (dk_at dksX13_getNumber_10 6 rfl rfl)
theorem dX13_getNumber_238 : decode cX13_getNumber 238 = .ok (.aload_n 0, 1) := dk_42 (dk_at dksX13_getNumber_10 9 rfl rfl)
theorem dX13_getNumber_239 : decode cX13_getNumber 239 = .ok (.getfield 14, 3) := dk_180 0 14 (dk_at dksX13_getNumber_10 10 rfl rfl)
theorem dX13_getNumber_242 : decode cX13_getNumber 242 = .ok (.invokevirtual 203, 3) := dk_182 0 203 (dk_at dksX13_getNumber_10 13 rfl rfl)
theorem dX13_getNumber_245 : decode cX13_getNumber 245 = .ok (.goto 4, 3) := dk_167 0 4 (dk_at dksX13_getNumber_10 16 rfl rfl)
theorem dX13_getNumber_248 : decode cX13_getNumber 248 = .ok (.iconst 0, 1) := dk_3 (dk_at dksX13_getNumber_10 19 rfl rfl)
theorem dX13_getNumber_249 : decode cX13_getNumber 249 = .ok (.ireturn, 1) := dk_172 (dk_at dksX13_getNumber_10 20 rfl rfl)
abbrev cX13_addBits : ByteArray := prog_7_method_21_code
def yX13_addBits : MethodName := ⟨RX13, "addBits", "(II)V"⟩
def dkwX13_addBits_3 : List UInt8 := [122, 128, 79, 177]
abbrev dktX13_addBits_3 : List UInt8 := dkwX13_addBits_3 ++ []
def dkwX13_addBits_2 : List UInt8 := [46, 29, 18, 210, 126, 128, 79, 42, 180, 0, 14, 180, 0, 207, 27, 7, 122, 4, 96, 92, 46, 29, 16, 16]
abbrev dktX13_addBits_2 : List UInt8 := dkwX13_addBits_2 ++ dktX13_addBits_3
def dkwX13_addBits_1 : List UInt8 := [132, 3, 1, 167, 255, 237, 28, 27, 16, 15, 126, 120, 62, 42, 180, 0, 14, 180, 0, 207, 27, 7, 122, 92]
abbrev dktX13_addBits_1 : List UInt8 := dkwX13_addBits_1 ++ dktX13_addBits_2
def dkwX13_addBits_0 : List UInt8 := [27, 154, 0, 27, 3, 62, 29, 16, 80, 162, 0, 19, 42, 180, 0, 14, 180, 0, 207, 29, 3, 79]
abbrev dktX13_addBits_0 : List UInt8 := dkwX13_addBits_0 ++ dktX13_addBits_1
theorem dksX13_addBits_0 : cX13_addBits.data.toList.drop 0 = dktX13_addBits_0 := by decide +kernel
theorem dksX13_addBits_1 : cX13_addBits.data.toList.drop 22 = dktX13_addBits_1 := dk_seg dksX13_addBits_0 22 rfl rfl
theorem dksX13_addBits_2 : cX13_addBits.data.toList.drop 46 = dktX13_addBits_2 := dk_seg dksX13_addBits_1 24 rfl rfl
theorem dksX13_addBits_3 : cX13_addBits.data.toList.drop 70 = dktX13_addBits_3 := dk_seg dksX13_addBits_2 24 rfl rfl
theorem dX13_addBits_0 : decode cX13_addBits 0 = .ok (.iload_n 1, 1) := dk_27 (dk_at dksX13_addBits_0 0 rfl rfl)
theorem dX13_addBits_1 : decode cX13_addBits 1 = .ok (.ifCond .ne 27, 3) := dk_154 0 27 (dk_at dksX13_addBits_0 1 rfl rfl)
theorem dX13_addBits_4 : decode cX13_addBits 4 = .ok (.iconst 0, 1) := dk_3 (dk_at dksX13_addBits_0 4 rfl rfl)
theorem dX13_addBits_5 : decode cX13_addBits 5 = .ok (.istore_n 3, 1) := dk_62 (dk_at dksX13_addBits_0 5 rfl rfl)
theorem dX13_addBits_6 : decode cX13_addBits 6 = .ok (.iload_n 3, 1) := dk_29 (dk_at dksX13_addBits_0 6 rfl rfl)
theorem dX13_addBits_7 : decode cX13_addBits 7 = .ok (.bipush 80, 2) := dk_16 80 (dk_at dksX13_addBits_0 7 rfl rfl)
theorem dX13_addBits_9 : decode cX13_addBits 9 = .ok (.if_icmp .ge 19, 3) := dk_162 0 19 (dk_at dksX13_addBits_0 9 rfl rfl)
theorem dX13_addBits_12 : decode cX13_addBits 12 = .ok (.aload_n 0, 1) := dk_42 (dk_at dksX13_addBits_0 12 rfl rfl)
theorem dX13_addBits_13 : decode cX13_addBits 13 = .ok (.getfield 14, 3) := dk_180 0 14 (dk_at dksX13_addBits_0 13 rfl rfl)
theorem dX13_addBits_16 : decode cX13_addBits 16 = .ok (.getfield 207, 3) := dk_180 0 207 (dk_at dksX13_addBits_0 16 rfl rfl)
theorem dX13_addBits_19 : decode cX13_addBits 19 = .ok (.iload_n 3, 1) := dk_29 (dk_at dksX13_addBits_0 19 rfl rfl)
theorem dX13_addBits_20 : decode cX13_addBits 20 = .ok (.iconst 0, 1) := dk_3 (dk_at dksX13_addBits_0 20 rfl rfl)
theorem dX13_addBits_21 : decode cX13_addBits 21 = .ok (.iastore, 1) := dk_79 (dk_at dksX13_addBits_0 21 rfl rfl)
theorem dX13_addBits_22 : decode cX13_addBits 22 = .ok (.iinc 3 1, 3) := dk_132 3 1 (dk_at dksX13_addBits_1 0 rfl rfl)
theorem dX13_addBits_25 : decode cX13_addBits 25 = .ok (.goto (-19), 3) := dk_167 255 237 (dk_at dksX13_addBits_1 3 rfl rfl)
theorem dX13_addBits_28 : decode cX13_addBits 28 = .ok (.iload_n 2, 1) := dk_28 (dk_at dksX13_addBits_1 6 rfl rfl)
theorem dX13_addBits_29 : decode cX13_addBits 29 = .ok (.iload_n 1, 1) := dk_27 (dk_at dksX13_addBits_1 7 rfl rfl)
theorem dX13_addBits_30 : decode cX13_addBits 30 = .ok (.bipush 15, 2) := dk_16 15 (dk_at dksX13_addBits_1 8 rfl rfl)
theorem dX13_addBits_32 : decode cX13_addBits 32 = .ok (.iand, 1) := dk_126 (dk_at dksX13_addBits_1 10 rfl rfl)
theorem dX13_addBits_33 : decode cX13_addBits 33 = .ok (.ishl, 1) := dk_120 (dk_at dksX13_addBits_1 11 rfl rfl)
theorem dX13_addBits_34 : decode cX13_addBits 34 = .ok (.istore_n 3, 1) := dk_62 (dk_at dksX13_addBits_1 12 rfl rfl)
theorem dX13_addBits_35 : decode cX13_addBits 35 = .ok (.aload_n 0, 1) := dk_42 (dk_at dksX13_addBits_1 13 rfl rfl)
theorem dX13_addBits_36 : decode cX13_addBits 36 = .ok (.getfield 14, 3) := dk_180 0 14 (dk_at dksX13_addBits_1 14 rfl rfl)
theorem dX13_addBits_39 : decode cX13_addBits 39 = .ok (.getfield 207, 3) := dk_180 0 207 (dk_at dksX13_addBits_1 17 rfl rfl)
theorem dX13_addBits_42 : decode cX13_addBits 42 = .ok (.iload_n 1, 1) := dk_27 (dk_at dksX13_addBits_1 20 rfl rfl)
theorem dX13_addBits_43 : decode cX13_addBits 43 = .ok (.iconst 4, 1) := dk_7 (dk_at dksX13_addBits_1 21 rfl rfl)
theorem dX13_addBits_44 : decode cX13_addBits 44 = .ok (.ishr, 1) := dk_122 (dk_at dksX13_addBits_1 22 rfl rfl)
theorem dX13_addBits_45 : decode cX13_addBits 45 = .ok (.dup2, 1) := dk_92 (dk_at dksX13_addBits_1 23 rfl rfl)
theorem dX13_addBits_46 : decode cX13_addBits 46 = .ok (.iaload, 1) := dk_46 (dk_at dksX13_addBits_2 0 rfl rfl)
theorem dX13_addBits_47 : decode cX13_addBits 47 = .ok (.iload_n 3, 1) := dk_29 (dk_at dksX13_addBits_2 1 rfl rfl)
theorem dX13_addBits_48 : decode cX13_addBits 48 = .ok (.ldc 210, 2) := dk_18 210 (dk_at dksX13_addBits_2 2 rfl rfl)
theorem dX13_addBits_50 : decode cX13_addBits 50 = .ok (.iand, 1) := dk_126 (dk_at dksX13_addBits_2 4 rfl rfl)
theorem dX13_addBits_51 : decode cX13_addBits 51 = .ok (.ior, 1) := dk_128 (dk_at dksX13_addBits_2 5 rfl rfl)
theorem dX13_addBits_52 : decode cX13_addBits 52 = .ok (.iastore, 1) := dk_79 (dk_at dksX13_addBits_2 6 rfl rfl)
theorem dX13_addBits_53 : decode cX13_addBits 53 = .ok (.aload_n 0, 1) := dk_42 (dk_at dksX13_addBits_2 7 rfl rfl)
theorem dX13_addBits_54 : decode cX13_addBits 54 = .ok (.getfield 14, 3) := dk_180 0 14 (dk_at dksX13_addBits_2 8 rfl rfl)
theorem dX13_addBits_57 : decode cX13_addBits 57 = .ok (.getfield 207, 3) := dk_180 0 207 (dk_at dksX13_addBits_2 11 rfl rfl)
theorem dX13_addBits_60 : decode cX13_addBits 60 = .ok (.iload_n 1, 1) := dk_27 (dk_at dksX13_addBits_2 14 rfl rfl)
theorem dX13_addBits_61 : decode cX13_addBits 61 = .ok (.iconst 4, 1) := dk_7 (dk_at dksX13_addBits_2 15 rfl rfl)
theorem dX13_addBits_62 : decode cX13_addBits 62 = .ok (.ishr, 1) := dk_122 (dk_at dksX13_addBits_2 16 rfl rfl)
theorem dX13_addBits_63 : decode cX13_addBits 63 = .ok (.iconst 1, 1) := dk_4 (dk_at dksX13_addBits_2 17 rfl rfl)
theorem dX13_addBits_64 : decode cX13_addBits 64 = .ok (.iadd, 1) := dk_96 (dk_at dksX13_addBits_2 18 rfl rfl)
theorem dX13_addBits_65 : decode cX13_addBits 65 = .ok (.dup2, 1) := dk_92 (dk_at dksX13_addBits_2 19 rfl rfl)
theorem dX13_addBits_66 : decode cX13_addBits 66 = .ok (.iaload, 1) := dk_46 (dk_at dksX13_addBits_2 20 rfl rfl)
theorem dX13_addBits_67 : decode cX13_addBits 67 = .ok (.iload_n 3, 1) := dk_29 (dk_at dksX13_addBits_2 21 rfl rfl)
theorem dX13_addBits_68 : decode cX13_addBits 68 = .ok (.bipush 16, 2) := dk_16 16 (dk_at dksX13_addBits_2 22 rfl rfl)
theorem dX13_addBits_70 : decode cX13_addBits 70 = .ok (.ishr, 1) := dk_122 (dk_at dksX13_addBits_3 0 rfl rfl)
theorem dX13_addBits_71 : decode cX13_addBits 71 = .ok (.ior, 1) := dk_128 (dk_at dksX13_addBits_3 1 rfl rfl)
theorem dX13_addBits_72 : decode cX13_addBits 72 = .ok (.iastore, 1) := dk_79 (dk_at dksX13_addBits_3 2 rfl rfl)
theorem dX13_addBits_73 : decode cX13_addBits 73 = .ok (.return_, 1) := dk_177 (dk_at dksX13_addBits_3 3 rfl rfl)
theorem q380 : (Jvm.Cond.initialized "ContractLedger$Forms") ∈ lw_all := lw_g (lw_at lw_m1 23 rfl) rfl
theorem q629 : (Jvm.Cond.fieldLink "ContractLedger$Forms" (207 : Nat) "ContractLedger$Whole" "digits" "[I") ∈ lw_all := lw_g (lw_at lw_m2 32 rfl) rfl
theorem q639 : (Jvm.Cond.fieldLink "ContractLedger$Forms" (123 : Nat) "ContractLedger$Whole" "negative" "Z") ∈ lw_all := lw_g (lw_at lw_m2 42 rfl) rfl
theorem q754 : (Jvm.Cond.fieldLink "ContractLedger$Forms" (58 : Nat) "ContractLedger$Types" "words" "[B") ∈ lw_all := lw_g (lw_at lw_m2 157 rfl) rfl
theorem q759 : (Jvm.Cond.fieldLink "ContractLedger$Forms" (73 : Nat) "ContractLedger$Types" "lefts" "[I") ∈ lw_all := lw_g (lw_at lw_m2 162 rfl) rfl
theorem q765 : (Jvm.Cond.fieldLink "ContractLedger$Forms" (84 : Nat) "ContractLedger$Types" "rights" "[I") ∈ lw_all := lw_g (lw_at lw_m2 168 rfl) rfl
theorem q922 : (Jvm.Cond.instantiable "ContractLedger$Forms" (13 : Nat)) ∈ lw_all := lw_g (lw_at lw_m3 85 rfl) rfl
theorem q924 : (Jvm.Cond.instanceMethod ({ cls := "ContractLedger$Forms", name := "<init>", desc := "(LContractLedger$Types;LContractLedger$Memory;LContractLedger$Order;LContractLedger$Trees;LContractLedger$Addresses;)V" } : Jvm.MethodName)) ∈ lw_all := lw_g (lw_at lw_m3 87 rfl) rfl
theorem q925 : (Jvm.Cond.code ({ cls := "ContractLedger$Forms", name := "<init>", desc := "(LContractLedger$Types;LContractLedger$Memory;LContractLedger$Order;LContractLedger$Trees;LContractLedger$Addresses;)V" } : Jvm.MethodName) prog_7_method_1_code (6 : Nat) (Option.none : Option Jvm.ClassFile.FieldType)) ∈ lw_all := lw_g (lw_at lw_m3 88 rfl) rfl
theorem q926 : (Jvm.Cond.methodLink "ContractLedger$Forms" (3 : Nat) ({ cls := "java/lang/Object", name := "<init>", desc := "()V" } : Jvm.MethodName)) ∈ lw_all := lw_g (lw_at lw_m3 89 rfl) rfl
theorem q927 : (Jvm.Cond.classLink "ContractLedger$Forms" (9 : Nat) "ContractLedger$Whole") ∈ lw_all := lw_g (lw_at lw_m3 90 rfl) rfl
theorem q928 : (Jvm.Cond.methodLink "ContractLedger$Forms" (11 : Nat) ({ cls := "ContractLedger$Whole", name := "<init>", desc := "(I)V" } : Jvm.MethodName)) ∈ lw_all := lw_g (lw_at lw_m3 91 rfl) rfl
theorem q929 : (Jvm.Cond.fieldLink "ContractLedger$Forms" (24 : Nat) "ContractLedger$Forms" "types" "LContractLedger$Types;") ∈ lw_all := lw_g (lw_at lw_m3 92 rfl) rfl
theorem q930 : (Jvm.Cond.fieldLink "ContractLedger$Forms" (28 : Nat) "ContractLedger$Forms" "memory" "LContractLedger$Memory;") ∈ lw_all := lw_g (lw_at lw_m3 93 rfl) rfl
theorem q931 : (Jvm.Cond.fieldLink "ContractLedger$Forms" (32 : Nat) "ContractLedger$Forms" "order" "LContractLedger$Order;") ∈ lw_all := lw_g (lw_at lw_m3 94 rfl) rfl
theorem q932 : (Jvm.Cond.fieldLink "ContractLedger$Forms" (36 : Nat) "ContractLedger$Forms" "trees" "LContractLedger$Trees;") ∈ lw_all := lw_g (lw_at lw_m3 95 rfl) rfl
theorem q933 : (Jvm.Cond.fieldLink "ContractLedger$Forms" (40 : Nat) "ContractLedger$Forms" "addresses" "LContractLedger$Addresses;") ∈ lw_all := lw_g (lw_at lw_m3 96 rfl) rfl
theorem q934 : (Jvm.Cond.fieldLink "ContractLedger$Forms" (14 : Nat) "ContractLedger$Forms" "number" "LContractLedger$Whole;") ∈ lw_all := lw_g (lw_at lw_m3 97 rfl) rfl
theorem q935 : (Jvm.Cond.fieldLink "ContractLedger$Forms" (44 : Nat) "ContractLedger$Forms" "to" "[B") ∈ lw_all := lw_g (lw_at lw_m3 98 rfl) rfl
theorem q936 : (Jvm.Cond.fieldLink "ContractLedger$Forms" (48 : Nat) "ContractLedger$Forms" "size" "I") ∈ lw_all := lw_g (lw_at lw_m3 99 rfl) rfl
theorem q939 : (Jvm.Cond.fieldLink "ContractLedger$Forms" (135 : Nat) "ContractLedger$Forms" "from" "I") ∈ lw_all := lw_g (lw_at lw_m3 102 rfl) rfl
theorem q940 : (Jvm.Cond.fieldLink "ContractLedger$Forms" (130 : Nat) "ContractLedger$Forms" "at" "I") ∈ lw_all := lw_g (lw_at lw_m3 103 rfl) rfl
theorem q941 : (Jvm.Cond.fieldLink "ContractLedger$Forms" (132 : Nat) "ContractLedger$Forms" "end" "I") ∈ lw_all := lw_g (lw_at lw_m3 104 rfl) rfl
theorem q942 : (Jvm.Cond.fieldLink "ContractLedger$Forms" (20 : Nat) "ContractLedger$Forms" "row" "[I") ∈ lw_all := lw_g (lw_at lw_m3 105 rfl) rfl
theorem q943 : (Jvm.Cond.fieldLink "ContractLedger$Forms" (138 : Nat) "ContractLedger$Forms" "rowTop" "I") ∈ lw_all := lw_g (lw_at lw_m3 106 rfl) rfl
theorem q944 : (Jvm.Cond.laysFinal "ContractLedger$Forms" "ContractLedger$Forms" "types" "LContractLedger$Types;") ∈ lw_all := lw_g (lw_at lw_m3 107 rfl) rfl
theorem q945 : (Jvm.Cond.soleField "ContractLedger$Forms" "types") ∈ lw_all := lw_g (lw_at lw_m3 108 rfl) rfl
theorem q946 : (Jvm.Cond.laysFinal "ContractLedger$Forms" "ContractLedger$Forms" "memory" "LContractLedger$Memory;") ∈ lw_all := lw_g (lw_at lw_m3 109 rfl) rfl
theorem q947 : (Jvm.Cond.soleField "ContractLedger$Forms" "memory") ∈ lw_all := lw_g (lw_at lw_m3 110 rfl) rfl
theorem q948 : (Jvm.Cond.laysFinal "ContractLedger$Forms" "ContractLedger$Forms" "order" "LContractLedger$Order;") ∈ lw_all := lw_g (lw_at lw_m3 111 rfl) rfl
theorem q949 : (Jvm.Cond.soleField "ContractLedger$Forms" "order") ∈ lw_all := lw_g (lw_at lw_m3 112 rfl) rfl
theorem q950 : (Jvm.Cond.laysFinal "ContractLedger$Forms" "ContractLedger$Forms" "trees" "LContractLedger$Trees;") ∈ lw_all := lw_g (lw_at lw_m3 113 rfl) rfl
theorem q951 : (Jvm.Cond.soleField "ContractLedger$Forms" "trees") ∈ lw_all := lw_g (lw_at lw_m3 114 rfl) rfl
theorem q952 : (Jvm.Cond.laysFinal "ContractLedger$Forms" "ContractLedger$Forms" "addresses" "LContractLedger$Addresses;") ∈ lw_all := lw_g (lw_at lw_m3 115 rfl) rfl
theorem q953 : (Jvm.Cond.soleField "ContractLedger$Forms" "addresses") ∈ lw_all := lw_g (lw_at lw_m3 116 rfl) rfl
theorem q954 : (Jvm.Cond.laysFinal "ContractLedger$Forms" "ContractLedger$Forms" "number" "LContractLedger$Whole;") ∈ lw_all := lw_g (lw_at lw_m3 117 rfl) rfl
theorem q955 : (Jvm.Cond.soleField "ContractLedger$Forms" "number") ∈ lw_all := lw_g (lw_at lw_m3 118 rfl) rfl
theorem q956 : (Jvm.Cond.lays "ContractLedger$Forms" "ContractLedger$Forms" "to" "[B") ∈ lw_all := lw_g (lw_at lw_m3 119 rfl) rfl
theorem q957 : (Jvm.Cond.soleField "ContractLedger$Forms" "to") ∈ lw_all := lw_g (lw_at lw_m3 120 rfl) rfl
theorem q958 : (Jvm.Cond.lays "ContractLedger$Forms" "ContractLedger$Forms" "size" "I") ∈ lw_all := lw_g (lw_at lw_m3 121 rfl) rfl
theorem q959 : (Jvm.Cond.soleField "ContractLedger$Forms" "size") ∈ lw_all := lw_g (lw_at lw_m3 122 rfl) rfl
theorem q960 : (Jvm.Cond.lays "ContractLedger$Forms" "ContractLedger$Forms" "from" "I") ∈ lw_all := lw_g (lw_at lw_m3 123 rfl) rfl
theorem q961 : (Jvm.Cond.soleField "ContractLedger$Forms" "from") ∈ lw_all := lw_g (lw_at lw_m3 124 rfl) rfl
theorem q962 : (Jvm.Cond.lays "ContractLedger$Forms" "ContractLedger$Forms" "at" "I") ∈ lw_all := lw_g (lw_at lw_m3 125 rfl) rfl
theorem q963 : (Jvm.Cond.soleField "ContractLedger$Forms" "at") ∈ lw_all := lw_g (lw_at lw_m3 126 rfl) rfl
theorem q964 : (Jvm.Cond.lays "ContractLedger$Forms" "ContractLedger$Forms" "end" "I") ∈ lw_all := lw_g (lw_at lw_m3 127 rfl) rfl
theorem q965 : (Jvm.Cond.soleField "ContractLedger$Forms" "end") ∈ lw_all := lw_g (lw_at lw_m3 128 rfl) rfl
theorem q966 : (Jvm.Cond.laysFinal "ContractLedger$Forms" "ContractLedger$Forms" "row" "[I") ∈ lw_all := lw_g (lw_at lw_m3 129 rfl) rfl
theorem q967 : (Jvm.Cond.soleField "ContractLedger$Forms" "row") ∈ lw_all := lw_g (lw_at lw_m3 130 rfl) rfl
theorem q968 : (Jvm.Cond.lays "ContractLedger$Forms" "ContractLedger$Forms" "rowTop" "I") ∈ lw_all := lw_g (lw_at lw_m3 131 rfl) rfl
theorem q969 : (Jvm.Cond.soleField "ContractLedger$Forms" "rowTop") ∈ lw_all := lw_g (lw_at lw_m3 132 rfl) rfl
theorem q970 : (Jvm.Cond.superclass "ContractLedger$Forms" "java/lang/Object") ∈ lw_all := lw_g (lw_at lw_m3 133 rfl) rfl
theorem q2383 : (Jvm.Cond.instanceMethod ({ cls := "ContractLedger$Forms", name := "write", desc := "([BIII)V" } : Jvm.MethodName)) ∈ lw_all := lw_g (lw_at lw_m9 106 rfl) rfl
theorem q2384 : (Jvm.Cond.selects "ContractLedger$Forms" ({ cls := "ContractLedger$Forms", name := "write", desc := "([BIII)V" } : Jvm.MethodName) ({ cls := "ContractLedger$Forms", name := "write", desc := "([BIII)V" } : Jvm.MethodName)) ∈ lw_all := lw_g (lw_at lw_m9 107 rfl) rfl
theorem q2385 : (Jvm.Cond.code ({ cls := "ContractLedger$Forms", name := "write", desc := "([BIII)V" } : Jvm.MethodName) prog_7_method_2_code (5 : Nat) (Option.none : Option Jvm.ClassFile.FieldType)) ∈ lw_all := lw_g (lw_at lw_m9 108 rfl) rfl
theorem q2386 : (Jvm.Cond.methodLink "ContractLedger$Forms" (52 : Nat) ({ cls := "ContractLedger$Forms", name := "put", desc := "(II)V" } : Jvm.MethodName)) ∈ lw_all := lw_g (lw_at lw_m9 109 rfl) rfl
theorem q2387 : (Jvm.Cond.privateMethod ({ cls := "ContractLedger$Forms", name := "put", desc := "(II)V" } : Jvm.MethodName)) ∈ lw_tbl := lw_at lw_m9 110 rfl
theorem q2388 : (Jvm.Cond.instanceMethod ({ cls := "ContractLedger$Forms", name := "put", desc := "(II)V" } : Jvm.MethodName)) ∈ lw_all := lw_g (lw_at lw_m9 111 rfl) rfl
theorem q2389 : (Jvm.Cond.code ({ cls := "ContractLedger$Forms", name := "put", desc := "(II)V" } : Jvm.MethodName) prog_7_method_5_code (4 : Nat) (Option.none : Option Jvm.ClassFile.FieldType)) ∈ lw_all := lw_g (lw_at lw_m9 112 rfl) rfl
theorem q2390 : (Jvm.Cond.methodLink "ContractLedger$Forms" (63 : Nat) ({ cls := "ContractLedger$Forms", name := "two", desc := "(II)V" } : Jvm.MethodName)) ∈ lw_all := lw_g (lw_at lw_m9 113 rfl) rfl
theorem q2391 : (Jvm.Cond.privateMethod ({ cls := "ContractLedger$Forms", name := "two", desc := "(II)V" } : Jvm.MethodName)) ∈ lw_tbl := lw_at lw_m9 114 rfl
theorem q2392 : (Jvm.Cond.instanceMethod ({ cls := "ContractLedger$Forms", name := "two", desc := "(II)V" } : Jvm.MethodName)) ∈ lw_all := lw_g (lw_at lw_m9 115 rfl) rfl
theorem q2393 : (Jvm.Cond.code ({ cls := "ContractLedger$Forms", name := "two", desc := "(II)V" } : Jvm.MethodName) prog_7_method_6_code (3 : Nat) (Option.none : Option Jvm.ClassFile.FieldType)) ∈ lw_all := lw_g (lw_at lw_m9 116 rfl) rfl
theorem q2394 : (Jvm.Cond.methodLink "ContractLedger$Forms" (56 : Nat) ({ cls := "ContractLedger$Forms", name := "put", desc := "(I)V" } : Jvm.MethodName)) ∈ lw_all := lw_g (lw_at lw_m9 117 rfl) rfl
theorem q2395 : (Jvm.Cond.privateMethod ({ cls := "ContractLedger$Forms", name := "put", desc := "(I)V" } : Jvm.MethodName)) ∈ lw_tbl := lw_at lw_m9 118 rfl
theorem q2396 : (Jvm.Cond.instanceMethod ({ cls := "ContractLedger$Forms", name := "put", desc := "(I)V" } : Jvm.MethodName)) ∈ lw_all := lw_g (lw_at lw_m9 119 rfl) rfl
theorem q2397 : (Jvm.Cond.code ({ cls := "ContractLedger$Forms", name := "put", desc := "(I)V" } : Jvm.MethodName) prog_7_method_3_code (2 : Nat) (Option.none : Option Jvm.ClassFile.FieldType)) ∈ lw_all := lw_g (lw_at lw_m9 120 rfl) rfl
theorem q2398 : (Jvm.Cond.methodLink "ContractLedger$Forms" (70 : Nat) ({ cls := "ContractLedger$Forms", name := "putBytes", desc := "(II)V" } : Jvm.MethodName)) ∈ lw_all := lw_g (lw_at lw_m9 121 rfl) rfl
theorem q2399 : (Jvm.Cond.privateMethod ({ cls := "ContractLedger$Forms", name := "putBytes", desc := "(II)V" } : Jvm.MethodName)) ∈ lw_tbl := lw_at lw_m9 122 rfl
theorem q2400 : (Jvm.Cond.instanceMethod ({ cls := "ContractLedger$Forms", name := "putBytes", desc := "(II)V" } : Jvm.MethodName)) ∈ lw_all := lw_g (lw_at lw_m9 123 rfl) rfl
theorem q2401 : (Jvm.Cond.code ({ cls := "ContractLedger$Forms", name := "putBytes", desc := "(II)V" } : Jvm.MethodName) prog_7_method_8_code (5 : Nat) (Option.none : Option Jvm.ClassFile.FieldType)) ∈ lw_all := lw_g (lw_at lw_m9 124 rfl) rfl
theorem q2402 : (Jvm.Cond.methodLink "ContractLedger$Forms" (106 : Nat) ({ cls := "ContractLedger$Memory", name := "count", desc := "(I)I" } : Jvm.MethodName)) ∈ lw_all := lw_g (lw_at lw_m9 125 rfl) rfl
theorem q2403 : (Jvm.Cond.methodLink "ContractLedger$Forms" (97 : Nat) ({ cls := "ContractLedger$Forms", name := "putInt", desc := "(I)V" } : Jvm.MethodName)) ∈ lw_all := lw_g (lw_at lw_m9 126 rfl) rfl
theorem q2404 : (Jvm.Cond.privateMethod ({ cls := "ContractLedger$Forms", name := "putInt", desc := "(I)V" } : Jvm.MethodName)) ∈ lw_tbl := lw_at lw_m9 127 rfl
theorem q2405 : (Jvm.Cond.instanceMethod ({ cls := "ContractLedger$Forms", name := "putInt", desc := "(I)V" } : Jvm.MethodName)) ∈ lw_all := lw_g (lw_at lw_m9 128 rfl) rfl
theorem q2406 : (Jvm.Cond.code ({ cls := "ContractLedger$Forms", name := "putInt", desc := "(I)V" } : Jvm.MethodName) prog_7_method_4_code (3 : Nat) (Option.none : Option Jvm.ClassFile.FieldType)) ∈ lw_all := lw_g (lw_at lw_m9 129 rfl) rfl
theorem q2407 : (Jvm.Cond.methodLink "ContractLedger$Forms" (109 : Nat) ({ cls := "ContractLedger$Memory", name := "byteAt", desc := "(II)I" } : Jvm.MethodName)) ∈ lw_all := lw_g (lw_at lw_m9 130 rfl) rfl
theorem q2408 : (Jvm.Cond.methodLink "ContractLedger$Forms" (76 : Nat) ({ cls := "ContractLedger$Forms", name := "wrapped", desc := "(III)V" } : Jvm.MethodName)) ∈ lw_all := lw_g (lw_at lw_m9 131 rfl) rfl
theorem q2409 : (Jvm.Cond.privateMethod ({ cls := "ContractLedger$Forms", name := "wrapped", desc := "(III)V" } : Jvm.MethodName)) ∈ lw_tbl := lw_at lw_m9 132 rfl
theorem q2410 : (Jvm.Cond.instanceMethod ({ cls := "ContractLedger$Forms", name := "wrapped", desc := "(III)V" } : Jvm.MethodName)) ∈ lw_all := lw_g (lw_at lw_m9 133 rfl) rfl
theorem q2411 : (Jvm.Cond.code ({ cls := "ContractLedger$Forms", name := "wrapped", desc := "(III)V" } : Jvm.MethodName) prog_7_method_7_code (4 : Nat) (Option.none : Option Jvm.ClassFile.FieldType)) ∈ lw_all := lw_g (lw_at lw_m9 134 rfl) rfl
theorem q2412 : (Jvm.Cond.methodLink "ContractLedger$Forms" (87 : Nat) ({ cls := "ContractLedger$Memory", name := "cell", desc := "(II)I" } : Jvm.MethodName)) ∈ lw_all := lw_g (lw_at lw_m9 135 rfl) rfl
theorem q2413 : (Jvm.Cond.methodLink "ContractLedger$Forms" (80 : Nat) ({ cls := "ContractLedger$Memory", name := "kind", desc := "(I)I" } : Jvm.MethodName)) ∈ lw_all := lw_g (lw_at lw_m9 136 rfl) rfl
theorem q2414 : (Jvm.Cond.methodLink "ContractLedger$Forms" (91 : Nat) ({ cls := "ContractLedger$Forms", name := "putList", desc := "(II)V" } : Jvm.MethodName)) ∈ lw_all := lw_g (lw_at lw_m9 137 rfl) rfl
theorem q2415 : (Jvm.Cond.privateMethod ({ cls := "ContractLedger$Forms", name := "putList", desc := "(II)V" } : Jvm.MethodName)) ∈ lw_tbl := lw_at lw_m9 138 rfl
theorem q2416 : (Jvm.Cond.instanceMethod ({ cls := "ContractLedger$Forms", name := "putList", desc := "(II)V" } : Jvm.MethodName)) ∈ lw_all := lw_g (lw_at lw_m9 139 rfl) rfl
theorem q2417 : (Jvm.Cond.code ({ cls := "ContractLedger$Forms", name := "putList", desc := "(II)V" } : Jvm.MethodName) prog_7_method_9_code (4 : Nat) (Option.none : Option Jvm.ClassFile.FieldType)) ∈ lw_all := lw_g (lw_at lw_m9 140 rfl) rfl
theorem q2418 : (Jvm.Cond.methodLink "ContractLedger$Forms" (94 : Nat) ({ cls := "ContractLedger$Memory", name := "length", desc := "(I)I" } : Jvm.MethodName)) ∈ lw_all := lw_g (lw_at lw_m9 141 rfl) rfl
theorem q2419 : (Jvm.Cond.methodLink "ContractLedger$Forms" (100 : Nat) ({ cls := "ContractLedger$Forms", name := "putTree", desc := "(III)V" } : Jvm.MethodName)) ∈ lw_all := lw_g (lw_at lw_m9 142 rfl) rfl
theorem q2420 : (Jvm.Cond.privateMethod ({ cls := "ContractLedger$Forms", name := "putTree", desc := "(III)V" } : Jvm.MethodName)) ∈ lw_tbl := lw_at lw_m9 143 rfl
theorem q2421 : (Jvm.Cond.instanceMethod ({ cls := "ContractLedger$Forms", name := "putTree", desc := "(III)V" } : Jvm.MethodName)) ∈ lw_all := lw_g (lw_at lw_m9 144 rfl) rfl
theorem q2422 : (Jvm.Cond.code ({ cls := "ContractLedger$Forms", name := "putTree", desc := "(III)V" } : Jvm.MethodName) prog_7_method_10_code (4 : Nat) (Option.none : Option Jvm.ClassFile.FieldType)) ∈ lw_all := lw_g (lw_at lw_m9 145 rfl) rfl
theorem q2423 : (Jvm.Cond.methodLink "ContractLedger$Forms" (103 : Nat) ({ cls := "ContractLedger$Forms", name := "putNumber", desc := "(I)V" } : Jvm.MethodName)) ∈ lw_all := lw_g (lw_at lw_m9 146 rfl) rfl
theorem q2424 : (Jvm.Cond.privateMethod ({ cls := "ContractLedger$Forms", name := "putNumber", desc := "(I)V" } : Jvm.MethodName)) ∈ lw_tbl := lw_at lw_m9 147 rfl
theorem q2425 : (Jvm.Cond.instanceMethod ({ cls := "ContractLedger$Forms", name := "putNumber", desc := "(I)V" } : Jvm.MethodName)) ∈ lw_all := lw_g (lw_at lw_m9 148 rfl) rfl
theorem q2426 : (Jvm.Cond.code ({ cls := "ContractLedger$Forms", name := "putNumber", desc := "(I)V" } : Jvm.MethodName) prog_7_method_11_code (5 : Nat) (Option.none : Option Jvm.ClassFile.FieldType)) ∈ lw_all := lw_g (lw_at lw_m9 149 rfl) rfl
theorem q2427 : (Jvm.Cond.methodLink "ContractLedger$Forms" (112 : Nat) ({ cls := "ContractLedger$Memory", name := "load", desc := "(ILContractLedger$Whole;)V" } : Jvm.MethodName)) ∈ lw_all := lw_g (lw_at lw_m9 150 rfl) rfl
theorem q2428 : (Jvm.Cond.methodLink "ContractLedger$Forms" (116 : Nat) ({ cls := "ContractLedger$Whole", name := "bits", desc := "()I" } : Jvm.MethodName)) ∈ lw_all := lw_g (lw_at lw_m9 151 rfl) rfl
theorem q2429 : (Jvm.Cond.methodLink "ContractLedger$Forms" (120 : Nat) ({ cls := "ContractLedger$Whole", name := "at", desc := "(I)I" } : Jvm.MethodName)) ∈ lw_all := lw_g (lw_at lw_m9 152 rfl) rfl
theorem q2430 : (Jvm.Cond.methodLink "ContractLedger$Forms" (127 : Nat) ({ cls := "ContractLedger$Forms", name := "bitsAt", desc := "(I)I" } : Jvm.MethodName)) ∈ lw_all := lw_g (lw_at lw_m9 153 rfl) rfl
theorem q2431 : (Jvm.Cond.privateMethod ({ cls := "ContractLedger$Forms", name := "bitsAt", desc := "(I)I" } : Jvm.MethodName)) ∈ lw_tbl := lw_at lw_m9 154 rfl
theorem q2432 : (Jvm.Cond.instanceMethod ({ cls := "ContractLedger$Forms", name := "bitsAt", desc := "(I)I" } : Jvm.MethodName)) ∈ lw_all := lw_g (lw_at lw_m9 155 rfl) rfl
theorem q2433 : (Jvm.Cond.code ({ cls := "ContractLedger$Forms", name := "bitsAt", desc := "(I)I" } : Jvm.MethodName) prog_7_method_12_code (3 : Nat) (Option.some Jvm.ClassFile.FieldType.int)) ∈ lw_all := lw_g (lw_at lw_m9 156 rfl) rfl
theorem q2864 : (Jvm.Cond.instanceMethod ({ cls := "ContractLedger$Forms", name := "read", desc := "(II)I" } : Jvm.MethodName)) ∈ lw_all := lw_g (lw_at lw_m11 107 rfl) rfl
theorem q2865 : (Jvm.Cond.selects "ContractLedger$Forms" ({ cls := "ContractLedger$Forms", name := "read", desc := "(II)I" } : Jvm.MethodName) ({ cls := "ContractLedger$Forms", name := "read", desc := "(II)I" } : Jvm.MethodName)) ∈ lw_all := lw_g (lw_at lw_m11 108 rfl) rfl
theorem q2866 : (Jvm.Cond.code ({ cls := "ContractLedger$Forms", name := "read", desc := "(II)I" } : Jvm.MethodName) prog_7_method_14_code (4 : Nat) (Option.some Jvm.ClassFile.FieldType.int)) ∈ lw_all := lw_g (lw_at lw_m11 109 rfl) rfl
theorem q2867 : (Jvm.Cond.methodLink "ContractLedger$Forms" (141 : Nat) ({ cls := "ContractLedger$Forms", name := "get", desc := "(I)I" } : Jvm.MethodName)) ∈ lw_all := lw_g (lw_at lw_m11 110 rfl) rfl
theorem q2868 : (Jvm.Cond.privateMethod ({ cls := "ContractLedger$Forms", name := "get", desc := "(I)I" } : Jvm.MethodName)) ∈ lw_tbl := lw_at lw_m11 111 rfl
theorem q2869 : (Jvm.Cond.instanceMethod ({ cls := "ContractLedger$Forms", name := "get", desc := "(I)I" } : Jvm.MethodName)) ∈ lw_all := lw_g (lw_at lw_m11 112 rfl) rfl
theorem q2870 : (Jvm.Cond.code ({ cls := "ContractLedger$Forms", name := "get", desc := "(I)I" } : Jvm.MethodName) prog_7_method_17_code (5 : Nat) (Option.some Jvm.ClassFile.FieldType.int)) ∈ lw_all := lw_g (lw_at lw_m11 113 rfl) rfl
theorem q2871 : (Jvm.Cond.methodLink "ContractLedger$Forms" (147 : Nat) ({ cls := "ContractLedger$Forms", name := "eat", desc := "(II)Z" } : Jvm.MethodName)) ∈ lw_all := lw_g (lw_at lw_m11 114 rfl) rfl
theorem q2872 : (Jvm.Cond.privateMethod ({ cls := "ContractLedger$Forms", name := "eat", desc := "(II)Z" } : Jvm.MethodName)) ∈ lw_tbl := lw_at lw_m11 115 rfl
theorem q2873 : (Jvm.Cond.instanceMethod ({ cls := "ContractLedger$Forms", name := "eat", desc := "(II)Z" } : Jvm.MethodName)) ∈ lw_all := lw_g (lw_at lw_m11 116 rfl) rfl
theorem q2874 : (Jvm.Cond.code ({ cls := "ContractLedger$Forms", name := "eat", desc := "(II)Z" } : Jvm.MethodName) prog_7_method_15_code (4 : Nat) (Option.some Jvm.ClassFile.FieldType.boolean)) ∈ lw_all := lw_g (lw_at lw_m11 117 rfl) rfl
theorem q2875 : (Jvm.Cond.methodLink "ContractLedger$Forms" (144 : Nat) ({ cls := "ContractLedger$Forms", name := "peek", desc := "(I)I" } : Jvm.MethodName)) ∈ lw_all := lw_g (lw_at lw_m11 118 rfl) rfl
theorem q2876 : (Jvm.Cond.privateMethod ({ cls := "ContractLedger$Forms", name := "peek", desc := "(I)I" } : Jvm.MethodName)) ∈ lw_tbl := lw_at lw_m11 119 rfl
theorem q2877 : (Jvm.Cond.instanceMethod ({ cls := "ContractLedger$Forms", name := "peek", desc := "(I)I" } : Jvm.MethodName)) ∈ lw_all := lw_g (lw_at lw_m11 120 rfl) rfl
theorem q2878 : (Jvm.Cond.code ({ cls := "ContractLedger$Forms", name := "peek", desc := "(I)I" } : Jvm.MethodName) prog_7_method_13_code (2 : Nat) (Option.some Jvm.ClassFile.FieldType.int)) ∈ lw_all := lw_g (lw_at lw_m11 121 rfl) rfl
theorem q2879 : (Jvm.Cond.methodLink "ContractLedger$Forms" (151 : Nat) ({ cls := "ContractLedger$Forms", name := "getBytes", desc := "(I)I" } : Jvm.MethodName)) ∈ lw_all := lw_g (lw_at lw_m11 122 rfl) rfl
theorem q2880 : (Jvm.Cond.privateMethod ({ cls := "ContractLedger$Forms", name := "getBytes", desc := "(I)I" } : Jvm.MethodName)) ∈ lw_tbl := lw_at lw_m11 123 rfl
theorem q2881 : (Jvm.Cond.instanceMethod ({ cls := "ContractLedger$Forms", name := "getBytes", desc := "(I)I" } : Jvm.MethodName)) ∈ lw_all := lw_g (lw_at lw_m11 124 rfl) rfl
theorem q2882 : (Jvm.Cond.code ({ cls := "ContractLedger$Forms", name := "getBytes", desc := "(I)I" } : Jvm.MethodName) prog_7_method_19_code (7 : Nat) (Option.some Jvm.ClassFile.FieldType.int)) ∈ lw_all := lw_g (lw_at lw_m11 125 rfl) rfl
theorem q2883 : (Jvm.Cond.methodLink "ContractLedger$Forms" (169 : Nat) ({ cls := "ContractLedger$Forms", name := "getCount", desc := "()I" } : Jvm.MethodName)) ∈ lw_all := lw_g (lw_at lw_m11 126 rfl) rfl
theorem q2884 : (Jvm.Cond.privateMethod ({ cls := "ContractLedger$Forms", name := "getCount", desc := "()I" } : Jvm.MethodName)) ∈ lw_tbl := lw_at lw_m11 127 rfl
theorem q2885 : (Jvm.Cond.instanceMethod ({ cls := "ContractLedger$Forms", name := "getCount", desc := "()I" } : Jvm.MethodName)) ∈ lw_all := lw_g (lw_at lw_m11 128 rfl) rfl
theorem q2886 : (Jvm.Cond.code ({ cls := "ContractLedger$Forms", name := "getCount", desc := "()I" } : Jvm.MethodName) prog_7_method_16_code (2 : Nat) (Option.some Jvm.ClassFile.FieldType.int)) ∈ lw_all := lw_g (lw_at lw_m11 129 rfl) rfl
theorem q2887 : (Jvm.Cond.methodLink "ContractLedger$Forms" (172 : Nat) ({ cls := "ContractLedger$Memory", name := "bytes", desc := "(I)I" } : Jvm.MethodName)) ∈ lw_all := lw_g (lw_at lw_m11 130 rfl) rfl
theorem q2888 : (Jvm.Cond.methodLink "ContractLedger$Forms" (175 : Nat) ({ cls := "ContractLedger$Signs", name := "isPlain", desc := "(I)Z" } : Jvm.MethodName)) ∈ lw_all := lw_g (lw_at lw_m11 131 rfl) rfl
theorem q2889 : (Jvm.Cond.methodLink "ContractLedger$Forms" (181 : Nat) ({ cls := "ContractLedger$Memory", name := "setByte", desc := "(III)V" } : Jvm.MethodName)) ∈ lw_all := lw_g (lw_at lw_m11 132 rfl) rfl
theorem q2890 : (Jvm.Cond.methodLink "ContractLedger$Forms" (184 : Nat) ({ cls := "ContractLedger$Addresses", name := "read", desc := "(LContractLedger$Memory;I)I" } : Jvm.MethodName)) ∈ lw_all := lw_g (lw_at lw_m11 133 rfl) rfl
theorem q2897 : (Jvm.Cond.methodLink "ContractLedger$Forms" (154 : Nat) ({ cls := "ContractLedger$Forms", name := "getWrapped", desc := "(II)I" } : Jvm.MethodName)) ∈ lw_all := lw_g (lw_at lw_m11 140 rfl) rfl
theorem q2898 : (Jvm.Cond.privateMethod ({ cls := "ContractLedger$Forms", name := "getWrapped", desc := "(II)I" } : Jvm.MethodName)) ∈ lw_tbl := lw_at lw_m11 141 rfl
theorem q2899 : (Jvm.Cond.instanceMethod ({ cls := "ContractLedger$Forms", name := "getWrapped", desc := "(II)I" } : Jvm.MethodName)) ∈ lw_all := lw_g (lw_at lw_m11 142 rfl) rfl
theorem q2900 : (Jvm.Cond.code ({ cls := "ContractLedger$Forms", name := "getWrapped", desc := "(II)I" } : Jvm.MethodName) prog_7_method_18_code (4 : Nat) (Option.some Jvm.ClassFile.FieldType.int)) ∈ lw_all := lw_g (lw_at lw_m11 143 rfl) rfl
theorem q2901 : (Jvm.Cond.methodLink "ContractLedger$Forms" (166 : Nat) ({ cls := "ContractLedger$Memory", name := "wrap", desc := "(II)I" } : Jvm.MethodName)) ∈ lw_all := lw_g (lw_at lw_m11 144 rfl) rfl
theorem q2902 : (Jvm.Cond.methodLink "ContractLedger$Forms" (157 : Nat) ({ cls := "ContractLedger$Memory", name := "pair", desc := "(II)I" } : Jvm.MethodName)) ∈ lw_all := lw_g (lw_at lw_m11 145 rfl) rfl
theorem q2903 : (Jvm.Cond.methodLink "ContractLedger$Forms" (160 : Nat) ({ cls := "ContractLedger$Forms", name := "getSequence", desc := "(II)I" } : Jvm.MethodName)) ∈ lw_all := lw_g (lw_at lw_m11 146 rfl) rfl
theorem q2904 : (Jvm.Cond.privateMethod ({ cls := "ContractLedger$Forms", name := "getSequence", desc := "(II)I" } : Jvm.MethodName)) ∈ lw_tbl := lw_at lw_m11 147 rfl
theorem q2905 : (Jvm.Cond.instanceMethod ({ cls := "ContractLedger$Forms", name := "getSequence", desc := "(II)I" } : Jvm.MethodName)) ∈ lw_all := lw_g (lw_at lw_m11 148 rfl) rfl
theorem q2906 : (Jvm.Cond.code ({ cls := "ContractLedger$Forms", name := "getSequence", desc := "(II)I" } : Jvm.MethodName) prog_7_method_22_code (8 : Nat) (Option.some Jvm.ClassFile.FieldType.int)) ∈ lw_all := lw_g (lw_at lw_m11 149 rfl) rfl
theorem q2907 : (Jvm.Cond.methodLink "ContractLedger$Forms" (211 : Nat) ({ cls := "ContractLedger$Forms", name := "element", desc := "(III)Z" } : Jvm.MethodName)) ∈ lw_all := lw_g (lw_at lw_m11 150 rfl) rfl
theorem q2908 : (Jvm.Cond.privateMethod ({ cls := "ContractLedger$Forms", name := "element", desc := "(III)Z" } : Jvm.MethodName)) ∈ lw_tbl := lw_at lw_m11 151 rfl
theorem q2909 : (Jvm.Cond.instanceMethod ({ cls := "ContractLedger$Forms", name := "element", desc := "(III)Z" } : Jvm.MethodName)) ∈ lw_all := lw_g (lw_at lw_m11 152 rfl) rfl
theorem q2910 : (Jvm.Cond.code ({ cls := "ContractLedger$Forms", name := "element", desc := "(III)Z" } : Jvm.MethodName) prog_7_method_23_code (7 : Nat) (Option.some Jvm.ClassFile.FieldType.boolean)) ∈ lw_all := lw_g (lw_at lw_m11 153 rfl) rfl
theorem q2911 : (Jvm.Cond.methodLink "ContractLedger$Forms" (224 : Nat) ({ cls := "ContractLedger$Order", name := "compare", desc := "(III)I" } : Jvm.MethodName)) ∈ lw_all := lw_g (lw_at lw_m11 154 rfl) rfl
theorem q2912 : (Jvm.Cond.methodLink "ContractLedger$Forms" (215 : Nat) ({ cls := "ContractLedger$Forms", name := "list", desc := "(I)I" } : Jvm.MethodName)) ∈ lw_all := lw_g (lw_at lw_m11 155 rfl) rfl
theorem q2913 : (Jvm.Cond.privateMethod ({ cls := "ContractLedger$Forms", name := "list", desc := "(I)I" } : Jvm.MethodName)) ∈ lw_tbl := lw_at lw_m11 156 rfl
theorem q2914 : (Jvm.Cond.instanceMethod ({ cls := "ContractLedger$Forms", name := "list", desc := "(I)I" } : Jvm.MethodName)) ∈ lw_all := lw_g (lw_at lw_m11 157 rfl) rfl
theorem q2915 : (Jvm.Cond.code ({ cls := "ContractLedger$Forms", name := "list", desc := "(I)I" } : Jvm.MethodName) prog_7_method_24_code (4 : Nat) (Option.some Jvm.ClassFile.FieldType.int)) ∈ lw_all := lw_g (lw_at lw_m11 158 rfl) rfl
theorem q2916 : (Jvm.Cond.methodLink "ContractLedger$Forms" (230 : Nat) ({ cls := "ContractLedger$Memory", name := "cons", desc := "(II)I" } : Jvm.MethodName)) ∈ lw_all := lw_g (lw_at lw_m11 159 rfl) rfl
theorem q2917 : (Jvm.Cond.methodLink "ContractLedger$Forms" (218 : Nat) ({ cls := "ContractLedger$Trees", name := "build", desc := "([IIII)I" } : Jvm.MethodName)) ∈ lw_all := lw_g (lw_at lw_m11 160 rfl) rfl
theorem q2918 : (Jvm.Cond.methodLink "ContractLedger$Forms" (163 : Nat) ({ cls := "ContractLedger$Forms", name := "getNumber", desc := "(I)I" } : Jvm.MethodName)) ∈ lw_all := lw_g (lw_at lw_m11 161 rfl) rfl
theorem q2919 : (Jvm.Cond.privateMethod ({ cls := "ContractLedger$Forms", name := "getNumber", desc := "(I)I" } : Jvm.MethodName)) ∈ lw_tbl := lw_at lw_m11 162 rfl
theorem q2920 : (Jvm.Cond.instanceMethod ({ cls := "ContractLedger$Forms", name := "getNumber", desc := "(I)I" } : Jvm.MethodName)) ∈ lw_all := lw_g (lw_at lw_m11 163 rfl) rfl
theorem q2921 : (Jvm.Cond.code ({ cls := "ContractLedger$Forms", name := "getNumber", desc := "(I)I" } : Jvm.MethodName) prog_7_method_20_code (6 : Nat) (Option.some Jvm.ClassFile.FieldType.int)) ∈ lw_all := lw_g (lw_at lw_m11 164 rfl) rfl
theorem q2922 : (Jvm.Cond.methodLink "ContractLedger$Forms" (190 : Nat) ({ cls := "ContractLedger$Whole", name := "clear", desc := "()V" } : Jvm.MethodName)) ∈ lw_all := lw_g (lw_at lw_m11 165 rfl) rfl
theorem q2923 : (Jvm.Cond.methodLink "ContractLedger$Forms" (193 : Nat) ({ cls := "ContractLedger$Forms", name := "addBits", desc := "(II)V" } : Jvm.MethodName)) ∈ lw_all := lw_g (lw_at lw_m11 166 rfl) rfl
theorem q2924 : (Jvm.Cond.privateMethod ({ cls := "ContractLedger$Forms", name := "addBits", desc := "(II)V" } : Jvm.MethodName)) ∈ lw_tbl := lw_at lw_m11 167 rfl
theorem q2925 : (Jvm.Cond.instanceMethod ({ cls := "ContractLedger$Forms", name := "addBits", desc := "(II)V" } : Jvm.MethodName)) ∈ lw_all := lw_g (lw_at lw_m11 168 rfl) rfl
theorem q2926 : (Jvm.Cond.code ({ cls := "ContractLedger$Forms", name := "addBits", desc := "(II)V" } : Jvm.MethodName) prog_7_method_21_code (4 : Nat) (Option.none : Option Jvm.ClassFile.FieldType)) ∈ lw_all := lw_g (lw_at lw_m11 169 rfl) rfl
theorem q2927 : (Jvm.Cond.constant "ContractLedger$Forms" (210 : Nat) (65535 : Int32)) ∈ lw_all := lw_g (lw_at lw_m11 170 rfl) rfl
theorem q2928 : (Jvm.Cond.methodLink "ContractLedger$Forms" (196 : Nat) ({ cls := "ContractLedger$Whole", name := "trim", desc := "(I)V" } : Jvm.MethodName)) ∈ lw_all := lw_g (lw_at lw_m11 171 rfl) rfl
theorem q2929 : (Jvm.Cond.methodLink "ContractLedger$Forms" (199 : Nat) ({ cls := "ContractLedger$Whole", name := "isZero", desc := "()Z" } : Jvm.MethodName)) ∈ lw_all := lw_g (lw_at lw_m11 172 rfl) rfl
theorem q2930 : (Jvm.Cond.methodLink "ContractLedger$Forms" (203 : Nat) ({ cls := "ContractLedger$Memory", name := "ofWhole", desc := "(LContractLedger$Whole;)I" } : Jvm.MethodName)) ∈ lw_all := lw_g (lw_at lw_m11 173 rfl) rfl
set_option maxRecDepth 100000
abbrev cX14_init : ByteArray := prog_11_method_1_code
def yX14_init : MethodName := ⟨RX14, "<init>", "()V"⟩
def dkwX14_init_2 : List UInt8 := [167, 255, 231, 42, 180, 0, 16, 4, 18, 20, 182, 0, 22, 79, 42, 4, 181, 0, 32, 177]
abbrev dktX14_init_2 : List UInt8 := dkwX14_init_2 ++ []
def dkwX14_init_1 : List UInt8 := [18, 20, 182, 0, 22, 162, 0, 22, 42, 180, 0, 10, 27, 18, 20, 27, 182, 0, 28, 145, 84, 132, 1, 1]
abbrev dktX14_init_1 : List UInt8 := dkwX14_init_1 ++ dktX14_init_2
def dkwX14_init_0 : List UInt8 := [42, 183, 0, 3, 42, 18, 9, 188, 8, 181, 0, 10, 42, 17, 46, 225, 188, 10, 181, 0, 16, 3, 60, 27]
abbrev dktX14_init_0 : List UInt8 := dkwX14_init_0 ++ dktX14_init_1
theorem dksX14_init_0 : cX14_init.data.toList.drop 0 = dktX14_init_0 := by decide +kernel
theorem dksX14_init_1 : cX14_init.data.toList.drop 24 = dktX14_init_1 := dk_seg dksX14_init_0 24 rfl rfl
theorem dksX14_init_2 : cX14_init.data.toList.drop 48 = dktX14_init_2 := dk_seg dksX14_init_1 24 rfl rfl
theorem dX14_init_0 : decode cX14_init 0 = .ok (.aload_n 0, 1) := dk_42 (dk_at dksX14_init_0 0 rfl rfl)
theorem dX14_init_1 : decode cX14_init 1 = .ok (.invokespecial 3, 3) := dk_183 0 3 (dk_at dksX14_init_0 1 rfl rfl)
theorem dX14_init_4 : decode cX14_init 4 = .ok (.aload_n 0, 1) := dk_42 (dk_at dksX14_init_0 4 rfl rfl)
theorem dX14_init_5 : decode cX14_init 5 = .ok (.ldc 9, 2) := dk_18 9 (dk_at dksX14_init_0 5 rfl rfl)
theorem dX14_init_7 : decode cX14_init 7 = .ok (.newarray .byte, 2) := dk_188_8 (dk_at dksX14_init_0 7 rfl rfl)
theorem dX14_init_9 : decode cX14_init 9 = .ok (.putfield 10, 3) := dk_181 0 10 (dk_at dksX14_init_0 9 rfl rfl)
theorem dX14_init_12 : decode cX14_init 12 = .ok (.aload_n 0, 1) := dk_42 (dk_at dksX14_init_0 12 rfl rfl)
theorem dX14_init_13 : decode cX14_init 13 = .ok (.sipush 12001, 3) := dk_17 46 225 (dk_at dksX14_init_0 13 rfl rfl)
theorem dX14_init_16 : decode cX14_init 16 = .ok (.newarray .int, 2) := dk_188_10 (dk_at dksX14_init_0 16 rfl rfl)
theorem dX14_init_18 : decode cX14_init 18 = .ok (.putfield 16, 3) := dk_181 0 16 (dk_at dksX14_init_0 18 rfl rfl)
theorem dX14_init_21 : decode cX14_init 21 = .ok (.iconst 0, 1) := dk_3 (dk_at dksX14_init_0 21 rfl rfl)
theorem dX14_init_22 : decode cX14_init 22 = .ok (.istore_n 1, 1) := dk_60 (dk_at dksX14_init_0 22 rfl rfl)
theorem dX14_init_23 : decode cX14_init 23 = .ok (.iload_n 1, 1) := dk_27 (dk_at dksX14_init_0 23 rfl rfl)
theorem dX14_init_24 : decode cX14_init 24 = .ok (.ldc 20, 2) := dk_18 20 (dk_at dksX14_init_1 0 rfl rfl)
theorem dX14_init_26 : decode cX14_init 26 = .ok (.invokevirtual 22, 3) := dk_182 0 22 (dk_at dksX14_init_1 2 rfl rfl)
theorem dX14_init_29 : decode cX14_init 29 = .ok (.if_icmp .ge 22, 3) := dk_162 0 22 (dk_at dksX14_init_1 5 rfl rfl)
theorem dX14_init_32 : decode cX14_init 32 = .ok (.aload_n 0, 1) := dk_42 (dk_at dksX14_init_1 8 rfl rfl)
theorem dX14_init_33 : decode cX14_init 33 = .ok (.getfield 10, 3) := dk_180 0 10 (dk_at dksX14_init_1 9 rfl rfl)
theorem dX14_init_36 : decode cX14_init 36 = .ok (.iload_n 1, 1) := dk_27 (dk_at dksX14_init_1 12 rfl rfl)
theorem dX14_init_37 : decode cX14_init 37 = .ok (.ldc 20, 2) := dk_18 20 (dk_at dksX14_init_1 13 rfl rfl)
theorem dX14_init_39 : decode cX14_init 39 = .ok (.iload_n 1, 1) := dk_27 (dk_at dksX14_init_1 15 rfl rfl)
theorem dX14_init_40 : decode cX14_init 40 = .ok (.invokevirtual 28, 3) := dk_182 0 28 (dk_at dksX14_init_1 16 rfl rfl)
theorem dX14_init_43 : decode cX14_init 43 = .ok (.i2b, 1) := dk_145 (dk_at dksX14_init_1 19 rfl rfl)
theorem dX14_init_44 : decode cX14_init 44 = .ok (.bastore, 1) := dk_84 (dk_at dksX14_init_1 20 rfl rfl)
theorem dX14_init_45 : decode cX14_init 45 = .ok (.iinc 1 1, 3) := dk_132 1 1 (dk_at dksX14_init_1 21 rfl rfl)
theorem dX14_init_48 : decode cX14_init 48 = .ok (.goto (-25), 3) := dk_167 255 231 (dk_at dksX14_init_2 0 rfl rfl)
theorem dX14_init_51 : decode cX14_init 51 = .ok (.aload_n 0, 1) := dk_42 (dk_at dksX14_init_2 3 rfl rfl)
theorem dX14_init_52 : decode cX14_init 52 = .ok (.getfield 16, 3) := dk_180 0 16 (dk_at dksX14_init_2 4 rfl rfl)
theorem dX14_init_55 : decode cX14_init 55 = .ok (.iconst 1, 1) := dk_4 (dk_at dksX14_init_2 7 rfl rfl)
theorem dX14_init_56 : decode cX14_init 56 = .ok (.ldc 20, 2) := dk_18 20 (dk_at dksX14_init_2 8 rfl rfl)
theorem dX14_init_58 : decode cX14_init 58 = .ok (.invokevirtual 22, 3) := dk_182 0 22 (dk_at dksX14_init_2 10 rfl rfl)
theorem dX14_init_61 : decode cX14_init 61 = .ok (.iastore, 1) := dk_79 (dk_at dksX14_init_2 13 rfl rfl)
theorem dX14_init_62 : decode cX14_init 62 = .ok (.aload_n 0, 1) := dk_42 (dk_at dksX14_init_2 14 rfl rfl)
theorem dX14_init_63 : decode cX14_init 63 = .ok (.iconst 1, 1) := dk_4 (dk_at dksX14_init_2 15 rfl rfl)
theorem dX14_init_64 : decode cX14_init 64 = .ok (.putfield 32, 3) := dk_181 0 32 (dk_at dksX14_init_2 16 rfl rfl)
theorem dX14_init_67 : decode cX14_init 67 = .ok (.return_, 1) := dk_177 (dk_at dksX14_init_2 19 rfl rfl)
abbrev cX14_keep : ByteArray := prog_11_method_5_code
def yX14_keep : MethodName := ⟨RX14, "keep", "([BII)I"⟩
def dkwX14_keep_2 : List UInt8 := [42, 180, 0, 16, 42, 180, 0, 32, 42, 180, 0, 16, 21, 4, 46, 29, 96, 28, 100, 79, 21, 4, 172]
abbrev dktX14_keep_2 : List UInt8 := dkwX14_keep_2 ++ []
def dkwX14_keep_1 : List UInt8 := [181, 0, 32, 54, 4, 43, 28, 42, 180, 0, 10, 42, 180, 0, 16, 21, 4, 46, 29, 28, 100, 184, 0, 47]
abbrev dktX14_keep_1 : List UInt8 := dkwX14_keep_1 ++ dktX14_keep_2
def dkwX14_keep_0 : List UInt8 := [42, 43, 28, 29, 182, 0, 43, 54, 4, 21, 4, 156, 0, 55, 42, 89, 180, 0, 32, 90, 4, 96]
abbrev dktX14_keep_0 : List UInt8 := dkwX14_keep_0 ++ dktX14_keep_1
theorem dksX14_keep_0 : cX14_keep.data.toList.drop 0 = dktX14_keep_0 := by decide +kernel
theorem dksX14_keep_1 : cX14_keep.data.toList.drop 22 = dktX14_keep_1 := dk_seg dksX14_keep_0 22 rfl rfl
theorem dksX14_keep_2 : cX14_keep.data.toList.drop 46 = dktX14_keep_2 := dk_seg dksX14_keep_1 24 rfl rfl
theorem dX14_keep_0 : decode cX14_keep 0 = .ok (.aload_n 0, 1) := dk_42 (dk_at dksX14_keep_0 0 rfl rfl)
theorem dX14_keep_1 : decode cX14_keep 1 = .ok (.aload_n 1, 1) := dk_43 (dk_at dksX14_keep_0 1 rfl rfl)
theorem dX14_keep_2 : decode cX14_keep 2 = .ok (.iload_n 2, 1) := dk_28 (dk_at dksX14_keep_0 2 rfl rfl)
theorem dX14_keep_3 : decode cX14_keep 3 = .ok (.iload_n 3, 1) := dk_29 (dk_at dksX14_keep_0 3 rfl rfl)
theorem dX14_keep_4 : decode cX14_keep 4 = .ok (.invokevirtual 43, 3) := dk_182 0 43 (dk_at dksX14_keep_0 4 rfl rfl)
theorem dX14_keep_7 : decode cX14_keep 7 = .ok (.istore 4, 2) := dk_54 4 (dk_at dksX14_keep_0 7 rfl rfl)
theorem dX14_keep_9 : decode cX14_keep 9 = .ok (.iload 4, 2) := dk_21 4 (dk_at dksX14_keep_0 9 rfl rfl)
theorem dX14_keep_11 : decode cX14_keep 11 = .ok (.ifCond .ge 55, 3) := dk_156 0 55 (dk_at dksX14_keep_0 11 rfl rfl)
theorem dX14_keep_14 : decode cX14_keep 14 = .ok (.aload_n 0, 1) := dk_42 (dk_at dksX14_keep_0 14 rfl rfl)
theorem dX14_keep_15 : decode cX14_keep 15 = .ok (.dup, 1) := dk_89 (dk_at dksX14_keep_0 15 rfl rfl)
theorem dX14_keep_16 : decode cX14_keep 16 = .ok (.getfield 32, 3) := dk_180 0 32 (dk_at dksX14_keep_0 16 rfl rfl)
theorem dX14_keep_19 : decode cX14_keep 19 = .ok (.dup_x1, 1) := dk_90 (dk_at dksX14_keep_0 19 rfl rfl)
theorem dX14_keep_20 : decode cX14_keep 20 = .ok (.iconst 1, 1) := dk_4 (dk_at dksX14_keep_0 20 rfl rfl)
theorem dX14_keep_21 : decode cX14_keep 21 = .ok (.iadd, 1) := dk_96 (dk_at dksX14_keep_0 21 rfl rfl)
theorem dX14_keep_22 : decode cX14_keep 22 = .ok (.putfield 32, 3) := dk_181 0 32 (dk_at dksX14_keep_1 0 rfl rfl)
theorem dX14_keep_25 : decode cX14_keep 25 = .ok (.istore 4, 2) := dk_54 4 (dk_at dksX14_keep_1 3 rfl rfl)
theorem dX14_keep_27 : decode cX14_keep 27 = .ok (.aload_n 1, 1) := dk_43 (dk_at dksX14_keep_1 5 rfl rfl)
theorem dX14_keep_28 : decode cX14_keep 28 = .ok (.iload_n 2, 1) := dk_28 (dk_at dksX14_keep_1 6 rfl rfl)
theorem dX14_keep_29 : decode cX14_keep 29 = .ok (.aload_n 0, 1) := dk_42 (dk_at dksX14_keep_1 7 rfl rfl)
theorem dX14_keep_30 : decode cX14_keep 30 = .ok (.getfield 10, 3) := dk_180 0 10 (dk_at dksX14_keep_1 8 rfl rfl)
theorem dX14_keep_33 : decode cX14_keep 33 = .ok (.aload_n 0, 1) := dk_42 (dk_at dksX14_keep_1 11 rfl rfl)
theorem dX14_keep_34 : decode cX14_keep 34 = .ok (.getfield 16, 3) := dk_180 0 16 (dk_at dksX14_keep_1 12 rfl rfl)
theorem dX14_keep_37 : decode cX14_keep 37 = .ok (.iload 4, 2) := dk_21 4 (dk_at dksX14_keep_1 15 rfl rfl)
theorem dX14_keep_39 : decode cX14_keep 39 = .ok (.iaload, 1) := dk_46 (dk_at dksX14_keep_1 17 rfl rfl)
theorem dX14_keep_40 : decode cX14_keep 40 = .ok (.iload_n 3, 1) := dk_29 (dk_at dksX14_keep_1 18 rfl rfl)
theorem dX14_keep_41 : decode cX14_keep 41 = .ok (.iload_n 2, 1) := dk_28 (dk_at dksX14_keep_1 19 rfl rfl)
theorem dX14_keep_42 : decode cX14_keep 42 = .ok (.isub, 1) := dk_100 (dk_at dksX14_keep_1 20 rfl rfl)
theorem dX14_keep_43 : decode cX14_keep 43 = .ok (.invokestatic 47, 3) := dk_184 0 47 (dk_at dksX14_keep_1 21 rfl rfl)
theorem dX14_keep_46 : decode cX14_keep 46 = .ok (.aload_n 0, 1) := dk_42 (dk_at dksX14_keep_2 0 rfl rfl)
theorem dX14_keep_47 : decode cX14_keep 47 = .ok (.getfield 16, 3) := dk_180 0 16 (dk_at dksX14_keep_2 1 rfl rfl)
theorem dX14_keep_50 : decode cX14_keep 50 = .ok (.aload_n 0, 1) := dk_42 (dk_at dksX14_keep_2 4 rfl rfl)
theorem dX14_keep_51 : decode cX14_keep 51 = .ok (.getfield 32, 3) := dk_180 0 32 (dk_at dksX14_keep_2 5 rfl rfl)
theorem dX14_keep_54 : decode cX14_keep 54 = .ok (.aload_n 0, 1) := dk_42 (dk_at dksX14_keep_2 8 rfl rfl)
theorem dX14_keep_55 : decode cX14_keep 55 = .ok (.getfield 16, 3) := dk_180 0 16 (dk_at dksX14_keep_2 9 rfl rfl)
theorem dX14_keep_58 : decode cX14_keep 58 = .ok (.iload 4, 2) := dk_21 4 (dk_at dksX14_keep_2 12 rfl rfl)
theorem dX14_keep_60 : decode cX14_keep 60 = .ok (.iaload, 1) := dk_46 (dk_at dksX14_keep_2 14 rfl rfl)
theorem dX14_keep_61 : decode cX14_keep 61 = .ok (.iload_n 3, 1) := dk_29 (dk_at dksX14_keep_2 15 rfl rfl)
theorem dX14_keep_62 : decode cX14_keep 62 = .ok (.iadd, 1) := dk_96 (dk_at dksX14_keep_2 16 rfl rfl)
theorem dX14_keep_63 : decode cX14_keep 63 = .ok (.iload_n 2, 1) := dk_28 (dk_at dksX14_keep_2 17 rfl rfl)
theorem dX14_keep_64 : decode cX14_keep 64 = .ok (.isub, 1) := dk_100 (dk_at dksX14_keep_2 18 rfl rfl)
theorem dX14_keep_65 : decode cX14_keep 65 = .ok (.iastore, 1) := dk_79 (dk_at dksX14_keep_2 19 rfl rfl)
theorem dX14_keep_66 : decode cX14_keep 66 = .ok (.iload 4, 2) := dk_21 4 (dk_at dksX14_keep_2 20 rfl rfl)
theorem dX14_keep_68 : decode cX14_keep 68 = .ok (.ireturn, 1) := dk_172 (dk_at dksX14_keep_2 22 rfl rfl)
abbrev cX14_find : ByteArray := prog_11_method_3_code
def yX14_find : MethodName := ⟨RX14, "find", "([BII)I"⟩
def dkwX14_find_1 : List UInt8 := [132, 4, 1, 167, 255, 232, 21, 4, 42, 180, 0, 32, 162, 0, 8, 21, 4, 167, 0, 4, 2, 172]
abbrev dktX14_find_1 : List UInt8 := dkwX14_find_1 ++ []
def dkwX14_find_0 : List UInt8 := [3, 54, 4, 21, 4, 42, 180, 0, 32, 162, 0, 21, 42, 21, 4, 43, 28, 29, 182, 0, 36, 154, 0, 9]
abbrev dktX14_find_0 : List UInt8 := dkwX14_find_0 ++ dktX14_find_1
theorem dksX14_find_0 : cX14_find.data.toList.drop 0 = dktX14_find_0 := by decide +kernel
theorem dksX14_find_1 : cX14_find.data.toList.drop 24 = dktX14_find_1 := dk_seg dksX14_find_0 24 rfl rfl
theorem dX14_find_0 : decode cX14_find 0 = .ok (.iconst 0, 1) := dk_3 (dk_at dksX14_find_0 0 rfl rfl)
theorem dX14_find_1 : decode cX14_find 1 = .ok (.istore 4, 2) := dk_54 4 (dk_at dksX14_find_0 1 rfl rfl)
theorem dX14_find_3 : decode cX14_find 3 = .ok (.iload 4, 2) := dk_21 4 (dk_at dksX14_find_0 3 rfl rfl)
theorem dX14_find_5 : decode cX14_find 5 = .ok (.aload_n 0, 1) := dk_42 (dk_at dksX14_find_0 5 rfl rfl)
theorem dX14_find_6 : decode cX14_find 6 = .ok (.getfield 32, 3) := dk_180 0 32 (dk_at dksX14_find_0 6 rfl rfl)
theorem dX14_find_9 : decode cX14_find 9 = .ok (.if_icmp .ge 21, 3) := dk_162 0 21 (dk_at dksX14_find_0 9 rfl rfl)
theorem dX14_find_12 : decode cX14_find 12 = .ok (.aload_n 0, 1) := dk_42 (dk_at dksX14_find_0 12 rfl rfl)
theorem dX14_find_13 : decode cX14_find 13 = .ok (.iload 4, 2) := dk_21 4 (dk_at dksX14_find_0 13 rfl rfl)
theorem dX14_find_15 : decode cX14_find 15 = .ok (.aload_n 1, 1) := dk_43 (dk_at dksX14_find_0 15 rfl rfl)
theorem dX14_find_16 : decode cX14_find 16 = .ok (.iload_n 2, 1) := dk_28 (dk_at dksX14_find_0 16 rfl rfl)
theorem dX14_find_17 : decode cX14_find 17 = .ok (.iload_n 3, 1) := dk_29 (dk_at dksX14_find_0 17 rfl rfl)
theorem dX14_find_18 : decode cX14_find 18 = .ok (.invokevirtual 36, 3) := dk_182 0 36 (dk_at dksX14_find_0 18 rfl rfl)
theorem dX14_find_21 : decode cX14_find 21 = .ok (.ifCond .ne 9, 3) := dk_154 0 9 (dk_at dksX14_find_0 21 rfl rfl)
theorem dX14_find_24 : decode cX14_find 24 = .ok (.iinc 4 1, 3) := dk_132 4 1 (dk_at dksX14_find_1 0 rfl rfl)
theorem dX14_find_27 : decode cX14_find 27 = .ok (.goto (-24), 3) := dk_167 255 232 (dk_at dksX14_find_1 3 rfl rfl)
theorem dX14_find_30 : decode cX14_find 30 = .ok (.iload 4, 2) := dk_21 4 (dk_at dksX14_find_1 6 rfl rfl)
theorem dX14_find_32 : decode cX14_find 32 = .ok (.aload_n 0, 1) := dk_42 (dk_at dksX14_find_1 8 rfl rfl)
theorem dX14_find_33 : decode cX14_find 33 = .ok (.getfield 32, 3) := dk_180 0 32 (dk_at dksX14_find_1 9 rfl rfl)
theorem dX14_find_36 : decode cX14_find 36 = .ok (.if_icmp .ge 8, 3) := dk_162 0 8 (dk_at dksX14_find_1 12 rfl rfl)
theorem dX14_find_39 : decode cX14_find 39 = .ok (.iload 4, 2) := dk_21 4 (dk_at dksX14_find_1 15 rfl rfl)
theorem dX14_find_41 : decode cX14_find 41 = .ok (.goto 4, 3) := dk_167 0 4 (dk_at dksX14_find_1 17 rfl rfl)
theorem dX14_find_44 : decode cX14_find 44 = .ok (.iconst (-1), 1) := dk_2 (dk_at dksX14_find_1 20 rfl rfl)
theorem dX14_find_45 : decode cX14_find 45 = .ok (.ireturn, 1) := dk_172 (dk_at dksX14_find_1 21 rfl rfl)
abbrev cX14_is : ByteArray := prog_11_method_4_code
def yX14_is : MethodName := ⟨RX14, "is", "(I[BII)Z"⟩
def dkwX14_is_3 : List UInt8 := [167, 0, 4, 3, 172]
abbrev dktX14_is_3 : List UInt8 := dkwX14_is_3 ++ []
def dkwX14_is_2 : List UInt8 := [29, 21, 6, 96, 51, 160, 0, 9, 132, 6, 1, 167, 255, 223, 21, 6, 21, 5, 160, 0, 7, 4]
abbrev dktX14_is_2 : List UInt8 := dkwX14_is_2 ++ dktX14_is_3
def dkwX14_is_1 : List UInt8 := [54, 6, 21, 6, 21, 5, 162, 0, 32, 42, 180, 0, 10, 42, 180, 0, 16, 27, 46, 21, 6, 96, 51, 44]
abbrev dktX14_is_1 : List UInt8 := dkwX14_is_1 ++ dktX14_is_2
def dkwX14_is_0 : List UInt8 := [42, 27, 182, 0, 40, 54, 5, 21, 4, 29, 100, 21, 5, 160, 0, 7, 3, 167, 0, 7, 21, 5, 4, 96]
abbrev dktX14_is_0 : List UInt8 := dkwX14_is_0 ++ dktX14_is_1
theorem dksX14_is_0 : cX14_is.data.toList.drop 0 = dktX14_is_0 := by decide +kernel
theorem dksX14_is_1 : cX14_is.data.toList.drop 24 = dktX14_is_1 := dk_seg dksX14_is_0 24 rfl rfl
theorem dksX14_is_2 : cX14_is.data.toList.drop 48 = dktX14_is_2 := dk_seg dksX14_is_1 24 rfl rfl
theorem dksX14_is_3 : cX14_is.data.toList.drop 70 = dktX14_is_3 := dk_seg dksX14_is_2 22 rfl rfl
theorem dX14_is_0 : decode cX14_is 0 = .ok (.aload_n 0, 1) := dk_42 (dk_at dksX14_is_0 0 rfl rfl)
theorem dX14_is_1 : decode cX14_is 1 = .ok (.iload_n 1, 1) := dk_27 (dk_at dksX14_is_0 1 rfl rfl)
theorem dX14_is_2 : decode cX14_is 2 = .ok (.invokevirtual 40, 3) := dk_182 0 40 (dk_at dksX14_is_0 2 rfl rfl)
theorem dX14_is_5 : decode cX14_is 5 = .ok (.istore 5, 2) := dk_54 5 (dk_at dksX14_is_0 5 rfl rfl)
theorem dX14_is_7 : decode cX14_is 7 = .ok (.iload 4, 2) := dk_21 4 (dk_at dksX14_is_0 7 rfl rfl)
theorem dX14_is_9 : decode cX14_is 9 = .ok (.iload_n 3, 1) := dk_29 (dk_at dksX14_is_0 9 rfl rfl)
theorem dX14_is_10 : decode cX14_is 10 = .ok (.isub, 1) := dk_100 (dk_at dksX14_is_0 10 rfl rfl)
theorem dX14_is_11 : decode cX14_is 11 = .ok (.iload 5, 2) := dk_21 5 (dk_at dksX14_is_0 11 rfl rfl)
theorem dX14_is_13 : decode cX14_is 13 = .ok (.if_icmp .ne 7, 3) := dk_160 0 7 (dk_at dksX14_is_0 13 rfl rfl)
theorem dX14_is_16 : decode cX14_is 16 = .ok (.iconst 0, 1) := dk_3 (dk_at dksX14_is_0 16 rfl rfl)
theorem dX14_is_17 : decode cX14_is 17 = .ok (.goto 7, 3) := dk_167 0 7 (dk_at dksX14_is_0 17 rfl rfl)
theorem dX14_is_20 : decode cX14_is 20 = .ok (.iload 5, 2) := dk_21 5 (dk_at dksX14_is_0 20 rfl rfl)
theorem dX14_is_22 : decode cX14_is 22 = .ok (.iconst 1, 1) := dk_4 (dk_at dksX14_is_0 22 rfl rfl)
theorem dX14_is_23 : decode cX14_is 23 = .ok (.iadd, 1) := dk_96 (dk_at dksX14_is_0 23 rfl rfl)
theorem dX14_is_24 : decode cX14_is 24 = .ok (.istore 6, 2) := dk_54 6 (dk_at dksX14_is_1 0 rfl rfl)
theorem dX14_is_26 : decode cX14_is 26 = .ok (.iload 6, 2) := dk_21 6 (dk_at dksX14_is_1 2 rfl rfl)
theorem dX14_is_28 : decode cX14_is 28 = .ok (.iload 5, 2) := dk_21 5 (dk_at dksX14_is_1 4 rfl rfl)
theorem dX14_is_30 : decode cX14_is 30 = .ok (.if_icmp .ge 32, 3) := dk_162 0 32 (dk_at dksX14_is_1 6 rfl rfl)
theorem dX14_is_33 : decode cX14_is 33 = .ok (.aload_n 0, 1) := dk_42 (dk_at dksX14_is_1 9 rfl rfl)
theorem dX14_is_34 : decode cX14_is 34 = .ok (.getfield 10, 3) := dk_180 0 10 (dk_at dksX14_is_1 10 rfl rfl)
theorem dX14_is_37 : decode cX14_is 37 = .ok (.aload_n 0, 1) := dk_42 (dk_at dksX14_is_1 13 rfl rfl)
theorem dX14_is_38 : decode cX14_is 38 = .ok (.getfield 16, 3) := dk_180 0 16 (dk_at dksX14_is_1 14 rfl rfl)
theorem dX14_is_41 : decode cX14_is 41 = .ok (.iload_n 1, 1) := dk_27 (dk_at dksX14_is_1 17 rfl rfl)
theorem dX14_is_42 : decode cX14_is 42 = .ok (.iaload, 1) := dk_46 (dk_at dksX14_is_1 18 rfl rfl)
theorem dX14_is_43 : decode cX14_is 43 = .ok (.iload 6, 2) := dk_21 6 (dk_at dksX14_is_1 19 rfl rfl)
theorem dX14_is_45 : decode cX14_is 45 = .ok (.iadd, 1) := dk_96 (dk_at dksX14_is_1 21 rfl rfl)
theorem dX14_is_46 : decode cX14_is 46 = .ok (.baload, 1) := dk_51 (dk_at dksX14_is_1 22 rfl rfl)
theorem dX14_is_47 : decode cX14_is 47 = .ok (.aload_n 2, 1) := dk_44 (dk_at dksX14_is_1 23 rfl rfl)
theorem dX14_is_48 : decode cX14_is 48 = .ok (.iload_n 3, 1) := dk_29 (dk_at dksX14_is_2 0 rfl rfl)
theorem dX14_is_49 : decode cX14_is 49 = .ok (.iload 6, 2) := dk_21 6 (dk_at dksX14_is_2 1 rfl rfl)
theorem dX14_is_51 : decode cX14_is 51 = .ok (.iadd, 1) := dk_96 (dk_at dksX14_is_2 3 rfl rfl)
theorem dX14_is_52 : decode cX14_is 52 = .ok (.baload, 1) := dk_51 (dk_at dksX14_is_2 4 rfl rfl)
theorem dX14_is_53 : decode cX14_is 53 = .ok (.if_icmp .ne 9, 3) := dk_160 0 9 (dk_at dksX14_is_2 5 rfl rfl)
theorem dX14_is_56 : decode cX14_is 56 = .ok (.iinc 6 1, 3) := dk_132 6 1 (dk_at dksX14_is_2 8 rfl rfl)
theorem dX14_is_59 : decode cX14_is 59 = .ok (.goto (-33), 3) := dk_167 255 223 (dk_at dksX14_is_2 11 rfl rfl)
theorem dX14_is_62 : decode cX14_is 62 = .ok (.iload 6, 2) := dk_21 6 (dk_at dksX14_is_2 14 rfl rfl)
theorem dX14_is_64 : decode cX14_is 64 = .ok (.iload 5, 2) := dk_21 5 (dk_at dksX14_is_2 16 rfl rfl)
theorem dX14_is_66 : decode cX14_is 66 = .ok (.if_icmp .ne 7, 3) := dk_160 0 7 (dk_at dksX14_is_2 18 rfl rfl)
theorem dX14_is_69 : decode cX14_is 69 = .ok (.iconst 1, 1) := dk_4 (dk_at dksX14_is_2 21 rfl rfl)
theorem dX14_is_70 : decode cX14_is 70 = .ok (.goto 4, 3) := dk_167 0 4 (dk_at dksX14_is_3 0 rfl rfl)
theorem dX14_is_73 : decode cX14_is 73 = .ok (.iconst 0, 1) := dk_3 (dk_at dksX14_is_3 3 rfl rfl)
theorem dX14_is_74 : decode cX14_is 74 = .ok (.ireturn, 1) := dk_172 (dk_at dksX14_is_3 4 rfl rfl)
abbrev cX14_length : ByteArray := prog_11_method_2_code
def yX14_length : MethodName := ⟨RX14, "length", "(I)I"⟩
def dkwX14_length_0 : List UInt8 := [42, 180, 0, 16, 27, 4, 96, 46, 42, 180, 0, 16, 27, 46, 100, 172]
abbrev dktX14_length_0 : List UInt8 := dkwX14_length_0 ++ []
theorem dksX14_length_0 : cX14_length.data.toList.drop 0 = dktX14_length_0 := by decide +kernel
theorem dX14_length_0 : decode cX14_length 0 = .ok (.aload_n 0, 1) := dk_42 (dk_at dksX14_length_0 0 rfl rfl)
theorem dX14_length_1 : decode cX14_length 1 = .ok (.getfield 16, 3) := dk_180 0 16 (dk_at dksX14_length_0 1 rfl rfl)
theorem dX14_length_4 : decode cX14_length 4 = .ok (.iload_n 1, 1) := dk_27 (dk_at dksX14_length_0 4 rfl rfl)
theorem dX14_length_5 : decode cX14_length 5 = .ok (.iconst 1, 1) := dk_4 (dk_at dksX14_length_0 5 rfl rfl)
theorem dX14_length_6 : decode cX14_length 6 = .ok (.iadd, 1) := dk_96 (dk_at dksX14_length_0 6 rfl rfl)
theorem dX14_length_7 : decode cX14_length 7 = .ok (.iaload, 1) := dk_46 (dk_at dksX14_length_0 7 rfl rfl)
theorem dX14_length_8 : decode cX14_length 8 = .ok (.aload_n 0, 1) := dk_42 (dk_at dksX14_length_0 8 rfl rfl)
theorem dX14_length_9 : decode cX14_length 9 = .ok (.getfield 16, 3) := dk_180 0 16 (dk_at dksX14_length_0 9 rfl rfl)
theorem dX14_length_12 : decode cX14_length 12 = .ok (.iload_n 1, 1) := dk_27 (dk_at dksX14_length_0 12 rfl rfl)
theorem dX14_length_13 : decode cX14_length 13 = .ok (.iaload, 1) := dk_46 (dk_at dksX14_length_0 13 rfl rfl)
theorem dX14_length_14 : decode cX14_length 14 = .ok (.isub, 1) := dk_100 (dk_at dksX14_length_0 14 rfl rfl)
theorem dX14_length_15 : decode cX14_length 15 = .ok (.ireturn, 1) := dk_172 (dk_at dksX14_length_0 15 rfl rfl)
theorem q381 : (Jvm.Cond.initialized "ContractLedger$Names") ∈ lw_all := lw_g (lw_at lw_m1 24 rfl) rfl
theorem q972 : (Jvm.Cond.instantiable "ContractLedger$Names" (3 : Nat)) ∈ lw_all := lw_g (lw_at lw_m3 135 rfl) rfl
theorem q974 : (Jvm.Cond.instanceMethod ({ cls := "ContractLedger$Names", name := "<init>", desc := "()V" } : Jvm.MethodName)) ∈ lw_all := lw_g (lw_at lw_m3 137 rfl) rfl
theorem q975 : (Jvm.Cond.code ({ cls := "ContractLedger$Names", name := "<init>", desc := "()V" } : Jvm.MethodName) prog_11_method_1_code (2 : Nat) (Option.none : Option Jvm.ClassFile.FieldType)) ∈ lw_all := lw_g (lw_at lw_m3 138 rfl) rfl
theorem q976 : (Jvm.Cond.methodLink "ContractLedger$Names" (3 : Nat) ({ cls := "java/lang/Object", name := "<init>", desc := "()V" } : Jvm.MethodName)) ∈ lw_all := lw_g (lw_at lw_m3 139 rfl) rfl
theorem q977 : (Jvm.Cond.constant "ContractLedger$Names" (9 : Nat) (90000 : Int32)) ∈ lw_all := lw_g (lw_at lw_m3 140 rfl) rfl
theorem q978 : (Jvm.Cond.stringRef "ContractLedger$Names" (20 : Nat) "default") ∈ lw_tbl := lw_at lw_m3 141 rfl
theorem q979 : (Jvm.Cond.methodLink "ContractLedger$Names" (22 : Nat) ({ cls := "java/lang/String", name := "length", desc := "()I" } : Jvm.MethodName)) ∈ lw_all := lw_g (lw_at lw_m3 142 rfl) rfl
theorem q980 : (Jvm.Cond.methodLink "ContractLedger$Names" (28 : Nat) ({ cls := "java/lang/String", name := "charAt", desc := "(I)C" } : Jvm.MethodName)) ∈ lw_all := lw_g (lw_at lw_m3 143 rfl) rfl
theorem q1000 : (Jvm.Cond.fieldLink "ContractLedger$Names" (10 : Nat) "ContractLedger$Names" "bytes" "[B") ∈ lw_all := lw_g (lw_at lw_m3 163 rfl) rfl
theorem q1002 : (Jvm.Cond.fieldLink "ContractLedger$Names" (16 : Nat) "ContractLedger$Names" "starts" "[I") ∈ lw_all := lw_g (lw_at lw_m3 165 rfl) rfl
theorem q1004 : (Jvm.Cond.fieldLink "ContractLedger$Names" (32 : Nat) "ContractLedger$Names" "count" "I") ∈ lw_all := lw_g (lw_at lw_m3 167 rfl) rfl
theorem q1006 : (Jvm.Cond.laysFinal "ContractLedger$Names" "ContractLedger$Names" "bytes" "[B") ∈ lw_all := lw_g (lw_at lw_m3 169 rfl) rfl
theorem q1007 : (Jvm.Cond.soleField "ContractLedger$Names" "bytes") ∈ lw_all := lw_g (lw_at lw_m3 170 rfl) rfl
theorem q1008 : (Jvm.Cond.laysFinal "ContractLedger$Names" "ContractLedger$Names" "starts" "[I") ∈ lw_all := lw_g (lw_at lw_m3 171 rfl) rfl
theorem q1009 : (Jvm.Cond.soleField "ContractLedger$Names" "starts") ∈ lw_all := lw_g (lw_at lw_m3 172 rfl) rfl
theorem q1010 : (Jvm.Cond.lays "ContractLedger$Names" "ContractLedger$Names" "count" "I") ∈ lw_all := lw_g (lw_at lw_m3 173 rfl) rfl
theorem q1011 : (Jvm.Cond.soleField "ContractLedger$Names" "count") ∈ lw_all := lw_g (lw_at lw_m3 174 rfl) rfl
theorem q1012 : (Jvm.Cond.superclass "ContractLedger$Names" "java/lang/Object") ∈ lw_all := lw_g (lw_at lw_m3 175 rfl) rfl
theorem q1876 : (Jvm.Cond.instanceMethod ({ cls := "ContractLedger$Names", name := "keep", desc := "([BII)I" } : Jvm.MethodName)) ∈ lw_all := lw_g (lw_at lw_m7 79 rfl) rfl
theorem q1877 : (Jvm.Cond.selects "ContractLedger$Names" ({ cls := "ContractLedger$Names", name := "keep", desc := "([BII)I" } : Jvm.MethodName) ({ cls := "ContractLedger$Names", name := "keep", desc := "([BII)I" } : Jvm.MethodName)) ∈ lw_all := lw_g (lw_at lw_m7 80 rfl) rfl
theorem q1878 : (Jvm.Cond.code ({ cls := "ContractLedger$Names", name := "keep", desc := "([BII)I" } : Jvm.MethodName) prog_11_method_5_code (5 : Nat) (Option.some Jvm.ClassFile.FieldType.int)) ∈ lw_all := lw_g (lw_at lw_m7 81 rfl) rfl
theorem q1879 : (Jvm.Cond.methodLink "ContractLedger$Names" (43 : Nat) ({ cls := "ContractLedger$Names", name := "find", desc := "([BII)I" } : Jvm.MethodName)) ∈ lw_all := lw_g (lw_at lw_m7 82 rfl) rfl
theorem q1880 : (Jvm.Cond.instanceMethod ({ cls := "ContractLedger$Names", name := "find", desc := "([BII)I" } : Jvm.MethodName)) ∈ lw_all := lw_g (lw_at lw_m7 83 rfl) rfl
theorem q1881 : (Jvm.Cond.selects "ContractLedger$Names" ({ cls := "ContractLedger$Names", name := "find", desc := "([BII)I" } : Jvm.MethodName) ({ cls := "ContractLedger$Names", name := "find", desc := "([BII)I" } : Jvm.MethodName)) ∈ lw_all := lw_g (lw_at lw_m7 84 rfl) rfl
theorem q1882 : (Jvm.Cond.code ({ cls := "ContractLedger$Names", name := "find", desc := "([BII)I" } : Jvm.MethodName) prog_11_method_3_code (5 : Nat) (Option.some Jvm.ClassFile.FieldType.int)) ∈ lw_all := lw_g (lw_at lw_m7 85 rfl) rfl
theorem q1883 : (Jvm.Cond.methodLink "ContractLedger$Names" (36 : Nat) ({ cls := "ContractLedger$Names", name := "is", desc := "(I[BII)Z" } : Jvm.MethodName)) ∈ lw_all := lw_g (lw_at lw_m7 86 rfl) rfl
theorem q1884 : (Jvm.Cond.privateMethod ({ cls := "ContractLedger$Names", name := "is", desc := "(I[BII)Z" } : Jvm.MethodName)) ∈ lw_tbl := lw_at lw_m7 87 rfl
theorem q1885 : (Jvm.Cond.instanceMethod ({ cls := "ContractLedger$Names", name := "is", desc := "(I[BII)Z" } : Jvm.MethodName)) ∈ lw_all := lw_g (lw_at lw_m7 88 rfl) rfl
theorem q1886 : (Jvm.Cond.code ({ cls := "ContractLedger$Names", name := "is", desc := "(I[BII)Z" } : Jvm.MethodName) prog_11_method_4_code (7 : Nat) (Option.some Jvm.ClassFile.FieldType.boolean)) ∈ lw_all := lw_g (lw_at lw_m7 89 rfl) rfl
theorem q1887 : (Jvm.Cond.methodLink "ContractLedger$Names" (40 : Nat) ({ cls := "ContractLedger$Names", name := "length", desc := "(I)I" } : Jvm.MethodName)) ∈ lw_all := lw_g (lw_at lw_m7 90 rfl) rfl
theorem q1888 : (Jvm.Cond.instanceMethod ({ cls := "ContractLedger$Names", name := "length", desc := "(I)I" } : Jvm.MethodName)) ∈ lw_all := lw_g (lw_at lw_m7 91 rfl) rfl
theorem q1889 : (Jvm.Cond.selects "ContractLedger$Names" ({ cls := "ContractLedger$Names", name := "length", desc := "(I)I" } : Jvm.MethodName) ({ cls := "ContractLedger$Names", name := "length", desc := "(I)I" } : Jvm.MethodName)) ∈ lw_all := lw_g (lw_at lw_m7 92 rfl) rfl
theorem q1890 : (Jvm.Cond.code ({ cls := "ContractLedger$Names", name := "length", desc := "(I)I" } : Jvm.MethodName) prog_11_method_2_code (2 : Nat) (Option.some Jvm.ClassFile.FieldType.int)) ∈ lw_all := lw_g (lw_at lw_m7 93 rfl) rfl
theorem q1891 : (Jvm.Cond.methodLink "ContractLedger$Names" (47 : Nat) ({ cls := "java/lang/System", name := "arraycopy", desc := "(Ljava/lang/Object;ILjava/lang/Object;II)V" } : Jvm.MethodName)) ∈ lw_all := lw_g (lw_at lw_m7 94 rfl) rfl
set_option maxRecDepth 100000
set_option maxRecDepth 100000 in
set_option maxRecDepth 100000 in
abbrev cX15_init : ByteArray := prog_16_method_1_code
def yX15_init : MethodName := ⟨RX15, "<init>", "()V"⟩
def dkwX15_init_4 : List UInt8 := [181, 0, 40, 42, 18, 44, 188, 10, 181, 0, 45, 42, 8, 181, 0, 48, 177]
abbrev dktX15_init_4 : List UInt8 := dkwX15_init_4 ++ []
def dkwX15_init_3 : List UInt8 := [17, 46, 224, 188, 10, 181, 0, 33, 42, 17, 46, 224, 188, 11, 181, 0, 36, 42, 17, 46, 224, 188, 8]
abbrev dktX15_init_3 : List UInt8 := dkwX15_init_3 ++ dktX15_init_4
def dkwX15_init_2 : List UInt8 := [181, 0, 24, 42, 17, 7, 208, 188, 10, 181, 0, 27, 42, 17, 46, 224, 188, 10, 181, 0, 30, 42]
abbrev dktX15_init_2 : List UInt8 := dkwX15_init_2 ++ dktX15_init_3
def dkwX15_init_1 : List UInt8 := [17, 7, 208, 188, 10, 181, 0, 18, 42, 17, 7, 209, 188, 10, 181, 0, 21, 42, 17, 7, 208, 188, 10]
abbrev dktX15_init_1 : List UInt8 := dkwX15_init_1 ++ dktX15_init_2
def dkwX15_init_0 : List UInt8 := [42, 183, 0, 3, 42, 17, 7, 208, 188, 10, 181, 0, 9, 42, 17, 7, 208, 188, 10, 181, 0, 15, 42]
abbrev dktX15_init_0 : List UInt8 := dkwX15_init_0 ++ dktX15_init_1
theorem dksX15_init_0 : cX15_init.data.toList.drop 0 = dktX15_init_0 := by decide +kernel
theorem dksX15_init_1 : cX15_init.data.toList.drop 23 = dktX15_init_1 := dk_seg dksX15_init_0 23 rfl rfl
theorem dksX15_init_2 : cX15_init.data.toList.drop 46 = dktX15_init_2 := dk_seg dksX15_init_1 23 rfl rfl
theorem dksX15_init_3 : cX15_init.data.toList.drop 68 = dktX15_init_3 := dk_seg dksX15_init_2 22 rfl rfl
theorem dksX15_init_4 : cX15_init.data.toList.drop 91 = dktX15_init_4 := dk_seg dksX15_init_3 23 rfl rfl
theorem dX15_init_0 : decode cX15_init 0 = .ok (.aload_n 0, 1) := dk_42 (dk_at dksX15_init_0 0 rfl rfl)
theorem dX15_init_1 : decode cX15_init 1 = .ok (.invokespecial 3, 3) := dk_183 0 3 (dk_at dksX15_init_0 1 rfl rfl)
theorem dX15_init_4 : decode cX15_init 4 = .ok (.aload_n 0, 1) := dk_42 (dk_at dksX15_init_0 4 rfl rfl)
theorem dX15_init_5 : decode cX15_init 5 = .ok (.sipush 2000, 3) := dk_17 7 208 (dk_at dksX15_init_0 5 rfl rfl)
theorem dX15_init_8 : decode cX15_init 8 = .ok (.newarray .int, 2) := dk_188_10 (dk_at dksX15_init_0 8 rfl rfl)
theorem dX15_init_10 : decode cX15_init 10 = .ok (.putfield 9, 3) := dk_181 0 9 (dk_at dksX15_init_0 10 rfl rfl)
theorem dX15_init_13 : decode cX15_init 13 = .ok (.aload_n 0, 1) := dk_42 (dk_at dksX15_init_0 13 rfl rfl)
theorem dX15_init_14 : decode cX15_init 14 = .ok (.sipush 2000, 3) := dk_17 7 208 (dk_at dksX15_init_0 14 rfl rfl)
theorem dX15_init_17 : decode cX15_init 17 = .ok (.newarray .int, 2) := dk_188_10 (dk_at dksX15_init_0 17 rfl rfl)
theorem dX15_init_19 : decode cX15_init 19 = .ok (.putfield 15, 3) := dk_181 0 15 (dk_at dksX15_init_0 19 rfl rfl)
theorem dX15_init_22 : decode cX15_init 22 = .ok (.aload_n 0, 1) := dk_42 (dk_at dksX15_init_0 22 rfl rfl)
theorem dX15_init_23 : decode cX15_init 23 = .ok (.sipush 2000, 3) := dk_17 7 208 (dk_at dksX15_init_1 0 rfl rfl)
theorem dX15_init_26 : decode cX15_init 26 = .ok (.newarray .int, 2) := dk_188_10 (dk_at dksX15_init_1 3 rfl rfl)
theorem dX15_init_28 : decode cX15_init 28 = .ok (.putfield 18, 3) := dk_181 0 18 (dk_at dksX15_init_1 5 rfl rfl)
theorem dX15_init_31 : decode cX15_init 31 = .ok (.aload_n 0, 1) := dk_42 (dk_at dksX15_init_1 8 rfl rfl)
theorem dX15_init_32 : decode cX15_init 32 = .ok (.sipush 2001, 3) := dk_17 7 209 (dk_at dksX15_init_1 9 rfl rfl)
theorem dX15_init_35 : decode cX15_init 35 = .ok (.newarray .int, 2) := dk_188_10 (dk_at dksX15_init_1 12 rfl rfl)
theorem dX15_init_37 : decode cX15_init 37 = .ok (.putfield 21, 3) := dk_181 0 21 (dk_at dksX15_init_1 14 rfl rfl)
theorem dX15_init_40 : decode cX15_init 40 = .ok (.aload_n 0, 1) := dk_42 (dk_at dksX15_init_1 17 rfl rfl)
theorem dX15_init_41 : decode cX15_init 41 = .ok (.sipush 2000, 3) := dk_17 7 208 (dk_at dksX15_init_1 18 rfl rfl)
theorem dX15_init_44 : decode cX15_init 44 = .ok (.newarray .int, 2) := dk_188_10 (dk_at dksX15_init_1 21 rfl rfl)
theorem dX15_init_46 : decode cX15_init 46 = .ok (.putfield 24, 3) := dk_181 0 24 (dk_at dksX15_init_2 0 rfl rfl)
theorem dX15_init_49 : decode cX15_init 49 = .ok (.aload_n 0, 1) := dk_42 (dk_at dksX15_init_2 3 rfl rfl)
theorem dX15_init_50 : decode cX15_init 50 = .ok (.sipush 2000, 3) := dk_17 7 208 (dk_at dksX15_init_2 4 rfl rfl)
theorem dX15_init_53 : decode cX15_init 53 = .ok (.newarray .int, 2) := dk_188_10 (dk_at dksX15_init_2 7 rfl rfl)
theorem dX15_init_55 : decode cX15_init 55 = .ok (.putfield 27, 3) := dk_181 0 27 (dk_at dksX15_init_2 9 rfl rfl)
theorem dX15_init_58 : decode cX15_init 58 = .ok (.aload_n 0, 1) := dk_42 (dk_at dksX15_init_2 12 rfl rfl)
theorem dX15_init_59 : decode cX15_init 59 = .ok (.sipush 12000, 3) := dk_17 46 224 (dk_at dksX15_init_2 13 rfl rfl)
theorem dX15_init_62 : decode cX15_init 62 = .ok (.newarray .int, 2) := dk_188_10 (dk_at dksX15_init_2 16 rfl rfl)
theorem dX15_init_64 : decode cX15_init 64 = .ok (.putfield 30, 3) := dk_181 0 30 (dk_at dksX15_init_2 18 rfl rfl)
theorem dX15_init_67 : decode cX15_init 67 = .ok (.aload_n 0, 1) := dk_42 (dk_at dksX15_init_2 21 rfl rfl)
theorem dX15_init_68 : decode cX15_init 68 = .ok (.sipush 12000, 3) := dk_17 46 224 (dk_at dksX15_init_3 0 rfl rfl)
theorem dX15_init_71 : decode cX15_init 71 = .ok (.newarray .int, 2) := dk_188_10 (dk_at dksX15_init_3 3 rfl rfl)
theorem dX15_init_73 : decode cX15_init 73 = .ok (.putfield 33, 3) := dk_181 0 33 (dk_at dksX15_init_3 5 rfl rfl)
theorem dX15_init_76 : decode cX15_init 76 = .ok (.aload_n 0, 1) := dk_42 (dk_at dksX15_init_3 8 rfl rfl)
theorem dX15_init_77 : decode cX15_init 77 = .ok (.sipush 12000, 3) := dk_17 46 224 (dk_at dksX15_init_3 9 rfl rfl)
theorem dX15_init_80 : decode cX15_init 80 = .ok (.newarray .long, 2) := dk_188_11 (dk_at dksX15_init_3 12 rfl rfl)
theorem dX15_init_82 : decode cX15_init 82 = .ok (.putfield 36, 3) := dk_181 0 36 (dk_at dksX15_init_3 14 rfl rfl)
theorem dX15_init_85 : decode cX15_init 85 = .ok (.aload_n 0, 1) := dk_42 (dk_at dksX15_init_3 17 rfl rfl)
theorem dX15_init_86 : decode cX15_init 86 = .ok (.sipush 12000, 3) := dk_17 46 224 (dk_at dksX15_init_3 18 rfl rfl)
theorem dX15_init_89 : decode cX15_init 89 = .ok (.newarray .byte, 2) := dk_188_8 (dk_at dksX15_init_3 21 rfl rfl)
theorem dX15_init_91 : decode cX15_init 91 = .ok (.putfield 40, 3) := dk_181 0 40 (dk_at dksX15_init_4 0 rfl rfl)
theorem dX15_init_94 : decode cX15_init 94 = .ok (.aload_n 0, 1) := dk_42 (dk_at dksX15_init_4 3 rfl rfl)
theorem dX15_init_95 : decode cX15_init 95 = .ok (.ldc 44, 2) := dk_18 44 (dk_at dksX15_init_4 4 rfl rfl)
theorem dX15_init_97 : decode cX15_init 97 = .ok (.newarray .int, 2) := dk_188_10 (dk_at dksX15_init_4 6 rfl rfl)
theorem dX15_init_99 : decode cX15_init 99 = .ok (.putfield 45, 3) := dk_181 0 45 (dk_at dksX15_init_4 8 rfl rfl)
theorem dX15_init_102 : decode cX15_init 102 = .ok (.aload_n 0, 1) := dk_42 (dk_at dksX15_init_4 11 rfl rfl)
theorem dX15_init_103 : decode cX15_init 103 = .ok (.iconst 5, 1) := dk_8 (dk_at dksX15_init_4 12 rfl rfl)
theorem dX15_init_104 : decode cX15_init 104 = .ok (.putfield 48, 3) := dk_181 0 48 (dk_at dksX15_init_4 13 rfl rfl)
theorem dX15_init_107 : decode cX15_init 107 = .ok (.return_, 1) := dk_177 (dk_at dksX15_init_4 16 rfl rfl)
abbrev cX15_entry : ByteArray := prog_16_method_4_code
def yX15_entry : MethodName := ⟨RX15, "entry", "(II)I"⟩
def dkwX15_entry_2 : List UInt8 := [167, 0, 4, 2, 172]
abbrev dktX15_entry_2 : List UInt8 := dkwX15_entry_2 ++ []
def dkwX15_entry_1 : List UInt8 := [46, 28, 159, 0, 9, 132, 3, 1, 167, 255, 231, 29, 42, 180, 0, 21, 27, 4, 96, 46, 162, 0, 7, 29]
abbrev dktX15_entry_1 : List UInt8 := dkwX15_entry_1 ++ dktX15_entry_2
def dkwX15_entry_0 : List UInt8 := [42, 180, 0, 21, 27, 46, 62, 29, 42, 180, 0, 21, 27, 4, 96, 46, 162, 0, 19, 42, 180, 0, 30, 29]
abbrev dktX15_entry_0 : List UInt8 := dkwX15_entry_0 ++ dktX15_entry_1
theorem dksX15_entry_0 : cX15_entry.data.toList.drop 0 = dktX15_entry_0 := by decide +kernel
theorem dksX15_entry_1 : cX15_entry.data.toList.drop 24 = dktX15_entry_1 := dk_seg dksX15_entry_0 24 rfl rfl
theorem dksX15_entry_2 : cX15_entry.data.toList.drop 48 = dktX15_entry_2 := dk_seg dksX15_entry_1 24 rfl rfl
theorem dX15_entry_0 : decode cX15_entry 0 = .ok (.aload_n 0, 1) := dk_42 (dk_at dksX15_entry_0 0 rfl rfl)
theorem dX15_entry_1 : decode cX15_entry 1 = .ok (.getfield 21, 3) := dk_180 0 21 (dk_at dksX15_entry_0 1 rfl rfl)
theorem dX15_entry_4 : decode cX15_entry 4 = .ok (.iload_n 1, 1) := dk_27 (dk_at dksX15_entry_0 4 rfl rfl)
theorem dX15_entry_5 : decode cX15_entry 5 = .ok (.iaload, 1) := dk_46 (dk_at dksX15_entry_0 5 rfl rfl)
theorem dX15_entry_6 : decode cX15_entry 6 = .ok (.istore_n 3, 1) := dk_62 (dk_at dksX15_entry_0 6 rfl rfl)
theorem dX15_entry_7 : decode cX15_entry 7 = .ok (.iload_n 3, 1) := dk_29 (dk_at dksX15_entry_0 7 rfl rfl)
theorem dX15_entry_8 : decode cX15_entry 8 = .ok (.aload_n 0, 1) := dk_42 (dk_at dksX15_entry_0 8 rfl rfl)
theorem dX15_entry_9 : decode cX15_entry 9 = .ok (.getfield 21, 3) := dk_180 0 21 (dk_at dksX15_entry_0 9 rfl rfl)
theorem dX15_entry_12 : decode cX15_entry 12 = .ok (.iload_n 1, 1) := dk_27 (dk_at dksX15_entry_0 12 rfl rfl)
theorem dX15_entry_13 : decode cX15_entry 13 = .ok (.iconst 1, 1) := dk_4 (dk_at dksX15_entry_0 13 rfl rfl)
theorem dX15_entry_14 : decode cX15_entry 14 = .ok (.iadd, 1) := dk_96 (dk_at dksX15_entry_0 14 rfl rfl)
theorem dX15_entry_15 : decode cX15_entry 15 = .ok (.iaload, 1) := dk_46 (dk_at dksX15_entry_0 15 rfl rfl)
theorem dX15_entry_16 : decode cX15_entry 16 = .ok (.if_icmp .ge 19, 3) := dk_162 0 19 (dk_at dksX15_entry_0 16 rfl rfl)
theorem dX15_entry_19 : decode cX15_entry 19 = .ok (.aload_n 0, 1) := dk_42 (dk_at dksX15_entry_0 19 rfl rfl)
theorem dX15_entry_20 : decode cX15_entry 20 = .ok (.getfield 30, 3) := dk_180 0 30 (dk_at dksX15_entry_0 20 rfl rfl)
theorem dX15_entry_23 : decode cX15_entry 23 = .ok (.iload_n 3, 1) := dk_29 (dk_at dksX15_entry_0 23 rfl rfl)
theorem dX15_entry_24 : decode cX15_entry 24 = .ok (.iaload, 1) := dk_46 (dk_at dksX15_entry_1 0 rfl rfl)
theorem dX15_entry_25 : decode cX15_entry 25 = .ok (.iload_n 2, 1) := dk_28 (dk_at dksX15_entry_1 1 rfl rfl)
theorem dX15_entry_26 : decode cX15_entry 26 = .ok (.if_icmp .eq 9, 3) := dk_159 0 9 (dk_at dksX15_entry_1 2 rfl rfl)
theorem dX15_entry_29 : decode cX15_entry 29 = .ok (.iinc 3 1, 3) := dk_132 3 1 (dk_at dksX15_entry_1 5 rfl rfl)
theorem dX15_entry_32 : decode cX15_entry 32 = .ok (.goto (-25), 3) := dk_167 255 231 (dk_at dksX15_entry_1 8 rfl rfl)
theorem dX15_entry_35 : decode cX15_entry 35 = .ok (.iload_n 3, 1) := dk_29 (dk_at dksX15_entry_1 11 rfl rfl)
theorem dX15_entry_36 : decode cX15_entry 36 = .ok (.aload_n 0, 1) := dk_42 (dk_at dksX15_entry_1 12 rfl rfl)
theorem dX15_entry_37 : decode cX15_entry 37 = .ok (.getfield 21, 3) := dk_180 0 21 (dk_at dksX15_entry_1 13 rfl rfl)
theorem dX15_entry_40 : decode cX15_entry 40 = .ok (.iload_n 1, 1) := dk_27 (dk_at dksX15_entry_1 16 rfl rfl)
theorem dX15_entry_41 : decode cX15_entry 41 = .ok (.iconst 1, 1) := dk_4 (dk_at dksX15_entry_1 17 rfl rfl)
theorem dX15_entry_42 : decode cX15_entry 42 = .ok (.iadd, 1) := dk_96 (dk_at dksX15_entry_1 18 rfl rfl)
theorem dX15_entry_43 : decode cX15_entry 43 = .ok (.iaload, 1) := dk_46 (dk_at dksX15_entry_1 19 rfl rfl)
theorem dX15_entry_44 : decode cX15_entry 44 = .ok (.if_icmp .ge 7, 3) := dk_162 0 7 (dk_at dksX15_entry_1 20 rfl rfl)
theorem dX15_entry_47 : decode cX15_entry 47 = .ok (.iload_n 3, 1) := dk_29 (dk_at dksX15_entry_1 23 rfl rfl)
theorem dX15_entry_48 : decode cX15_entry 48 = .ok (.goto 4, 3) := dk_167 0 4 (dk_at dksX15_entry_2 0 rfl rfl)
theorem dX15_entry_51 : decode cX15_entry 51 = .ok (.iconst (-1), 1) := dk_2 (dk_at dksX15_entry_2 3 rfl rfl)
theorem dX15_entry_52 : decode cX15_entry 52 = .ok (.ireturn, 1) := dk_172 (dk_at dksX15_entry_2 4 rfl rfl)
abbrev cX15_instruction : ByteArray := prog_16_method_3_code
def yX15_instruction : MethodName := ⟨RX15, "instruction", "(IIII)I"⟩
def dkwX15_instruction_2 : List UInt8 := [180, 0, 45, 21, 5, 7, 96, 3, 79, 42, 89, 180, 0, 48, 8, 96, 181, 0, 48, 21, 5, 172]
abbrev dktX15_instruction_2 : List UInt8 := dkwX15_instruction_2 ++ []
def dkwX15_instruction_1 : List UInt8 := [28, 79, 42, 180, 0, 45, 21, 5, 5, 96, 29, 79, 42, 180, 0, 45, 21, 5, 6, 96, 21, 4, 79, 42]
abbrev dktX15_instruction_1 : List UInt8 := dkwX15_instruction_1 ++ dktX15_instruction_2
def dkwX15_instruction_0 : List UInt8 := [42, 180, 0, 48, 54, 5, 42, 180, 0, 45, 21, 5, 3, 96, 27, 79, 42, 180, 0, 45, 21, 5, 4, 96]
abbrev dktX15_instruction_0 : List UInt8 := dkwX15_instruction_0 ++ dktX15_instruction_1
theorem dksX15_instruction_0 : cX15_instruction.data.toList.drop 0 = dktX15_instruction_0 := by decide +kernel
theorem dksX15_instruction_1 : cX15_instruction.data.toList.drop 24 = dktX15_instruction_1 := dk_seg dksX15_instruction_0 24 rfl rfl
theorem dksX15_instruction_2 : cX15_instruction.data.toList.drop 48 = dktX15_instruction_2 := dk_seg dksX15_instruction_1 24 rfl rfl
theorem dX15_instruction_0 : decode cX15_instruction 0 = .ok (.aload_n 0, 1) := dk_42 (dk_at dksX15_instruction_0 0 rfl rfl)
theorem dX15_instruction_1 : decode cX15_instruction 1 = .ok (.getfield 48, 3) := dk_180 0 48 (dk_at dksX15_instruction_0 1 rfl rfl)
theorem dX15_instruction_4 : decode cX15_instruction 4 = .ok (.istore 5, 2) := dk_54 5 (dk_at dksX15_instruction_0 4 rfl rfl)
theorem dX15_instruction_6 : decode cX15_instruction 6 = .ok (.aload_n 0, 1) := dk_42 (dk_at dksX15_instruction_0 6 rfl rfl)
theorem dX15_instruction_7 : decode cX15_instruction 7 = .ok (.getfield 45, 3) := dk_180 0 45 (dk_at dksX15_instruction_0 7 rfl rfl)
theorem dX15_instruction_10 : decode cX15_instruction 10 = .ok (.iload 5, 2) := dk_21 5 (dk_at dksX15_instruction_0 10 rfl rfl)
theorem dX15_instruction_12 : decode cX15_instruction 12 = .ok (.iconst 0, 1) := dk_3 (dk_at dksX15_instruction_0 12 rfl rfl)
theorem dX15_instruction_13 : decode cX15_instruction 13 = .ok (.iadd, 1) := dk_96 (dk_at dksX15_instruction_0 13 rfl rfl)
theorem dX15_instruction_14 : decode cX15_instruction 14 = .ok (.iload_n 1, 1) := dk_27 (dk_at dksX15_instruction_0 14 rfl rfl)
theorem dX15_instruction_15 : decode cX15_instruction 15 = .ok (.iastore, 1) := dk_79 (dk_at dksX15_instruction_0 15 rfl rfl)
theorem dX15_instruction_16 : decode cX15_instruction 16 = .ok (.aload_n 0, 1) := dk_42 (dk_at dksX15_instruction_0 16 rfl rfl)
theorem dX15_instruction_17 : decode cX15_instruction 17 = .ok (.getfield 45, 3) := dk_180 0 45 (dk_at dksX15_instruction_0 17 rfl rfl)
theorem dX15_instruction_20 : decode cX15_instruction 20 = .ok (.iload 5, 2) := dk_21 5 (dk_at dksX15_instruction_0 20 rfl rfl)
theorem dX15_instruction_22 : decode cX15_instruction 22 = .ok (.iconst 1, 1) := dk_4 (dk_at dksX15_instruction_0 22 rfl rfl)
theorem dX15_instruction_23 : decode cX15_instruction 23 = .ok (.iadd, 1) := dk_96 (dk_at dksX15_instruction_0 23 rfl rfl)
theorem dX15_instruction_24 : decode cX15_instruction 24 = .ok (.iload_n 2, 1) := dk_28 (dk_at dksX15_instruction_1 0 rfl rfl)
theorem dX15_instruction_25 : decode cX15_instruction 25 = .ok (.iastore, 1) := dk_79 (dk_at dksX15_instruction_1 1 rfl rfl)
theorem dX15_instruction_26 : decode cX15_instruction 26 = .ok (.aload_n 0, 1) := dk_42 (dk_at dksX15_instruction_1 2 rfl rfl)
theorem dX15_instruction_27 : decode cX15_instruction 27 = .ok (.getfield 45, 3) := dk_180 0 45 (dk_at dksX15_instruction_1 3 rfl rfl)
theorem dX15_instruction_30 : decode cX15_instruction 30 = .ok (.iload 5, 2) := dk_21 5 (dk_at dksX15_instruction_1 6 rfl rfl)
theorem dX15_instruction_32 : decode cX15_instruction 32 = .ok (.iconst 2, 1) := dk_5 (dk_at dksX15_instruction_1 8 rfl rfl)
theorem dX15_instruction_33 : decode cX15_instruction 33 = .ok (.iadd, 1) := dk_96 (dk_at dksX15_instruction_1 9 rfl rfl)
theorem dX15_instruction_34 : decode cX15_instruction 34 = .ok (.iload_n 3, 1) := dk_29 (dk_at dksX15_instruction_1 10 rfl rfl)
theorem dX15_instruction_35 : decode cX15_instruction 35 = .ok (.iastore, 1) := dk_79 (dk_at dksX15_instruction_1 11 rfl rfl)
theorem dX15_instruction_36 : decode cX15_instruction 36 = .ok (.aload_n 0, 1) := dk_42 (dk_at dksX15_instruction_1 12 rfl rfl)
theorem dX15_instruction_37 : decode cX15_instruction 37 = .ok (.getfield 45, 3) := dk_180 0 45 (dk_at dksX15_instruction_1 13 rfl rfl)
theorem dX15_instruction_40 : decode cX15_instruction 40 = .ok (.iload 5, 2) := dk_21 5 (dk_at dksX15_instruction_1 16 rfl rfl)
theorem dX15_instruction_42 : decode cX15_instruction 42 = .ok (.iconst 3, 1) := dk_6 (dk_at dksX15_instruction_1 18 rfl rfl)
theorem dX15_instruction_43 : decode cX15_instruction 43 = .ok (.iadd, 1) := dk_96 (dk_at dksX15_instruction_1 19 rfl rfl)
theorem dX15_instruction_44 : decode cX15_instruction 44 = .ok (.iload 4, 2) := dk_21 4 (dk_at dksX15_instruction_1 20 rfl rfl)
theorem dX15_instruction_46 : decode cX15_instruction 46 = .ok (.iastore, 1) := dk_79 (dk_at dksX15_instruction_1 22 rfl rfl)
theorem dX15_instruction_47 : decode cX15_instruction 47 = .ok (.aload_n 0, 1) := dk_42 (dk_at dksX15_instruction_1 23 rfl rfl)
theorem dX15_instruction_48 : decode cX15_instruction 48 = .ok (.getfield 45, 3) := dk_180 0 45 (dk_at dksX15_instruction_2 0 rfl rfl)
theorem dX15_instruction_51 : decode cX15_instruction 51 = .ok (.iload 5, 2) := dk_21 5 (dk_at dksX15_instruction_2 3 rfl rfl)
theorem dX15_instruction_53 : decode cX15_instruction 53 = .ok (.iconst 4, 1) := dk_7 (dk_at dksX15_instruction_2 5 rfl rfl)
theorem dX15_instruction_54 : decode cX15_instruction 54 = .ok (.iadd, 1) := dk_96 (dk_at dksX15_instruction_2 6 rfl rfl)
theorem dX15_instruction_55 : decode cX15_instruction 55 = .ok (.iconst 0, 1) := dk_3 (dk_at dksX15_instruction_2 7 rfl rfl)
theorem dX15_instruction_56 : decode cX15_instruction 56 = .ok (.iastore, 1) := dk_79 (dk_at dksX15_instruction_2 8 rfl rfl)
theorem dX15_instruction_57 : decode cX15_instruction 57 = .ok (.aload_n 0, 1) := dk_42 (dk_at dksX15_instruction_2 9 rfl rfl)
theorem dX15_instruction_58 : decode cX15_instruction 58 = .ok (.dup, 1) := dk_89 (dk_at dksX15_instruction_2 10 rfl rfl)
theorem dX15_instruction_59 : decode cX15_instruction 59 = .ok (.getfield 48, 3) := dk_180 0 48 (dk_at dksX15_instruction_2 11 rfl rfl)
theorem dX15_instruction_62 : decode cX15_instruction 62 = .ok (.iconst 5, 1) := dk_8 (dk_at dksX15_instruction_2 14 rfl rfl)
theorem dX15_instruction_63 : decode cX15_instruction 63 = .ok (.iadd, 1) := dk_96 (dk_at dksX15_instruction_2 15 rfl rfl)
theorem dX15_instruction_64 : decode cX15_instruction 64 = .ok (.putfield 48, 3) := dk_181 0 48 (dk_at dksX15_instruction_2 16 rfl rfl)
theorem dX15_instruction_67 : decode cX15_instruction 67 = .ok (.iload 5, 2) := dk_21 5 (dk_at dksX15_instruction_2 19 rfl rfl)
theorem dX15_instruction_69 : decode cX15_instruction 69 = .ok (.ireturn, 1) := dk_172 (dk_at dksX15_instruction_2 21 rfl rfl)
abbrev cX15_drop : ByteArray := prog_16_method_2_code
def yX15_drop : MethodName := ⟨RX15, "drop", "(III)V"⟩
def dkwX15_drop_0 : List UInt8 := [42, 27, 181, 0, 52, 42, 28, 181, 0, 55, 42, 29, 181, 0, 48, 177]
abbrev dktX15_drop_0 : List UInt8 := dkwX15_drop_0 ++ []
theorem dksX15_drop_0 : cX15_drop.data.toList.drop 0 = dktX15_drop_0 := by decide +kernel
theorem dX15_drop_0 : decode cX15_drop 0 = .ok (.aload_n 0, 1) := dk_42 (dk_at dksX15_drop_0 0 rfl rfl)
theorem dX15_drop_1 : decode cX15_drop 1 = .ok (.iload_n 1, 1) := dk_27 (dk_at dksX15_drop_0 1 rfl rfl)
theorem dX15_drop_2 : decode cX15_drop 2 = .ok (.putfield 52, 3) := dk_181 0 52 (dk_at dksX15_drop_0 2 rfl rfl)
theorem dX15_drop_5 : decode cX15_drop 5 = .ok (.aload_n 0, 1) := dk_42 (dk_at dksX15_drop_0 5 rfl rfl)
theorem dX15_drop_6 : decode cX15_drop 6 = .ok (.iload_n 2, 1) := dk_28 (dk_at dksX15_drop_0 6 rfl rfl)
theorem dX15_drop_7 : decode cX15_drop 7 = .ok (.putfield 55, 3) := dk_181 0 55 (dk_at dksX15_drop_0 7 rfl rfl)
theorem dX15_drop_10 : decode cX15_drop 10 = .ok (.aload_n 0, 1) := dk_42 (dk_at dksX15_drop_0 10 rfl rfl)
theorem dX15_drop_11 : decode cX15_drop 11 = .ok (.iload_n 3, 1) := dk_29 (dk_at dksX15_drop_0 11 rfl rfl)
theorem dX15_drop_12 : decode cX15_drop 12 = .ok (.putfield 48, 3) := dk_181 0 48 (dk_at dksX15_drop_0 12 rfl rfl)
theorem dX15_drop_15 : decode cX15_drop 15 = .ok (.return_, 1) := dk_177 (dk_at dksX15_drop_0 15 rfl rfl)
theorem q382 : (Jvm.Cond.initialized "ContractLedger$Scripts") ∈ lw_all := lw_g (lw_at lw_m1 25 rfl) rfl
theorem q1014 : (Jvm.Cond.instantiable "ContractLedger$Scripts" (14 : Nat)) ∈ lw_all := lw_g (lw_at lw_m3 177 rfl) rfl
theorem q1016 : (Jvm.Cond.instanceMethod ({ cls := "ContractLedger$Scripts", name := "<init>", desc := "()V" } : Jvm.MethodName)) ∈ lw_all := lw_g (lw_at lw_m3 179 rfl) rfl
theorem q1017 : (Jvm.Cond.code ({ cls := "ContractLedger$Scripts", name := "<init>", desc := "()V" } : Jvm.MethodName) prog_16_method_1_code (1 : Nat) (Option.none : Option Jvm.ClassFile.FieldType)) ∈ lw_all := lw_g (lw_at lw_m3 180 rfl) rfl
theorem q1018 : (Jvm.Cond.methodLink "ContractLedger$Scripts" (3 : Nat) ({ cls := "java/lang/Object", name := "<init>", desc := "()V" } : Jvm.MethodName)) ∈ lw_all := lw_g (lw_at lw_m3 181 rfl) rfl
theorem q1019 : (Jvm.Cond.constant "ContractLedger$Scripts" (44 : Nat) (160000 : Int32)) ∈ lw_all := lw_g (lw_at lw_m3 182 rfl) rfl
theorem q1020 : (Jvm.Cond.fieldLink "ContractLedger$Scripts" (9 : Nat) "ContractLedger$Scripts" "parameters" "[I") ∈ lw_all := lw_g (lw_at lw_m3 183 rfl) rfl
theorem q1022 : (Jvm.Cond.fieldLink "ContractLedger$Scripts" (15 : Nat) "ContractLedger$Scripts" "storages" "[I") ∈ lw_all := lw_g (lw_at lw_m3 185 rfl) rfl
theorem q1026 : (Jvm.Cond.fieldLink "ContractLedger$Scripts" (18 : Nat) "ContractLedger$Scripts" "codes" "[I") ∈ lw_all := lw_g (lw_at lw_m3 189 rfl) rfl
theorem q1029 : (Jvm.Cond.fieldLink "ContractLedger$Scripts" (21 : Nat) "ContractLedger$Scripts" "firsts" "[I") ∈ lw_all := lw_g (lw_at lw_m3 192 rfl) rfl
theorem q1031 : (Jvm.Cond.fieldLink "ContractLedger$Scripts" (24 : Nat) "ContractLedger$Scripts" "terms" "[I") ∈ lw_all := lw_g (lw_at lw_m3 194 rfl) rfl
theorem q1034 : (Jvm.Cond.fieldLink "ContractLedger$Scripts" (27 : Nat) "ContractLedger$Scripts" "bytes" "[I") ∈ lw_all := lw_g (lw_at lw_m3 197 rfl) rfl
theorem q1037 : (Jvm.Cond.fieldLink "ContractLedger$Scripts" (52 : Nat) "ContractLedger$Scripts" "count" "I") ∈ lw_all := lw_g (lw_at lw_m3 200 rfl) rfl
theorem q1040 : (Jvm.Cond.fieldLink "ContractLedger$Scripts" (30 : Nat) "ContractLedger$Scripts" "names" "[I") ∈ lw_all := lw_g (lw_at lw_m3 203 rfl) rfl
theorem q1042 : (Jvm.Cond.fieldLink "ContractLedger$Scripts" (33 : Nat) "ContractLedger$Scripts" "types" "[I") ∈ lw_all := lw_g (lw_at lw_m3 205 rfl) rfl
theorem q1046 : (Jvm.Cond.fieldLink "ContractLedger$Scripts" (36 : Nat) "ContractLedger$Scripts" "ways" "[J") ∈ lw_all := lw_g (lw_at lw_m3 209 rfl) rfl
theorem q1049 : (Jvm.Cond.fieldLink "ContractLedger$Scripts" (40 : Nat) "ContractLedger$Scripts" "depths" "[B") ∈ lw_all := lw_g (lw_at lw_m3 212 rfl) rfl
theorem q1052 : (Jvm.Cond.fieldLink "ContractLedger$Scripts" (55 : Nat) "ContractLedger$Scripts" "entries" "I") ∈ lw_all := lw_g (lw_at lw_m3 215 rfl) rfl
theorem q1055 : (Jvm.Cond.fieldLink "ContractLedger$Scripts" (45 : Nat) "ContractLedger$Scripts" "code" "[I") ∈ lw_all := lw_g (lw_at lw_m3 218 rfl) rfl
theorem q1058 : (Jvm.Cond.fieldLink "ContractLedger$Scripts" (48 : Nat) "ContractLedger$Scripts" "top" "I") ∈ lw_all := lw_g (lw_at lw_m3 221 rfl) rfl
theorem q1060 : (Jvm.Cond.laysFinal "ContractLedger$Scripts" "ContractLedger$Scripts" "parameters" "[I") ∈ lw_all := lw_g (lw_at lw_m3 223 rfl) rfl
theorem q1061 : (Jvm.Cond.soleField "ContractLedger$Scripts" "parameters") ∈ lw_all := lw_g (lw_at lw_m3 224 rfl) rfl
theorem q1062 : (Jvm.Cond.laysFinal "ContractLedger$Scripts" "ContractLedger$Scripts" "storages" "[I") ∈ lw_all := lw_g (lw_at lw_m3 225 rfl) rfl
theorem q1063 : (Jvm.Cond.soleField "ContractLedger$Scripts" "storages") ∈ lw_all := lw_g (lw_at lw_m3 226 rfl) rfl
theorem q1064 : (Jvm.Cond.laysFinal "ContractLedger$Scripts" "ContractLedger$Scripts" "codes" "[I") ∈ lw_all := lw_g (lw_at lw_m3 227 rfl) rfl
theorem q1065 : (Jvm.Cond.soleField "ContractLedger$Scripts" "codes") ∈ lw_all := lw_g (lw_at lw_m3 228 rfl) rfl
theorem q1066 : (Jvm.Cond.laysFinal "ContractLedger$Scripts" "ContractLedger$Scripts" "firsts" "[I") ∈ lw_all := lw_g (lw_at lw_m3 229 rfl) rfl
theorem q1067 : (Jvm.Cond.soleField "ContractLedger$Scripts" "firsts") ∈ lw_all := lw_g (lw_at lw_m3 230 rfl) rfl
theorem q1068 : (Jvm.Cond.laysFinal "ContractLedger$Scripts" "ContractLedger$Scripts" "terms" "[I") ∈ lw_all := lw_g (lw_at lw_m3 231 rfl) rfl
theorem q1069 : (Jvm.Cond.soleField "ContractLedger$Scripts" "terms") ∈ lw_all := lw_g (lw_at lw_m3 232 rfl) rfl
theorem q1070 : (Jvm.Cond.laysFinal "ContractLedger$Scripts" "ContractLedger$Scripts" "bytes" "[I") ∈ lw_all := lw_g (lw_at lw_m3 233 rfl) rfl
theorem q1071 : (Jvm.Cond.soleField "ContractLedger$Scripts" "bytes") ∈ lw_all := lw_g (lw_at lw_m3 234 rfl) rfl
theorem q1072 : (Jvm.Cond.lays "ContractLedger$Scripts" "ContractLedger$Scripts" "count" "I") ∈ lw_all := lw_g (lw_at lw_m3 235 rfl) rfl
theorem q1073 : (Jvm.Cond.soleField "ContractLedger$Scripts" "count") ∈ lw_all := lw_g (lw_at lw_m3 236 rfl) rfl
theorem q1074 : (Jvm.Cond.laysFinal "ContractLedger$Scripts" "ContractLedger$Scripts" "names" "[I") ∈ lw_all := lw_g (lw_at lw_m3 237 rfl) rfl
theorem q1075 : (Jvm.Cond.soleField "ContractLedger$Scripts" "names") ∈ lw_all := lw_g (lw_at lw_m3 238 rfl) rfl
theorem q1076 : (Jvm.Cond.laysFinal "ContractLedger$Scripts" "ContractLedger$Scripts" "types" "[I") ∈ lw_all := lw_g (lw_at lw_m3 239 rfl) rfl
theorem q1077 : (Jvm.Cond.soleField "ContractLedger$Scripts" "types") ∈ lw_all := lw_g (lw_at lw_m4 0 rfl) rfl
theorem q1078 : (Jvm.Cond.laysFinal "ContractLedger$Scripts" "ContractLedger$Scripts" "ways" "[J") ∈ lw_all := lw_g (lw_at lw_m4 1 rfl) rfl
theorem q1079 : (Jvm.Cond.soleField "ContractLedger$Scripts" "ways") ∈ lw_all := lw_g (lw_at lw_m4 2 rfl) rfl
theorem q1080 : (Jvm.Cond.laysFinal "ContractLedger$Scripts" "ContractLedger$Scripts" "depths" "[B") ∈ lw_all := lw_g (lw_at lw_m4 3 rfl) rfl
theorem q1081 : (Jvm.Cond.soleField "ContractLedger$Scripts" "depths") ∈ lw_all := lw_g (lw_at lw_m4 4 rfl) rfl
theorem q1082 : (Jvm.Cond.lays "ContractLedger$Scripts" "ContractLedger$Scripts" "entries" "I") ∈ lw_all := lw_g (lw_at lw_m4 5 rfl) rfl
theorem q1083 : (Jvm.Cond.soleField "ContractLedger$Scripts" "entries") ∈ lw_all := lw_g (lw_at lw_m4 6 rfl) rfl
theorem q1084 : (Jvm.Cond.laysFinal "ContractLedger$Scripts" "ContractLedger$Scripts" "code" "[I") ∈ lw_all := lw_g (lw_at lw_m4 7 rfl) rfl
theorem q1085 : (Jvm.Cond.soleField "ContractLedger$Scripts" "code") ∈ lw_all := lw_g (lw_at lw_m4 8 rfl) rfl
theorem q1086 : (Jvm.Cond.lays "ContractLedger$Scripts" "ContractLedger$Scripts" "top" "I") ∈ lw_all := lw_g (lw_at lw_m4 9 rfl) rfl
theorem q1087 : (Jvm.Cond.soleField "ContractLedger$Scripts" "top") ∈ lw_all := lw_g (lw_at lw_m4 10 rfl) rfl
theorem q1088 : (Jvm.Cond.superclass "ContractLedger$Scripts" "java/lang/Object") ∈ lw_all := lw_g (lw_at lw_m4 11 rfl) rfl
theorem q1895 : (Jvm.Cond.instanceMethod ({ cls := "ContractLedger$Scripts", name := "entry", desc := "(II)I" } : Jvm.MethodName)) ∈ lw_all := lw_g (lw_at lw_m7 98 rfl) rfl
theorem q1896 : (Jvm.Cond.selects "ContractLedger$Scripts" ({ cls := "ContractLedger$Scripts", name := "entry", desc := "(II)I" } : Jvm.MethodName) ({ cls := "ContractLedger$Scripts", name := "entry", desc := "(II)I" } : Jvm.MethodName)) ∈ lw_all := lw_g (lw_at lw_m7 99 rfl) rfl
theorem q1897 : (Jvm.Cond.code ({ cls := "ContractLedger$Scripts", name := "entry", desc := "(II)I" } : Jvm.MethodName) prog_16_method_4_code (4 : Nat) (Option.some Jvm.ClassFile.FieldType.int)) ∈ lw_all := lw_g (lw_at lw_m7 100 rfl) rfl
theorem q2152 : (Jvm.Cond.instanceMethod ({ cls := "ContractLedger$Scripts", name := "instruction", desc := "(IIII)I" } : Jvm.MethodName)) ∈ lw_all := lw_g (lw_at lw_m8 115 rfl) rfl
theorem q2153 : (Jvm.Cond.selects "ContractLedger$Scripts" ({ cls := "ContractLedger$Scripts", name := "instruction", desc := "(IIII)I" } : Jvm.MethodName) ({ cls := "ContractLedger$Scripts", name := "instruction", desc := "(IIII)I" } : Jvm.MethodName)) ∈ lw_all := lw_g (lw_at lw_m8 116 rfl) rfl
theorem q2154 : (Jvm.Cond.code ({ cls := "ContractLedger$Scripts", name := "instruction", desc := "(IIII)I" } : Jvm.MethodName) prog_16_method_3_code (6 : Nat) (Option.some Jvm.ClassFile.FieldType.int)) ∈ lw_all := lw_g (lw_at lw_m8 117 rfl) rfl
theorem q2319 : (Jvm.Cond.instanceMethod ({ cls := "ContractLedger$Scripts", name := "drop", desc := "(III)V" } : Jvm.MethodName)) ∈ lw_all := lw_g (lw_at lw_m9 42 rfl) rfl
theorem q2320 : (Jvm.Cond.selects "ContractLedger$Scripts" ({ cls := "ContractLedger$Scripts", name := "drop", desc := "(III)V" } : Jvm.MethodName) ({ cls := "ContractLedger$Scripts", name := "drop", desc := "(III)V" } : Jvm.MethodName)) ∈ lw_all := lw_g (lw_at lw_m9 43 rfl) rfl
theorem q2321 : (Jvm.Cond.code ({ cls := "ContractLedger$Scripts", name := "drop", desc := "(III)V" } : Jvm.MethodName) prog_16_method_2_code (4 : Nat) (Option.none : Option Jvm.ClassFile.FieldType)) ∈ lw_all := lw_g (lw_at lw_m9 44 rfl) rfl
