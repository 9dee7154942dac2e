set_option maxRecDepth 100000
set_option maxRecDepth 100000
set_option maxRecDepth 100000 in
set_option maxRecDepth 100000 in
abbrev cX19_init : ByteArray := prog_9_method_1_code
def yX19_init : MethodName := ⟨RX19, "<init>", "(LContractLedger$Memory;LContractLedger$Types;LContractLedger$Scripts;LContractLedger$Names;LContractLedger$Order;LContractLedger$Trees;LContractLedger$Forms;LContractLedger$Addresses;LContractLedger$World;LContractLedger$Failing;LContractLedger$Gas;)V"⟩
def dkwX19_init_7 : List UInt8 := [181, 0, 86, 42, 25, 10, 181, 0, 90, 42, 25, 11, 181, 0, 94, 177]
abbrev dktX19_init_7 : List UInt8 := dkwX19_init_7 ++ []
def dkwX19_init_6 : List UInt8 := [181, 0, 70, 42, 25, 6, 181, 0, 74, 42, 25, 7, 181, 0, 78, 42, 25, 8, 181, 0, 82, 42, 25, 9]
abbrev dktX19_init_6 : List UInt8 := dkwX19_init_6 ++ dktX19_init_7
def dkwX19_init_5 : List UInt8 := [181, 0, 54, 42, 44, 181, 0, 58, 42, 45, 181, 0, 62, 42, 25, 4, 181, 0, 66, 42, 25, 5]
abbrev dktX19_init_5 : List UInt8 := dkwX19_init_5 ++ dktX19_init_6
def dkwX19_init_4 : List UInt8 := [181, 0, 44, 42, 17, 32, 108, 188, 8, 181, 0, 47, 42, 17, 93, 192, 188, 10, 181, 0, 51, 42, 43]
abbrev dktX19_init_4 : List UInt8 := dkwX19_init_4 ++ dktX19_init_5
def dkwX19_init_3 : List UInt8 := [42, 17, 62, 128, 188, 10, 181, 0, 36, 42, 17, 125, 0, 188, 10, 181, 0, 40, 42, 18, 43, 188, 10]
abbrev dktX19_init_3 : List UInt8 := dkwX19_init_3 ++ dktX19_init_4
def dkwX19_init_2 : List UInt8 := [89, 17, 0, 200, 183, 0, 20, 181, 0, 30, 42, 187, 0, 18, 89, 17, 0, 200, 183, 0, 20, 181, 0, 33]
abbrev dktX19_init_2 : List UInt8 := dkwX19_init_2 ++ dktX19_init_3
def dkwX19_init_1 : List UInt8 := [183, 0, 20, 181, 0, 23, 42, 187, 0, 18, 89, 17, 0, 200, 183, 0, 20, 181, 0, 27, 42, 187, 0, 18]
abbrev dktX19_init_1 : List UInt8 := dkwX19_init_1 ++ dktX19_init_2
def dkwX19_init_0 : List UInt8 := [42, 183, 0, 3, 42, 187, 0, 9, 89, 183, 0, 11, 181, 0, 12, 42, 187, 0, 18, 89, 17, 0, 200]
abbrev dktX19_init_0 : List UInt8 := dkwX19_init_0 ++ dktX19_init_1
theorem dksX19_init_0 : cX19_init.data.toList.drop 0 = dktX19_init_0 := by decide +kernel
theorem dksX19_init_1 : cX19_init.data.toList.drop 23 = dktX19_init_1 := dk_seg dksX19_init_0 23 rfl rfl
theorem dksX19_init_2 : cX19_init.data.toList.drop 47 = dktX19_init_2 := dk_seg dksX19_init_1 24 rfl rfl
theorem dksX19_init_3 : cX19_init.data.toList.drop 71 = dktX19_init_3 := dk_seg dksX19_init_2 24 rfl rfl
theorem dksX19_init_4 : cX19_init.data.toList.drop 94 = dktX19_init_4 := dk_seg dksX19_init_3 23 rfl rfl
theorem dksX19_init_5 : cX19_init.data.toList.drop 117 = dktX19_init_5 := dk_seg dksX19_init_4 23 rfl rfl
theorem dksX19_init_6 : cX19_init.data.toList.drop 139 = dktX19_init_6 := dk_seg dksX19_init_5 22 rfl rfl
theorem dksX19_init_7 : cX19_init.data.toList.drop 163 = dktX19_init_7 := dk_seg dksX19_init_6 24 rfl rfl
theorem dX19_init_0 : decode cX19_init 0 = .ok (.aload_n 0, 1) := dk_42 (dk_at dksX19_init_0 0 rfl rfl)
theorem dX19_init_1 : decode cX19_init 1 = .ok (.invokespecial 3, 3) := dk_183 0 3 (dk_at dksX19_init_0 1 rfl rfl)
theorem dX19_init_4 : decode cX19_init 4 = .ok (.aload_n 0, 1) := dk_42 (dk_at dksX19_init_0 4 rfl rfl)
theorem dX19_init_5 : decode cX19_init 5 = .ok (.new 9, 3) := dk_187 0 9 (dk_at dksX19_init_0 5 rfl rfl)
theorem dX19_init_8 : decode cX19_init 8 = .ok (.dup, 1) := dk_89 (dk_at dksX19_init_0 8 rfl rfl)
theorem dX19_init_9 : decode cX19_init 9 = .ok (.invokespecial 11, 3) := dk_183 0 11 (dk_at dksX19_init_0 9 rfl rfl)
theorem dX19_init_12 : decode cX19_init 12 = .ok (.putfield 12, 3) := dk_181 0 12 (dk_at dksX19_init_0 12 rfl rfl)
theorem dX19_init_15 : decode cX19_init 15 = .ok (.aload_n 0, 1) := dk_42 (dk_at dksX19_init_0 15 rfl rfl)
theorem dX19_init_16 : decode cX19_init 16 = .ok (.new 18, 3) := dk_187 0 18 (dk_at dksX19_init_0 16 rfl rfl)
theorem dX19_init_19 : decode cX19_init 19 = .ok (.dup, 1) := dk_89 (dk_at dksX19_init_0 19 rfl rfl)
theorem dX19_init_20 : decode cX19_init 20 = .ok (.sipush 200, 3) := dk_17 0 200 (dk_at dksX19_init_0 20 rfl rfl)
theorem dX19_init_23 : decode cX19_init 23 = .ok (.invokespecial 20, 3) := dk_183 0 20 (dk_at dksX19_init_1 0 rfl rfl)
theorem dX19_init_26 : decode cX19_init 26 = .ok (.putfield 23, 3) := dk_181 0 23 (dk_at dksX19_init_1 3 rfl rfl)
theorem dX19_init_29 : decode cX19_init 29 = .ok (.aload_n 0, 1) := dk_42 (dk_at dksX19_init_1 6 rfl rfl)
theorem dX19_init_30 : decode cX19_init 30 = .ok (.new 18, 3) := dk_187 0 18 (dk_at dksX19_init_1 7 rfl rfl)
theorem dX19_init_33 : decode cX19_init 33 = .ok (.dup, 1) := dk_89 (dk_at dksX19_init_1 10 rfl rfl)
theorem dX19_init_34 : decode cX19_init 34 = .ok (.sipush 200, 3) := dk_17 0 200 (dk_at dksX19_init_1 11 rfl rfl)
theorem dX19_init_37 : decode cX19_init 37 = .ok (.invokespecial 20, 3) := dk_183 0 20 (dk_at dksX19_init_1 14 rfl rfl)
theorem dX19_init_40 : decode cX19_init 40 = .ok (.putfield 27, 3) := dk_181 0 27 (dk_at dksX19_init_1 17 rfl rfl)
theorem dX19_init_43 : decode cX19_init 43 = .ok (.aload_n 0, 1) := dk_42 (dk_at dksX19_init_1 20 rfl rfl)
theorem dX19_init_44 : decode cX19_init 44 = .ok (.new 18, 3) := dk_187 0 18 (dk_at dksX19_init_1 21 rfl rfl)
theorem dX19_init_47 : decode cX19_init 47 = .ok (.dup, 1) := dk_89 (dk_at dksX19_init_2 0 rfl rfl)
theorem dX19_init_48 : decode cX19_init 48 = .ok (.sipush 200, 3) := dk_17 0 200 (dk_at dksX19_init_2 1 rfl rfl)
theorem dX19_init_51 : decode cX19_init 51 = .ok (.invokespecial 20, 3) := dk_183 0 20 (dk_at dksX19_init_2 4 rfl rfl)
theorem dX19_init_54 : decode cX19_init 54 = .ok (.putfield 30, 3) := dk_181 0 30 (dk_at dksX19_init_2 7 rfl rfl)
theorem dX19_init_57 : decode cX19_init 57 = .ok (.aload_n 0, 1) := dk_42 (dk_at dksX19_init_2 10 rfl rfl)
theorem dX19_init_58 : decode cX19_init 58 = .ok (.new 18, 3) := dk_187 0 18 (dk_at dksX19_init_2 11 rfl rfl)
theorem dX19_init_61 : decode cX19_init 61 = .ok (.dup, 1) := dk_89 (dk_at dksX19_init_2 14 rfl rfl)
theorem dX19_init_62 : decode cX19_init 62 = .ok (.sipush 200, 3) := dk_17 0 200 (dk_at dksX19_init_2 15 rfl rfl)
theorem dX19_init_65 : decode cX19_init 65 = .ok (.invokespecial 20, 3) := dk_183 0 20 (dk_at dksX19_init_2 18 rfl rfl)
theorem dX19_init_68 : decode cX19_init 68 = .ok (.putfield 33, 3) := dk_181 0 33 (dk_at dksX19_init_2 21 rfl rfl)
theorem dX19_init_71 : decode cX19_init 71 = .ok (.aload_n 0, 1) := dk_42 (dk_at dksX19_init_3 0 rfl rfl)
theorem dX19_init_72 : decode cX19_init 72 = .ok (.sipush 16000, 3) := dk_17 62 128 (dk_at dksX19_init_3 1 rfl rfl)
theorem dX19_init_75 : decode cX19_init 75 = .ok (.newarray .int, 2) := dk_188_10 (dk_at dksX19_init_3 4 rfl rfl)
theorem dX19_init_77 : decode cX19_init 77 = .ok (.putfield 36, 3) := dk_181 0 36 (dk_at dksX19_init_3 6 rfl rfl)
theorem dX19_init_80 : decode cX19_init 80 = .ok (.aload_n 0, 1) := dk_42 (dk_at dksX19_init_3 9 rfl rfl)
theorem dX19_init_81 : decode cX19_init 81 = .ok (.sipush 32000, 3) := dk_17 125 0 (dk_at dksX19_init_3 10 rfl rfl)
theorem dX19_init_84 : decode cX19_init 84 = .ok (.newarray .int, 2) := dk_188_10 (dk_at dksX19_init_3 13 rfl rfl)
theorem dX19_init_86 : decode cX19_init 86 = .ok (.putfield 40, 3) := dk_181 0 40 (dk_at dksX19_init_3 15 rfl rfl)
theorem dX19_init_89 : decode cX19_init 89 = .ok (.aload_n 0, 1) := dk_42 (dk_at dksX19_init_3 18 rfl rfl)
theorem dX19_init_90 : decode cX19_init 90 = .ok (.ldc 43, 2) := dk_18 43 (dk_at dksX19_init_3 19 rfl rfl)
theorem dX19_init_92 : decode cX19_init 92 = .ok (.newarray .int, 2) := dk_188_10 (dk_at dksX19_init_3 21 rfl rfl)
theorem dX19_init_94 : decode cX19_init 94 = .ok (.putfield 44, 3) := dk_181 0 44 (dk_at dksX19_init_4 0 rfl rfl)
theorem dX19_init_97 : decode cX19_init 97 = .ok (.aload_n 0, 1) := dk_42 (dk_at dksX19_init_4 3 rfl rfl)
theorem dX19_init_98 : decode cX19_init 98 = .ok (.sipush 8300, 3) := dk_17 32 108 (dk_at dksX19_init_4 4 rfl rfl)
theorem dX19_init_101 : decode cX19_init 101 = .ok (.newarray .byte, 2) := dk_188_8 (dk_at dksX19_init_4 7 rfl rfl)
theorem dX19_init_103 : decode cX19_init 103 = .ok (.putfield 47, 3) := dk_181 0 47 (dk_at dksX19_init_4 9 rfl rfl)
theorem dX19_init_106 : decode cX19_init 106 = .ok (.aload_n 0, 1) := dk_42 (dk_at dksX19_init_4 12 rfl rfl)
theorem dX19_init_107 : decode cX19_init 107 = .ok (.sipush 24000, 3) := dk_17 93 192 (dk_at dksX19_init_4 13 rfl rfl)
theorem dX19_init_110 : decode cX19_init 110 = .ok (.newarray .int, 2) := dk_188_10 (dk_at dksX19_init_4 16 rfl rfl)
theorem dX19_init_112 : decode cX19_init 112 = .ok (.putfield 51, 3) := dk_181 0 51 (dk_at dksX19_init_4 18 rfl rfl)
theorem dX19_init_115 : decode cX19_init 115 = .ok (.aload_n 0, 1) := dk_42 (dk_at dksX19_init_4 21 rfl rfl)
theorem dX19_init_116 : decode cX19_init 116 = .ok (.aload_n 1, 1) := dk_43 (dk_at dksX19_init_4 22 rfl rfl)
theorem dX19_init_117 : decode cX19_init 117 = .ok (.putfield 54, 3) := dk_181 0 54 (dk_at dksX19_init_5 0 rfl rfl)
theorem dX19_init_120 : decode cX19_init 120 = .ok (.aload_n 0, 1) := dk_42 (dk_at dksX19_init_5 3 rfl rfl)
theorem dX19_init_121 : decode cX19_init 121 = .ok (.aload_n 2, 1) := dk_44 (dk_at dksX19_init_5 4 rfl rfl)
theorem dX19_init_122 : decode cX19_init 122 = .ok (.putfield 58, 3) := dk_181 0 58 (dk_at dksX19_init_5 5 rfl rfl)
theorem dX19_init_125 : decode cX19_init 125 = .ok (.aload_n 0, 1) := dk_42 (dk_at dksX19_init_5 8 rfl rfl)
theorem dX19_init_126 : decode cX19_init 126 = .ok (.aload_n 3, 1) := dk_45 (dk_at dksX19_init_5 9 rfl rfl)
theorem dX19_init_127 : decode cX19_init 127 = .ok (.putfield 62, 3) := dk_181 0 62 (dk_at dksX19_init_5 10 rfl rfl)
theorem dX19_init_130 : decode cX19_init 130 = .ok (.aload_n 0, 1) := dk_42 (dk_at dksX19_init_5 13 rfl rfl)
theorem dX19_init_131 : decode cX19_init 131 = .ok (.aload 4, 2) := dk_25 4 (dk_at dksX19_init_5 14 rfl rfl)
theorem dX19_init_133 : decode cX19_init 133 = .ok (.putfield 66, 3) := dk_181 0 66 (dk_at dksX19_init_5 16 rfl rfl)
theorem dX19_init_136 : decode cX19_init 136 = .ok (.aload_n 0, 1) := dk_42 (dk_at dksX19_init_5 19 rfl rfl)
theorem dX19_init_137 : decode cX19_init 137 = .ok (.aload 5, 2) := dk_25 5 (dk_at dksX19_init_5 20 rfl rfl)
theorem dX19_init_139 : decode cX19_init 139 = .ok (.putfield 70, 3) := dk_181 0 70 (dk_at dksX19_init_6 0 rfl rfl)
theorem dX19_init_142 : decode cX19_init 142 = .ok (.aload_n 0, 1) := dk_42 (dk_at dksX19_init_6 3 rfl rfl)
theorem dX19_init_143 : decode cX19_init 143 = .ok (.aload 6, 2) := dk_25 6 (dk_at dksX19_init_6 4 rfl rfl)
theorem dX19_init_145 : decode cX19_init 145 = .ok (.putfield 74, 3) := dk_181 0 74 (dk_at dksX19_init_6 6 rfl rfl)
theorem dX19_init_148 : decode cX19_init 148 = .ok (.aload_n 0, 1) := dk_42 (dk_at dksX19_init_6 9 rfl rfl)
theorem dX19_init_149 : decode cX19_init 149 = .ok (.aload 7, 2) := dk_25 7 (dk_at dksX19_init_6 10 rfl rfl)
theorem dX19_init_151 : decode cX19_init 151 = .ok (.putfield 78, 3) := dk_181 0 78 (dk_at dksX19_init_6 12 rfl rfl)
theorem dX19_init_154 : decode cX19_init 154 = .ok (.aload_n 0, 1) := dk_42 (dk_at dksX19_init_6 15 rfl rfl)
theorem dX19_init_155 : decode cX19_init 155 = .ok (.aload 8, 2) := dk_25 8 (dk_at dksX19_init_6 16 rfl rfl)
theorem dX19_init_157 : decode cX19_init 157 = .ok (.putfield 82, 3) := dk_181 0 82 (dk_at dksX19_init_6 18 rfl rfl)
theorem dX19_init_160 : decode cX19_init 160 = .ok (.aload_n 0, 1) := dk_42 (dk_at dksX19_init_6 21 rfl rfl)
theorem dX19_init_161 : decode cX19_init 161 = .ok (.aload 9, 2) := dk_25 9 (dk_at dksX19_init_6 22 rfl rfl)
theorem dX19_init_163 : decode cX19_init 163 = .ok (.putfield 86, 3) := dk_181 0 86 (dk_at dksX19_init_7 0 rfl rfl)
theorem dX19_init_166 : decode cX19_init 166 = .ok (.aload_n 0, 1) := dk_42 (dk_at dksX19_init_7 3 rfl rfl)
theorem dX19_init_167 : decode cX19_init 167 = .ok (.aload 10, 2) := dk_25 10 (dk_at dksX19_init_7 4 rfl rfl)
theorem dX19_init_169 : decode cX19_init 169 = .ok (.putfield 90, 3) := dk_181 0 90 (dk_at dksX19_init_7 6 rfl rfl)
theorem dX19_init_172 : decode cX19_init 172 = .ok (.aload_n 0, 1) := dk_42 (dk_at dksX19_init_7 9 rfl rfl)
theorem dX19_init_173 : decode cX19_init 173 = .ok (.aload 11, 2) := dk_25 11 (dk_at dksX19_init_7 10 rfl rfl)
theorem dX19_init_175 : decode cX19_init 175 = .ok (.putfield 94, 3) := dk_181 0 94 (dk_at dksX19_init_7 12 rfl rfl)
theorem dX19_init_178 : decode cX19_init 178 = .ok (.return_, 1) := dk_177 (dk_at dksX19_init_7 15 rfl rfl)
abbrev cX19_run : ByteArray := prog_9_method_8_code
def yX19_run : MethodName := ⟨RX19, "run", "(II)I"⟩
def dkwX19_run_3 : List UInt8 := [42, 29, 3, 182, 0, 131, 182, 0, 135, 167, 255, 202, 42, 182, 0, 139, 172]
abbrev dktX19_run_3 : List UInt8 := dkwX19_run_3 ++ []
def dkwX19_run_2 : List UInt8 := [42, 182, 0, 128, 167, 255, 231, 42, 180, 0, 125, 62, 42, 42, 29, 7, 182, 0, 131, 181, 0, 125, 42, 29]
abbrev dktX19_run_2 : List UInt8 := dkwX19_run_2 ++ dktX19_run_3
def dkwX19_run_1 : List UInt8 := [181, 0, 125, 42, 180, 0, 125, 154, 0, 10, 42, 180, 0, 111, 158, 0, 46, 42, 180, 0, 125, 154, 0, 10]
abbrev dktX19_run_1 : List UInt8 := dkwX19_run_1 ++ dktX19_run_2
def dkwX19_run_0 : List UInt8 := [42, 3, 181, 0, 98, 42, 3, 181, 0, 119, 42, 3, 181, 0, 111, 42, 28, 182, 0, 122, 42, 27]
abbrev dktX19_run_0 : List UInt8 := dkwX19_run_0 ++ dktX19_run_1
theorem dksX19_run_0 : cX19_run.data.toList.drop 0 = dktX19_run_0 := by decide +kernel
theorem dksX19_run_1 : cX19_run.data.toList.drop 22 = dktX19_run_1 := dk_seg dksX19_run_0 22 rfl rfl
theorem dksX19_run_2 : cX19_run.data.toList.drop 46 = dktX19_run_2 := dk_seg dksX19_run_1 24 rfl rfl
theorem dksX19_run_3 : cX19_run.data.toList.drop 70 = dktX19_run_3 := dk_seg dksX19_run_2 24 rfl rfl
theorem dX19_run_0 : decode cX19_run 0 = .ok (.aload_n 0, 1) := dk_42 (dk_at dksX19_run_0 0 rfl rfl)
theorem dX19_run_1 : decode cX19_run 1 = .ok (.iconst 0, 1) := dk_3 (dk_at dksX19_run_0 1 rfl rfl)
theorem dX19_run_2 : decode cX19_run 2 = .ok (.putfield 98, 3) := dk_181 0 98 (dk_at dksX19_run_0 2 rfl rfl)
theorem dX19_run_5 : decode cX19_run 5 = .ok (.aload_n 0, 1) := dk_42 (dk_at dksX19_run_0 5 rfl rfl)
theorem dX19_run_6 : decode cX19_run 6 = .ok (.iconst 0, 1) := dk_3 (dk_at dksX19_run_0 6 rfl rfl)
theorem dX19_run_7 : decode cX19_run 7 = .ok (.putfield 119, 3) := dk_181 0 119 (dk_at dksX19_run_0 7 rfl rfl)
theorem dX19_run_10 : decode cX19_run 10 = .ok (.aload_n 0, 1) := dk_42 (dk_at dksX19_run_0 10 rfl rfl)
theorem dX19_run_11 : decode cX19_run 11 = .ok (.iconst 0, 1) := dk_3 (dk_at dksX19_run_0 11 rfl rfl)
theorem dX19_run_12 : decode cX19_run 12 = .ok (.putfield 111, 3) := dk_181 0 111 (dk_at dksX19_run_0 12 rfl rfl)
theorem dX19_run_15 : decode cX19_run 15 = .ok (.aload_n 0, 1) := dk_42 (dk_at dksX19_run_0 15 rfl rfl)
theorem dX19_run_16 : decode cX19_run 16 = .ok (.iload_n 2, 1) := dk_28 (dk_at dksX19_run_0 16 rfl rfl)
theorem dX19_run_17 : decode cX19_run 17 = .ok (.invokevirtual 122, 3) := dk_182 0 122 (dk_at dksX19_run_0 17 rfl rfl)
theorem dX19_run_20 : decode cX19_run 20 = .ok (.aload_n 0, 1) := dk_42 (dk_at dksX19_run_0 20 rfl rfl)
theorem dX19_run_21 : decode cX19_run 21 = .ok (.iload_n 1, 1) := dk_27 (dk_at dksX19_run_0 21 rfl rfl)
theorem dX19_run_22 : decode cX19_run 22 = .ok (.putfield 125, 3) := dk_181 0 125 (dk_at dksX19_run_1 0 rfl rfl)
theorem dX19_run_25 : decode cX19_run 25 = .ok (.aload_n 0, 1) := dk_42 (dk_at dksX19_run_1 3 rfl rfl)
theorem dX19_run_26 : decode cX19_run 26 = .ok (.getfield 125, 3) := dk_180 0 125 (dk_at dksX19_run_1 4 rfl rfl)
theorem dX19_run_29 : decode cX19_run 29 = .ok (.ifCond .ne 10, 3) := dk_154 0 10 (dk_at dksX19_run_1 7 rfl rfl)
theorem dX19_run_32 : decode cX19_run 32 = .ok (.aload_n 0, 1) := dk_42 (dk_at dksX19_run_1 10 rfl rfl)
theorem dX19_run_33 : decode cX19_run 33 = .ok (.getfield 111, 3) := dk_180 0 111 (dk_at dksX19_run_1 11 rfl rfl)
theorem dX19_run_36 : decode cX19_run 36 = .ok (.ifCond .le 46, 3) := dk_158 0 46 (dk_at dksX19_run_1 14 rfl rfl)
theorem dX19_run_39 : decode cX19_run 39 = .ok (.aload_n 0, 1) := dk_42 (dk_at dksX19_run_1 17 rfl rfl)
theorem dX19_run_40 : decode cX19_run 40 = .ok (.getfield 125, 3) := dk_180 0 125 (dk_at dksX19_run_1 18 rfl rfl)
theorem dX19_run_43 : decode cX19_run 43 = .ok (.ifCond .ne 10, 3) := dk_154 0 10 (dk_at dksX19_run_1 21 rfl rfl)
theorem dX19_run_46 : decode cX19_run 46 = .ok (.aload_n 0, 1) := dk_42 (dk_at dksX19_run_2 0 rfl rfl)
theorem dX19_run_47 : decode cX19_run 47 = .ok (.invokevirtual 128, 3) := dk_182 0 128 (dk_at dksX19_run_2 1 rfl rfl)
theorem dX19_run_50 : decode cX19_run 50 = .ok (.goto (-25), 3) := dk_167 255 231 (dk_at dksX19_run_2 4 rfl rfl)
theorem dX19_run_53 : decode cX19_run 53 = .ok (.aload_n 0, 1) := dk_42 (dk_at dksX19_run_2 7 rfl rfl)
theorem dX19_run_54 : decode cX19_run 54 = .ok (.getfield 125, 3) := dk_180 0 125 (dk_at dksX19_run_2 8 rfl rfl)
theorem dX19_run_57 : decode cX19_run 57 = .ok (.istore_n 3, 1) := dk_62 (dk_at dksX19_run_2 11 rfl rfl)
theorem dX19_run_58 : decode cX19_run 58 = .ok (.aload_n 0, 1) := dk_42 (dk_at dksX19_run_2 12 rfl rfl)
theorem dX19_run_59 : decode cX19_run 59 = .ok (.aload_n 0, 1) := dk_42 (dk_at dksX19_run_2 13 rfl rfl)
theorem dX19_run_60 : decode cX19_run 60 = .ok (.iload_n 3, 1) := dk_29 (dk_at dksX19_run_2 14 rfl rfl)
theorem dX19_run_61 : decode cX19_run 61 = .ok (.iconst 4, 1) := dk_7 (dk_at dksX19_run_2 15 rfl rfl)
theorem dX19_run_62 : decode cX19_run 62 = .ok (.invokevirtual 131, 3) := dk_182 0 131 (dk_at dksX19_run_2 16 rfl rfl)
theorem dX19_run_65 : decode cX19_run 65 = .ok (.putfield 125, 3) := dk_181 0 125 (dk_at dksX19_run_2 19 rfl rfl)
theorem dX19_run_68 : decode cX19_run 68 = .ok (.aload_n 0, 1) := dk_42 (dk_at dksX19_run_2 22 rfl rfl)
theorem dX19_run_69 : decode cX19_run 69 = .ok (.iload_n 3, 1) := dk_29 (dk_at dksX19_run_2 23 rfl rfl)
theorem dX19_run_70 : decode cX19_run 70 = .ok (.aload_n 0, 1) := dk_42 (dk_at dksX19_run_3 0 rfl rfl)
theorem dX19_run_71 : decode cX19_run 71 = .ok (.iload_n 3, 1) := dk_29 (dk_at dksX19_run_3 1 rfl rfl)
theorem dX19_run_72 : decode cX19_run 72 = .ok (.iconst 0, 1) := dk_3 (dk_at dksX19_run_3 2 rfl rfl)
theorem dX19_run_73 : decode cX19_run 73 = .ok (.invokevirtual 131, 3) := dk_182 0 131 (dk_at dksX19_run_3 3 rfl rfl)
theorem dX19_run_76 : decode cX19_run 76 = .ok (.invokevirtual 135, 3) := dk_182 0 135 (dk_at dksX19_run_3 6 rfl rfl)
theorem dX19_run_79 : decode cX19_run 79 = .ok (.goto (-54), 3) := dk_167 255 202 (dk_at dksX19_run_3 9 rfl rfl)
theorem dX19_run_82 : decode cX19_run 82 = .ok (.aload_n 0, 1) := dk_42 (dk_at dksX19_run_3 12 rfl rfl)
theorem dX19_run_83 : decode cX19_run 83 = .ok (.invokevirtual 139, 3) := dk_182 0 139 (dk_at dksX19_run_3 13 rfl rfl)
theorem dX19_run_86 : decode cX19_run 86 = .ok (.ireturn, 1) := dk_172 (dk_at dksX19_run_3 16 rfl rfl)
abbrev cX19_push : ByteArray := prog_9_method_2_code
def yX19_push : MethodName := ⟨RX19, "push", "(I)V"⟩
def dkwX19_push_0 : List UInt8 := [42, 180, 0, 36, 42, 89, 180, 0, 98, 90, 4, 96, 181, 0, 98, 27, 79, 177]
abbrev dktX19_push_0 : List UInt8 := dkwX19_push_0 ++ []
theorem dksX19_push_0 : cX19_push.data.toList.drop 0 = dktX19_push_0 := by decide +kernel
theorem dX19_push_0 : decode cX19_push 0 = .ok (.aload_n 0, 1) := dk_42 (dk_at dksX19_push_0 0 rfl rfl)
theorem dX19_push_1 : decode cX19_push 1 = .ok (.getfield 36, 3) := dk_180 0 36 (dk_at dksX19_push_0 1 rfl rfl)
theorem dX19_push_4 : decode cX19_push 4 = .ok (.aload_n 0, 1) := dk_42 (dk_at dksX19_push_0 4 rfl rfl)
theorem dX19_push_5 : decode cX19_push 5 = .ok (.dup, 1) := dk_89 (dk_at dksX19_push_0 5 rfl rfl)
theorem dX19_push_6 : decode cX19_push 6 = .ok (.getfield 98, 3) := dk_180 0 98 (dk_at dksX19_push_0 6 rfl rfl)
theorem dX19_push_9 : decode cX19_push 9 = .ok (.dup_x1, 1) := dk_90 (dk_at dksX19_push_0 9 rfl rfl)
theorem dX19_push_10 : decode cX19_push 10 = .ok (.iconst 1, 1) := dk_4 (dk_at dksX19_push_0 10 rfl rfl)
theorem dX19_push_11 : decode cX19_push 11 = .ok (.iadd, 1) := dk_96 (dk_at dksX19_push_0 11 rfl rfl)
theorem dX19_push_12 : decode cX19_push 12 = .ok (.putfield 98, 3) := dk_181 0 98 (dk_at dksX19_push_0 12 rfl rfl)
theorem dX19_push_15 : decode cX19_push 15 = .ok (.iload_n 1, 1) := dk_27 (dk_at dksX19_push_0 15 rfl rfl)
theorem dX19_push_16 : decode cX19_push 16 = .ok (.iastore, 1) := dk_79 (dk_at dksX19_push_0 16 rfl rfl)
theorem dX19_push_17 : decode cX19_push 17 = .ok (.return_, 1) := dk_177 (dk_at dksX19_push_0 17 rfl rfl)
abbrev cX19_goOn : ByteArray := prog_9_method_9_code
def yX19_goOn : MethodName := ⟨RX19, "goOn", "()V"⟩
def dkwX19_goOn_9 : List UInt8 := [181, 0, 125, 167, 0, 8, 42, 27, 181, 0, 125, 177]
abbrev dktX19_goOn_9 : List UInt8 := dkwX19_goOn_9 ++ []
def dkwX19_goOn_8 : List UInt8 := [182, 0, 153, 167, 0, 32, 42, 42, 180, 0, 54, 7, 42, 182, 0, 139, 182, 0, 156, 182, 0, 122, 42, 27]
abbrev dktX19_goOn_8 : List UInt8 := dkwX19_goOn_8 ++ dktX19_goOn_9
def dkwX19_goOn_7 : List UInt8 := [42, 180, 0, 40, 42, 89, 180, 0, 119, 90, 4, 96, 181, 0, 119, 42, 182, 0, 139, 79, 42, 27, 28, 29]
abbrev dktX19_goOn_7 : List UInt8 := dkwX19_goOn_7 ++ dktX19_goOn_8
def dkwX19_goOn_6 : List UInt8 := [182, 0, 143, 167, 0, 80, 42, 27, 182, 0, 146, 167, 0, 72, 42, 27, 28, 29, 182, 0, 149, 167, 0, 62]
abbrev dktX19_goOn_6 : List UInt8 := dkwX19_goOn_6 ++ dktX19_goOn_7
def dkwX19_goOn_5 : List UInt8 := [181, 0, 119, 46, 182, 0, 122, 132, 4, 1, 167, 255, 227, 42, 27, 181, 0, 125, 167, 0, 88, 42, 27]
abbrev dktX19_goOn_5 : List UInt8 := dkwX19_goOn_5 ++ dktX19_goOn_6
def dkwX19_goOn_4 : List UInt8 := [3, 54, 4, 21, 4, 28, 162, 0, 29, 42, 42, 180, 0, 40, 42, 89, 180, 0, 119, 4, 100, 90]
abbrev dktX19_goOn_4 : List UInt8 := dkwX19_goOn_4 ++ dktX19_goOn_5
def dkwX19_goOn_3 : List UInt8 := [170, 0, 0, 0, 160, 0, 0, 0, 1, 0, 0, 0, 6, 0, 0, 0, 37, 0, 0, 0, 80, 0, 0, 0, 88, 0, 0, 0, 96, 0, 0, 0, 106, 0, 0, 0, 136]
abbrev dktX19_goOn_3 : List UInt8 := dkwX19_goOn_3 ++ dktX19_goOn_4
def dkwX19_goOn_2 : List UInt8 := [180, 0, 44, 42, 180, 0, 111, 46]
abbrev dktX19_goOn_2 : List UInt8 := dkwX19_goOn_2 ++ dktX19_goOn_3
def dkwX19_goOn_1 : List UInt8 := [180, 0, 44, 42, 180, 0, 111, 5, 96, 46, 61, 42, 180, 0, 44, 42, 180, 0, 111, 6, 96, 46, 62, 42]
abbrev dktX19_goOn_1 : List UInt8 := dkwX19_goOn_1 ++ dktX19_goOn_2
def dkwX19_goOn_0 : List UInt8 := [42, 89, 180, 0, 111, 7, 100, 181, 0, 111, 42, 180, 0, 44, 42, 180, 0, 111, 4, 96, 46, 60, 42]
abbrev dktX19_goOn_0 : List UInt8 := dkwX19_goOn_0 ++ dktX19_goOn_1
theorem dksX19_goOn_0 : cX19_goOn.data.toList.drop 0 = dktX19_goOn_0 := by decide +kernel
theorem dksX19_goOn_1 : cX19_goOn.data.toList.drop 23 = dktX19_goOn_1 := dk_seg dksX19_goOn_0 23 rfl rfl
theorem dksX19_goOn_2 : cX19_goOn.data.toList.drop 47 = dktX19_goOn_2 := dk_seg dksX19_goOn_1 24 rfl rfl
theorem dksX19_goOn_3 : cX19_goOn.data.toList.drop 55 = dktX19_goOn_3 := dk_seg dksX19_goOn_2 8 rfl rfl
theorem dksX19_goOn_4 : cX19_goOn.data.toList.drop 92 = dktX19_goOn_4 := dk_seg dksX19_goOn_3 37 rfl rfl
theorem dksX19_goOn_5 : cX19_goOn.data.toList.drop 114 = dktX19_goOn_5 := dk_seg dksX19_goOn_4 22 rfl rfl
theorem dksX19_goOn_6 : cX19_goOn.data.toList.drop 137 = dktX19_goOn_6 := dk_seg dksX19_goOn_5 23 rfl rfl
theorem dksX19_goOn_7 : cX19_goOn.data.toList.drop 161 = dktX19_goOn_7 := dk_seg dksX19_goOn_6 24 rfl rfl
theorem dksX19_goOn_8 : cX19_goOn.data.toList.drop 185 = dktX19_goOn_8 := dk_seg dksX19_goOn_7 24 rfl rfl
theorem dksX19_goOn_9 : cX19_goOn.data.toList.drop 209 = dktX19_goOn_9 := dk_seg dksX19_goOn_8 24 rfl rfl
theorem dX19_goOn_0 : decode cX19_goOn 0 = .ok (.aload_n 0, 1) := dk_42 (dk_at dksX19_goOn_0 0 rfl rfl)
theorem dX19_goOn_1 : decode cX19_goOn 1 = .ok (.dup, 1) := dk_89 (dk_at dksX19_goOn_0 1 rfl rfl)
theorem dX19_goOn_2 : decode cX19_goOn 2 = .ok (.getfield 111, 3) := dk_180 0 111 (dk_at dksX19_goOn_0 2 rfl rfl)
theorem dX19_goOn_5 : decode cX19_goOn 5 = .ok (.iconst 4, 1) := dk_7 (dk_at dksX19_goOn_0 5 rfl rfl)
theorem dX19_goOn_6 : decode cX19_goOn 6 = .ok (.isub, 1) := dk_100 (dk_at dksX19_goOn_0 6 rfl rfl)
theorem dX19_goOn_7 : decode cX19_goOn 7 = .ok (.putfield 111, 3) := dk_181 0 111 (dk_at dksX19_goOn_0 7 rfl rfl)
theorem dX19_goOn_10 : decode cX19_goOn 10 = .ok (.aload_n 0, 1) := dk_42 (dk_at dksX19_goOn_0 10 rfl rfl)
theorem dX19_goOn_11 : decode cX19_goOn 11 = .ok (.getfield 44, 3) := dk_180 0 44 (dk_at dksX19_goOn_0 11 rfl rfl)
theorem dX19_goOn_14 : decode cX19_goOn 14 = .ok (.aload_n 0, 1) := dk_42 (dk_at dksX19_goOn_0 14 rfl rfl)
theorem dX19_goOn_15 : decode cX19_goOn 15 = .ok (.getfield 111, 3) := dk_180 0 111 (dk_at dksX19_goOn_0 15 rfl rfl)
theorem dX19_goOn_18 : decode cX19_goOn 18 = .ok (.iconst 1, 1) := dk_4 (dk_at dksX19_goOn_0 18 rfl rfl)
theorem dX19_goOn_19 : decode cX19_goOn 19 = .ok (.iadd, 1) := dk_96 (dk_at dksX19_goOn_0 19 rfl rfl)
theorem dX19_goOn_20 : decode cX19_goOn 20 = .ok (.iaload, 1) := dk_46 (dk_at dksX19_goOn_0 20 rfl rfl)
theorem dX19_goOn_21 : decode cX19_goOn 21 = .ok (.istore_n 1, 1) := dk_60 (dk_at dksX19_goOn_0 21 rfl rfl)
theorem dX19_goOn_22 : decode cX19_goOn 22 = .ok (.aload_n 0, 1) := dk_42 (dk_at dksX19_goOn_0 22 rfl rfl)
theorem dX19_goOn_23 : decode cX19_goOn 23 = .ok (.getfield 44, 3) := dk_180 0 44 (dk_at dksX19_goOn_1 0 rfl rfl)
theorem dX19_goOn_26 : decode cX19_goOn 26 = .ok (.aload_n 0, 1) := dk_42 (dk_at dksX19_goOn_1 3 rfl rfl)
theorem dX19_goOn_27 : decode cX19_goOn 27 = .ok (.getfield 111, 3) := dk_180 0 111 (dk_at dksX19_goOn_1 4 rfl rfl)
theorem dX19_goOn_30 : decode cX19_goOn 30 = .ok (.iconst 2, 1) := dk_5 (dk_at dksX19_goOn_1 7 rfl rfl)
theorem dX19_goOn_31 : decode cX19_goOn 31 = .ok (.iadd, 1) := dk_96 (dk_at dksX19_goOn_1 8 rfl rfl)
theorem dX19_goOn_32 : decode cX19_goOn 32 = .ok (.iaload, 1) := dk_46 (dk_at dksX19_goOn_1 9 rfl rfl)
theorem dX19_goOn_33 : decode cX19_goOn 33 = .ok (.istore_n 2, 1) := dk_61 (dk_at dksX19_goOn_1 10 rfl rfl)
theorem dX19_goOn_34 : decode cX19_goOn 34 = .ok (.aload_n 0, 1) := dk_42 (dk_at dksX19_goOn_1 11 rfl rfl)
theorem dX19_goOn_35 : decode cX19_goOn 35 = .ok (.getfield 44, 3) := dk_180 0 44 (dk_at dksX19_goOn_1 12 rfl rfl)
theorem dX19_goOn_38 : decode cX19_goOn 38 = .ok (.aload_n 0, 1) := dk_42 (dk_at dksX19_goOn_1 15 rfl rfl)
theorem dX19_goOn_39 : decode cX19_goOn 39 = .ok (.getfield 111, 3) := dk_180 0 111 (dk_at dksX19_goOn_1 16 rfl rfl)
theorem dX19_goOn_42 : decode cX19_goOn 42 = .ok (.iconst 3, 1) := dk_6 (dk_at dksX19_goOn_1 19 rfl rfl)
theorem dX19_goOn_43 : decode cX19_goOn 43 = .ok (.iadd, 1) := dk_96 (dk_at dksX19_goOn_1 20 rfl rfl)
theorem dX19_goOn_44 : decode cX19_goOn 44 = .ok (.iaload, 1) := dk_46 (dk_at dksX19_goOn_1 21 rfl rfl)
theorem dX19_goOn_45 : decode cX19_goOn 45 = .ok (.istore_n 3, 1) := dk_62 (dk_at dksX19_goOn_1 22 rfl rfl)
theorem dX19_goOn_46 : decode cX19_goOn 46 = .ok (.aload_n 0, 1) := dk_42 (dk_at dksX19_goOn_1 23 rfl rfl)
theorem dX19_goOn_47 : decode cX19_goOn 47 = .ok (.getfield 44, 3) := dk_180 0 44 (dk_at dksX19_goOn_2 0 rfl rfl)
theorem dX19_goOn_50 : decode cX19_goOn 50 = .ok (.aload_n 0, 1) := dk_42 (dk_at dksX19_goOn_2 3 rfl rfl)
theorem dX19_goOn_51 : decode cX19_goOn 51 = .ok (.getfield 111, 3) := dk_180 0 111 (dk_at dksX19_goOn_2 4 rfl rfl)
theorem dX19_goOn_54 : decode cX19_goOn 54 = .ok (.iaload, 1) := dk_46 (dk_at dksX19_goOn_2 7 rfl rfl)
theorem dX19_goOn_55 : decode cX19_goOn 55 = .ok (.tableswitch 160 1 6 #[37, 80, 88, 96, 106, 136], 37) := by decide +kernel
theorem dX19_goOn_92 : decode cX19_goOn 92 = .ok (.iconst 0, 1) := dk_3 (dk_at dksX19_goOn_4 0 rfl rfl)
theorem dX19_goOn_93 : decode cX19_goOn 93 = .ok (.istore 4, 2) := dk_54 4 (dk_at dksX19_goOn_4 1 rfl rfl)
theorem dX19_goOn_95 : decode cX19_goOn 95 = .ok (.iload 4, 2) := dk_21 4 (dk_at dksX19_goOn_4 3 rfl rfl)
theorem dX19_goOn_97 : decode cX19_goOn 97 = .ok (.iload_n 2, 1) := dk_28 (dk_at dksX19_goOn_4 5 rfl rfl)
theorem dX19_goOn_98 : decode cX19_goOn 98 = .ok (.if_icmp .ge 29, 3) := dk_162 0 29 (dk_at dksX19_goOn_4 6 rfl rfl)
theorem dX19_goOn_101 : decode cX19_goOn 101 = .ok (.aload_n 0, 1) := dk_42 (dk_at dksX19_goOn_4 9 rfl rfl)
theorem dX19_goOn_102 : decode cX19_goOn 102 = .ok (.aload_n 0, 1) := dk_42 (dk_at dksX19_goOn_4 10 rfl rfl)
theorem dX19_goOn_103 : decode cX19_goOn 103 = .ok (.getfield 40, 3) := dk_180 0 40 (dk_at dksX19_goOn_4 11 rfl rfl)
theorem dX19_goOn_106 : decode cX19_goOn 106 = .ok (.aload_n 0, 1) := dk_42 (dk_at dksX19_goOn_4 14 rfl rfl)
theorem dX19_goOn_107 : decode cX19_goOn 107 = .ok (.dup, 1) := dk_89 (dk_at dksX19_goOn_4 15 rfl rfl)
theorem dX19_goOn_108 : decode cX19_goOn 108 = .ok (.getfield 119, 3) := dk_180 0 119 (dk_at dksX19_goOn_4 16 rfl rfl)
theorem dX19_goOn_111 : decode cX19_goOn 111 = .ok (.iconst 1, 1) := dk_4 (dk_at dksX19_goOn_4 19 rfl rfl)
theorem dX19_goOn_112 : decode cX19_goOn 112 = .ok (.isub, 1) := dk_100 (dk_at dksX19_goOn_4 20 rfl rfl)
theorem dX19_goOn_113 : decode cX19_goOn 113 = .ok (.dup_x1, 1) := dk_90 (dk_at dksX19_goOn_4 21 rfl rfl)
theorem dX19_goOn_114 : decode cX19_goOn 114 = .ok (.putfield 119, 3) := dk_181 0 119 (dk_at dksX19_goOn_5 0 rfl rfl)
theorem dX19_goOn_117 : decode cX19_goOn 117 = .ok (.iaload, 1) := dk_46 (dk_at dksX19_goOn_5 3 rfl rfl)
theorem dX19_goOn_118 : decode cX19_goOn 118 = .ok (.invokevirtual 122, 3) := dk_182 0 122 (dk_at dksX19_goOn_5 4 rfl rfl)
theorem dX19_goOn_121 : decode cX19_goOn 121 = .ok (.iinc 4 1, 3) := dk_132 4 1 (dk_at dksX19_goOn_5 7 rfl rfl)
theorem dX19_goOn_124 : decode cX19_goOn 124 = .ok (.goto (-29), 3) := dk_167 255 227 (dk_at dksX19_goOn_5 10 rfl rfl)
theorem dX19_goOn_127 : decode cX19_goOn 127 = .ok (.aload_n 0, 1) := dk_42 (dk_at dksX19_goOn_5 13 rfl rfl)
theorem dX19_goOn_128 : decode cX19_goOn 128 = .ok (.iload_n 1, 1) := dk_27 (dk_at dksX19_goOn_5 14 rfl rfl)
theorem dX19_goOn_129 : decode cX19_goOn 129 = .ok (.putfield 125, 3) := dk_181 0 125 (dk_at dksX19_goOn_5 15 rfl rfl)
theorem dX19_goOn_132 : decode cX19_goOn 132 = .ok (.goto 88, 3) := dk_167 0 88 (dk_at dksX19_goOn_5 18 rfl rfl)
theorem dX19_goOn_135 : decode cX19_goOn 135 = .ok (.aload_n 0, 1) := dk_42 (dk_at dksX19_goOn_5 21 rfl rfl)
theorem dX19_goOn_136 : decode cX19_goOn 136 = .ok (.iload_n 1, 1) := dk_27 (dk_at dksX19_goOn_5 22 rfl rfl)
theorem dX19_goOn_137 : decode cX19_goOn 137 = .ok (.invokevirtual 143, 3) := dk_182 0 143 (dk_at dksX19_goOn_6 0 rfl rfl)
theorem dX19_goOn_140 : decode cX19_goOn 140 = .ok (.goto 80, 3) := dk_167 0 80 (dk_at dksX19_goOn_6 3 rfl rfl)
theorem dX19_goOn_143 : decode cX19_goOn 143 = .ok (.aload_n 0, 1) := dk_42 (dk_at dksX19_goOn_6 6 rfl rfl)
theorem dX19_goOn_144 : decode cX19_goOn 144 = .ok (.iload_n 1, 1) := dk_27 (dk_at dksX19_goOn_6 7 rfl rfl)
theorem dX19_goOn_145 : decode cX19_goOn 145 = .ok (.invokevirtual 146, 3) := dk_182 0 146 (dk_at dksX19_goOn_6 8 rfl rfl)
theorem dX19_goOn_148 : decode cX19_goOn 148 = .ok (.goto 72, 3) := dk_167 0 72 (dk_at dksX19_goOn_6 11 rfl rfl)
theorem dX19_goOn_151 : decode cX19_goOn 151 = .ok (.aload_n 0, 1) := dk_42 (dk_at dksX19_goOn_6 14 rfl rfl)
theorem dX19_goOn_152 : decode cX19_goOn 152 = .ok (.iload_n 1, 1) := dk_27 (dk_at dksX19_goOn_6 15 rfl rfl)
theorem dX19_goOn_153 : decode cX19_goOn 153 = .ok (.iload_n 2, 1) := dk_28 (dk_at dksX19_goOn_6 16 rfl rfl)
theorem dX19_goOn_154 : decode cX19_goOn 154 = .ok (.iload_n 3, 1) := dk_29 (dk_at dksX19_goOn_6 17 rfl rfl)
theorem dX19_goOn_155 : decode cX19_goOn 155 = .ok (.invokevirtual 149, 3) := dk_182 0 149 (dk_at dksX19_goOn_6 18 rfl rfl)
theorem dX19_goOn_158 : decode cX19_goOn 158 = .ok (.goto 62, 3) := dk_167 0 62 (dk_at dksX19_goOn_6 21 rfl rfl)
theorem dX19_goOn_161 : decode cX19_goOn 161 = .ok (.aload_n 0, 1) := dk_42 (dk_at dksX19_goOn_7 0 rfl rfl)
theorem dX19_goOn_162 : decode cX19_goOn 162 = .ok (.getfield 40, 3) := dk_180 0 40 (dk_at dksX19_goOn_7 1 rfl rfl)
theorem dX19_goOn_165 : decode cX19_goOn 165 = .ok (.aload_n 0, 1) := dk_42 (dk_at dksX19_goOn_7 4 rfl rfl)
theorem dX19_goOn_166 : decode cX19_goOn 166 = .ok (.dup, 1) := dk_89 (dk_at dksX19_goOn_7 5 rfl rfl)
theorem dX19_goOn_167 : decode cX19_goOn 167 = .ok (.getfield 119, 3) := dk_180 0 119 (dk_at dksX19_goOn_7 6 rfl rfl)
theorem dX19_goOn_170 : decode cX19_goOn 170 = .ok (.dup_x1, 1) := dk_90 (dk_at dksX19_goOn_7 9 rfl rfl)
theorem dX19_goOn_171 : decode cX19_goOn 171 = .ok (.iconst 1, 1) := dk_4 (dk_at dksX19_goOn_7 10 rfl rfl)
theorem dX19_goOn_172 : decode cX19_goOn 172 = .ok (.iadd, 1) := dk_96 (dk_at dksX19_goOn_7 11 rfl rfl)
theorem dX19_goOn_173 : decode cX19_goOn 173 = .ok (.putfield 119, 3) := dk_181 0 119 (dk_at dksX19_goOn_7 12 rfl rfl)
theorem dX19_goOn_176 : decode cX19_goOn 176 = .ok (.aload_n 0, 1) := dk_42 (dk_at dksX19_goOn_7 15 rfl rfl)
theorem dX19_goOn_177 : decode cX19_goOn 177 = .ok (.invokevirtual 139, 3) := dk_182 0 139 (dk_at dksX19_goOn_7 16 rfl rfl)
theorem dX19_goOn_180 : decode cX19_goOn 180 = .ok (.iastore, 1) := dk_79 (dk_at dksX19_goOn_7 19 rfl rfl)
theorem dX19_goOn_181 : decode cX19_goOn 181 = .ok (.aload_n 0, 1) := dk_42 (dk_at dksX19_goOn_7 20 rfl rfl)
theorem dX19_goOn_182 : decode cX19_goOn 182 = .ok (.iload_n 1, 1) := dk_27 (dk_at dksX19_goOn_7 21 rfl rfl)
theorem dX19_goOn_183 : decode cX19_goOn 183 = .ok (.iload_n 2, 1) := dk_28 (dk_at dksX19_goOn_7 22 rfl rfl)
theorem dX19_goOn_184 : decode cX19_goOn 184 = .ok (.iload_n 3, 1) := dk_29 (dk_at dksX19_goOn_7 23 rfl rfl)
theorem dX19_goOn_185 : decode cX19_goOn 185 = .ok (.invokevirtual 153, 3) := dk_182 0 153 (dk_at dksX19_goOn_8 0 rfl rfl)
theorem dX19_goOn_188 : decode cX19_goOn 188 = .ok (.goto 32, 3) := dk_167 0 32 (dk_at dksX19_goOn_8 3 rfl rfl)
theorem dX19_goOn_191 : decode cX19_goOn 191 = .ok (.aload_n 0, 1) := dk_42 (dk_at dksX19_goOn_8 6 rfl rfl)
theorem dX19_goOn_192 : decode cX19_goOn 192 = .ok (.aload_n 0, 1) := dk_42 (dk_at dksX19_goOn_8 7 rfl rfl)
theorem dX19_goOn_193 : decode cX19_goOn 193 = .ok (.getfield 54, 3) := dk_180 0 54 (dk_at dksX19_goOn_8 8 rfl rfl)
theorem dX19_goOn_196 : decode cX19_goOn 196 = .ok (.iconst 4, 1) := dk_7 (dk_at dksX19_goOn_8 11 rfl rfl)
theorem dX19_goOn_197 : decode cX19_goOn 197 = .ok (.aload_n 0, 1) := dk_42 (dk_at dksX19_goOn_8 12 rfl rfl)
theorem dX19_goOn_198 : decode cX19_goOn 198 = .ok (.invokevirtual 139, 3) := dk_182 0 139 (dk_at dksX19_goOn_8 13 rfl rfl)
theorem dX19_goOn_201 : decode cX19_goOn 201 = .ok (.invokevirtual 156, 3) := dk_182 0 156 (dk_at dksX19_goOn_8 16 rfl rfl)
theorem dX19_goOn_204 : decode cX19_goOn 204 = .ok (.invokevirtual 122, 3) := dk_182 0 122 (dk_at dksX19_goOn_8 19 rfl rfl)
theorem dX19_goOn_207 : decode cX19_goOn 207 = .ok (.aload_n 0, 1) := dk_42 (dk_at dksX19_goOn_8 22 rfl rfl)
theorem dX19_goOn_208 : decode cX19_goOn 208 = .ok (.iload_n 1, 1) := dk_27 (dk_at dksX19_goOn_8 23 rfl rfl)
theorem dX19_goOn_209 : decode cX19_goOn 209 = .ok (.putfield 125, 3) := dk_181 0 125 (dk_at dksX19_goOn_9 0 rfl rfl)
theorem dX19_goOn_212 : decode cX19_goOn 212 = .ok (.goto 8, 3) := dk_167 0 8 (dk_at dksX19_goOn_9 3 rfl rfl)
theorem dX19_goOn_215 : decode cX19_goOn 215 = .ok (.aload_n 0, 1) := dk_42 (dk_at dksX19_goOn_9 6 rfl rfl)
theorem dX19_goOn_216 : decode cX19_goOn 216 = .ok (.iload_n 1, 1) := dk_27 (dk_at dksX19_goOn_9 7 rfl rfl)
theorem dX19_goOn_217 : decode cX19_goOn 217 = .ok (.putfield 125, 3) := dk_181 0 125 (dk_at dksX19_goOn_9 8 rfl rfl)
theorem dX19_goOn_220 : decode cX19_goOn 220 = .ok (.return_, 1) := dk_177 (dk_at dksX19_goOn_9 11 rfl rfl)
abbrev cX19_loop : ByteArray := prog_9_method_19_code
def yX19_loop : MethodName := ⟨RX19, "loop", "(I)V"⟩
def dkwX19_loop_1 : List UInt8 := [182, 0, 159, 42, 42, 27, 4, 182, 0, 131, 181, 0, 125, 177]
abbrev dktX19_loop_1 : List UInt8 := dkwX19_loop_1 ++ []
def dkwX19_loop_0 : List UInt8 := [42, 42, 27, 7, 182, 0, 131, 181, 0, 125, 42, 182, 0, 139, 16, 6, 160, 0, 21, 42, 5, 27, 3, 3]
abbrev dktX19_loop_0 : List UInt8 := dkwX19_loop_0 ++ dktX19_loop_1
theorem dksX19_loop_0 : cX19_loop.data.toList.drop 0 = dktX19_loop_0 := by decide +kernel
theorem dksX19_loop_1 : cX19_loop.data.toList.drop 24 = dktX19_loop_1 := dk_seg dksX19_loop_0 24 rfl rfl
theorem dX19_loop_0 : decode cX19_loop 0 = .ok (.aload_n 0, 1) := dk_42 (dk_at dksX19_loop_0 0 rfl rfl)
theorem dX19_loop_1 : decode cX19_loop 1 = .ok (.aload_n 0, 1) := dk_42 (dk_at dksX19_loop_0 1 rfl rfl)
theorem dX19_loop_2 : decode cX19_loop 2 = .ok (.iload_n 1, 1) := dk_27 (dk_at dksX19_loop_0 2 rfl rfl)
theorem dX19_loop_3 : decode cX19_loop 3 = .ok (.iconst 4, 1) := dk_7 (dk_at dksX19_loop_0 3 rfl rfl)
theorem dX19_loop_4 : decode cX19_loop 4 = .ok (.invokevirtual 131, 3) := dk_182 0 131 (dk_at dksX19_loop_0 4 rfl rfl)
theorem dX19_loop_7 : decode cX19_loop 7 = .ok (.putfield 125, 3) := dk_181 0 125 (dk_at dksX19_loop_0 7 rfl rfl)
theorem dX19_loop_10 : decode cX19_loop 10 = .ok (.aload_n 0, 1) := dk_42 (dk_at dksX19_loop_0 10 rfl rfl)
theorem dX19_loop_11 : decode cX19_loop 11 = .ok (.invokevirtual 139, 3) := dk_182 0 139 (dk_at dksX19_loop_0 11 rfl rfl)
theorem dX19_loop_14 : decode cX19_loop 14 = .ok (.bipush 6, 2) := dk_16 6 (dk_at dksX19_loop_0 14 rfl rfl)
theorem dX19_loop_16 : decode cX19_loop 16 = .ok (.if_icmp .ne 21, 3) := dk_160 0 21 (dk_at dksX19_loop_0 16 rfl rfl)
theorem dX19_loop_19 : decode cX19_loop 19 = .ok (.aload_n 0, 1) := dk_42 (dk_at dksX19_loop_0 19 rfl rfl)
theorem dX19_loop_20 : decode cX19_loop 20 = .ok (.iconst 2, 1) := dk_5 (dk_at dksX19_loop_0 20 rfl rfl)
theorem dX19_loop_21 : decode cX19_loop 21 = .ok (.iload_n 1, 1) := dk_27 (dk_at dksX19_loop_0 21 rfl rfl)
theorem dX19_loop_22 : decode cX19_loop 22 = .ok (.iconst 0, 1) := dk_3 (dk_at dksX19_loop_0 22 rfl rfl)
theorem dX19_loop_23 : decode cX19_loop 23 = .ok (.iconst 0, 1) := dk_3 (dk_at dksX19_loop_0 23 rfl rfl)
theorem dX19_loop_24 : decode cX19_loop 24 = .ok (.invokevirtual 159, 3) := dk_182 0 159 (dk_at dksX19_loop_1 0 rfl rfl)
theorem dX19_loop_27 : decode cX19_loop 27 = .ok (.aload_n 0, 1) := dk_42 (dk_at dksX19_loop_1 3 rfl rfl)
theorem dX19_loop_28 : decode cX19_loop 28 = .ok (.aload_n 0, 1) := dk_42 (dk_at dksX19_loop_1 4 rfl rfl)
theorem dX19_loop_29 : decode cX19_loop 29 = .ok (.iload_n 1, 1) := dk_27 (dk_at dksX19_loop_1 5 rfl rfl)
theorem dX19_loop_30 : decode cX19_loop 30 = .ok (.iconst 1, 1) := dk_4 (dk_at dksX19_loop_1 6 rfl rfl)
theorem dX19_loop_31 : decode cX19_loop 31 = .ok (.invokevirtual 131, 3) := dk_182 0 131 (dk_at dksX19_loop_1 7 rfl rfl)
theorem dX19_loop_34 : decode cX19_loop 34 = .ok (.putfield 125, 3) := dk_181 0 125 (dk_at dksX19_loop_1 10 rfl rfl)
theorem dX19_loop_37 : decode cX19_loop 37 = .ok (.return_, 1) := dk_177 (dk_at dksX19_loop_1 13 rfl rfl)
abbrev cX19_cell : ByteArray := prog_9_method_7_code
def yX19_cell : MethodName := ⟨RX19, "cell", "(II)I"⟩
def dkwX19_cell_0 : List UInt8 := [42, 180, 0, 62, 180, 0, 114, 27, 28, 96, 46, 172]
abbrev dktX19_cell_0 : List UInt8 := dkwX19_cell_0 ++ []
theorem dksX19_cell_0 : cX19_cell.data.toList.drop 0 = dktX19_cell_0 := by decide +kernel
theorem dX19_cell_0 : decode cX19_cell 0 = .ok (.aload_n 0, 1) := dk_42 (dk_at dksX19_cell_0 0 rfl rfl)
theorem dX19_cell_1 : decode cX19_cell 1 = .ok (.getfield 62, 3) := dk_180 0 62 (dk_at dksX19_cell_0 1 rfl rfl)
theorem dX19_cell_4 : decode cX19_cell 4 = .ok (.getfield 114, 3) := dk_180 0 114 (dk_at dksX19_cell_0 4 rfl rfl)
theorem dX19_cell_7 : decode cX19_cell 7 = .ok (.iload_n 1, 1) := dk_27 (dk_at dksX19_cell_0 7 rfl rfl)
theorem dX19_cell_8 : decode cX19_cell 8 = .ok (.iload_n 2, 1) := dk_28 (dk_at dksX19_cell_0 8 rfl rfl)
theorem dX19_cell_9 : decode cX19_cell 9 = .ok (.iadd, 1) := dk_96 (dk_at dksX19_cell_0 9 rfl rfl)
theorem dX19_cell_10 : decode cX19_cell 10 = .ok (.iaload, 1) := dk_46 (dk_at dksX19_cell_0 10 rfl rfl)
theorem dX19_cell_11 : decode cX19_cell 11 = .ok (.ireturn, 1) := dk_172 (dk_at dksX19_cell_0 11 rfl rfl)
abbrev cX19_pop : ByteArray := prog_9_method_3_code
def yX19_pop : MethodName := ⟨RX19, "pop", "()I"⟩
def dkwX19_pop_0 : List UInt8 := [42, 180, 0, 36, 42, 89, 180, 0, 98, 4, 100, 90, 181, 0, 98, 46, 172]
abbrev dktX19_pop_0 : List UInt8 := dkwX19_pop_0 ++ []
theorem dksX19_pop_0 : cX19_pop.data.toList.drop 0 = dktX19_pop_0 := by decide +kernel
theorem dX19_pop_0 : decode cX19_pop 0 = .ok (.aload_n 0, 1) := dk_42 (dk_at dksX19_pop_0 0 rfl rfl)
theorem dX19_pop_1 : decode cX19_pop 1 = .ok (.getfield 36, 3) := dk_180 0 36 (dk_at dksX19_pop_0 1 rfl rfl)
theorem dX19_pop_4 : decode cX19_pop 4 = .ok (.aload_n 0, 1) := dk_42 (dk_at dksX19_pop_0 4 rfl rfl)
theorem dX19_pop_5 : decode cX19_pop 5 = .ok (.dup, 1) := dk_89 (dk_at dksX19_pop_0 5 rfl rfl)
theorem dX19_pop_6 : decode cX19_pop 6 = .ok (.getfield 98, 3) := dk_180 0 98 (dk_at dksX19_pop_0 6 rfl rfl)
theorem dX19_pop_9 : decode cX19_pop 9 = .ok (.iconst 1, 1) := dk_4 (dk_at dksX19_pop_0 9 rfl rfl)
theorem dX19_pop_10 : decode cX19_pop 10 = .ok (.isub, 1) := dk_100 (dk_at dksX19_pop_0 10 rfl rfl)
theorem dX19_pop_11 : decode cX19_pop 11 = .ok (.dup_x1, 1) := dk_90 (dk_at dksX19_pop_0 11 rfl rfl)
theorem dX19_pop_12 : decode cX19_pop 12 = .ok (.putfield 98, 3) := dk_181 0 98 (dk_at dksX19_pop_0 12 rfl rfl)
theorem dX19_pop_15 : decode cX19_pop 15 = .ok (.iaload, 1) := dk_46 (dk_at dksX19_pop_0 15 rfl rfl)
theorem dX19_pop_16 : decode cX19_pop 16 = .ok (.ireturn, 1) := dk_172 (dk_at dksX19_pop_0 16 rfl rfl)
abbrev cX19_frame : ByteArray := prog_9_method_6_code
def yX19_frame : MethodName := ⟨RX19, "frame", "(IIII)V"⟩
def dkwX19_frame_2 : List UInt8 := [42, 89, 180, 0, 111, 7, 96, 181, 0, 111, 177]
abbrev dktX19_frame_2 : List UInt8 := dkwX19_frame_2 ++ []
def dkwX19_frame_1 : List UInt8 := [180, 0, 44, 42, 180, 0, 111, 5, 96, 29, 79, 42, 180, 0, 44, 42, 180, 0, 111, 6, 96, 21, 4, 79]
abbrev dktX19_frame_1 : List UInt8 := dkwX19_frame_1 ++ dktX19_frame_2
def dkwX19_frame_0 : List UInt8 := [42, 180, 0, 44, 42, 180, 0, 111, 27, 79, 42, 180, 0, 44, 42, 180, 0, 111, 4, 96, 28, 79, 42]
abbrev dktX19_frame_0 : List UInt8 := dkwX19_frame_0 ++ dktX19_frame_1
theorem dksX19_frame_0 : cX19_frame.data.toList.drop 0 = dktX19_frame_0 := by decide +kernel
theorem dksX19_frame_1 : cX19_frame.data.toList.drop 23 = dktX19_frame_1 := dk_seg dksX19_frame_0 23 rfl rfl
theorem dksX19_frame_2 : cX19_frame.data.toList.drop 47 = dktX19_frame_2 := dk_seg dksX19_frame_1 24 rfl rfl
theorem dX19_frame_0 : decode cX19_frame 0 = .ok (.aload_n 0, 1) := dk_42 (dk_at dksX19_frame_0 0 rfl rfl)
theorem dX19_frame_1 : decode cX19_frame 1 = .ok (.getfield 44, 3) := dk_180 0 44 (dk_at dksX19_frame_0 1 rfl rfl)
theorem dX19_frame_4 : decode cX19_frame 4 = .ok (.aload_n 0, 1) := dk_42 (dk_at dksX19_frame_0 4 rfl rfl)
theorem dX19_frame_5 : decode cX19_frame 5 = .ok (.getfield 111, 3) := dk_180 0 111 (dk_at dksX19_frame_0 5 rfl rfl)
theorem dX19_frame_8 : decode cX19_frame 8 = .ok (.iload_n 1, 1) := dk_27 (dk_at dksX19_frame_0 8 rfl rfl)
theorem dX19_frame_9 : decode cX19_frame 9 = .ok (.iastore, 1) := dk_79 (dk_at dksX19_frame_0 9 rfl rfl)
theorem dX19_frame_10 : decode cX19_frame 10 = .ok (.aload_n 0, 1) := dk_42 (dk_at dksX19_frame_0 10 rfl rfl)
theorem dX19_frame_11 : decode cX19_frame 11 = .ok (.getfield 44, 3) := dk_180 0 44 (dk_at dksX19_frame_0 11 rfl rfl)
theorem dX19_frame_14 : decode cX19_frame 14 = .ok (.aload_n 0, 1) := dk_42 (dk_at dksX19_frame_0 14 rfl rfl)
theorem dX19_frame_15 : decode cX19_frame 15 = .ok (.getfield 111, 3) := dk_180 0 111 (dk_at dksX19_frame_0 15 rfl rfl)
theorem dX19_frame_18 : decode cX19_frame 18 = .ok (.iconst 1, 1) := dk_4 (dk_at dksX19_frame_0 18 rfl rfl)
theorem dX19_frame_19 : decode cX19_frame 19 = .ok (.iadd, 1) := dk_96 (dk_at dksX19_frame_0 19 rfl rfl)
theorem dX19_frame_20 : decode cX19_frame 20 = .ok (.iload_n 2, 1) := dk_28 (dk_at dksX19_frame_0 20 rfl rfl)
theorem dX19_frame_21 : decode cX19_frame 21 = .ok (.iastore, 1) := dk_79 (dk_at dksX19_frame_0 21 rfl rfl)
theorem dX19_frame_22 : decode cX19_frame 22 = .ok (.aload_n 0, 1) := dk_42 (dk_at dksX19_frame_0 22 rfl rfl)
theorem dX19_frame_23 : decode cX19_frame 23 = .ok (.getfield 44, 3) := dk_180 0 44 (dk_at dksX19_frame_1 0 rfl rfl)
theorem dX19_frame_26 : decode cX19_frame 26 = .ok (.aload_n 0, 1) := dk_42 (dk_at dksX19_frame_1 3 rfl rfl)
theorem dX19_frame_27 : decode cX19_frame 27 = .ok (.getfield 111, 3) := dk_180 0 111 (dk_at dksX19_frame_1 4 rfl rfl)
theorem dX19_frame_30 : decode cX19_frame 30 = .ok (.iconst 2, 1) := dk_5 (dk_at dksX19_frame_1 7 rfl rfl)
theorem dX19_frame_31 : decode cX19_frame 31 = .ok (.iadd, 1) := dk_96 (dk_at dksX19_frame_1 8 rfl rfl)
theorem dX19_frame_32 : decode cX19_frame 32 = .ok (.iload_n 3, 1) := dk_29 (dk_at dksX19_frame_1 9 rfl rfl)
theorem dX19_frame_33 : decode cX19_frame 33 = .ok (.iastore, 1) := dk_79 (dk_at dksX19_frame_1 10 rfl rfl)
theorem dX19_frame_34 : decode cX19_frame 34 = .ok (.aload_n 0, 1) := dk_42 (dk_at dksX19_frame_1 11 rfl rfl)
theorem dX19_frame_35 : decode cX19_frame 35 = .ok (.getfield 44, 3) := dk_180 0 44 (dk_at dksX19_frame_1 12 rfl rfl)
theorem dX19_frame_38 : decode cX19_frame 38 = .ok (.aload_n 0, 1) := dk_42 (dk_at dksX19_frame_1 15 rfl rfl)
theorem dX19_frame_39 : decode cX19_frame 39 = .ok (.getfield 111, 3) := dk_180 0 111 (dk_at dksX19_frame_1 16 rfl rfl)
theorem dX19_frame_42 : decode cX19_frame 42 = .ok (.iconst 3, 1) := dk_6 (dk_at dksX19_frame_1 19 rfl rfl)
theorem dX19_frame_43 : decode cX19_frame 43 = .ok (.iadd, 1) := dk_96 (dk_at dksX19_frame_1 20 rfl rfl)
theorem dX19_frame_44 : decode cX19_frame 44 = .ok (.iload 4, 2) := dk_21 4 (dk_at dksX19_frame_1 21 rfl rfl)
theorem dX19_frame_46 : decode cX19_frame 46 = .ok (.iastore, 1) := dk_79 (dk_at dksX19_frame_1 23 rfl rfl)
theorem dX19_frame_47 : decode cX19_frame 47 = .ok (.aload_n 0, 1) := dk_42 (dk_at dksX19_frame_2 0 rfl rfl)
theorem dX19_frame_48 : decode cX19_frame 48 = .ok (.dup, 1) := dk_89 (dk_at dksX19_frame_2 1 rfl rfl)
theorem dX19_frame_49 : decode cX19_frame 49 = .ok (.getfield 111, 3) := dk_180 0 111 (dk_at dksX19_frame_2 2 rfl rfl)
theorem dX19_frame_52 : decode cX19_frame 52 = .ok (.iconst 4, 1) := dk_7 (dk_at dksX19_frame_2 5 rfl rfl)
theorem dX19_frame_53 : decode cX19_frame 53 = .ok (.iadd, 1) := dk_96 (dk_at dksX19_frame_2 6 rfl rfl)
theorem dX19_frame_54 : decode cX19_frame 54 = .ok (.putfield 111, 3) := dk_181 0 111 (dk_at dksX19_frame_2 7 rfl rfl)
theorem dX19_frame_57 : decode cX19_frame 57 = .ok (.return_, 1) := dk_177 (dk_at dksX19_frame_2 10 rfl rfl)
abbrev cX19_loopLeft : ByteArray := prog_9_method_20_code
def yX19_loopLeft : MethodName := ⟨RX19, "loopLeft", "(I)V"⟩
def dkwX19_loopLeft_2 : List UInt8 := [182, 0, 159, 42, 42, 27, 4, 182, 0, 131, 181, 0, 125, 177]
abbrev dktX19_loopLeft_2 : List UInt8 := dkwX19_loopLeft_2 ++ []
def dkwX19_loopLeft_1 : List UInt8 := [182, 0, 199, 182, 0, 122, 42, 180, 0, 54, 28, 182, 0, 236, 8, 160, 0, 21, 42, 6, 27, 3, 3]
abbrev dktX19_loopLeft_1 : List UInt8 := dkwX19_loopLeft_1 ++ dktX19_loopLeft_2
def dkwX19_loopLeft_0 : List UInt8 := [42, 42, 27, 7, 182, 0, 131, 181, 0, 125, 42, 182, 0, 139, 61, 42, 42, 180, 0, 54, 28, 5]
abbrev dktX19_loopLeft_0 : List UInt8 := dkwX19_loopLeft_0 ++ dktX19_loopLeft_1
theorem dksX19_loopLeft_0 : cX19_loopLeft.data.toList.drop 0 = dktX19_loopLeft_0 := by decide +kernel
theorem dksX19_loopLeft_1 : cX19_loopLeft.data.toList.drop 22 = dktX19_loopLeft_1 := dk_seg dksX19_loopLeft_0 22 rfl rfl
theorem dksX19_loopLeft_2 : cX19_loopLeft.data.toList.drop 45 = dktX19_loopLeft_2 := dk_seg dksX19_loopLeft_1 23 rfl rfl
theorem dX19_loopLeft_0 : decode cX19_loopLeft 0 = .ok (.aload_n 0, 1) := dk_42 (dk_at dksX19_loopLeft_0 0 rfl rfl)
theorem dX19_loopLeft_1 : decode cX19_loopLeft 1 = .ok (.aload_n 0, 1) := dk_42 (dk_at dksX19_loopLeft_0 1 rfl rfl)
theorem dX19_loopLeft_2 : decode cX19_loopLeft 2 = .ok (.iload_n 1, 1) := dk_27 (dk_at dksX19_loopLeft_0 2 rfl rfl)
theorem dX19_loopLeft_3 : decode cX19_loopLeft 3 = .ok (.iconst 4, 1) := dk_7 (dk_at dksX19_loopLeft_0 3 rfl rfl)
theorem dX19_loopLeft_4 : decode cX19_loopLeft 4 = .ok (.invokevirtual 131, 3) := dk_182 0 131 (dk_at dksX19_loopLeft_0 4 rfl rfl)
theorem dX19_loopLeft_7 : decode cX19_loopLeft 7 = .ok (.putfield 125, 3) := dk_181 0 125 (dk_at dksX19_loopLeft_0 7 rfl rfl)
theorem dX19_loopLeft_10 : decode cX19_loopLeft 10 = .ok (.aload_n 0, 1) := dk_42 (dk_at dksX19_loopLeft_0 10 rfl rfl)
theorem dX19_loopLeft_11 : decode cX19_loopLeft 11 = .ok (.invokevirtual 139, 3) := dk_182 0 139 (dk_at dksX19_loopLeft_0 11 rfl rfl)
theorem dX19_loopLeft_14 : decode cX19_loopLeft 14 = .ok (.istore_n 2, 1) := dk_61 (dk_at dksX19_loopLeft_0 14 rfl rfl)
theorem dX19_loopLeft_15 : decode cX19_loopLeft 15 = .ok (.aload_n 0, 1) := dk_42 (dk_at dksX19_loopLeft_0 15 rfl rfl)
theorem dX19_loopLeft_16 : decode cX19_loopLeft 16 = .ok (.aload_n 0, 1) := dk_42 (dk_at dksX19_loopLeft_0 16 rfl rfl)
theorem dX19_loopLeft_17 : decode cX19_loopLeft 17 = .ok (.getfield 54, 3) := dk_180 0 54 (dk_at dksX19_loopLeft_0 17 rfl rfl)
theorem dX19_loopLeft_20 : decode cX19_loopLeft 20 = .ok (.iload_n 2, 1) := dk_28 (dk_at dksX19_loopLeft_0 20 rfl rfl)
theorem dX19_loopLeft_21 : decode cX19_loopLeft 21 = .ok (.iconst 2, 1) := dk_5 (dk_at dksX19_loopLeft_0 21 rfl rfl)
theorem dX19_loopLeft_22 : decode cX19_loopLeft 22 = .ok (.invokevirtual 199, 3) := dk_182 0 199 (dk_at dksX19_loopLeft_1 0 rfl rfl)
theorem dX19_loopLeft_25 : decode cX19_loopLeft 25 = .ok (.invokevirtual 122, 3) := dk_182 0 122 (dk_at dksX19_loopLeft_1 3 rfl rfl)
theorem dX19_loopLeft_28 : decode cX19_loopLeft 28 = .ok (.aload_n 0, 1) := dk_42 (dk_at dksX19_loopLeft_1 6 rfl rfl)
theorem dX19_loopLeft_29 : decode cX19_loopLeft 29 = .ok (.getfield 54, 3) := dk_180 0 54 (dk_at dksX19_loopLeft_1 7 rfl rfl)
theorem dX19_loopLeft_32 : decode cX19_loopLeft 32 = .ok (.iload_n 2, 1) := dk_28 (dk_at dksX19_loopLeft_1 10 rfl rfl)
theorem dX19_loopLeft_33 : decode cX19_loopLeft 33 = .ok (.invokevirtual 236, 3) := dk_182 0 236 (dk_at dksX19_loopLeft_1 11 rfl rfl)
theorem dX19_loopLeft_36 : decode cX19_loopLeft 36 = .ok (.iconst 5, 1) := dk_8 (dk_at dksX19_loopLeft_1 14 rfl rfl)
theorem dX19_loopLeft_37 : decode cX19_loopLeft 37 = .ok (.if_icmp .ne 21, 3) := dk_160 0 21 (dk_at dksX19_loopLeft_1 15 rfl rfl)
theorem dX19_loopLeft_40 : decode cX19_loopLeft 40 = .ok (.aload_n 0, 1) := dk_42 (dk_at dksX19_loopLeft_1 18 rfl rfl)
theorem dX19_loopLeft_41 : decode cX19_loopLeft 41 = .ok (.iconst 3, 1) := dk_6 (dk_at dksX19_loopLeft_1 19 rfl rfl)
theorem dX19_loopLeft_42 : decode cX19_loopLeft 42 = .ok (.iload_n 1, 1) := dk_27 (dk_at dksX19_loopLeft_1 20 rfl rfl)
theorem dX19_loopLeft_43 : decode cX19_loopLeft 43 = .ok (.iconst 0, 1) := dk_3 (dk_at dksX19_loopLeft_1 21 rfl rfl)
theorem dX19_loopLeft_44 : decode cX19_loopLeft 44 = .ok (.iconst 0, 1) := dk_3 (dk_at dksX19_loopLeft_1 22 rfl rfl)
theorem dX19_loopLeft_45 : decode cX19_loopLeft 45 = .ok (.invokevirtual 159, 3) := dk_182 0 159 (dk_at dksX19_loopLeft_2 0 rfl rfl)
theorem dX19_loopLeft_48 : decode cX19_loopLeft 48 = .ok (.aload_n 0, 1) := dk_42 (dk_at dksX19_loopLeft_2 3 rfl rfl)
theorem dX19_loopLeft_49 : decode cX19_loopLeft 49 = .ok (.aload_n 0, 1) := dk_42 (dk_at dksX19_loopLeft_2 4 rfl rfl)
theorem dX19_loopLeft_50 : decode cX19_loopLeft 50 = .ok (.iload_n 1, 1) := dk_27 (dk_at dksX19_loopLeft_2 5 rfl rfl)
theorem dX19_loopLeft_51 : decode cX19_loopLeft 51 = .ok (.iconst 1, 1) := dk_4 (dk_at dksX19_loopLeft_2 6 rfl rfl)
theorem dX19_loopLeft_52 : decode cX19_loopLeft 52 = .ok (.invokevirtual 131, 3) := dk_182 0 131 (dk_at dksX19_loopLeft_2 7 rfl rfl)
theorem dX19_loopLeft_55 : decode cX19_loopLeft 55 = .ok (.putfield 125, 3) := dk_181 0 125 (dk_at dksX19_loopLeft_2 10 rfl rfl)
theorem dX19_loopLeft_58 : decode cX19_loopLeft 58 = .ok (.return_, 1) := dk_177 (dk_at dksX19_loopLeft_2 13 rfl rfl)
abbrev cX19_each : ByteArray := prog_9_method_23_code
def yX19_each : MethodName := ⟨RX19, "each", "(III)V"⟩
def dkwX19_each_3 : List UInt8 := [167, 0, 4, 28, 29, 4, 96, 182, 0, 159, 42, 42, 27, 4, 182, 0, 131, 181, 0, 125, 177]
abbrev dktX19_each_3 : List UInt8 := dkwX19_each_3 ++ []
def dkwX19_each_2 : List UInt8 := [182, 0, 252, 182, 0, 122, 42, 7, 27, 21, 4, 154, 0, 15, 42, 180, 0, 54, 28, 6, 182, 0, 199]
abbrev dktX19_each_2 : List UInt8 := dkwX19_each_2 ++ dktX19_each_3
def dkwX19_each_1 : List UInt8 := [182, 0, 248, 153, 0, 4, 177, 42, 180, 0, 94, 20, 0, 206, 182, 0, 183, 42, 42, 21, 4, 28, 29]
abbrev dktX19_each_1 : List UInt8 := dkwX19_each_1 ++ dktX19_each_2
def dkwX19_each_0 : List UInt8 := [42, 27, 5, 182, 0, 131, 54, 4, 42, 42, 27, 7, 182, 0, 131, 181, 0, 125, 42, 21, 4, 28, 29]
abbrev dktX19_each_0 : List UInt8 := dkwX19_each_0 ++ dktX19_each_1
theorem dksX19_each_0 : cX19_each.data.toList.drop 0 = dktX19_each_0 := by decide +kernel
theorem dksX19_each_1 : cX19_each.data.toList.drop 23 = dktX19_each_1 := dk_seg dksX19_each_0 23 rfl rfl
theorem dksX19_each_2 : cX19_each.data.toList.drop 46 = dktX19_each_2 := dk_seg dksX19_each_1 23 rfl rfl
theorem dksX19_each_3 : cX19_each.data.toList.drop 69 = dktX19_each_3 := dk_seg dksX19_each_2 23 rfl rfl
theorem dX19_each_0 : decode cX19_each 0 = .ok (.aload_n 0, 1) := dk_42 (dk_at dksX19_each_0 0 rfl rfl)
theorem dX19_each_1 : decode cX19_each 1 = .ok (.iload_n 1, 1) := dk_27 (dk_at dksX19_each_0 1 rfl rfl)
theorem dX19_each_2 : decode cX19_each 2 = .ok (.iconst 2, 1) := dk_5 (dk_at dksX19_each_0 2 rfl rfl)
theorem dX19_each_3 : decode cX19_each 3 = .ok (.invokevirtual 131, 3) := dk_182 0 131 (dk_at dksX19_each_0 3 rfl rfl)
theorem dX19_each_6 : decode cX19_each 6 = .ok (.istore 4, 2) := dk_54 4 (dk_at dksX19_each_0 6 rfl rfl)
theorem dX19_each_8 : decode cX19_each 8 = .ok (.aload_n 0, 1) := dk_42 (dk_at dksX19_each_0 8 rfl rfl)
theorem dX19_each_9 : decode cX19_each 9 = .ok (.aload_n 0, 1) := dk_42 (dk_at dksX19_each_0 9 rfl rfl)
theorem dX19_each_10 : decode cX19_each 10 = .ok (.iload_n 1, 1) := dk_27 (dk_at dksX19_each_0 10 rfl rfl)
theorem dX19_each_11 : decode cX19_each 11 = .ok (.iconst 4, 1) := dk_7 (dk_at dksX19_each_0 11 rfl rfl)
theorem dX19_each_12 : decode cX19_each 12 = .ok (.invokevirtual 131, 3) := dk_182 0 131 (dk_at dksX19_each_0 12 rfl rfl)
theorem dX19_each_15 : decode cX19_each 15 = .ok (.putfield 125, 3) := dk_181 0 125 (dk_at dksX19_each_0 15 rfl rfl)
theorem dX19_each_18 : decode cX19_each 18 = .ok (.aload_n 0, 1) := dk_42 (dk_at dksX19_each_0 18 rfl rfl)
theorem dX19_each_19 : decode cX19_each 19 = .ok (.iload 4, 2) := dk_21 4 (dk_at dksX19_each_0 19 rfl rfl)
theorem dX19_each_21 : decode cX19_each 21 = .ok (.iload_n 2, 1) := dk_28 (dk_at dksX19_each_0 21 rfl rfl)
theorem dX19_each_22 : decode cX19_each 22 = .ok (.iload_n 3, 1) := dk_29 (dk_at dksX19_each_0 22 rfl rfl)
theorem dX19_each_23 : decode cX19_each 23 = .ok (.invokevirtual 248, 3) := dk_182 0 248 (dk_at dksX19_each_1 0 rfl rfl)
theorem dX19_each_26 : decode cX19_each 26 = .ok (.ifCond .eq 4, 3) := dk_153 0 4 (dk_at dksX19_each_1 3 rfl rfl)
theorem dX19_each_29 : decode cX19_each 29 = .ok (.return_, 1) := dk_177 (dk_at dksX19_each_1 6 rfl rfl)
theorem dX19_each_30 : decode cX19_each 30 = .ok (.aload_n 0, 1) := dk_42 (dk_at dksX19_each_1 7 rfl rfl)
theorem dX19_each_31 : decode cX19_each 31 = .ok (.getfield 94, 3) := dk_180 0 94 (dk_at dksX19_each_1 8 rfl rfl)
theorem dX19_each_34 : decode cX19_each 34 = .ok (.ldc2_w 206, 3) := dk_20 0 206 (dk_at dksX19_each_1 11 rfl rfl)
theorem dX19_each_37 : decode cX19_each 37 = .ok (.invokevirtual 183, 3) := dk_182 0 183 (dk_at dksX19_each_1 14 rfl rfl)
theorem dX19_each_40 : decode cX19_each 40 = .ok (.aload_n 0, 1) := dk_42 (dk_at dksX19_each_1 17 rfl rfl)
theorem dX19_each_41 : decode cX19_each 41 = .ok (.aload_n 0, 1) := dk_42 (dk_at dksX19_each_1 18 rfl rfl)
theorem dX19_each_42 : decode cX19_each 42 = .ok (.iload 4, 2) := dk_21 4 (dk_at dksX19_each_1 19 rfl rfl)
theorem dX19_each_44 : decode cX19_each 44 = .ok (.iload_n 2, 1) := dk_28 (dk_at dksX19_each_1 21 rfl rfl)
theorem dX19_each_45 : decode cX19_each 45 = .ok (.iload_n 3, 1) := dk_29 (dk_at dksX19_each_1 22 rfl rfl)
theorem dX19_each_46 : decode cX19_each 46 = .ok (.invokevirtual 252, 3) := dk_182 0 252 (dk_at dksX19_each_2 0 rfl rfl)
theorem dX19_each_49 : decode cX19_each 49 = .ok (.invokevirtual 122, 3) := dk_182 0 122 (dk_at dksX19_each_2 3 rfl rfl)
theorem dX19_each_52 : decode cX19_each 52 = .ok (.aload_n 0, 1) := dk_42 (dk_at dksX19_each_2 6 rfl rfl)
theorem dX19_each_53 : decode cX19_each 53 = .ok (.iconst 4, 1) := dk_7 (dk_at dksX19_each_2 7 rfl rfl)
theorem dX19_each_54 : decode cX19_each 54 = .ok (.iload_n 1, 1) := dk_27 (dk_at dksX19_each_2 8 rfl rfl)
theorem dX19_each_55 : decode cX19_each 55 = .ok (.iload 4, 2) := dk_21 4 (dk_at dksX19_each_2 9 rfl rfl)
theorem dX19_each_57 : decode cX19_each 57 = .ok (.ifCond .ne 15, 3) := dk_154 0 15 (dk_at dksX19_each_2 11 rfl rfl)
theorem dX19_each_60 : decode cX19_each 60 = .ok (.aload_n 0, 1) := dk_42 (dk_at dksX19_each_2 14 rfl rfl)
theorem dX19_each_61 : decode cX19_each 61 = .ok (.getfield 54, 3) := dk_180 0 54 (dk_at dksX19_each_2 15 rfl rfl)
theorem dX19_each_64 : decode cX19_each 64 = .ok (.iload_n 2, 1) := dk_28 (dk_at dksX19_each_2 18 rfl rfl)
theorem dX19_each_65 : decode cX19_each 65 = .ok (.iconst 3, 1) := dk_6 (dk_at dksX19_each_2 19 rfl rfl)
theorem dX19_each_66 : decode cX19_each 66 = .ok (.invokevirtual 199, 3) := dk_182 0 199 (dk_at dksX19_each_2 20 rfl rfl)
theorem dX19_each_69 : decode cX19_each 69 = .ok (.goto 4, 3) := dk_167 0 4 (dk_at dksX19_each_3 0 rfl rfl)
theorem dX19_each_72 : decode cX19_each 72 = .ok (.iload_n 2, 1) := dk_28 (dk_at dksX19_each_3 3 rfl rfl)
theorem dX19_each_73 : decode cX19_each 73 = .ok (.iload_n 3, 1) := dk_29 (dk_at dksX19_each_3 4 rfl rfl)
theorem dX19_each_74 : decode cX19_each 74 = .ok (.iconst 1, 1) := dk_4 (dk_at dksX19_each_3 5 rfl rfl)
theorem dX19_each_75 : decode cX19_each 75 = .ok (.iadd, 1) := dk_96 (dk_at dksX19_each_3 6 rfl rfl)
theorem dX19_each_76 : decode cX19_each 76 = .ok (.invokevirtual 159, 3) := dk_182 0 159 (dk_at dksX19_each_3 7 rfl rfl)
theorem dX19_each_79 : decode cX19_each 79 = .ok (.aload_n 0, 1) := dk_42 (dk_at dksX19_each_3 10 rfl rfl)
theorem dX19_each_80 : decode cX19_each 80 = .ok (.aload_n 0, 1) := dk_42 (dk_at dksX19_each_3 11 rfl rfl)
theorem dX19_each_81 : decode cX19_each 81 = .ok (.iload_n 1, 1) := dk_27 (dk_at dksX19_each_3 12 rfl rfl)
theorem dX19_each_82 : decode cX19_each 82 = .ok (.iconst 1, 1) := dk_4 (dk_at dksX19_each_3 13 rfl rfl)
theorem dX19_each_83 : decode cX19_each 83 = .ok (.invokevirtual 131, 3) := dk_182 0 131 (dk_at dksX19_each_3 14 rfl rfl)
theorem dX19_each_86 : decode cX19_each 86 = .ok (.putfield 125, 3) := dk_181 0 125 (dk_at dksX19_each_3 17 rfl rfl)
theorem dX19_each_89 : decode cX19_each 89 = .ok (.return_, 1) := dk_177 (dk_at dksX19_each_3 20 rfl rfl)
abbrev cX19_isThrough : ByteArray := prog_9_method_22_code
def yX19_isThrough : MethodName := ⟨RX19, "isThrough", "(III)Z"⟩
def dkwX19_isThrough_1 : List UInt8 := [182, 0, 245, 160, 0, 7, 4, 167, 0, 4, 3, 172]
abbrev dktX19_isThrough_1 : List UInt8 := dkwX19_isThrough_1 ++ []
def dkwX19_isThrough_0 : List UInt8 := [27, 154, 0, 17, 28, 16, 10, 160, 0, 7, 4, 167, 0, 24, 3, 167, 0, 20, 29, 42, 180, 0, 54, 28]
abbrev dktX19_isThrough_0 : List UInt8 := dkwX19_isThrough_0 ++ dktX19_isThrough_1
theorem dksX19_isThrough_0 : cX19_isThrough.data.toList.drop 0 = dktX19_isThrough_0 := by decide +kernel
theorem dksX19_isThrough_1 : cX19_isThrough.data.toList.drop 24 = dktX19_isThrough_1 := dk_seg dksX19_isThrough_0 24 rfl rfl
theorem dX19_isThrough_0 : decode cX19_isThrough 0 = .ok (.iload_n 1, 1) := dk_27 (dk_at dksX19_isThrough_0 0 rfl rfl)
theorem dX19_isThrough_1 : decode cX19_isThrough 1 = .ok (.ifCond .ne 17, 3) := dk_154 0 17 (dk_at dksX19_isThrough_0 1 rfl rfl)
theorem dX19_isThrough_4 : decode cX19_isThrough 4 = .ok (.iload_n 2, 1) := dk_28 (dk_at dksX19_isThrough_0 4 rfl rfl)
theorem dX19_isThrough_5 : decode cX19_isThrough 5 = .ok (.bipush 10, 2) := dk_16 10 (dk_at dksX19_isThrough_0 5 rfl rfl)
theorem dX19_isThrough_7 : decode cX19_isThrough 7 = .ok (.if_icmp .ne 7, 3) := dk_160 0 7 (dk_at dksX19_isThrough_0 7 rfl rfl)
theorem dX19_isThrough_10 : decode cX19_isThrough 10 = .ok (.iconst 1, 1) := dk_4 (dk_at dksX19_isThrough_0 10 rfl rfl)
theorem dX19_isThrough_11 : decode cX19_isThrough 11 = .ok (.goto 24, 3) := dk_167 0 24 (dk_at dksX19_isThrough_0 11 rfl rfl)
theorem dX19_isThrough_14 : decode cX19_isThrough 14 = .ok (.iconst 0, 1) := dk_3 (dk_at dksX19_isThrough_0 14 rfl rfl)
theorem dX19_isThrough_15 : decode cX19_isThrough 15 = .ok (.goto 20, 3) := dk_167 0 20 (dk_at dksX19_isThrough_0 15 rfl rfl)
theorem dX19_isThrough_18 : decode cX19_isThrough 18 = .ok (.iload_n 3, 1) := dk_29 (dk_at dksX19_isThrough_0 18 rfl rfl)
theorem dX19_isThrough_19 : decode cX19_isThrough 19 = .ok (.aload_n 0, 1) := dk_42 (dk_at dksX19_isThrough_0 19 rfl rfl)
theorem dX19_isThrough_20 : decode cX19_isThrough 20 = .ok (.getfield 54, 3) := dk_180 0 54 (dk_at dksX19_isThrough_0 20 rfl rfl)
theorem dX19_isThrough_23 : decode cX19_isThrough 23 = .ok (.iload_n 2, 1) := dk_28 (dk_at dksX19_isThrough_0 23 rfl rfl)
theorem dX19_isThrough_24 : decode cX19_isThrough 24 = .ok (.invokevirtual 245, 3) := dk_182 0 245 (dk_at dksX19_isThrough_1 0 rfl rfl)
theorem dX19_isThrough_27 : decode cX19_isThrough 27 = .ok (.if_icmp .ne 7, 3) := dk_160 0 7 (dk_at dksX19_isThrough_1 3 rfl rfl)
theorem dX19_isThrough_30 : decode cX19_isThrough 30 = .ok (.iconst 1, 1) := dk_4 (dk_at dksX19_isThrough_1 6 rfl rfl)
theorem dX19_isThrough_31 : decode cX19_isThrough 31 = .ok (.goto 4, 3) := dk_167 0 4 (dk_at dksX19_isThrough_1 7 rfl rfl)
theorem dX19_isThrough_34 : decode cX19_isThrough 34 = .ok (.iconst 0, 1) := dk_3 (dk_at dksX19_isThrough_1 10 rfl rfl)
theorem dX19_isThrough_35 : decode cX19_isThrough 35 = .ok (.ireturn, 1) := dk_172 (dk_at dksX19_isThrough_1 11 rfl rfl)
abbrev cX19_element : ByteArray := prog_9_method_21_code
def yX19_element : MethodName := ⟨RX19, "element", "(III)I"⟩
def dkwX19_element_2 : List UInt8 := [42, 180, 0, 54, 21, 5, 42, 180, 0, 54, 21, 4, 6, 182, 0, 199, 182, 0, 203, 172]
abbrev dktX19_element_2 : List UInt8 := dkwX19_element_2 ++ []
def dkwX19_element_1 : List UInt8 := [54, 4, 42, 180, 0, 54, 21, 4, 5, 182, 0, 199, 54, 5, 27, 4, 160, 0, 8, 21, 5, 167, 0, 22]
abbrev dktX19_element_1 : List UInt8 := dkwX19_element_1 ++ dktX19_element_2
def dkwX19_element_0 : List UInt8 := [27, 154, 0, 13, 42, 180, 0, 54, 28, 5, 182, 0, 199, 172, 42, 180, 0, 74, 28, 29, 182, 0, 239]
abbrev dktX19_element_0 : List UInt8 := dkwX19_element_0 ++ dktX19_element_1
theorem dksX19_element_0 : cX19_element.data.toList.drop 0 = dktX19_element_0 := by decide +kernel
theorem dksX19_element_1 : cX19_element.data.toList.drop 23 = dktX19_element_1 := dk_seg dksX19_element_0 23 rfl rfl
theorem dksX19_element_2 : cX19_element.data.toList.drop 47 = dktX19_element_2 := dk_seg dksX19_element_1 24 rfl rfl
theorem dX19_element_0 : decode cX19_element 0 = .ok (.iload_n 1, 1) := dk_27 (dk_at dksX19_element_0 0 rfl rfl)
theorem dX19_element_1 : decode cX19_element 1 = .ok (.ifCond .ne 13, 3) := dk_154 0 13 (dk_at dksX19_element_0 1 rfl rfl)
theorem dX19_element_4 : decode cX19_element 4 = .ok (.aload_n 0, 1) := dk_42 (dk_at dksX19_element_0 4 rfl rfl)
theorem dX19_element_5 : decode cX19_element 5 = .ok (.getfield 54, 3) := dk_180 0 54 (dk_at dksX19_element_0 5 rfl rfl)
theorem dX19_element_8 : decode cX19_element 8 = .ok (.iload_n 2, 1) := dk_28 (dk_at dksX19_element_0 8 rfl rfl)
theorem dX19_element_9 : decode cX19_element 9 = .ok (.iconst 2, 1) := dk_5 (dk_at dksX19_element_0 9 rfl rfl)
theorem dX19_element_10 : decode cX19_element 10 = .ok (.invokevirtual 199, 3) := dk_182 0 199 (dk_at dksX19_element_0 10 rfl rfl)
theorem dX19_element_13 : decode cX19_element 13 = .ok (.ireturn, 1) := dk_172 (dk_at dksX19_element_0 13 rfl rfl)
theorem dX19_element_14 : decode cX19_element 14 = .ok (.aload_n 0, 1) := dk_42 (dk_at dksX19_element_0 14 rfl rfl)
theorem dX19_element_15 : decode cX19_element 15 = .ok (.getfield 74, 3) := dk_180 0 74 (dk_at dksX19_element_0 15 rfl rfl)
theorem dX19_element_18 : decode cX19_element 18 = .ok (.iload_n 2, 1) := dk_28 (dk_at dksX19_element_0 18 rfl rfl)
theorem dX19_element_19 : decode cX19_element 19 = .ok (.iload_n 3, 1) := dk_29 (dk_at dksX19_element_0 19 rfl rfl)
theorem dX19_element_20 : decode cX19_element 20 = .ok (.invokevirtual 239, 3) := dk_182 0 239 (dk_at dksX19_element_0 20 rfl rfl)
theorem dX19_element_23 : decode cX19_element 23 = .ok (.istore 4, 2) := dk_54 4 (dk_at dksX19_element_1 0 rfl rfl)
theorem dX19_element_25 : decode cX19_element 25 = .ok (.aload_n 0, 1) := dk_42 (dk_at dksX19_element_1 2 rfl rfl)
theorem dX19_element_26 : decode cX19_element 26 = .ok (.getfield 54, 3) := dk_180 0 54 (dk_at dksX19_element_1 3 rfl rfl)
theorem dX19_element_29 : decode cX19_element 29 = .ok (.iload 4, 2) := dk_21 4 (dk_at dksX19_element_1 6 rfl rfl)
theorem dX19_element_31 : decode cX19_element 31 = .ok (.iconst 2, 1) := dk_5 (dk_at dksX19_element_1 8 rfl rfl)
theorem dX19_element_32 : decode cX19_element 32 = .ok (.invokevirtual 199, 3) := dk_182 0 199 (dk_at dksX19_element_1 9 rfl rfl)
theorem dX19_element_35 : decode cX19_element 35 = .ok (.istore 5, 2) := dk_54 5 (dk_at dksX19_element_1 12 rfl rfl)
theorem dX19_element_37 : decode cX19_element 37 = .ok (.iload_n 1, 1) := dk_27 (dk_at dksX19_element_1 14 rfl rfl)
theorem dX19_element_38 : decode cX19_element 38 = .ok (.iconst 1, 1) := dk_4 (dk_at dksX19_element_1 15 rfl rfl)
theorem dX19_element_39 : decode cX19_element 39 = .ok (.if_icmp .ne 8, 3) := dk_160 0 8 (dk_at dksX19_element_1 16 rfl rfl)
theorem dX19_element_42 : decode cX19_element 42 = .ok (.iload 5, 2) := dk_21 5 (dk_at dksX19_element_1 19 rfl rfl)
theorem dX19_element_44 : decode cX19_element 44 = .ok (.goto 22, 3) := dk_167 0 22 (dk_at dksX19_element_1 21 rfl rfl)
theorem dX19_element_47 : decode cX19_element 47 = .ok (.aload_n 0, 1) := dk_42 (dk_at dksX19_element_2 0 rfl rfl)
theorem dX19_element_48 : decode cX19_element 48 = .ok (.getfield 54, 3) := dk_180 0 54 (dk_at dksX19_element_2 1 rfl rfl)
theorem dX19_element_51 : decode cX19_element 51 = .ok (.iload 5, 2) := dk_21 5 (dk_at dksX19_element_2 4 rfl rfl)
theorem dX19_element_53 : decode cX19_element 53 = .ok (.aload_n 0, 1) := dk_42 (dk_at dksX19_element_2 6 rfl rfl)
theorem dX19_element_54 : decode cX19_element 54 = .ok (.getfield 54, 3) := dk_180 0 54 (dk_at dksX19_element_2 7 rfl rfl)
theorem dX19_element_57 : decode cX19_element 57 = .ok (.iload 4, 2) := dk_21 4 (dk_at dksX19_element_2 10 rfl rfl)
theorem dX19_element_59 : decode cX19_element 59 = .ok (.iconst 3, 1) := dk_6 (dk_at dksX19_element_2 12 rfl rfl)
theorem dX19_element_60 : decode cX19_element 60 = .ok (.invokevirtual 199, 3) := dk_182 0 199 (dk_at dksX19_element_2 13 rfl rfl)
theorem dX19_element_63 : decode cX19_element 63 = .ok (.invokevirtual 203, 3) := dk_182 0 203 (dk_at dksX19_element_2 16 rfl rfl)
theorem dX19_element_66 : decode cX19_element 66 = .ok (.ireturn, 1) := dk_172 (dk_at dksX19_element_2 19 rfl rfl)
abbrev cX19_mapped : ByteArray := prog_9_method_25_code
def yX19_mapped : MethodName := ⟨RX19, "mapped", "(III)V"⟩
def dkwX19_mapped_5 : List UInt8 := [29, 182, 1, 2, 182, 0, 122, 177]
abbrev dktX19_mapped_5 : List UInt8 := dkwX19_mapped_5 ++ []
def dkwX19_mapped_4 : List UInt8 := [180, 0, 119, 29, 100, 181, 0, 119, 42, 21, 4, 154, 0, 11, 42, 29, 182, 0, 255, 167, 0, 9, 42, 28]
abbrev dktX19_mapped_4 : List UInt8 := dkwX19_mapped_4 ++ dktX19_mapped_5
def dkwX19_mapped_3 : List UInt8 := [167, 0, 4, 28, 29, 4, 96, 182, 0, 159, 42, 42, 27, 4, 182, 0, 131, 181, 0, 125, 177, 42, 89]
abbrev dktX19_mapped_3 : List UInt8 := dkwX19_mapped_3 ++ dktX19_mapped_4
def dkwX19_mapped_2 : List UInt8 := [182, 0, 252, 182, 0, 122, 42, 8, 27, 21, 4, 154, 0, 15, 42, 180, 0, 54, 28, 6, 182, 0, 199]
abbrev dktX19_mapped_2 : List UInt8 := dkwX19_mapped_2 ++ dktX19_mapped_3
def dkwX19_mapped_1 : List UInt8 := [182, 0, 248, 154, 0, 63, 42, 180, 0, 94, 20, 0, 206, 182, 0, 183, 42, 42, 21, 4, 28, 29]
abbrev dktX19_mapped_1 : List UInt8 := dkwX19_mapped_1 ++ dktX19_mapped_2
def dkwX19_mapped_0 : List UInt8 := [42, 27, 5, 182, 0, 131, 54, 4, 42, 42, 27, 7, 182, 0, 131, 181, 0, 125, 42, 21, 4, 28, 29]
abbrev dktX19_mapped_0 : List UInt8 := dkwX19_mapped_0 ++ dktX19_mapped_1
theorem dksX19_mapped_0 : cX19_mapped.data.toList.drop 0 = dktX19_mapped_0 := by decide +kernel
theorem dksX19_mapped_1 : cX19_mapped.data.toList.drop 23 = dktX19_mapped_1 := dk_seg dksX19_mapped_0 23 rfl rfl
theorem dksX19_mapped_2 : cX19_mapped.data.toList.drop 45 = dktX19_mapped_2 := dk_seg dksX19_mapped_1 22 rfl rfl
theorem dksX19_mapped_3 : cX19_mapped.data.toList.drop 68 = dktX19_mapped_3 := dk_seg dksX19_mapped_2 23 rfl rfl
theorem dksX19_mapped_4 : cX19_mapped.data.toList.drop 91 = dktX19_mapped_4 := dk_seg dksX19_mapped_3 23 rfl rfl
theorem dksX19_mapped_5 : cX19_mapped.data.toList.drop 115 = dktX19_mapped_5 := dk_seg dksX19_mapped_4 24 rfl rfl
theorem dX19_mapped_0 : decode cX19_mapped 0 = .ok (.aload_n 0, 1) := dk_42 (dk_at dksX19_mapped_0 0 rfl rfl)
theorem dX19_mapped_1 : decode cX19_mapped 1 = .ok (.iload_n 1, 1) := dk_27 (dk_at dksX19_mapped_0 1 rfl rfl)
theorem dX19_mapped_2 : decode cX19_mapped 2 = .ok (.iconst 2, 1) := dk_5 (dk_at dksX19_mapped_0 2 rfl rfl)
theorem dX19_mapped_3 : decode cX19_mapped 3 = .ok (.invokevirtual 131, 3) := dk_182 0 131 (dk_at dksX19_mapped_0 3 rfl rfl)
theorem dX19_mapped_6 : decode cX19_mapped 6 = .ok (.istore 4, 2) := dk_54 4 (dk_at dksX19_mapped_0 6 rfl rfl)
theorem dX19_mapped_8 : decode cX19_mapped 8 = .ok (.aload_n 0, 1) := dk_42 (dk_at dksX19_mapped_0 8 rfl rfl)
theorem dX19_mapped_9 : decode cX19_mapped 9 = .ok (.aload_n 0, 1) := dk_42 (dk_at dksX19_mapped_0 9 rfl rfl)
theorem dX19_mapped_10 : decode cX19_mapped 10 = .ok (.iload_n 1, 1) := dk_27 (dk_at dksX19_mapped_0 10 rfl rfl)
theorem dX19_mapped_11 : decode cX19_mapped 11 = .ok (.iconst 4, 1) := dk_7 (dk_at dksX19_mapped_0 11 rfl rfl)
theorem dX19_mapped_12 : decode cX19_mapped 12 = .ok (.invokevirtual 131, 3) := dk_182 0 131 (dk_at dksX19_mapped_0 12 rfl rfl)
theorem dX19_mapped_15 : decode cX19_mapped 15 = .ok (.putfield 125, 3) := dk_181 0 125 (dk_at dksX19_mapped_0 15 rfl rfl)
theorem dX19_mapped_18 : decode cX19_mapped 18 = .ok (.aload_n 0, 1) := dk_42 (dk_at dksX19_mapped_0 18 rfl rfl)
theorem dX19_mapped_19 : decode cX19_mapped 19 = .ok (.iload 4, 2) := dk_21 4 (dk_at dksX19_mapped_0 19 rfl rfl)
theorem dX19_mapped_21 : decode cX19_mapped 21 = .ok (.iload_n 2, 1) := dk_28 (dk_at dksX19_mapped_0 21 rfl rfl)
theorem dX19_mapped_22 : decode cX19_mapped 22 = .ok (.iload_n 3, 1) := dk_29 (dk_at dksX19_mapped_0 22 rfl rfl)
theorem dX19_mapped_23 : decode cX19_mapped 23 = .ok (.invokevirtual 248, 3) := dk_182 0 248 (dk_at dksX19_mapped_1 0 rfl rfl)
theorem dX19_mapped_26 : decode cX19_mapped 26 = .ok (.ifCond .ne 63, 3) := dk_154 0 63 (dk_at dksX19_mapped_1 3 rfl rfl)
theorem dX19_mapped_29 : decode cX19_mapped 29 = .ok (.aload_n 0, 1) := dk_42 (dk_at dksX19_mapped_1 6 rfl rfl)
theorem dX19_mapped_30 : decode cX19_mapped 30 = .ok (.getfield 94, 3) := dk_180 0 94 (dk_at dksX19_mapped_1 7 rfl rfl)
theorem dX19_mapped_33 : decode cX19_mapped 33 = .ok (.ldc2_w 206, 3) := dk_20 0 206 (dk_at dksX19_mapped_1 10 rfl rfl)
theorem dX19_mapped_36 : decode cX19_mapped 36 = .ok (.invokevirtual 183, 3) := dk_182 0 183 (dk_at dksX19_mapped_1 13 rfl rfl)
theorem dX19_mapped_39 : decode cX19_mapped 39 = .ok (.aload_n 0, 1) := dk_42 (dk_at dksX19_mapped_1 16 rfl rfl)
theorem dX19_mapped_40 : decode cX19_mapped 40 = .ok (.aload_n 0, 1) := dk_42 (dk_at dksX19_mapped_1 17 rfl rfl)
theorem dX19_mapped_41 : decode cX19_mapped 41 = .ok (.iload 4, 2) := dk_21 4 (dk_at dksX19_mapped_1 18 rfl rfl)
theorem dX19_mapped_43 : decode cX19_mapped 43 = .ok (.iload_n 2, 1) := dk_28 (dk_at dksX19_mapped_1 20 rfl rfl)
theorem dX19_mapped_44 : decode cX19_mapped 44 = .ok (.iload_n 3, 1) := dk_29 (dk_at dksX19_mapped_1 21 rfl rfl)
theorem dX19_mapped_45 : decode cX19_mapped 45 = .ok (.invokevirtual 252, 3) := dk_182 0 252 (dk_at dksX19_mapped_2 0 rfl rfl)
theorem dX19_mapped_48 : decode cX19_mapped 48 = .ok (.invokevirtual 122, 3) := dk_182 0 122 (dk_at dksX19_mapped_2 3 rfl rfl)
theorem dX19_mapped_51 : decode cX19_mapped 51 = .ok (.aload_n 0, 1) := dk_42 (dk_at dksX19_mapped_2 6 rfl rfl)
theorem dX19_mapped_52 : decode cX19_mapped 52 = .ok (.iconst 5, 1) := dk_8 (dk_at dksX19_mapped_2 7 rfl rfl)
theorem dX19_mapped_53 : decode cX19_mapped 53 = .ok (.iload_n 1, 1) := dk_27 (dk_at dksX19_mapped_2 8 rfl rfl)
theorem dX19_mapped_54 : decode cX19_mapped 54 = .ok (.iload 4, 2) := dk_21 4 (dk_at dksX19_mapped_2 9 rfl rfl)
theorem dX19_mapped_56 : decode cX19_mapped 56 = .ok (.ifCond .ne 15, 3) := dk_154 0 15 (dk_at dksX19_mapped_2 11 rfl rfl)
theorem dX19_mapped_59 : decode cX19_mapped 59 = .ok (.aload_n 0, 1) := dk_42 (dk_at dksX19_mapped_2 14 rfl rfl)
theorem dX19_mapped_60 : decode cX19_mapped 60 = .ok (.getfield 54, 3) := dk_180 0 54 (dk_at dksX19_mapped_2 15 rfl rfl)
theorem dX19_mapped_63 : decode cX19_mapped 63 = .ok (.iload_n 2, 1) := dk_28 (dk_at dksX19_mapped_2 18 rfl rfl)
theorem dX19_mapped_64 : decode cX19_mapped 64 = .ok (.iconst 3, 1) := dk_6 (dk_at dksX19_mapped_2 19 rfl rfl)
theorem dX19_mapped_65 : decode cX19_mapped 65 = .ok (.invokevirtual 199, 3) := dk_182 0 199 (dk_at dksX19_mapped_2 20 rfl rfl)
theorem dX19_mapped_68 : decode cX19_mapped 68 = .ok (.goto 4, 3) := dk_167 0 4 (dk_at dksX19_mapped_3 0 rfl rfl)
theorem dX19_mapped_71 : decode cX19_mapped 71 = .ok (.iload_n 2, 1) := dk_28 (dk_at dksX19_mapped_3 3 rfl rfl)
theorem dX19_mapped_72 : decode cX19_mapped 72 = .ok (.iload_n 3, 1) := dk_29 (dk_at dksX19_mapped_3 4 rfl rfl)
theorem dX19_mapped_73 : decode cX19_mapped 73 = .ok (.iconst 1, 1) := dk_4 (dk_at dksX19_mapped_3 5 rfl rfl)
theorem dX19_mapped_74 : decode cX19_mapped 74 = .ok (.iadd, 1) := dk_96 (dk_at dksX19_mapped_3 6 rfl rfl)
theorem dX19_mapped_75 : decode cX19_mapped 75 = .ok (.invokevirtual 159, 3) := dk_182 0 159 (dk_at dksX19_mapped_3 7 rfl rfl)
theorem dX19_mapped_78 : decode cX19_mapped 78 = .ok (.aload_n 0, 1) := dk_42 (dk_at dksX19_mapped_3 10 rfl rfl)
theorem dX19_mapped_79 : decode cX19_mapped 79 = .ok (.aload_n 0, 1) := dk_42 (dk_at dksX19_mapped_3 11 rfl rfl)
theorem dX19_mapped_80 : decode cX19_mapped 80 = .ok (.iload_n 1, 1) := dk_27 (dk_at dksX19_mapped_3 12 rfl rfl)
theorem dX19_mapped_81 : decode cX19_mapped 81 = .ok (.iconst 1, 1) := dk_4 (dk_at dksX19_mapped_3 13 rfl rfl)
theorem dX19_mapped_82 : decode cX19_mapped 82 = .ok (.invokevirtual 131, 3) := dk_182 0 131 (dk_at dksX19_mapped_3 14 rfl rfl)
theorem dX19_mapped_85 : decode cX19_mapped 85 = .ok (.putfield 125, 3) := dk_181 0 125 (dk_at dksX19_mapped_3 17 rfl rfl)
theorem dX19_mapped_88 : decode cX19_mapped 88 = .ok (.return_, 1) := dk_177 (dk_at dksX19_mapped_3 20 rfl rfl)
theorem dX19_mapped_89 : decode cX19_mapped 89 = .ok (.aload_n 0, 1) := dk_42 (dk_at dksX19_mapped_3 21 rfl rfl)
theorem dX19_mapped_90 : decode cX19_mapped 90 = .ok (.dup, 1) := dk_89 (dk_at dksX19_mapped_3 22 rfl rfl)
theorem dX19_mapped_91 : decode cX19_mapped 91 = .ok (.getfield 119, 3) := dk_180 0 119 (dk_at dksX19_mapped_4 0 rfl rfl)
theorem dX19_mapped_94 : decode cX19_mapped 94 = .ok (.iload_n 3, 1) := dk_29 (dk_at dksX19_mapped_4 3 rfl rfl)
theorem dX19_mapped_95 : decode cX19_mapped 95 = .ok (.isub, 1) := dk_100 (dk_at dksX19_mapped_4 4 rfl rfl)
theorem dX19_mapped_96 : decode cX19_mapped 96 = .ok (.putfield 119, 3) := dk_181 0 119 (dk_at dksX19_mapped_4 5 rfl rfl)
theorem dX19_mapped_99 : decode cX19_mapped 99 = .ok (.aload_n 0, 1) := dk_42 (dk_at dksX19_mapped_4 8 rfl rfl)
theorem dX19_mapped_100 : decode cX19_mapped 100 = .ok (.iload 4, 2) := dk_21 4 (dk_at dksX19_mapped_4 9 rfl rfl)
theorem dX19_mapped_102 : decode cX19_mapped 102 = .ok (.ifCond .ne 11, 3) := dk_154 0 11 (dk_at dksX19_mapped_4 11 rfl rfl)
theorem dX19_mapped_105 : decode cX19_mapped 105 = .ok (.aload_n 0, 1) := dk_42 (dk_at dksX19_mapped_4 14 rfl rfl)
theorem dX19_mapped_106 : decode cX19_mapped 106 = .ok (.iload_n 3, 1) := dk_29 (dk_at dksX19_mapped_4 15 rfl rfl)
theorem dX19_mapped_107 : decode cX19_mapped 107 = .ok (.invokevirtual 255, 3) := dk_182 0 255 (dk_at dksX19_mapped_4 16 rfl rfl)
theorem dX19_mapped_110 : decode cX19_mapped 110 = .ok (.goto 9, 3) := dk_167 0 9 (dk_at dksX19_mapped_4 19 rfl rfl)
theorem dX19_mapped_113 : decode cX19_mapped 113 = .ok (.aload_n 0, 1) := dk_42 (dk_at dksX19_mapped_4 22 rfl rfl)
theorem dX19_mapped_114 : decode cX19_mapped 114 = .ok (.iload_n 2, 1) := dk_28 (dk_at dksX19_mapped_4 23 rfl rfl)
theorem dX19_mapped_115 : decode cX19_mapped 115 = .ok (.iload_n 3, 1) := dk_29 (dk_at dksX19_mapped_5 0 rfl rfl)
theorem dX19_mapped_116 : decode cX19_mapped 116 = .ok (.invokevirtual 258, 3) := dk_182 1 2 (dk_at dksX19_mapped_5 1 rfl rfl)
theorem dX19_mapped_119 : decode cX19_mapped 119 = .ok (.invokevirtual 122, 3) := dk_182 0 122 (dk_at dksX19_mapped_5 4 rfl rfl)
theorem dX19_mapped_122 : decode cX19_mapped 122 = .ok (.return_, 1) := dk_177 (dk_at dksX19_mapped_5 7 rfl rfl)
abbrev cX19_list : ByteArray := prog_9_method_26_code
def yX19_list : MethodName := ⟨RX19, "list", "(I)I"⟩
def dkwX19_list_1 : List UInt8 := [96, 46, 28, 182, 0, 200, 61, 132, 3, 255, 167, 255, 229, 28, 172]
abbrev dktX19_list_1 : List UInt8 := dkwX19_list_1 ++ []
def dkwX19_list_0 : List UInt8 := [16, 10, 61, 27, 4, 100, 62, 29, 155, 0, 29, 42, 180, 0, 54, 42, 180, 0, 40, 42, 180, 0, 119, 29]
abbrev dktX19_list_0 : List UInt8 := dkwX19_list_0 ++ dktX19_list_1
theorem dksX19_list_0 : cX19_list.data.toList.drop 0 = dktX19_list_0 := by decide +kernel
theorem dksX19_list_1 : cX19_list.data.toList.drop 24 = dktX19_list_1 := dk_seg dksX19_list_0 24 rfl rfl
theorem dX19_list_0 : decode cX19_list 0 = .ok (.bipush 10, 2) := dk_16 10 (dk_at dksX19_list_0 0 rfl rfl)
theorem dX19_list_2 : decode cX19_list 2 = .ok (.istore_n 2, 1) := dk_61 (dk_at dksX19_list_0 2 rfl rfl)
theorem dX19_list_3 : decode cX19_list 3 = .ok (.iload_n 1, 1) := dk_27 (dk_at dksX19_list_0 3 rfl rfl)
theorem dX19_list_4 : decode cX19_list 4 = .ok (.iconst 1, 1) := dk_4 (dk_at dksX19_list_0 4 rfl rfl)
theorem dX19_list_5 : decode cX19_list 5 = .ok (.isub, 1) := dk_100 (dk_at dksX19_list_0 5 rfl rfl)
theorem dX19_list_6 : decode cX19_list 6 = .ok (.istore_n 3, 1) := dk_62 (dk_at dksX19_list_0 6 rfl rfl)
theorem dX19_list_7 : decode cX19_list 7 = .ok (.iload_n 3, 1) := dk_29 (dk_at dksX19_list_0 7 rfl rfl)
theorem dX19_list_8 : decode cX19_list 8 = .ok (.ifCond .lt 29, 3) := dk_155 0 29 (dk_at dksX19_list_0 8 rfl rfl)
theorem dX19_list_11 : decode cX19_list 11 = .ok (.aload_n 0, 1) := dk_42 (dk_at dksX19_list_0 11 rfl rfl)
theorem dX19_list_12 : decode cX19_list 12 = .ok (.getfield 54, 3) := dk_180 0 54 (dk_at dksX19_list_0 12 rfl rfl)
theorem dX19_list_15 : decode cX19_list 15 = .ok (.aload_n 0, 1) := dk_42 (dk_at dksX19_list_0 15 rfl rfl)
theorem dX19_list_16 : decode cX19_list 16 = .ok (.getfield 40, 3) := dk_180 0 40 (dk_at dksX19_list_0 16 rfl rfl)
theorem dX19_list_19 : decode cX19_list 19 = .ok (.aload_n 0, 1) := dk_42 (dk_at dksX19_list_0 19 rfl rfl)
theorem dX19_list_20 : decode cX19_list 20 = .ok (.getfield 119, 3) := dk_180 0 119 (dk_at dksX19_list_0 20 rfl rfl)
theorem dX19_list_23 : decode cX19_list 23 = .ok (.iload_n 3, 1) := dk_29 (dk_at dksX19_list_0 23 rfl rfl)
theorem dX19_list_24 : decode cX19_list 24 = .ok (.iadd, 1) := dk_96 (dk_at dksX19_list_1 0 rfl rfl)
theorem dX19_list_25 : decode cX19_list 25 = .ok (.iaload, 1) := dk_46 (dk_at dksX19_list_1 1 rfl rfl)
theorem dX19_list_26 : decode cX19_list 26 = .ok (.iload_n 2, 1) := dk_28 (dk_at dksX19_list_1 2 rfl rfl)
theorem dX19_list_27 : decode cX19_list 27 = .ok (.invokevirtual 200, 3) := dk_182 0 200 (dk_at dksX19_list_1 3 rfl rfl)
theorem dX19_list_30 : decode cX19_list 30 = .ok (.istore_n 2, 1) := dk_61 (dk_at dksX19_list_1 6 rfl rfl)
theorem dX19_list_31 : decode cX19_list 31 = .ok (.iinc 3 (-1), 3) := dk_132 3 255 (dk_at dksX19_list_1 7 rfl rfl)
theorem dX19_list_34 : decode cX19_list 34 = .ok (.goto (-27), 3) := dk_167 255 229 (dk_at dksX19_list_1 10 rfl rfl)
theorem dX19_list_37 : decode cX19_list 37 = .ok (.iload_n 2, 1) := dk_28 (dk_at dksX19_list_1 13 rfl rfl)
theorem dX19_list_38 : decode cX19_list 38 = .ok (.ireturn, 1) := dk_172 (dk_at dksX19_list_1 14 rfl rfl)
abbrev cX19_tree : ByteArray := prog_9_method_27_code
def yX19_tree : MethodName := ⟨RX19, "tree", "(II)I"⟩
def dkwX19_tree_3 : List UInt8 := [17, 46, 224, 182, 1, 5, 172]
abbrev dktX19_tree_3 : List UInt8 := dkwX19_tree_3 ++ []
def dkwX19_tree_2 : List UInt8 := [180, 0, 119, 29, 96, 46, 79, 132, 3, 1, 167, 255, 204, 42, 180, 0, 74, 42, 180, 0, 51, 3, 28]
abbrev dktX19_tree_2 : List UInt8 := dkwX19_tree_2 ++ dktX19_tree_3
def dkwX19_tree_1 : List UInt8 := [182, 0, 239, 5, 182, 0, 199, 79, 42, 180, 0, 51, 29, 17, 46, 224, 96, 42, 180, 0, 40, 42]
abbrev dktX19_tree_1 : List UInt8 := dkwX19_tree_1 ++ dktX19_tree_2
def dkwX19_tree_0 : List UInt8 := [3, 62, 29, 28, 162, 0, 53, 42, 180, 0, 51, 29, 42, 180, 0, 54, 42, 180, 0, 74, 27, 29]
abbrev dktX19_tree_0 : List UInt8 := dkwX19_tree_0 ++ dktX19_tree_1
theorem dksX19_tree_0 : cX19_tree.data.toList.drop 0 = dktX19_tree_0 := by decide +kernel
theorem dksX19_tree_1 : cX19_tree.data.toList.drop 22 = dktX19_tree_1 := dk_seg dksX19_tree_0 22 rfl rfl
theorem dksX19_tree_2 : cX19_tree.data.toList.drop 44 = dktX19_tree_2 := dk_seg dksX19_tree_1 22 rfl rfl
theorem dksX19_tree_3 : cX19_tree.data.toList.drop 67 = dktX19_tree_3 := dk_seg dksX19_tree_2 23 rfl rfl
theorem dX19_tree_0 : decode cX19_tree 0 = .ok (.iconst 0, 1) := dk_3 (dk_at dksX19_tree_0 0 rfl rfl)
theorem dX19_tree_1 : decode cX19_tree 1 = .ok (.istore_n 3, 1) := dk_62 (dk_at dksX19_tree_0 1 rfl rfl)
theorem dX19_tree_2 : decode cX19_tree 2 = .ok (.iload_n 3, 1) := dk_29 (dk_at dksX19_tree_0 2 rfl rfl)
theorem dX19_tree_3 : decode cX19_tree 3 = .ok (.iload_n 2, 1) := dk_28 (dk_at dksX19_tree_0 3 rfl rfl)
theorem dX19_tree_4 : decode cX19_tree 4 = .ok (.if_icmp .ge 53, 3) := dk_162 0 53 (dk_at dksX19_tree_0 4 rfl rfl)
theorem dX19_tree_7 : decode cX19_tree 7 = .ok (.aload_n 0, 1) := dk_42 (dk_at dksX19_tree_0 7 rfl rfl)
theorem dX19_tree_8 : decode cX19_tree 8 = .ok (.getfield 51, 3) := dk_180 0 51 (dk_at dksX19_tree_0 8 rfl rfl)
theorem dX19_tree_11 : decode cX19_tree 11 = .ok (.iload_n 3, 1) := dk_29 (dk_at dksX19_tree_0 11 rfl rfl)
theorem dX19_tree_12 : decode cX19_tree 12 = .ok (.aload_n 0, 1) := dk_42 (dk_at dksX19_tree_0 12 rfl rfl)
theorem dX19_tree_13 : decode cX19_tree 13 = .ok (.getfield 54, 3) := dk_180 0 54 (dk_at dksX19_tree_0 13 rfl rfl)
theorem dX19_tree_16 : decode cX19_tree 16 = .ok (.aload_n 0, 1) := dk_42 (dk_at dksX19_tree_0 16 rfl rfl)
theorem dX19_tree_17 : decode cX19_tree 17 = .ok (.getfield 74, 3) := dk_180 0 74 (dk_at dksX19_tree_0 17 rfl rfl)
theorem dX19_tree_20 : decode cX19_tree 20 = .ok (.iload_n 1, 1) := dk_27 (dk_at dksX19_tree_0 20 rfl rfl)
theorem dX19_tree_21 : decode cX19_tree 21 = .ok (.iload_n 3, 1) := dk_29 (dk_at dksX19_tree_0 21 rfl rfl)
theorem dX19_tree_22 : decode cX19_tree 22 = .ok (.invokevirtual 239, 3) := dk_182 0 239 (dk_at dksX19_tree_1 0 rfl rfl)
theorem dX19_tree_25 : decode cX19_tree 25 = .ok (.iconst 2, 1) := dk_5 (dk_at dksX19_tree_1 3 rfl rfl)
theorem dX19_tree_26 : decode cX19_tree 26 = .ok (.invokevirtual 199, 3) := dk_182 0 199 (dk_at dksX19_tree_1 4 rfl rfl)
theorem dX19_tree_29 : decode cX19_tree 29 = .ok (.iastore, 1) := dk_79 (dk_at dksX19_tree_1 7 rfl rfl)
theorem dX19_tree_30 : decode cX19_tree 30 = .ok (.aload_n 0, 1) := dk_42 (dk_at dksX19_tree_1 8 rfl rfl)
theorem dX19_tree_31 : decode cX19_tree 31 = .ok (.getfield 51, 3) := dk_180 0 51 (dk_at dksX19_tree_1 9 rfl rfl)
theorem dX19_tree_34 : decode cX19_tree 34 = .ok (.iload_n 3, 1) := dk_29 (dk_at dksX19_tree_1 12 rfl rfl)
theorem dX19_tree_35 : decode cX19_tree 35 = .ok (.sipush 12000, 3) := dk_17 46 224 (dk_at dksX19_tree_1 13 rfl rfl)
theorem dX19_tree_38 : decode cX19_tree 38 = .ok (.iadd, 1) := dk_96 (dk_at dksX19_tree_1 16 rfl rfl)
theorem dX19_tree_39 : decode cX19_tree 39 = .ok (.aload_n 0, 1) := dk_42 (dk_at dksX19_tree_1 17 rfl rfl)
theorem dX19_tree_40 : decode cX19_tree 40 = .ok (.getfield 40, 3) := dk_180 0 40 (dk_at dksX19_tree_1 18 rfl rfl)
theorem dX19_tree_43 : decode cX19_tree 43 = .ok (.aload_n 0, 1) := dk_42 (dk_at dksX19_tree_1 21 rfl rfl)
theorem dX19_tree_44 : decode cX19_tree 44 = .ok (.getfield 119, 3) := dk_180 0 119 (dk_at dksX19_tree_2 0 rfl rfl)
theorem dX19_tree_47 : decode cX19_tree 47 = .ok (.iload_n 3, 1) := dk_29 (dk_at dksX19_tree_2 3 rfl rfl)
theorem dX19_tree_48 : decode cX19_tree 48 = .ok (.iadd, 1) := dk_96 (dk_at dksX19_tree_2 4 rfl rfl)
theorem dX19_tree_49 : decode cX19_tree 49 = .ok (.iaload, 1) := dk_46 (dk_at dksX19_tree_2 5 rfl rfl)
theorem dX19_tree_50 : decode cX19_tree 50 = .ok (.iastore, 1) := dk_79 (dk_at dksX19_tree_2 6 rfl rfl)
theorem dX19_tree_51 : decode cX19_tree 51 = .ok (.iinc 3 1, 3) := dk_132 3 1 (dk_at dksX19_tree_2 7 rfl rfl)
theorem dX19_tree_54 : decode cX19_tree 54 = .ok (.goto (-52), 3) := dk_167 255 204 (dk_at dksX19_tree_2 10 rfl rfl)
theorem dX19_tree_57 : decode cX19_tree 57 = .ok (.aload_n 0, 1) := dk_42 (dk_at dksX19_tree_2 13 rfl rfl)
theorem dX19_tree_58 : decode cX19_tree 58 = .ok (.getfield 74, 3) := dk_180 0 74 (dk_at dksX19_tree_2 14 rfl rfl)
theorem dX19_tree_61 : decode cX19_tree 61 = .ok (.aload_n 0, 1) := dk_42 (dk_at dksX19_tree_2 17 rfl rfl)
theorem dX19_tree_62 : decode cX19_tree 62 = .ok (.getfield 51, 3) := dk_180 0 51 (dk_at dksX19_tree_2 18 rfl rfl)
theorem dX19_tree_65 : decode cX19_tree 65 = .ok (.iconst 0, 1) := dk_3 (dk_at dksX19_tree_2 21 rfl rfl)
theorem dX19_tree_66 : decode cX19_tree 66 = .ok (.iload_n 2, 1) := dk_28 (dk_at dksX19_tree_2 22 rfl rfl)
theorem dX19_tree_67 : decode cX19_tree 67 = .ok (.sipush 12000, 3) := dk_17 46 224 (dk_at dksX19_tree_3 0 rfl rfl)
theorem dX19_tree_70 : decode cX19_tree 70 = .ok (.invokevirtual 261, 3) := dk_182 1 5 (dk_at dksX19_tree_3 3 rfl rfl)
theorem dX19_tree_73 : decode cX19_tree 73 = .ok (.ireturn, 1) := dk_172 (dk_at dksX19_tree_3 6 rfl rfl)
abbrev cX19_step : ByteArray := prog_9_method_11_code
def yX19_step : MethodName := ⟨RX19, "step", "(II)V"⟩
def dkwX19_step_3 : List UInt8 := [167, 0, 9, 42, 27, 28, 182, 0, 180, 177]
abbrev dktX19_step_3 : List UInt8 := dkwX19_step_3 ++ []
def dkwX19_step_2 : List UInt8 := [163, 0, 12, 42, 27, 28, 182, 0, 174, 167, 0, 24, 28, 16, 94, 163, 0, 12, 42, 27, 28, 182, 0, 177]
abbrev dktX19_step_2 : List UInt8 := dkwX19_step_2 ++ dktX19_step_3
def dkwX19_step_1 : List UInt8 := [182, 0, 168, 167, 0, 54, 28, 16, 63, 163, 0, 12, 42, 27, 28, 182, 0, 171, 167, 0, 39, 28, 16, 85]
abbrev dktX19_step_1 : List UInt8 := dkwX19_step_1 ++ dktX19_step_2
def dkwX19_step_0 : List UInt8 := [28, 16, 37, 163, 0, 12, 42, 27, 28, 182, 0, 165, 167, 0, 69, 28, 16, 51, 163, 0, 12, 42, 27, 28]
abbrev dktX19_step_0 : List UInt8 := dkwX19_step_0 ++ dktX19_step_1
theorem dksX19_step_0 : cX19_step.data.toList.drop 0 = dktX19_step_0 := by decide +kernel
theorem dksX19_step_1 : cX19_step.data.toList.drop 24 = dktX19_step_1 := dk_seg dksX19_step_0 24 rfl rfl
theorem dksX19_step_2 : cX19_step.data.toList.drop 48 = dktX19_step_2 := dk_seg dksX19_step_1 24 rfl rfl
theorem dksX19_step_3 : cX19_step.data.toList.drop 72 = dktX19_step_3 := dk_seg dksX19_step_2 24 rfl rfl
theorem dX19_step_0 : decode cX19_step 0 = .ok (.iload_n 2, 1) := dk_28 (dk_at dksX19_step_0 0 rfl rfl)
theorem dX19_step_1 : decode cX19_step 1 = .ok (.bipush 37, 2) := dk_16 37 (dk_at dksX19_step_0 1 rfl rfl)
theorem dX19_step_3 : decode cX19_step 3 = .ok (.if_icmp .gt 12, 3) := dk_163 0 12 (dk_at dksX19_step_0 3 rfl rfl)
theorem dX19_step_6 : decode cX19_step 6 = .ok (.aload_n 0, 1) := dk_42 (dk_at dksX19_step_0 6 rfl rfl)
theorem dX19_step_7 : decode cX19_step 7 = .ok (.iload_n 1, 1) := dk_27 (dk_at dksX19_step_0 7 rfl rfl)
theorem dX19_step_8 : decode cX19_step 8 = .ok (.iload_n 2, 1) := dk_28 (dk_at dksX19_step_0 8 rfl rfl)
theorem dX19_step_9 : decode cX19_step 9 = .ok (.invokevirtual 165, 3) := dk_182 0 165 (dk_at dksX19_step_0 9 rfl rfl)
theorem dX19_step_12 : decode cX19_step 12 = .ok (.goto 69, 3) := dk_167 0 69 (dk_at dksX19_step_0 12 rfl rfl)
theorem dX19_step_15 : decode cX19_step 15 = .ok (.iload_n 2, 1) := dk_28 (dk_at dksX19_step_0 15 rfl rfl)
theorem dX19_step_16 : decode cX19_step 16 = .ok (.bipush 51, 2) := dk_16 51 (dk_at dksX19_step_0 16 rfl rfl)
theorem dX19_step_18 : decode cX19_step 18 = .ok (.if_icmp .gt 12, 3) := dk_163 0 12 (dk_at dksX19_step_0 18 rfl rfl)
theorem dX19_step_21 : decode cX19_step 21 = .ok (.aload_n 0, 1) := dk_42 (dk_at dksX19_step_0 21 rfl rfl)
theorem dX19_step_22 : decode cX19_step 22 = .ok (.iload_n 1, 1) := dk_27 (dk_at dksX19_step_0 22 rfl rfl)
theorem dX19_step_23 : decode cX19_step 23 = .ok (.iload_n 2, 1) := dk_28 (dk_at dksX19_step_0 23 rfl rfl)
theorem dX19_step_24 : decode cX19_step 24 = .ok (.invokevirtual 168, 3) := dk_182 0 168 (dk_at dksX19_step_1 0 rfl rfl)
theorem dX19_step_27 : decode cX19_step 27 = .ok (.goto 54, 3) := dk_167 0 54 (dk_at dksX19_step_1 3 rfl rfl)
theorem dX19_step_30 : decode cX19_step 30 = .ok (.iload_n 2, 1) := dk_28 (dk_at dksX19_step_1 6 rfl rfl)
theorem dX19_step_31 : decode cX19_step 31 = .ok (.bipush 63, 2) := dk_16 63 (dk_at dksX19_step_1 7 rfl rfl)
theorem dX19_step_33 : decode cX19_step 33 = .ok (.if_icmp .gt 12, 3) := dk_163 0 12 (dk_at dksX19_step_1 9 rfl rfl)
theorem dX19_step_36 : decode cX19_step 36 = .ok (.aload_n 0, 1) := dk_42 (dk_at dksX19_step_1 12 rfl rfl)
theorem dX19_step_37 : decode cX19_step 37 = .ok (.iload_n 1, 1) := dk_27 (dk_at dksX19_step_1 13 rfl rfl)
theorem dX19_step_38 : decode cX19_step 38 = .ok (.iload_n 2, 1) := dk_28 (dk_at dksX19_step_1 14 rfl rfl)
theorem dX19_step_39 : decode cX19_step 39 = .ok (.invokevirtual 171, 3) := dk_182 0 171 (dk_at dksX19_step_1 15 rfl rfl)
theorem dX19_step_42 : decode cX19_step 42 = .ok (.goto 39, 3) := dk_167 0 39 (dk_at dksX19_step_1 18 rfl rfl)
theorem dX19_step_45 : decode cX19_step 45 = .ok (.iload_n 2, 1) := dk_28 (dk_at dksX19_step_1 21 rfl rfl)
theorem dX19_step_46 : decode cX19_step 46 = .ok (.bipush 85, 2) := dk_16 85 (dk_at dksX19_step_1 22 rfl rfl)
theorem dX19_step_48 : decode cX19_step 48 = .ok (.if_icmp .gt 12, 3) := dk_163 0 12 (dk_at dksX19_step_2 0 rfl rfl)
theorem dX19_step_51 : decode cX19_step 51 = .ok (.aload_n 0, 1) := dk_42 (dk_at dksX19_step_2 3 rfl rfl)
theorem dX19_step_52 : decode cX19_step 52 = .ok (.iload_n 1, 1) := dk_27 (dk_at dksX19_step_2 4 rfl rfl)
theorem dX19_step_53 : decode cX19_step 53 = .ok (.iload_n 2, 1) := dk_28 (dk_at dksX19_step_2 5 rfl rfl)
theorem dX19_step_54 : decode cX19_step 54 = .ok (.invokevirtual 174, 3) := dk_182 0 174 (dk_at dksX19_step_2 6 rfl rfl)
theorem dX19_step_57 : decode cX19_step 57 = .ok (.goto 24, 3) := dk_167 0 24 (dk_at dksX19_step_2 9 rfl rfl)
theorem dX19_step_60 : decode cX19_step 60 = .ok (.iload_n 2, 1) := dk_28 (dk_at dksX19_step_2 12 rfl rfl)
theorem dX19_step_61 : decode cX19_step 61 = .ok (.bipush 94, 2) := dk_16 94 (dk_at dksX19_step_2 13 rfl rfl)
theorem dX19_step_63 : decode cX19_step 63 = .ok (.if_icmp .gt 12, 3) := dk_163 0 12 (dk_at dksX19_step_2 15 rfl rfl)
theorem dX19_step_66 : decode cX19_step 66 = .ok (.aload_n 0, 1) := dk_42 (dk_at dksX19_step_2 18 rfl rfl)
theorem dX19_step_67 : decode cX19_step 67 = .ok (.iload_n 1, 1) := dk_27 (dk_at dksX19_step_2 19 rfl rfl)
theorem dX19_step_68 : decode cX19_step 68 = .ok (.iload_n 2, 1) := dk_28 (dk_at dksX19_step_2 20 rfl rfl)
theorem dX19_step_69 : decode cX19_step 69 = .ok (.invokevirtual 177, 3) := dk_182 0 177 (dk_at dksX19_step_2 21 rfl rfl)
theorem dX19_step_72 : decode cX19_step 72 = .ok (.goto 9, 3) := dk_167 0 9 (dk_at dksX19_step_3 0 rfl rfl)
theorem dX19_step_75 : decode cX19_step 75 = .ok (.aload_n 0, 1) := dk_42 (dk_at dksX19_step_3 3 rfl rfl)
theorem dX19_step_76 : decode cX19_step 76 = .ok (.iload_n 1, 1) := dk_27 (dk_at dksX19_step_3 4 rfl rfl)
theorem dX19_step_77 : decode cX19_step 77 = .ok (.iload_n 2, 1) := dk_28 (dk_at dksX19_step_3 5 rfl rfl)
theorem dX19_step_78 : decode cX19_step 78 = .ok (.invokevirtual 180, 3) := dk_182 0 180 (dk_at dksX19_step_3 6 rfl rfl)
theorem dX19_step_81 : decode cX19_step 81 = .ok (.return_, 1) := dk_177 (dk_at dksX19_step_3 9 rfl rfl)
abbrev cX19_shuffle : ByteArray := prog_9_method_12_code
def yX19_shuffle : MethodName := ⟨RX19, "shuffle", "(II)V"⟩
def dkwX19_shuffle_8 : List UInt8 := [167, 0, 19, 42, 29, 28, 16, 34, 160, 0, 7, 4, 167, 0, 4, 3, 182, 0, 189, 177]
abbrev dktX19_shuffle_8 : List UInt8 := dkwX19_shuffle_8 ++ []
def dkwX19_shuffle_7 : List UInt8 := [167, 255, 227, 42, 4, 42, 180, 0, 125, 29, 3, 182, 0, 159, 42, 42, 27, 4, 182, 0, 131, 181, 0, 125]
abbrev dktX19_shuffle_7 : List UInt8 := dkwX19_shuffle_7 ++ dktX19_shuffle_8
def dkwX19_shuffle_6 : List UInt8 := [180, 0, 40, 42, 89, 180, 0, 119, 90, 4, 96, 181, 0, 119, 42, 182, 0, 139, 79, 132, 4, 1]
abbrev dktX19_shuffle_6 : List UInt8 := dkwX19_shuffle_6 ++ dktX19_shuffle_7
def dkwX19_shuffle_5 : List UInt8 := [167, 0, 87, 42, 4, 4, 182, 0, 189, 167, 0, 78, 3, 54, 4, 21, 4, 29, 162, 0, 29, 42]
abbrev dktX19_shuffle_5 : List UInt8 := dkwX19_shuffle_5 ++ dktX19_shuffle_6
def dkwX19_shuffle_4 : List UInt8 := [42, 89, 180, 0, 98, 29, 100, 181, 0, 98, 167, 0, 101, 42, 42, 29, 4, 100, 182, 0, 102, 182, 0, 122]
abbrev dktX19_shuffle_4 : List UInt8 := dkwX19_shuffle_4 ++ dktX19_shuffle_5
def dkwX19_shuffle_3 : List UInt8 := [170, 0, 0, 0, 0, 0, 138, 0, 0, 0, 31, 0, 0, 0, 37, 0, 0, 0, 43, 0, 0, 0, 56, 0, 0, 0, 70, 0, 0, 0, 138, 0, 0, 0, 138, 0, 0, 0, 138, 0, 0, 0, 79]
abbrev dktX19_shuffle_3 : List UInt8 := dkwX19_shuffle_3 ++ dktX19_shuffle_4
def dkwX19_shuffle_2 : List UInt8 := [182, 0, 122, 177, 42, 180, 0, 94, 16, 10, 42, 27, 6, 182, 0, 131, 96, 133, 182, 0, 183, 28]
abbrev dktX19_shuffle_2 : List UInt8 := dkwX19_shuffle_2 ++ dktX19_shuffle_3
def dkwX19_shuffle_1 : List UInt8 := [180, 0, 94, 16, 10, 42, 180, 0, 54, 29, 182, 0, 106, 16, 8, 108, 96, 133, 182, 0, 183, 42, 29]
abbrev dktX19_shuffle_1 : List UInt8 := dkwX19_shuffle_1 ++ dktX19_shuffle_2
def dkwX19_shuffle_0 : List UInt8 := [42, 27, 28, 16, 37, 160, 0, 7, 5, 167, 0, 4, 4, 182, 0, 131, 62, 28, 16, 36, 160, 0, 31, 42]
abbrev dktX19_shuffle_0 : List UInt8 := dkwX19_shuffle_0 ++ dktX19_shuffle_1
theorem dksX19_shuffle_0 : cX19_shuffle.data.toList.drop 0 = dktX19_shuffle_0 := by decide +kernel
theorem dksX19_shuffle_1 : cX19_shuffle.data.toList.drop 24 = dktX19_shuffle_1 := dk_seg dksX19_shuffle_0 24 rfl rfl
theorem dksX19_shuffle_2 : cX19_shuffle.data.toList.drop 47 = dktX19_shuffle_2 := dk_seg dksX19_shuffle_1 23 rfl rfl
theorem dksX19_shuffle_3 : cX19_shuffle.data.toList.drop 69 = dktX19_shuffle_3 := dk_seg dksX19_shuffle_2 22 rfl rfl
theorem dksX19_shuffle_4 : cX19_shuffle.data.toList.drop 112 = dktX19_shuffle_4 := dk_seg dksX19_shuffle_3 43 rfl rfl
theorem dksX19_shuffle_5 : cX19_shuffle.data.toList.drop 136 = dktX19_shuffle_5 := dk_seg dksX19_shuffle_4 24 rfl rfl
theorem dksX19_shuffle_6 : cX19_shuffle.data.toList.drop 158 = dktX19_shuffle_6 := dk_seg dksX19_shuffle_5 22 rfl rfl
theorem dksX19_shuffle_7 : cX19_shuffle.data.toList.drop 180 = dktX19_shuffle_7 := dk_seg dksX19_shuffle_6 22 rfl rfl
theorem dksX19_shuffle_8 : cX19_shuffle.data.toList.drop 204 = dktX19_shuffle_8 := dk_seg dksX19_shuffle_7 24 rfl rfl
theorem dX19_shuffle_0 : decode cX19_shuffle 0 = .ok (.aload_n 0, 1) := dk_42 (dk_at dksX19_shuffle_0 0 rfl rfl)
theorem dX19_shuffle_1 : decode cX19_shuffle 1 = .ok (.iload_n 1, 1) := dk_27 (dk_at dksX19_shuffle_0 1 rfl rfl)
theorem dX19_shuffle_2 : decode cX19_shuffle 2 = .ok (.iload_n 2, 1) := dk_28 (dk_at dksX19_shuffle_0 2 rfl rfl)
theorem dX19_shuffle_3 : decode cX19_shuffle 3 = .ok (.bipush 37, 2) := dk_16 37 (dk_at dksX19_shuffle_0 3 rfl rfl)
theorem dX19_shuffle_5 : decode cX19_shuffle 5 = .ok (.if_icmp .ne 7, 3) := dk_160 0 7 (dk_at dksX19_shuffle_0 5 rfl rfl)
theorem dX19_shuffle_8 : decode cX19_shuffle 8 = .ok (.iconst 2, 1) := dk_5 (dk_at dksX19_shuffle_0 8 rfl rfl)
theorem dX19_shuffle_9 : decode cX19_shuffle 9 = .ok (.goto 4, 3) := dk_167 0 4 (dk_at dksX19_shuffle_0 9 rfl rfl)
theorem dX19_shuffle_12 : decode cX19_shuffle 12 = .ok (.iconst 1, 1) := dk_4 (dk_at dksX19_shuffle_0 12 rfl rfl)
theorem dX19_shuffle_13 : decode cX19_shuffle 13 = .ok (.invokevirtual 131, 3) := dk_182 0 131 (dk_at dksX19_shuffle_0 13 rfl rfl)
theorem dX19_shuffle_16 : decode cX19_shuffle 16 = .ok (.istore_n 3, 1) := dk_62 (dk_at dksX19_shuffle_0 16 rfl rfl)
theorem dX19_shuffle_17 : decode cX19_shuffle 17 = .ok (.iload_n 2, 1) := dk_28 (dk_at dksX19_shuffle_0 17 rfl rfl)
theorem dX19_shuffle_18 : decode cX19_shuffle 18 = .ok (.bipush 36, 2) := dk_16 36 (dk_at dksX19_shuffle_0 18 rfl rfl)
theorem dX19_shuffle_20 : decode cX19_shuffle 20 = .ok (.if_icmp .ne 31, 3) := dk_160 0 31 (dk_at dksX19_shuffle_0 20 rfl rfl)
theorem dX19_shuffle_23 : decode cX19_shuffle 23 = .ok (.aload_n 0, 1) := dk_42 (dk_at dksX19_shuffle_0 23 rfl rfl)
theorem dX19_shuffle_24 : decode cX19_shuffle 24 = .ok (.getfield 94, 3) := dk_180 0 94 (dk_at dksX19_shuffle_1 0 rfl rfl)
theorem dX19_shuffle_27 : decode cX19_shuffle 27 = .ok (.bipush 10, 2) := dk_16 10 (dk_at dksX19_shuffle_1 3 rfl rfl)
theorem dX19_shuffle_29 : decode cX19_shuffle 29 = .ok (.aload_n 0, 1) := dk_42 (dk_at dksX19_shuffle_1 5 rfl rfl)
theorem dX19_shuffle_30 : decode cX19_shuffle 30 = .ok (.getfield 54, 3) := dk_180 0 54 (dk_at dksX19_shuffle_1 6 rfl rfl)
theorem dX19_shuffle_33 : decode cX19_shuffle 33 = .ok (.iload_n 3, 1) := dk_29 (dk_at dksX19_shuffle_1 9 rfl rfl)
theorem dX19_shuffle_34 : decode cX19_shuffle 34 = .ok (.invokevirtual 106, 3) := dk_182 0 106 (dk_at dksX19_shuffle_1 10 rfl rfl)
theorem dX19_shuffle_37 : decode cX19_shuffle 37 = .ok (.bipush 8, 2) := dk_16 8 (dk_at dksX19_shuffle_1 13 rfl rfl)
theorem dX19_shuffle_39 : decode cX19_shuffle 39 = .ok (.idiv, 1) := dk_108 (dk_at dksX19_shuffle_1 15 rfl rfl)
theorem dX19_shuffle_40 : decode cX19_shuffle 40 = .ok (.iadd, 1) := dk_96 (dk_at dksX19_shuffle_1 16 rfl rfl)
theorem dX19_shuffle_41 : decode cX19_shuffle 41 = .ok (.i2l, 1) := dk_133 (dk_at dksX19_shuffle_1 17 rfl rfl)
theorem dX19_shuffle_42 : decode cX19_shuffle 42 = .ok (.invokevirtual 183, 3) := dk_182 0 183 (dk_at dksX19_shuffle_1 18 rfl rfl)
theorem dX19_shuffle_45 : decode cX19_shuffle 45 = .ok (.aload_n 0, 1) := dk_42 (dk_at dksX19_shuffle_1 21 rfl rfl)
theorem dX19_shuffle_46 : decode cX19_shuffle 46 = .ok (.iload_n 3, 1) := dk_29 (dk_at dksX19_shuffle_1 22 rfl rfl)
theorem dX19_shuffle_47 : decode cX19_shuffle 47 = .ok (.invokevirtual 122, 3) := dk_182 0 122 (dk_at dksX19_shuffle_2 0 rfl rfl)
theorem dX19_shuffle_50 : decode cX19_shuffle 50 = .ok (.return_, 1) := dk_177 (dk_at dksX19_shuffle_2 3 rfl rfl)
theorem dX19_shuffle_51 : decode cX19_shuffle 51 = .ok (.aload_n 0, 1) := dk_42 (dk_at dksX19_shuffle_2 4 rfl rfl)
theorem dX19_shuffle_52 : decode cX19_shuffle 52 = .ok (.getfield 94, 3) := dk_180 0 94 (dk_at dksX19_shuffle_2 5 rfl rfl)
theorem dX19_shuffle_55 : decode cX19_shuffle 55 = .ok (.bipush 10, 2) := dk_16 10 (dk_at dksX19_shuffle_2 8 rfl rfl)
theorem dX19_shuffle_57 : decode cX19_shuffle 57 = .ok (.aload_n 0, 1) := dk_42 (dk_at dksX19_shuffle_2 10 rfl rfl)
theorem dX19_shuffle_58 : decode cX19_shuffle 58 = .ok (.iload_n 1, 1) := dk_27 (dk_at dksX19_shuffle_2 11 rfl rfl)
theorem dX19_shuffle_59 : decode cX19_shuffle 59 = .ok (.iconst 3, 1) := dk_6 (dk_at dksX19_shuffle_2 12 rfl rfl)
theorem dX19_shuffle_60 : decode cX19_shuffle 60 = .ok (.invokevirtual 131, 3) := dk_182 0 131 (dk_at dksX19_shuffle_2 13 rfl rfl)
theorem dX19_shuffle_63 : decode cX19_shuffle 63 = .ok (.iadd, 1) := dk_96 (dk_at dksX19_shuffle_2 16 rfl rfl)
theorem dX19_shuffle_64 : decode cX19_shuffle 64 = .ok (.i2l, 1) := dk_133 (dk_at dksX19_shuffle_2 17 rfl rfl)
theorem dX19_shuffle_65 : decode cX19_shuffle 65 = .ok (.invokevirtual 183, 3) := dk_182 0 183 (dk_at dksX19_shuffle_2 18 rfl rfl)
theorem dX19_shuffle_68 : decode cX19_shuffle 68 = .ok (.iload_n 2, 1) := dk_28 (dk_at dksX19_shuffle_2 21 rfl rfl)
theorem dX19_shuffle_69 : decode cX19_shuffle 69 = .ok (.tableswitch 138 31 37 #[43, 56, 70, 138, 138, 138, 79], 43) := by decide +kernel
theorem dX19_shuffle_112 : decode cX19_shuffle 112 = .ok (.aload_n 0, 1) := dk_42 (dk_at dksX19_shuffle_4 0 rfl rfl)
theorem dX19_shuffle_113 : decode cX19_shuffle 113 = .ok (.dup, 1) := dk_89 (dk_at dksX19_shuffle_4 1 rfl rfl)
theorem dX19_shuffle_114 : decode cX19_shuffle 114 = .ok (.getfield 98, 3) := dk_180 0 98 (dk_at dksX19_shuffle_4 2 rfl rfl)
theorem dX19_shuffle_117 : decode cX19_shuffle 117 = .ok (.iload_n 3, 1) := dk_29 (dk_at dksX19_shuffle_4 5 rfl rfl)
theorem dX19_shuffle_118 : decode cX19_shuffle 118 = .ok (.isub, 1) := dk_100 (dk_at dksX19_shuffle_4 6 rfl rfl)
theorem dX19_shuffle_119 : decode cX19_shuffle 119 = .ok (.putfield 98, 3) := dk_181 0 98 (dk_at dksX19_shuffle_4 7 rfl rfl)
theorem dX19_shuffle_122 : decode cX19_shuffle 122 = .ok (.goto 101, 3) := dk_167 0 101 (dk_at dksX19_shuffle_4 10 rfl rfl)
theorem dX19_shuffle_125 : decode cX19_shuffle 125 = .ok (.aload_n 0, 1) := dk_42 (dk_at dksX19_shuffle_4 13 rfl rfl)
theorem dX19_shuffle_126 : decode cX19_shuffle 126 = .ok (.aload_n 0, 1) := dk_42 (dk_at dksX19_shuffle_4 14 rfl rfl)
theorem dX19_shuffle_127 : decode cX19_shuffle 127 = .ok (.iload_n 3, 1) := dk_29 (dk_at dksX19_shuffle_4 15 rfl rfl)
theorem dX19_shuffle_128 : decode cX19_shuffle 128 = .ok (.iconst 1, 1) := dk_4 (dk_at dksX19_shuffle_4 16 rfl rfl)
theorem dX19_shuffle_129 : decode cX19_shuffle 129 = .ok (.isub, 1) := dk_100 (dk_at dksX19_shuffle_4 17 rfl rfl)
theorem dX19_shuffle_130 : decode cX19_shuffle 130 = .ok (.invokevirtual 102, 3) := dk_182 0 102 (dk_at dksX19_shuffle_4 18 rfl rfl)
theorem dX19_shuffle_133 : decode cX19_shuffle 133 = .ok (.invokevirtual 122, 3) := dk_182 0 122 (dk_at dksX19_shuffle_4 21 rfl rfl)
theorem dX19_shuffle_136 : decode cX19_shuffle 136 = .ok (.goto 87, 3) := dk_167 0 87 (dk_at dksX19_shuffle_5 0 rfl rfl)
theorem dX19_shuffle_139 : decode cX19_shuffle 139 = .ok (.aload_n 0, 1) := dk_42 (dk_at dksX19_shuffle_5 3 rfl rfl)
theorem dX19_shuffle_140 : decode cX19_shuffle 140 = .ok (.iconst 1, 1) := dk_4 (dk_at dksX19_shuffle_5 4 rfl rfl)
theorem dX19_shuffle_141 : decode cX19_shuffle 141 = .ok (.iconst 1, 1) := dk_4 (dk_at dksX19_shuffle_5 5 rfl rfl)
theorem dX19_shuffle_142 : decode cX19_shuffle 142 = .ok (.invokevirtual 189, 3) := dk_182 0 189 (dk_at dksX19_shuffle_5 6 rfl rfl)
theorem dX19_shuffle_145 : decode cX19_shuffle 145 = .ok (.goto 78, 3) := dk_167 0 78 (dk_at dksX19_shuffle_5 9 rfl rfl)
theorem dX19_shuffle_148 : decode cX19_shuffle 148 = .ok (.iconst 0, 1) := dk_3 (dk_at dksX19_shuffle_5 12 rfl rfl)
theorem dX19_shuffle_149 : decode cX19_shuffle 149 = .ok (.istore 4, 2) := dk_54 4 (dk_at dksX19_shuffle_5 13 rfl rfl)
theorem dX19_shuffle_151 : decode cX19_shuffle 151 = .ok (.iload 4, 2) := dk_21 4 (dk_at dksX19_shuffle_5 15 rfl rfl)
theorem dX19_shuffle_153 : decode cX19_shuffle 153 = .ok (.iload_n 3, 1) := dk_29 (dk_at dksX19_shuffle_5 17 rfl rfl)
theorem dX19_shuffle_154 : decode cX19_shuffle 154 = .ok (.if_icmp .ge 29, 3) := dk_162 0 29 (dk_at dksX19_shuffle_5 18 rfl rfl)
theorem dX19_shuffle_157 : decode cX19_shuffle 157 = .ok (.aload_n 0, 1) := dk_42 (dk_at dksX19_shuffle_5 21 rfl rfl)
theorem dX19_shuffle_158 : decode cX19_shuffle 158 = .ok (.getfield 40, 3) := dk_180 0 40 (dk_at dksX19_shuffle_6 0 rfl rfl)
theorem dX19_shuffle_161 : decode cX19_shuffle 161 = .ok (.aload_n 0, 1) := dk_42 (dk_at dksX19_shuffle_6 3 rfl rfl)
theorem dX19_shuffle_162 : decode cX19_shuffle 162 = .ok (.dup, 1) := dk_89 (dk_at dksX19_shuffle_6 4 rfl rfl)
theorem dX19_shuffle_163 : decode cX19_shuffle 163 = .ok (.getfield 119, 3) := dk_180 0 119 (dk_at dksX19_shuffle_6 5 rfl rfl)
theorem dX19_shuffle_166 : decode cX19_shuffle 166 = .ok (.dup_x1, 1) := dk_90 (dk_at dksX19_shuffle_6 8 rfl rfl)
theorem dX19_shuffle_167 : decode cX19_shuffle 167 = .ok (.iconst 1, 1) := dk_4 (dk_at dksX19_shuffle_6 9 rfl rfl)
theorem dX19_shuffle_168 : decode cX19_shuffle 168 = .ok (.iadd, 1) := dk_96 (dk_at dksX19_shuffle_6 10 rfl rfl)
theorem dX19_shuffle_169 : decode cX19_shuffle 169 = .ok (.putfield 119, 3) := dk_181 0 119 (dk_at dksX19_shuffle_6 11 rfl rfl)
theorem dX19_shuffle_172 : decode cX19_shuffle 172 = .ok (.aload_n 0, 1) := dk_42 (dk_at dksX19_shuffle_6 14 rfl rfl)
theorem dX19_shuffle_173 : decode cX19_shuffle 173 = .ok (.invokevirtual 139, 3) := dk_182 0 139 (dk_at dksX19_shuffle_6 15 rfl rfl)
theorem dX19_shuffle_176 : decode cX19_shuffle 176 = .ok (.iastore, 1) := dk_79 (dk_at dksX19_shuffle_6 18 rfl rfl)
theorem dX19_shuffle_177 : decode cX19_shuffle 177 = .ok (.iinc 4 1, 3) := dk_132 4 1 (dk_at dksX19_shuffle_6 19 rfl rfl)
theorem dX19_shuffle_180 : decode cX19_shuffle 180 = .ok (.goto (-29), 3) := dk_167 255 227 (dk_at dksX19_shuffle_7 0 rfl rfl)
theorem dX19_shuffle_183 : decode cX19_shuffle 183 = .ok (.aload_n 0, 1) := dk_42 (dk_at dksX19_shuffle_7 3 rfl rfl)
theorem dX19_shuffle_184 : decode cX19_shuffle 184 = .ok (.iconst 1, 1) := dk_4 (dk_at dksX19_shuffle_7 4 rfl rfl)
theorem dX19_shuffle_185 : decode cX19_shuffle 185 = .ok (.aload_n 0, 1) := dk_42 (dk_at dksX19_shuffle_7 5 rfl rfl)
theorem dX19_shuffle_186 : decode cX19_shuffle 186 = .ok (.getfield 125, 3) := dk_180 0 125 (dk_at dksX19_shuffle_7 6 rfl rfl)
theorem dX19_shuffle_189 : decode cX19_shuffle 189 = .ok (.iload_n 3, 1) := dk_29 (dk_at dksX19_shuffle_7 9 rfl rfl)
theorem dX19_shuffle_190 : decode cX19_shuffle 190 = .ok (.iconst 0, 1) := dk_3 (dk_at dksX19_shuffle_7 10 rfl rfl)
theorem dX19_shuffle_191 : decode cX19_shuffle 191 = .ok (.invokevirtual 159, 3) := dk_182 0 159 (dk_at dksX19_shuffle_7 11 rfl rfl)
theorem dX19_shuffle_194 : decode cX19_shuffle 194 = .ok (.aload_n 0, 1) := dk_42 (dk_at dksX19_shuffle_7 14 rfl rfl)
theorem dX19_shuffle_195 : decode cX19_shuffle 195 = .ok (.aload_n 0, 1) := dk_42 (dk_at dksX19_shuffle_7 15 rfl rfl)
theorem dX19_shuffle_196 : decode cX19_shuffle 196 = .ok (.iload_n 1, 1) := dk_27 (dk_at dksX19_shuffle_7 16 rfl rfl)
theorem dX19_shuffle_197 : decode cX19_shuffle 197 = .ok (.iconst 1, 1) := dk_4 (dk_at dksX19_shuffle_7 17 rfl rfl)
theorem dX19_shuffle_198 : decode cX19_shuffle 198 = .ok (.invokevirtual 131, 3) := dk_182 0 131 (dk_at dksX19_shuffle_7 18 rfl rfl)
theorem dX19_shuffle_201 : decode cX19_shuffle 201 = .ok (.putfield 125, 3) := dk_181 0 125 (dk_at dksX19_shuffle_7 21 rfl rfl)
theorem dX19_shuffle_204 : decode cX19_shuffle 204 = .ok (.goto 19, 3) := dk_167 0 19 (dk_at dksX19_shuffle_8 0 rfl rfl)
theorem dX19_shuffle_207 : decode cX19_shuffle 207 = .ok (.aload_n 0, 1) := dk_42 (dk_at dksX19_shuffle_8 3 rfl rfl)
theorem dX19_shuffle_208 : decode cX19_shuffle 208 = .ok (.iload_n 3, 1) := dk_29 (dk_at dksX19_shuffle_8 4 rfl rfl)
theorem dX19_shuffle_209 : decode cX19_shuffle 209 = .ok (.iload_n 2, 1) := dk_28 (dk_at dksX19_shuffle_8 5 rfl rfl)
theorem dX19_shuffle_210 : decode cX19_shuffle 210 = .ok (.bipush 34, 2) := dk_16 34 (dk_at dksX19_shuffle_8 6 rfl rfl)
theorem dX19_shuffle_212 : decode cX19_shuffle 212 = .ok (.if_icmp .ne 7, 3) := dk_160 0 7 (dk_at dksX19_shuffle_8 8 rfl rfl)
theorem dX19_shuffle_215 : decode cX19_shuffle 215 = .ok (.iconst 1, 1) := dk_4 (dk_at dksX19_shuffle_8 11 rfl rfl)
theorem dX19_shuffle_216 : decode cX19_shuffle 216 = .ok (.goto 4, 3) := dk_167 0 4 (dk_at dksX19_shuffle_8 12 rfl rfl)
theorem dX19_shuffle_219 : decode cX19_shuffle 219 = .ok (.iconst 0, 1) := dk_3 (dk_at dksX19_shuffle_8 15 rfl rfl)
theorem dX19_shuffle_220 : decode cX19_shuffle 220 = .ok (.invokevirtual 189, 3) := dk_182 0 189 (dk_at dksX19_shuffle_8 16 rfl rfl)
theorem dX19_shuffle_223 : decode cX19_shuffle 223 = .ok (.return_, 1) := dk_177 (dk_at dksX19_shuffle_8 19 rfl rfl)
abbrev cX19_at : ByteArray := prog_9_method_4_code
def yX19_at : MethodName := ⟨RX19, "at", "(I)I"⟩
def dkwX19_at_0 : List UInt8 := [42, 180, 0, 36, 42, 180, 0, 98, 4, 100, 27, 100, 46, 172]
abbrev dktX19_at_0 : List UInt8 := dkwX19_at_0 ++ []
theorem dksX19_at_0 : cX19_at.data.toList.drop 0 = dktX19_at_0 := by decide +kernel
theorem dX19_at_0 : decode cX19_at 0 = .ok (.aload_n 0, 1) := dk_42 (dk_at dksX19_at_0 0 rfl rfl)
theorem dX19_at_1 : decode cX19_at 1 = .ok (.getfield 36, 3) := dk_180 0 36 (dk_at dksX19_at_0 1 rfl rfl)
theorem dX19_at_4 : decode cX19_at 4 = .ok (.aload_n 0, 1) := dk_42 (dk_at dksX19_at_0 4 rfl rfl)
theorem dX19_at_5 : decode cX19_at 5 = .ok (.getfield 98, 3) := dk_180 0 98 (dk_at dksX19_at_0 5 rfl rfl)
theorem dX19_at_8 : decode cX19_at 8 = .ok (.iconst 1, 1) := dk_4 (dk_at dksX19_at_0 8 rfl rfl)
theorem dX19_at_9 : decode cX19_at 9 = .ok (.isub, 1) := dk_100 (dk_at dksX19_at_0 9 rfl rfl)
theorem dX19_at_10 : decode cX19_at 10 = .ok (.iload_n 1, 1) := dk_27 (dk_at dksX19_at_0 10 rfl rfl)
theorem dX19_at_11 : decode cX19_at 11 = .ok (.isub, 1) := dk_100 (dk_at dksX19_at_0 11 rfl rfl)
theorem dX19_at_12 : decode cX19_at 12 = .ok (.iaload, 1) := dk_46 (dk_at dksX19_at_0 12 rfl rfl)
theorem dX19_at_13 : decode cX19_at 13 = .ok (.ireturn, 1) := dk_172 (dk_at dksX19_at_0 13 rfl rfl)
abbrev cX19_turn : ByteArray := prog_9_method_13_code
def yX19_turn : MethodName := ⟨RX19, "turn", "(IZ)V"⟩
def dkwX19_turn_3 : List UInt8 := [132, 6, 1, 167, 255, 227, 42, 180, 0, 36, 29, 21, 4, 79, 177]
abbrev dktX19_turn_3 : List UInt8 := dkwX19_turn_3 ++ []
def dkwX19_turn_2 : List UInt8 := [162, 0, 29, 42, 180, 0, 36, 29, 42, 180, 0, 36, 29, 21, 5, 96, 46, 79, 29, 21, 5, 96, 62]
abbrev dktX19_turn_2 : List UInt8 := dkwX19_turn_2 ++ dktX19_turn_3
def dkwX19_turn_1 : List UInt8 := [180, 0, 36, 29, 46, 54, 4, 28, 153, 0, 7, 4, 167, 0, 4, 2, 54, 5, 3, 54, 6, 21, 6, 27]
abbrev dktX19_turn_1 : List UInt8 := dkwX19_turn_1 ++ dktX19_turn_2
def dkwX19_turn_0 : List UInt8 := [28, 153, 0, 14, 42, 180, 0, 98, 4, 100, 27, 100, 167, 0, 9, 42, 180, 0, 98, 4, 100, 62, 42]
abbrev dktX19_turn_0 : List UInt8 := dkwX19_turn_0 ++ dktX19_turn_1
theorem dksX19_turn_0 : cX19_turn.data.toList.drop 0 = dktX19_turn_0 := by decide +kernel
theorem dksX19_turn_1 : cX19_turn.data.toList.drop 23 = dktX19_turn_1 := dk_seg dksX19_turn_0 23 rfl rfl
theorem dksX19_turn_2 : cX19_turn.data.toList.drop 47 = dktX19_turn_2 := dk_seg dksX19_turn_1 24 rfl rfl
theorem dksX19_turn_3 : cX19_turn.data.toList.drop 70 = dktX19_turn_3 := dk_seg dksX19_turn_2 23 rfl rfl
theorem dX19_turn_0 : decode cX19_turn 0 = .ok (.iload_n 2, 1) := dk_28 (dk_at dksX19_turn_0 0 rfl rfl)
theorem dX19_turn_1 : decode cX19_turn 1 = .ok (.ifCond .eq 14, 3) := dk_153 0 14 (dk_at dksX19_turn_0 1 rfl rfl)
theorem dX19_turn_4 : decode cX19_turn 4 = .ok (.aload_n 0, 1) := dk_42 (dk_at dksX19_turn_0 4 rfl rfl)
theorem dX19_turn_5 : decode cX19_turn 5 = .ok (.getfield 98, 3) := dk_180 0 98 (dk_at dksX19_turn_0 5 rfl rfl)
theorem dX19_turn_8 : decode cX19_turn 8 = .ok (.iconst 1, 1) := dk_4 (dk_at dksX19_turn_0 8 rfl rfl)
theorem dX19_turn_9 : decode cX19_turn 9 = .ok (.isub, 1) := dk_100 (dk_at dksX19_turn_0 9 rfl rfl)
theorem dX19_turn_10 : decode cX19_turn 10 = .ok (.iload_n 1, 1) := dk_27 (dk_at dksX19_turn_0 10 rfl rfl)
theorem dX19_turn_11 : decode cX19_turn 11 = .ok (.isub, 1) := dk_100 (dk_at dksX19_turn_0 11 rfl rfl)
theorem dX19_turn_12 : decode cX19_turn 12 = .ok (.goto 9, 3) := dk_167 0 9 (dk_at dksX19_turn_0 12 rfl rfl)
theorem dX19_turn_15 : decode cX19_turn 15 = .ok (.aload_n 0, 1) := dk_42 (dk_at dksX19_turn_0 15 rfl rfl)
theorem dX19_turn_16 : decode cX19_turn 16 = .ok (.getfield 98, 3) := dk_180 0 98 (dk_at dksX19_turn_0 16 rfl rfl)
theorem dX19_turn_19 : decode cX19_turn 19 = .ok (.iconst 1, 1) := dk_4 (dk_at dksX19_turn_0 19 rfl rfl)
theorem dX19_turn_20 : decode cX19_turn 20 = .ok (.isub, 1) := dk_100 (dk_at dksX19_turn_0 20 rfl rfl)
theorem dX19_turn_21 : decode cX19_turn 21 = .ok (.istore_n 3, 1) := dk_62 (dk_at dksX19_turn_0 21 rfl rfl)
theorem dX19_turn_22 : decode cX19_turn 22 = .ok (.aload_n 0, 1) := dk_42 (dk_at dksX19_turn_0 22 rfl rfl)
theorem dX19_turn_23 : decode cX19_turn 23 = .ok (.getfield 36, 3) := dk_180 0 36 (dk_at dksX19_turn_1 0 rfl rfl)
theorem dX19_turn_26 : decode cX19_turn 26 = .ok (.iload_n 3, 1) := dk_29 (dk_at dksX19_turn_1 3 rfl rfl)
theorem dX19_turn_27 : decode cX19_turn 27 = .ok (.iaload, 1) := dk_46 (dk_at dksX19_turn_1 4 rfl rfl)
theorem dX19_turn_28 : decode cX19_turn 28 = .ok (.istore 4, 2) := dk_54 4 (dk_at dksX19_turn_1 5 rfl rfl)
theorem dX19_turn_30 : decode cX19_turn 30 = .ok (.iload_n 2, 1) := dk_28 (dk_at dksX19_turn_1 7 rfl rfl)
theorem dX19_turn_31 : decode cX19_turn 31 = .ok (.ifCond .eq 7, 3) := dk_153 0 7 (dk_at dksX19_turn_1 8 rfl rfl)
theorem dX19_turn_34 : decode cX19_turn 34 = .ok (.iconst 1, 1) := dk_4 (dk_at dksX19_turn_1 11 rfl rfl)
theorem dX19_turn_35 : decode cX19_turn 35 = .ok (.goto 4, 3) := dk_167 0 4 (dk_at dksX19_turn_1 12 rfl rfl)
theorem dX19_turn_38 : decode cX19_turn 38 = .ok (.iconst (-1), 1) := dk_2 (dk_at dksX19_turn_1 15 rfl rfl)
theorem dX19_turn_39 : decode cX19_turn 39 = .ok (.istore 5, 2) := dk_54 5 (dk_at dksX19_turn_1 16 rfl rfl)
theorem dX19_turn_41 : decode cX19_turn 41 = .ok (.iconst 0, 1) := dk_3 (dk_at dksX19_turn_1 18 rfl rfl)
theorem dX19_turn_42 : decode cX19_turn 42 = .ok (.istore 6, 2) := dk_54 6 (dk_at dksX19_turn_1 19 rfl rfl)
theorem dX19_turn_44 : decode cX19_turn 44 = .ok (.iload 6, 2) := dk_21 6 (dk_at dksX19_turn_1 21 rfl rfl)
theorem dX19_turn_46 : decode cX19_turn 46 = .ok (.iload_n 1, 1) := dk_27 (dk_at dksX19_turn_1 23 rfl rfl)
theorem dX19_turn_47 : decode cX19_turn 47 = .ok (.if_icmp .ge 29, 3) := dk_162 0 29 (dk_at dksX19_turn_2 0 rfl rfl)
theorem dX19_turn_50 : decode cX19_turn 50 = .ok (.aload_n 0, 1) := dk_42 (dk_at dksX19_turn_2 3 rfl rfl)
theorem dX19_turn_51 : decode cX19_turn 51 = .ok (.getfield 36, 3) := dk_180 0 36 (dk_at dksX19_turn_2 4 rfl rfl)
theorem dX19_turn_54 : decode cX19_turn 54 = .ok (.iload_n 3, 1) := dk_29 (dk_at dksX19_turn_2 7 rfl rfl)
theorem dX19_turn_55 : decode cX19_turn 55 = .ok (.aload_n 0, 1) := dk_42 (dk_at dksX19_turn_2 8 rfl rfl)
theorem dX19_turn_56 : decode cX19_turn 56 = .ok (.getfield 36, 3) := dk_180 0 36 (dk_at dksX19_turn_2 9 rfl rfl)
theorem dX19_turn_59 : decode cX19_turn 59 = .ok (.iload_n 3, 1) := dk_29 (dk_at dksX19_turn_2 12 rfl rfl)
theorem dX19_turn_60 : decode cX19_turn 60 = .ok (.iload 5, 2) := dk_21 5 (dk_at dksX19_turn_2 13 rfl rfl)
theorem dX19_turn_62 : decode cX19_turn 62 = .ok (.iadd, 1) := dk_96 (dk_at dksX19_turn_2 15 rfl rfl)
theorem dX19_turn_63 : decode cX19_turn 63 = .ok (.iaload, 1) := dk_46 (dk_at dksX19_turn_2 16 rfl rfl)
theorem dX19_turn_64 : decode cX19_turn 64 = .ok (.iastore, 1) := dk_79 (dk_at dksX19_turn_2 17 rfl rfl)
theorem dX19_turn_65 : decode cX19_turn 65 = .ok (.iload_n 3, 1) := dk_29 (dk_at dksX19_turn_2 18 rfl rfl)
theorem dX19_turn_66 : decode cX19_turn 66 = .ok (.iload 5, 2) := dk_21 5 (dk_at dksX19_turn_2 19 rfl rfl)
theorem dX19_turn_68 : decode cX19_turn 68 = .ok (.iadd, 1) := dk_96 (dk_at dksX19_turn_2 21 rfl rfl)
theorem dX19_turn_69 : decode cX19_turn 69 = .ok (.istore_n 3, 1) := dk_62 (dk_at dksX19_turn_2 22 rfl rfl)
theorem dX19_turn_70 : decode cX19_turn 70 = .ok (.iinc 6 1, 3) := dk_132 6 1 (dk_at dksX19_turn_3 0 rfl rfl)
theorem dX19_turn_73 : decode cX19_turn 73 = .ok (.goto (-29), 3) := dk_167 255 227 (dk_at dksX19_turn_3 3 rfl rfl)
theorem dX19_turn_76 : decode cX19_turn 76 = .ok (.aload_n 0, 1) := dk_42 (dk_at dksX19_turn_3 6 rfl rfl)
theorem dX19_turn_77 : decode cX19_turn 77 = .ok (.getfield 36, 3) := dk_180 0 36 (dk_at dksX19_turn_3 7 rfl rfl)
theorem dX19_turn_80 : decode cX19_turn 80 = .ok (.iload_n 3, 1) := dk_29 (dk_at dksX19_turn_3 10 rfl rfl)
theorem dX19_turn_81 : decode cX19_turn 81 = .ok (.iload 4, 2) := dk_21 4 (dk_at dksX19_turn_3 11 rfl rfl)
theorem dX19_turn_83 : decode cX19_turn 83 = .ok (.iastore, 1) := dk_79 (dk_at dksX19_turn_3 13 rfl rfl)
theorem dX19_turn_84 : decode cX19_turn 84 = .ok (.return_, 1) := dk_177 (dk_at dksX19_turn_3 14 rfl rfl)
abbrev cX19_maker : ByteArray := prog_9_method_14_code
def yX19_maker : MethodName := ⟨RX19, "maker", "(II)V"⟩
def dkwX19_maker_9 : List UInt8 := [182, 0, 122, 167, 0, 9, 42, 16, 12, 182, 0, 122, 177]
abbrev dktX19_maker_9 : List UInt8 := dkwX19_maker_9 ++ []
def dkwX19_maker_8 : List UInt8 := [167, 0, 35, 42, 182, 0, 139, 54, 4, 42, 42, 180, 0, 54, 21, 4, 42, 182, 0, 139, 182, 0, 200]
abbrev dktX19_maker_8 : List UInt8 := dkwX19_maker_8 ++ dktX19_maker_9
def dkwX19_maker_7 : List UInt8 := [167, 0, 5, 16, 6, 42, 182, 0, 139, 182, 0, 156, 182, 0, 122, 167, 0, 44, 42, 16, 10, 182, 0, 122]
abbrev dktX19_maker_7 : List UInt8 := dkwX19_maker_7 ++ dktX19_maker_8
def dkwX19_maker_6 : List UInt8 := [167, 0, 83, 42, 16, 8, 182, 0, 122, 167, 0, 74, 42, 42, 180, 0, 54, 28, 16, 45, 160, 0, 7, 8]
abbrev dktX19_maker_6 : List UInt8 := dkwX19_maker_6 ++ dktX19_maker_7
def dkwX19_maker_5 : List UInt8 := [182, 0, 122, 167, 0, 102, 42, 42, 180, 0, 54, 7, 42, 182, 0, 139, 182, 0, 156, 182, 0, 122]
abbrev dktX19_maker_5 : List UInt8 := dkwX19_maker_5 ++ dktX19_maker_6
def dkwX19_maker_4 : List UInt8 := [42, 42, 180, 0, 54, 42, 182, 0, 139, 28, 16, 41, 160, 0, 7, 5, 167, 0, 4, 6, 182, 0, 199]
abbrev dktX19_maker_4 : List UInt8 := dkwX19_maker_4 ++ dktX19_maker_5
def dkwX19_maker_3 : List UInt8 := [42, 5, 182, 0, 122, 167, 0, 147, 42, 29, 182, 0, 193, 167, 0, 139, 42, 29, 182, 0, 196, 167, 0, 131]
abbrev dktX19_maker_3 : List UInt8 := dkwX19_maker_3 ++ dktX19_maker_4
def dkwX19_maker_2 : List UInt8 := [170, 0, 0, 0, 0, 0, 205, 0, 0, 0, 38, 0, 0, 0, 48, 0, 0, 0, 59, 0, 0, 0, 67, 0, 0, 0, 75, 0, 0, 0, 83, 0, 0, 0, 83, 0, 0, 0, 112, 0, 0, 0, 131, 0, 0, 0, 140, 0, 0, 0, 140, 0, 0, 0, 170, 0, 0, 0, 179]
abbrev dktX19_maker_2 : List UInt8 := dkwX19_maker_2 ++ dktX19_maker_3
def dkwX19_maker_1 : List UInt8 := [28]
abbrev dktX19_maker_1 : List UInt8 := dkwX19_maker_1 ++ dktX19_maker_2
def dkwX19_maker_0 : List UInt8 := [42, 180, 0, 94, 16, 10, 42, 27, 6, 182, 0, 131, 96, 133, 182, 0, 183, 42, 27, 4, 182, 0, 131, 62]
abbrev dktX19_maker_0 : List UInt8 := dkwX19_maker_0 ++ dktX19_maker_1
theorem dksX19_maker_0 : cX19_maker.data.toList.drop 0 = dktX19_maker_0 := by decide +kernel
theorem dksX19_maker_1 : cX19_maker.data.toList.drop 24 = dktX19_maker_1 := dk_seg dksX19_maker_0 24 rfl rfl
theorem dksX19_maker_2 : cX19_maker.data.toList.drop 25 = dktX19_maker_2 := dk_seg dksX19_maker_1 1 rfl rfl
theorem dksX19_maker_3 : cX19_maker.data.toList.drop 84 = dktX19_maker_3 := dk_seg dksX19_maker_2 59 rfl rfl
theorem dksX19_maker_4 : cX19_maker.data.toList.drop 108 = dktX19_maker_4 := dk_seg dksX19_maker_3 24 rfl rfl
theorem dksX19_maker_5 : cX19_maker.data.toList.drop 131 = dktX19_maker_5 := dk_seg dksX19_maker_4 23 rfl rfl
theorem dksX19_maker_6 : cX19_maker.data.toList.drop 153 = dktX19_maker_6 := dk_seg dksX19_maker_5 22 rfl rfl
theorem dksX19_maker_7 : cX19_maker.data.toList.drop 177 = dktX19_maker_7 := dk_seg dksX19_maker_6 24 rfl rfl
theorem dksX19_maker_8 : cX19_maker.data.toList.drop 201 = dktX19_maker_8 := dk_seg dksX19_maker_7 24 rfl rfl
theorem dksX19_maker_9 : cX19_maker.data.toList.drop 224 = dktX19_maker_9 := dk_seg dksX19_maker_8 23 rfl rfl
theorem dX19_maker_0 : decode cX19_maker 0 = .ok (.aload_n 0, 1) := dk_42 (dk_at dksX19_maker_0 0 rfl rfl)
theorem dX19_maker_1 : decode cX19_maker 1 = .ok (.getfield 94, 3) := dk_180 0 94 (dk_at dksX19_maker_0 1 rfl rfl)
theorem dX19_maker_4 : decode cX19_maker 4 = .ok (.bipush 10, 2) := dk_16 10 (dk_at dksX19_maker_0 4 rfl rfl)
theorem dX19_maker_6 : decode cX19_maker 6 = .ok (.aload_n 0, 1) := dk_42 (dk_at dksX19_maker_0 6 rfl rfl)
theorem dX19_maker_7 : decode cX19_maker 7 = .ok (.iload_n 1, 1) := dk_27 (dk_at dksX19_maker_0 7 rfl rfl)
theorem dX19_maker_8 : decode cX19_maker 8 = .ok (.iconst 3, 1) := dk_6 (dk_at dksX19_maker_0 8 rfl rfl)
theorem dX19_maker_9 : decode cX19_maker 9 = .ok (.invokevirtual 131, 3) := dk_182 0 131 (dk_at dksX19_maker_0 9 rfl rfl)
theorem dX19_maker_12 : decode cX19_maker 12 = .ok (.iadd, 1) := dk_96 (dk_at dksX19_maker_0 12 rfl rfl)
theorem dX19_maker_13 : decode cX19_maker 13 = .ok (.i2l, 1) := dk_133 (dk_at dksX19_maker_0 13 rfl rfl)
theorem dX19_maker_14 : decode cX19_maker 14 = .ok (.invokevirtual 183, 3) := dk_182 0 183 (dk_at dksX19_maker_0 14 rfl rfl)
theorem dX19_maker_17 : decode cX19_maker 17 = .ok (.aload_n 0, 1) := dk_42 (dk_at dksX19_maker_0 17 rfl rfl)
theorem dX19_maker_18 : decode cX19_maker 18 = .ok (.iload_n 1, 1) := dk_27 (dk_at dksX19_maker_0 18 rfl rfl)
theorem dX19_maker_19 : decode cX19_maker 19 = .ok (.iconst 1, 1) := dk_4 (dk_at dksX19_maker_0 19 rfl rfl)
theorem dX19_maker_20 : decode cX19_maker 20 = .ok (.invokevirtual 131, 3) := dk_182 0 131 (dk_at dksX19_maker_0 20 rfl rfl)
theorem dX19_maker_23 : decode cX19_maker 23 = .ok (.istore_n 3, 1) := dk_62 (dk_at dksX19_maker_0 23 rfl rfl)
theorem dX19_maker_24 : decode cX19_maker 24 = .ok (.iload_n 2, 1) := dk_28 (dk_at dksX19_maker_1 0 rfl rfl)
theorem dX19_maker_25 : decode cX19_maker 25 = .ok (.tableswitch 205 38 48 #[59, 67, 75, 83, 83, 112, 131, 140, 140, 170, 179], 59) := by decide +kernel
theorem dX19_maker_84 : decode cX19_maker 84 = .ok (.aload_n 0, 1) := dk_42 (dk_at dksX19_maker_3 0 rfl rfl)
theorem dX19_maker_85 : decode cX19_maker 85 = .ok (.iconst 2, 1) := dk_5 (dk_at dksX19_maker_3 1 rfl rfl)
theorem dX19_maker_86 : decode cX19_maker 86 = .ok (.invokevirtual 122, 3) := dk_182 0 122 (dk_at dksX19_maker_3 2 rfl rfl)
theorem dX19_maker_89 : decode cX19_maker 89 = .ok (.goto 147, 3) := dk_167 0 147 (dk_at dksX19_maker_3 5 rfl rfl)
theorem dX19_maker_92 : decode cX19_maker 92 = .ok (.aload_n 0, 1) := dk_42 (dk_at dksX19_maker_3 8 rfl rfl)
theorem dX19_maker_93 : decode cX19_maker 93 = .ok (.iload_n 3, 1) := dk_29 (dk_at dksX19_maker_3 9 rfl rfl)
theorem dX19_maker_94 : decode cX19_maker 94 = .ok (.invokevirtual 193, 3) := dk_182 0 193 (dk_at dksX19_maker_3 10 rfl rfl)
theorem dX19_maker_97 : decode cX19_maker 97 = .ok (.goto 139, 3) := dk_167 0 139 (dk_at dksX19_maker_3 13 rfl rfl)
theorem dX19_maker_100 : decode cX19_maker 100 = .ok (.aload_n 0, 1) := dk_42 (dk_at dksX19_maker_3 16 rfl rfl)
theorem dX19_maker_101 : decode cX19_maker 101 = .ok (.iload_n 3, 1) := dk_29 (dk_at dksX19_maker_3 17 rfl rfl)
theorem dX19_maker_102 : decode cX19_maker 102 = .ok (.invokevirtual 196, 3) := dk_182 0 196 (dk_at dksX19_maker_3 18 rfl rfl)
theorem dX19_maker_105 : decode cX19_maker 105 = .ok (.goto 131, 3) := dk_167 0 131 (dk_at dksX19_maker_3 21 rfl rfl)
theorem dX19_maker_108 : decode cX19_maker 108 = .ok (.aload_n 0, 1) := dk_42 (dk_at dksX19_maker_4 0 rfl rfl)
theorem dX19_maker_109 : decode cX19_maker 109 = .ok (.aload_n 0, 1) := dk_42 (dk_at dksX19_maker_4 1 rfl rfl)
theorem dX19_maker_110 : decode cX19_maker 110 = .ok (.getfield 54, 3) := dk_180 0 54 (dk_at dksX19_maker_4 2 rfl rfl)
theorem dX19_maker_113 : decode cX19_maker 113 = .ok (.aload_n 0, 1) := dk_42 (dk_at dksX19_maker_4 5 rfl rfl)
theorem dX19_maker_114 : decode cX19_maker 114 = .ok (.invokevirtual 139, 3) := dk_182 0 139 (dk_at dksX19_maker_4 6 rfl rfl)
theorem dX19_maker_117 : decode cX19_maker 117 = .ok (.iload_n 2, 1) := dk_28 (dk_at dksX19_maker_4 9 rfl rfl)
theorem dX19_maker_118 : decode cX19_maker 118 = .ok (.bipush 41, 2) := dk_16 41 (dk_at dksX19_maker_4 10 rfl rfl)
theorem dX19_maker_120 : decode cX19_maker 120 = .ok (.if_icmp .ne 7, 3) := dk_160 0 7 (dk_at dksX19_maker_4 12 rfl rfl)
theorem dX19_maker_123 : decode cX19_maker 123 = .ok (.iconst 2, 1) := dk_5 (dk_at dksX19_maker_4 15 rfl rfl)
theorem dX19_maker_124 : decode cX19_maker 124 = .ok (.goto 4, 3) := dk_167 0 4 (dk_at dksX19_maker_4 16 rfl rfl)
theorem dX19_maker_127 : decode cX19_maker 127 = .ok (.iconst 3, 1) := dk_6 (dk_at dksX19_maker_4 19 rfl rfl)
theorem dX19_maker_128 : decode cX19_maker 128 = .ok (.invokevirtual 199, 3) := dk_182 0 199 (dk_at dksX19_maker_4 20 rfl rfl)
theorem dX19_maker_131 : decode cX19_maker 131 = .ok (.invokevirtual 122, 3) := dk_182 0 122 (dk_at dksX19_maker_5 0 rfl rfl)
theorem dX19_maker_134 : decode cX19_maker 134 = .ok (.goto 102, 3) := dk_167 0 102 (dk_at dksX19_maker_5 3 rfl rfl)
theorem dX19_maker_137 : decode cX19_maker 137 = .ok (.aload_n 0, 1) := dk_42 (dk_at dksX19_maker_5 6 rfl rfl)
theorem dX19_maker_138 : decode cX19_maker 138 = .ok (.aload_n 0, 1) := dk_42 (dk_at dksX19_maker_5 7 rfl rfl)
theorem dX19_maker_139 : decode cX19_maker 139 = .ok (.getfield 54, 3) := dk_180 0 54 (dk_at dksX19_maker_5 8 rfl rfl)
theorem dX19_maker_142 : decode cX19_maker 142 = .ok (.iconst 4, 1) := dk_7 (dk_at dksX19_maker_5 11 rfl rfl)
theorem dX19_maker_143 : decode cX19_maker 143 = .ok (.aload_n 0, 1) := dk_42 (dk_at dksX19_maker_5 12 rfl rfl)
theorem dX19_maker_144 : decode cX19_maker 144 = .ok (.invokevirtual 139, 3) := dk_182 0 139 (dk_at dksX19_maker_5 13 rfl rfl)
theorem dX19_maker_147 : decode cX19_maker 147 = .ok (.invokevirtual 156, 3) := dk_182 0 156 (dk_at dksX19_maker_5 16 rfl rfl)
theorem dX19_maker_150 : decode cX19_maker 150 = .ok (.invokevirtual 122, 3) := dk_182 0 122 (dk_at dksX19_maker_5 19 rfl rfl)
theorem dX19_maker_153 : decode cX19_maker 153 = .ok (.goto 83, 3) := dk_167 0 83 (dk_at dksX19_maker_6 0 rfl rfl)
theorem dX19_maker_156 : decode cX19_maker 156 = .ok (.aload_n 0, 1) := dk_42 (dk_at dksX19_maker_6 3 rfl rfl)
theorem dX19_maker_157 : decode cX19_maker 157 = .ok (.bipush 8, 2) := dk_16 8 (dk_at dksX19_maker_6 4 rfl rfl)
theorem dX19_maker_159 : decode cX19_maker 159 = .ok (.invokevirtual 122, 3) := dk_182 0 122 (dk_at dksX19_maker_6 6 rfl rfl)
theorem dX19_maker_162 : decode cX19_maker 162 = .ok (.goto 74, 3) := dk_167 0 74 (dk_at dksX19_maker_6 9 rfl rfl)
theorem dX19_maker_165 : decode cX19_maker 165 = .ok (.aload_n 0, 1) := dk_42 (dk_at dksX19_maker_6 12 rfl rfl)
theorem dX19_maker_166 : decode cX19_maker 166 = .ok (.aload_n 0, 1) := dk_42 (dk_at dksX19_maker_6 13 rfl rfl)
theorem dX19_maker_167 : decode cX19_maker 167 = .ok (.getfield 54, 3) := dk_180 0 54 (dk_at dksX19_maker_6 14 rfl rfl)
theorem dX19_maker_170 : decode cX19_maker 170 = .ok (.iload_n 2, 1) := dk_28 (dk_at dksX19_maker_6 17 rfl rfl)
theorem dX19_maker_171 : decode cX19_maker 171 = .ok (.bipush 45, 2) := dk_16 45 (dk_at dksX19_maker_6 18 rfl rfl)
theorem dX19_maker_173 : decode cX19_maker 173 = .ok (.if_icmp .ne 7, 3) := dk_160 0 7 (dk_at dksX19_maker_6 20 rfl rfl)
theorem dX19_maker_176 : decode cX19_maker 176 = .ok (.iconst 5, 1) := dk_8 (dk_at dksX19_maker_6 23 rfl rfl)
theorem dX19_maker_177 : decode cX19_maker 177 = .ok (.goto 5, 3) := dk_167 0 5 (dk_at dksX19_maker_7 0 rfl rfl)
theorem dX19_maker_180 : decode cX19_maker 180 = .ok (.bipush 6, 2) := dk_16 6 (dk_at dksX19_maker_7 3 rfl rfl)
theorem dX19_maker_182 : decode cX19_maker 182 = .ok (.aload_n 0, 1) := dk_42 (dk_at dksX19_maker_7 5 rfl rfl)
theorem dX19_maker_183 : decode cX19_maker 183 = .ok (.invokevirtual 139, 3) := dk_182 0 139 (dk_at dksX19_maker_7 6 rfl rfl)
theorem dX19_maker_186 : decode cX19_maker 186 = .ok (.invokevirtual 156, 3) := dk_182 0 156 (dk_at dksX19_maker_7 9 rfl rfl)
theorem dX19_maker_189 : decode cX19_maker 189 = .ok (.invokevirtual 122, 3) := dk_182 0 122 (dk_at dksX19_maker_7 12 rfl rfl)
theorem dX19_maker_192 : decode cX19_maker 192 = .ok (.goto 44, 3) := dk_167 0 44 (dk_at dksX19_maker_7 15 rfl rfl)
theorem dX19_maker_195 : decode cX19_maker 195 = .ok (.aload_n 0, 1) := dk_42 (dk_at dksX19_maker_7 18 rfl rfl)
theorem dX19_maker_196 : decode cX19_maker 196 = .ok (.bipush 10, 2) := dk_16 10 (dk_at dksX19_maker_7 19 rfl rfl)
theorem dX19_maker_198 : decode cX19_maker 198 = .ok (.invokevirtual 122, 3) := dk_182 0 122 (dk_at dksX19_maker_7 21 rfl rfl)
theorem dX19_maker_201 : decode cX19_maker 201 = .ok (.goto 35, 3) := dk_167 0 35 (dk_at dksX19_maker_8 0 rfl rfl)
theorem dX19_maker_204 : decode cX19_maker 204 = .ok (.aload_n 0, 1) := dk_42 (dk_at dksX19_maker_8 3 rfl rfl)
theorem dX19_maker_205 : decode cX19_maker 205 = .ok (.invokevirtual 139, 3) := dk_182 0 139 (dk_at dksX19_maker_8 4 rfl rfl)
theorem dX19_maker_208 : decode cX19_maker 208 = .ok (.istore 4, 2) := dk_54 4 (dk_at dksX19_maker_8 7 rfl rfl)
theorem dX19_maker_210 : decode cX19_maker 210 = .ok (.aload_n 0, 1) := dk_42 (dk_at dksX19_maker_8 9 rfl rfl)
theorem dX19_maker_211 : decode cX19_maker 211 = .ok (.aload_n 0, 1) := dk_42 (dk_at dksX19_maker_8 10 rfl rfl)
theorem dX19_maker_212 : decode cX19_maker 212 = .ok (.getfield 54, 3) := dk_180 0 54 (dk_at dksX19_maker_8 11 rfl rfl)
theorem dX19_maker_215 : decode cX19_maker 215 = .ok (.iload 4, 2) := dk_21 4 (dk_at dksX19_maker_8 14 rfl rfl)
theorem dX19_maker_217 : decode cX19_maker 217 = .ok (.aload_n 0, 1) := dk_42 (dk_at dksX19_maker_8 16 rfl rfl)
theorem dX19_maker_218 : decode cX19_maker 218 = .ok (.invokevirtual 139, 3) := dk_182 0 139 (dk_at dksX19_maker_8 17 rfl rfl)
theorem dX19_maker_221 : decode cX19_maker 221 = .ok (.invokevirtual 200, 3) := dk_182 0 200 (dk_at dksX19_maker_8 20 rfl rfl)
theorem dX19_maker_224 : decode cX19_maker 224 = .ok (.invokevirtual 122, 3) := dk_182 0 122 (dk_at dksX19_maker_9 0 rfl rfl)
theorem dX19_maker_227 : decode cX19_maker 227 = .ok (.goto 9, 3) := dk_167 0 9 (dk_at dksX19_maker_9 3 rfl rfl)
theorem dX19_maker_230 : decode cX19_maker 230 = .ok (.aload_n 0, 1) := dk_42 (dk_at dksX19_maker_9 6 rfl rfl)
theorem dX19_maker_231 : decode cX19_maker 231 = .ok (.bipush 12, 2) := dk_16 12 (dk_at dksX19_maker_9 7 rfl rfl)
theorem dX19_maker_233 : decode cX19_maker 233 = .ok (.invokevirtual 122, 3) := dk_182 0 122 (dk_at dksX19_maker_9 9 rfl rfl)
theorem dX19_maker_236 : decode cX19_maker 236 = .ok (.return_, 1) := dk_177 (dk_at dksX19_maker_9 12 rfl rfl)
abbrev cX19_comb : ByteArray := prog_9_method_15_code
def yX19_comb : MethodName := ⟨RX19, "comb", "(I)V"⟩
def dkwX19_comb_2 : List UInt8 := [42, 28, 182, 0, 122, 177]
abbrev dktX19_comb_2 : List UInt8 := dkwX19_comb_2 ++ []
def dkwX19_comb_1 : List UInt8 := [182, 0, 102, 28, 182, 0, 203, 61, 132, 3, 255, 167, 255, 235, 42, 89, 180, 0, 98, 27, 100, 181, 0, 98]
abbrev dktX19_comb_1 : List UInt8 := dkwX19_comb_1 ++ dktX19_comb_2
def dkwX19_comb_0 : List UInt8 := [42, 27, 4, 100, 182, 0, 102, 61, 27, 5, 100, 62, 29, 155, 0, 23, 42, 180, 0, 54, 42, 29]
abbrev dktX19_comb_0 : List UInt8 := dkwX19_comb_0 ++ dktX19_comb_1
theorem dksX19_comb_0 : cX19_comb.data.toList.drop 0 = dktX19_comb_0 := by decide +kernel
theorem dksX19_comb_1 : cX19_comb.data.toList.drop 22 = dktX19_comb_1 := dk_seg dksX19_comb_0 22 rfl rfl
theorem dksX19_comb_2 : cX19_comb.data.toList.drop 46 = dktX19_comb_2 := dk_seg dksX19_comb_1 24 rfl rfl
theorem dX19_comb_0 : decode cX19_comb 0 = .ok (.aload_n 0, 1) := dk_42 (dk_at dksX19_comb_0 0 rfl rfl)
theorem dX19_comb_1 : decode cX19_comb 1 = .ok (.iload_n 1, 1) := dk_27 (dk_at dksX19_comb_0 1 rfl rfl)
theorem dX19_comb_2 : decode cX19_comb 2 = .ok (.iconst 1, 1) := dk_4 (dk_at dksX19_comb_0 2 rfl rfl)
theorem dX19_comb_3 : decode cX19_comb 3 = .ok (.isub, 1) := dk_100 (dk_at dksX19_comb_0 3 rfl rfl)
theorem dX19_comb_4 : decode cX19_comb 4 = .ok (.invokevirtual 102, 3) := dk_182 0 102 (dk_at dksX19_comb_0 4 rfl rfl)
theorem dX19_comb_7 : decode cX19_comb 7 = .ok (.istore_n 2, 1) := dk_61 (dk_at dksX19_comb_0 7 rfl rfl)
theorem dX19_comb_8 : decode cX19_comb 8 = .ok (.iload_n 1, 1) := dk_27 (dk_at dksX19_comb_0 8 rfl rfl)
theorem dX19_comb_9 : decode cX19_comb 9 = .ok (.iconst 2, 1) := dk_5 (dk_at dksX19_comb_0 9 rfl rfl)
theorem dX19_comb_10 : decode cX19_comb 10 = .ok (.isub, 1) := dk_100 (dk_at dksX19_comb_0 10 rfl rfl)
theorem dX19_comb_11 : decode cX19_comb 11 = .ok (.istore_n 3, 1) := dk_62 (dk_at dksX19_comb_0 11 rfl rfl)
theorem dX19_comb_12 : decode cX19_comb 12 = .ok (.iload_n 3, 1) := dk_29 (dk_at dksX19_comb_0 12 rfl rfl)
theorem dX19_comb_13 : decode cX19_comb 13 = .ok (.ifCond .lt 23, 3) := dk_155 0 23 (dk_at dksX19_comb_0 13 rfl rfl)
theorem dX19_comb_16 : decode cX19_comb 16 = .ok (.aload_n 0, 1) := dk_42 (dk_at dksX19_comb_0 16 rfl rfl)
theorem dX19_comb_17 : decode cX19_comb 17 = .ok (.getfield 54, 3) := dk_180 0 54 (dk_at dksX19_comb_0 17 rfl rfl)
theorem dX19_comb_20 : decode cX19_comb 20 = .ok (.aload_n 0, 1) := dk_42 (dk_at dksX19_comb_0 20 rfl rfl)
theorem dX19_comb_21 : decode cX19_comb 21 = .ok (.iload_n 3, 1) := dk_29 (dk_at dksX19_comb_0 21 rfl rfl)
theorem dX19_comb_22 : decode cX19_comb 22 = .ok (.invokevirtual 102, 3) := dk_182 0 102 (dk_at dksX19_comb_1 0 rfl rfl)
theorem dX19_comb_25 : decode cX19_comb 25 = .ok (.iload_n 2, 1) := dk_28 (dk_at dksX19_comb_1 3 rfl rfl)
theorem dX19_comb_26 : decode cX19_comb 26 = .ok (.invokevirtual 203, 3) := dk_182 0 203 (dk_at dksX19_comb_1 4 rfl rfl)
theorem dX19_comb_29 : decode cX19_comb 29 = .ok (.istore_n 2, 1) := dk_61 (dk_at dksX19_comb_1 7 rfl rfl)
theorem dX19_comb_30 : decode cX19_comb 30 = .ok (.iinc 3 (-1), 3) := dk_132 3 255 (dk_at dksX19_comb_1 8 rfl rfl)
theorem dX19_comb_33 : decode cX19_comb 33 = .ok (.goto (-21), 3) := dk_167 255 235 (dk_at dksX19_comb_1 11 rfl rfl)
theorem dX19_comb_36 : decode cX19_comb 36 = .ok (.aload_n 0, 1) := dk_42 (dk_at dksX19_comb_1 14 rfl rfl)
theorem dX19_comb_37 : decode cX19_comb 37 = .ok (.dup, 1) := dk_89 (dk_at dksX19_comb_1 15 rfl rfl)
theorem dX19_comb_38 : decode cX19_comb 38 = .ok (.getfield 98, 3) := dk_180 0 98 (dk_at dksX19_comb_1 16 rfl rfl)
theorem dX19_comb_41 : decode cX19_comb 41 = .ok (.iload_n 1, 1) := dk_27 (dk_at dksX19_comb_1 19 rfl rfl)
theorem dX19_comb_42 : decode cX19_comb 42 = .ok (.isub, 1) := dk_100 (dk_at dksX19_comb_1 20 rfl rfl)
theorem dX19_comb_43 : decode cX19_comb 43 = .ok (.putfield 98, 3) := dk_181 0 98 (dk_at dksX19_comb_1 21 rfl rfl)
theorem dX19_comb_46 : decode cX19_comb 46 = .ok (.aload_n 0, 1) := dk_42 (dk_at dksX19_comb_2 0 rfl rfl)
theorem dX19_comb_47 : decode cX19_comb 47 = .ok (.iload_n 2, 1) := dk_28 (dk_at dksX19_comb_2 1 rfl rfl)
theorem dX19_comb_48 : decode cX19_comb 48 = .ok (.invokevirtual 122, 3) := dk_182 0 122 (dk_at dksX19_comb_2 2 rfl rfl)
theorem dX19_comb_51 : decode cX19_comb 51 = .ok (.return_, 1) := dk_177 (dk_at dksX19_comb_2 5 rfl rfl)
abbrev cX19_uncomb : ByteArray := prog_9_method_16_code
def yX19_uncomb : MethodName := ⟨RX19, "uncomb", "(I)V"⟩
def dkwX19_uncomb_3 : List UInt8 := [181, 0, 98, 177]
abbrev dktX19_uncomb_3 : List UInt8 := dkwX19_uncomb_3 ++ []
def dkwX19_uncomb_2 : List UInt8 := [132, 3, 1, 167, 255, 212, 42, 180, 0, 36, 42, 180, 0, 98, 28, 79, 42, 89, 180, 0, 98, 27, 96]
abbrev dktX19_uncomb_2 : List UInt8 := dkwX19_uncomb_2 ++ dktX19_uncomb_3
def dkwX19_uncomb_1 : List UInt8 := [4, 100, 29, 100, 42, 180, 0, 54, 28, 5, 182, 0, 199, 79, 42, 180, 0, 54, 28, 6, 182, 0, 199, 61]
abbrev dktX19_uncomb_1 : List UInt8 := dkwX19_uncomb_1 ++ dktX19_uncomb_2
def dkwX19_uncomb_0 : List UInt8 := [42, 182, 0, 139, 61, 3, 62, 29, 27, 4, 100, 162, 0, 43, 42, 180, 0, 36, 42, 180, 0, 98, 27, 96]
abbrev dktX19_uncomb_0 : List UInt8 := dkwX19_uncomb_0 ++ dktX19_uncomb_1
theorem dksX19_uncomb_0 : cX19_uncomb.data.toList.drop 0 = dktX19_uncomb_0 := by decide +kernel
theorem dksX19_uncomb_1 : cX19_uncomb.data.toList.drop 24 = dktX19_uncomb_1 := dk_seg dksX19_uncomb_0 24 rfl rfl
theorem dksX19_uncomb_2 : cX19_uncomb.data.toList.drop 48 = dktX19_uncomb_2 := dk_seg dksX19_uncomb_1 24 rfl rfl
theorem dksX19_uncomb_3 : cX19_uncomb.data.toList.drop 71 = dktX19_uncomb_3 := dk_seg dksX19_uncomb_2 23 rfl rfl
theorem dX19_uncomb_0 : decode cX19_uncomb 0 = .ok (.aload_n 0, 1) := dk_42 (dk_at dksX19_uncomb_0 0 rfl rfl)
theorem dX19_uncomb_1 : decode cX19_uncomb 1 = .ok (.invokevirtual 139, 3) := dk_182 0 139 (dk_at dksX19_uncomb_0 1 rfl rfl)
theorem dX19_uncomb_4 : decode cX19_uncomb 4 = .ok (.istore_n 2, 1) := dk_61 (dk_at dksX19_uncomb_0 4 rfl rfl)
theorem dX19_uncomb_5 : decode cX19_uncomb 5 = .ok (.iconst 0, 1) := dk_3 (dk_at dksX19_uncomb_0 5 rfl rfl)
theorem dX19_uncomb_6 : decode cX19_uncomb 6 = .ok (.istore_n 3, 1) := dk_62 (dk_at dksX19_uncomb_0 6 rfl rfl)
theorem dX19_uncomb_7 : decode cX19_uncomb 7 = .ok (.iload_n 3, 1) := dk_29 (dk_at dksX19_uncomb_0 7 rfl rfl)
theorem dX19_uncomb_8 : decode cX19_uncomb 8 = .ok (.iload_n 1, 1) := dk_27 (dk_at dksX19_uncomb_0 8 rfl rfl)
theorem dX19_uncomb_9 : decode cX19_uncomb 9 = .ok (.iconst 1, 1) := dk_4 (dk_at dksX19_uncomb_0 9 rfl rfl)
theorem dX19_uncomb_10 : decode cX19_uncomb 10 = .ok (.isub, 1) := dk_100 (dk_at dksX19_uncomb_0 10 rfl rfl)
theorem dX19_uncomb_11 : decode cX19_uncomb 11 = .ok (.if_icmp .ge 43, 3) := dk_162 0 43 (dk_at dksX19_uncomb_0 11 rfl rfl)
theorem dX19_uncomb_14 : decode cX19_uncomb 14 = .ok (.aload_n 0, 1) := dk_42 (dk_at dksX19_uncomb_0 14 rfl rfl)
theorem dX19_uncomb_15 : decode cX19_uncomb 15 = .ok (.getfield 36, 3) := dk_180 0 36 (dk_at dksX19_uncomb_0 15 rfl rfl)
theorem dX19_uncomb_18 : decode cX19_uncomb 18 = .ok (.aload_n 0, 1) := dk_42 (dk_at dksX19_uncomb_0 18 rfl rfl)
theorem dX19_uncomb_19 : decode cX19_uncomb 19 = .ok (.getfield 98, 3) := dk_180 0 98 (dk_at dksX19_uncomb_0 19 rfl rfl)
theorem dX19_uncomb_22 : decode cX19_uncomb 22 = .ok (.iload_n 1, 1) := dk_27 (dk_at dksX19_uncomb_0 22 rfl rfl)
theorem dX19_uncomb_23 : decode cX19_uncomb 23 = .ok (.iadd, 1) := dk_96 (dk_at dksX19_uncomb_0 23 rfl rfl)
theorem dX19_uncomb_24 : decode cX19_uncomb 24 = .ok (.iconst 1, 1) := dk_4 (dk_at dksX19_uncomb_1 0 rfl rfl)
theorem dX19_uncomb_25 : decode cX19_uncomb 25 = .ok (.isub, 1) := dk_100 (dk_at dksX19_uncomb_1 1 rfl rfl)
theorem dX19_uncomb_26 : decode cX19_uncomb 26 = .ok (.iload_n 3, 1) := dk_29 (dk_at dksX19_uncomb_1 2 rfl rfl)
theorem dX19_uncomb_27 : decode cX19_uncomb 27 = .ok (.isub, 1) := dk_100 (dk_at dksX19_uncomb_1 3 rfl rfl)
theorem dX19_uncomb_28 : decode cX19_uncomb 28 = .ok (.aload_n 0, 1) := dk_42 (dk_at dksX19_uncomb_1 4 rfl rfl)
theorem dX19_uncomb_29 : decode cX19_uncomb 29 = .ok (.getfield 54, 3) := dk_180 0 54 (dk_at dksX19_uncomb_1 5 rfl rfl)
theorem dX19_uncomb_32 : decode cX19_uncomb 32 = .ok (.iload_n 2, 1) := dk_28 (dk_at dksX19_uncomb_1 8 rfl rfl)
theorem dX19_uncomb_33 : decode cX19_uncomb 33 = .ok (.iconst 2, 1) := dk_5 (dk_at dksX19_uncomb_1 9 rfl rfl)
theorem dX19_uncomb_34 : decode cX19_uncomb 34 = .ok (.invokevirtual 199, 3) := dk_182 0 199 (dk_at dksX19_uncomb_1 10 rfl rfl)
theorem dX19_uncomb_37 : decode cX19_uncomb 37 = .ok (.iastore, 1) := dk_79 (dk_at dksX19_uncomb_1 13 rfl rfl)
theorem dX19_uncomb_38 : decode cX19_uncomb 38 = .ok (.aload_n 0, 1) := dk_42 (dk_at dksX19_uncomb_1 14 rfl rfl)
theorem dX19_uncomb_39 : decode cX19_uncomb 39 = .ok (.getfield 54, 3) := dk_180 0 54 (dk_at dksX19_uncomb_1 15 rfl rfl)
theorem dX19_uncomb_42 : decode cX19_uncomb 42 = .ok (.iload_n 2, 1) := dk_28 (dk_at dksX19_uncomb_1 18 rfl rfl)
theorem dX19_uncomb_43 : decode cX19_uncomb 43 = .ok (.iconst 3, 1) := dk_6 (dk_at dksX19_uncomb_1 19 rfl rfl)
theorem dX19_uncomb_44 : decode cX19_uncomb 44 = .ok (.invokevirtual 199, 3) := dk_182 0 199 (dk_at dksX19_uncomb_1 20 rfl rfl)
theorem dX19_uncomb_47 : decode cX19_uncomb 47 = .ok (.istore_n 2, 1) := dk_61 (dk_at dksX19_uncomb_1 23 rfl rfl)
theorem dX19_uncomb_48 : decode cX19_uncomb 48 = .ok (.iinc 3 1, 3) := dk_132 3 1 (dk_at dksX19_uncomb_2 0 rfl rfl)
theorem dX19_uncomb_51 : decode cX19_uncomb 51 = .ok (.goto (-44), 3) := dk_167 255 212 (dk_at dksX19_uncomb_2 3 rfl rfl)
theorem dX19_uncomb_54 : decode cX19_uncomb 54 = .ok (.aload_n 0, 1) := dk_42 (dk_at dksX19_uncomb_2 6 rfl rfl)
theorem dX19_uncomb_55 : decode cX19_uncomb 55 = .ok (.getfield 36, 3) := dk_180 0 36 (dk_at dksX19_uncomb_2 7 rfl rfl)
theorem dX19_uncomb_58 : decode cX19_uncomb 58 = .ok (.aload_n 0, 1) := dk_42 (dk_at dksX19_uncomb_2 10 rfl rfl)
theorem dX19_uncomb_59 : decode cX19_uncomb 59 = .ok (.getfield 98, 3) := dk_180 0 98 (dk_at dksX19_uncomb_2 11 rfl rfl)
theorem dX19_uncomb_62 : decode cX19_uncomb 62 = .ok (.iload_n 2, 1) := dk_28 (dk_at dksX19_uncomb_2 14 rfl rfl)
theorem dX19_uncomb_63 : decode cX19_uncomb 63 = .ok (.iastore, 1) := dk_79 (dk_at dksX19_uncomb_2 15 rfl rfl)
theorem dX19_uncomb_64 : decode cX19_uncomb 64 = .ok (.aload_n 0, 1) := dk_42 (dk_at dksX19_uncomb_2 16 rfl rfl)
theorem dX19_uncomb_65 : decode cX19_uncomb 65 = .ok (.dup, 1) := dk_89 (dk_at dksX19_uncomb_2 17 rfl rfl)
theorem dX19_uncomb_66 : decode cX19_uncomb 66 = .ok (.getfield 98, 3) := dk_180 0 98 (dk_at dksX19_uncomb_2 18 rfl rfl)
theorem dX19_uncomb_69 : decode cX19_uncomb 69 = .ok (.iload_n 1, 1) := dk_27 (dk_at dksX19_uncomb_2 21 rfl rfl)
theorem dX19_uncomb_70 : decode cX19_uncomb 70 = .ok (.iadd, 1) := dk_96 (dk_at dksX19_uncomb_2 22 rfl rfl)
theorem dX19_uncomb_71 : decode cX19_uncomb 71 = .ok (.putfield 98, 3) := dk_181 0 98 (dk_at dksX19_uncomb_3 0 rfl rfl)
theorem dX19_uncomb_74 : decode cX19_uncomb 74 = .ok (.return_, 1) := dk_177 (dk_at dksX19_uncomb_3 3 rfl rfl)
abbrev cX19_control : ByteArray := prog_9_method_17_code
def yX19_control : MethodName := ⟨RX19, "control", "(II)V"⟩
def dkwX19_control_9 : List UInt8 := [180, 0, 54, 3, 42, 182, 0, 139, 29, 182, 0, 228, 182, 0, 122, 167, 0, 3, 177]
abbrev dktX19_control_9 : List UInt8 := dkwX19_control_9 ++ []
def dkwX19_control_8 : List UInt8 := [180, 0, 94, 42, 3, 182, 0, 235, 16, 8, 108, 133, 182, 0, 183, 42, 182, 0, 139, 62, 42, 42]
abbrev dktX19_control_8 : List UInt8 := dkwX19_control_8 ++ dktX19_control_9
def dkwX19_control_7 : List UInt8 := [4, 182, 0, 131, 3, 3, 182, 0, 228, 182, 0, 122, 167, 0, 51, 42, 182, 0, 232, 167, 0, 44, 42]
abbrev dktX19_control_7 : List UInt8 := dkwX19_control_7 ++ dktX19_control_8
def dkwX19_control_6 : List UInt8 := [182, 0, 131, 181, 0, 220, 42, 180, 0, 90, 4, 182, 0, 225, 167, 0, 73, 42, 42, 180, 0, 54, 42, 27]
abbrev dktX19_control_6 : List UInt8 := dkwX19_control_6 ++ dktX19_control_7
def dkwX19_control_5 : List UInt8 := [182, 0, 139, 182, 0, 214, 167, 0, 103, 42, 42, 3, 182, 0, 102, 181, 0, 217, 42, 42, 27, 4]
abbrev dktX19_control_5 : List UInt8 := dkwX19_control_5 ++ dktX19_control_6
def dkwX19_control_4 : List UInt8 := [182, 0, 146, 167, 0, 128, 42, 27, 42, 182, 0, 139, 3, 182, 0, 149, 167, 0, 115, 42, 27, 42]
abbrev dktX19_control_4 : List UInt8 := dkwX19_control_4 ++ dktX19_control_5
def dkwX19_control_3 : List UInt8 := [167, 0, 153, 42, 27, 28, 182, 0, 211, 167, 0, 144, 42, 27, 182, 0, 143, 167, 0, 136, 42, 27]
abbrev dktX19_control_3 : List UInt8 := dkwX19_control_3 ++ dktX19_control_4
def dkwX19_control_2 : List UInt8 := [42, 42, 27, 42, 182, 0, 139, 16, 6, 160, 0, 7, 4, 167, 0, 4, 5, 182, 0, 131, 182, 0, 208]
abbrev dktX19_control_2 : List UInt8 := dkwX19_control_2 ++ dktX19_control_3
def dkwX19_control_1 : List UInt8 := [170, 0, 0, 0, 192, 0, 0, 0, 52, 0, 0, 0, 62, 0, 0, 0, 57, 0, 0, 0, 83, 0, 0, 0, 83, 0, 0, 0, 83, 0, 0, 0, 92, 0, 0, 0, 100, 0, 0, 0, 108, 0, 0, 0, 121, 0, 0, 0, 133, 0, 0, 0, 163, 0, 0, 0, 185]
abbrev dktX19_control_1 : List UInt8 := dkwX19_control_1 ++ dktX19_control_2
def dkwX19_control_0 : List UInt8 := [42, 180, 0, 94, 20, 0, 206, 182, 0, 183, 28]
abbrev dktX19_control_0 : List UInt8 := dkwX19_control_0 ++ dktX19_control_1
theorem dksX19_control_0 : cX19_control.data.toList.drop 0 = dktX19_control_0 := by decide +kernel
theorem dksX19_control_1 : cX19_control.data.toList.drop 11 = dktX19_control_1 := dk_seg dksX19_control_0 11 rfl rfl
theorem dksX19_control_2 : cX19_control.data.toList.drop 68 = dktX19_control_2 := dk_seg dksX19_control_1 57 rfl rfl
theorem dksX19_control_3 : cX19_control.data.toList.drop 91 = dktX19_control_3 := dk_seg dksX19_control_2 23 rfl rfl
theorem dksX19_control_4 : cX19_control.data.toList.drop 113 = dktX19_control_4 := dk_seg dksX19_control_3 22 rfl rfl
theorem dksX19_control_5 : cX19_control.data.toList.drop 135 = dktX19_control_5 := dk_seg dksX19_control_4 22 rfl rfl
theorem dksX19_control_6 : cX19_control.data.toList.drop 157 = dktX19_control_6 := dk_seg dksX19_control_5 22 rfl rfl
theorem dksX19_control_7 : cX19_control.data.toList.drop 181 = dktX19_control_7 := dk_seg dksX19_control_6 24 rfl rfl
theorem dksX19_control_8 : cX19_control.data.toList.drop 204 = dktX19_control_8 := dk_seg dksX19_control_7 23 rfl rfl
theorem dksX19_control_9 : cX19_control.data.toList.drop 226 = dktX19_control_9 := dk_seg dksX19_control_8 22 rfl rfl
theorem dX19_control_0 : decode cX19_control 0 = .ok (.aload_n 0, 1) := dk_42 (dk_at dksX19_control_0 0 rfl rfl)
theorem dX19_control_1 : decode cX19_control 1 = .ok (.getfield 94, 3) := dk_180 0 94 (dk_at dksX19_control_0 1 rfl rfl)
theorem dX19_control_4 : decode cX19_control 4 = .ok (.ldc2_w 206, 3) := dk_20 0 206 (dk_at dksX19_control_0 4 rfl rfl)
theorem dX19_control_7 : decode cX19_control 7 = .ok (.invokevirtual 183, 3) := dk_182 0 183 (dk_at dksX19_control_0 7 rfl rfl)
theorem dX19_control_10 : decode cX19_control 10 = .ok (.iload_n 2, 1) := dk_28 (dk_at dksX19_control_0 10 rfl rfl)
theorem dX19_control_11 : decode cX19_control 11 = .ok (.tableswitch 192 52 62 #[57, 83, 83, 83, 92, 100, 108, 121, 133, 163, 185], 57) := by decide +kernel
theorem dX19_control_68 : decode cX19_control 68 = .ok (.aload_n 0, 1) := dk_42 (dk_at dksX19_control_2 0 rfl rfl)
theorem dX19_control_69 : decode cX19_control 69 = .ok (.aload_n 0, 1) := dk_42 (dk_at dksX19_control_2 1 rfl rfl)
theorem dX19_control_70 : decode cX19_control 70 = .ok (.iload_n 1, 1) := dk_27 (dk_at dksX19_control_2 2 rfl rfl)
theorem dX19_control_71 : decode cX19_control 71 = .ok (.aload_n 0, 1) := dk_42 (dk_at dksX19_control_2 3 rfl rfl)
theorem dX19_control_72 : decode cX19_control 72 = .ok (.invokevirtual 139, 3) := dk_182 0 139 (dk_at dksX19_control_2 4 rfl rfl)
theorem dX19_control_75 : decode cX19_control 75 = .ok (.bipush 6, 2) := dk_16 6 (dk_at dksX19_control_2 7 rfl rfl)
theorem dX19_control_77 : decode cX19_control 77 = .ok (.if_icmp .ne 7, 3) := dk_160 0 7 (dk_at dksX19_control_2 9 rfl rfl)
theorem dX19_control_80 : decode cX19_control 80 = .ok (.iconst 1, 1) := dk_4 (dk_at dksX19_control_2 12 rfl rfl)
theorem dX19_control_81 : decode cX19_control 81 = .ok (.goto 4, 3) := dk_167 0 4 (dk_at dksX19_control_2 13 rfl rfl)
theorem dX19_control_84 : decode cX19_control 84 = .ok (.iconst 2, 1) := dk_5 (dk_at dksX19_control_2 16 rfl rfl)
theorem dX19_control_85 : decode cX19_control 85 = .ok (.invokevirtual 131, 3) := dk_182 0 131 (dk_at dksX19_control_2 17 rfl rfl)
theorem dX19_control_88 : decode cX19_control 88 = .ok (.invokevirtual 208, 3) := dk_182 0 208 (dk_at dksX19_control_2 20 rfl rfl)
theorem dX19_control_91 : decode cX19_control 91 = .ok (.goto 153, 3) := dk_167 0 153 (dk_at dksX19_control_3 0 rfl rfl)
theorem dX19_control_94 : decode cX19_control 94 = .ok (.aload_n 0, 1) := dk_42 (dk_at dksX19_control_3 3 rfl rfl)
theorem dX19_control_95 : decode cX19_control 95 = .ok (.iload_n 1, 1) := dk_27 (dk_at dksX19_control_3 4 rfl rfl)
theorem dX19_control_96 : decode cX19_control 96 = .ok (.iload_n 2, 1) := dk_28 (dk_at dksX19_control_3 5 rfl rfl)
theorem dX19_control_97 : decode cX19_control 97 = .ok (.invokevirtual 211, 3) := dk_182 0 211 (dk_at dksX19_control_3 6 rfl rfl)
theorem dX19_control_100 : decode cX19_control 100 = .ok (.goto 144, 3) := dk_167 0 144 (dk_at dksX19_control_3 9 rfl rfl)
theorem dX19_control_103 : decode cX19_control 103 = .ok (.aload_n 0, 1) := dk_42 (dk_at dksX19_control_3 12 rfl rfl)
theorem dX19_control_104 : decode cX19_control 104 = .ok (.iload_n 1, 1) := dk_27 (dk_at dksX19_control_3 13 rfl rfl)
theorem dX19_control_105 : decode cX19_control 105 = .ok (.invokevirtual 143, 3) := dk_182 0 143 (dk_at dksX19_control_3 14 rfl rfl)
theorem dX19_control_108 : decode cX19_control 108 = .ok (.goto 136, 3) := dk_167 0 136 (dk_at dksX19_control_3 17 rfl rfl)
theorem dX19_control_111 : decode cX19_control 111 = .ok (.aload_n 0, 1) := dk_42 (dk_at dksX19_control_3 20 rfl rfl)
theorem dX19_control_112 : decode cX19_control 112 = .ok (.iload_n 1, 1) := dk_27 (dk_at dksX19_control_3 21 rfl rfl)
theorem dX19_control_113 : decode cX19_control 113 = .ok (.invokevirtual 146, 3) := dk_182 0 146 (dk_at dksX19_control_4 0 rfl rfl)
theorem dX19_control_116 : decode cX19_control 116 = .ok (.goto 128, 3) := dk_167 0 128 (dk_at dksX19_control_4 3 rfl rfl)
theorem dX19_control_119 : decode cX19_control 119 = .ok (.aload_n 0, 1) := dk_42 (dk_at dksX19_control_4 6 rfl rfl)
theorem dX19_control_120 : decode cX19_control 120 = .ok (.iload_n 1, 1) := dk_27 (dk_at dksX19_control_4 7 rfl rfl)
theorem dX19_control_121 : decode cX19_control 121 = .ok (.aload_n 0, 1) := dk_42 (dk_at dksX19_control_4 8 rfl rfl)
theorem dX19_control_122 : decode cX19_control 122 = .ok (.invokevirtual 139, 3) := dk_182 0 139 (dk_at dksX19_control_4 9 rfl rfl)
theorem dX19_control_125 : decode cX19_control 125 = .ok (.iconst 0, 1) := dk_3 (dk_at dksX19_control_4 12 rfl rfl)
theorem dX19_control_126 : decode cX19_control 126 = .ok (.invokevirtual 149, 3) := dk_182 0 149 (dk_at dksX19_control_4 13 rfl rfl)
theorem dX19_control_129 : decode cX19_control 129 = .ok (.goto 115, 3) := dk_167 0 115 (dk_at dksX19_control_4 16 rfl rfl)
theorem dX19_control_132 : decode cX19_control 132 = .ok (.aload_n 0, 1) := dk_42 (dk_at dksX19_control_4 19 rfl rfl)
theorem dX19_control_133 : decode cX19_control 133 = .ok (.iload_n 1, 1) := dk_27 (dk_at dksX19_control_4 20 rfl rfl)
theorem dX19_control_134 : decode cX19_control 134 = .ok (.aload_n 0, 1) := dk_42 (dk_at dksX19_control_4 21 rfl rfl)
theorem dX19_control_135 : decode cX19_control 135 = .ok (.invokevirtual 139, 3) := dk_182 0 139 (dk_at dksX19_control_5 0 rfl rfl)
theorem dX19_control_138 : decode cX19_control 138 = .ok (.invokevirtual 214, 3) := dk_182 0 214 (dk_at dksX19_control_5 3 rfl rfl)
theorem dX19_control_141 : decode cX19_control 141 = .ok (.goto 103, 3) := dk_167 0 103 (dk_at dksX19_control_5 6 rfl rfl)
theorem dX19_control_144 : decode cX19_control 144 = .ok (.aload_n 0, 1) := dk_42 (dk_at dksX19_control_5 9 rfl rfl)
theorem dX19_control_145 : decode cX19_control 145 = .ok (.aload_n 0, 1) := dk_42 (dk_at dksX19_control_5 10 rfl rfl)
theorem dX19_control_146 : decode cX19_control 146 = .ok (.iconst 0, 1) := dk_3 (dk_at dksX19_control_5 11 rfl rfl)
theorem dX19_control_147 : decode cX19_control 147 = .ok (.invokevirtual 102, 3) := dk_182 0 102 (dk_at dksX19_control_5 12 rfl rfl)
theorem dX19_control_150 : decode cX19_control 150 = .ok (.putfield 217, 3) := dk_181 0 217 (dk_at dksX19_control_5 15 rfl rfl)
theorem dX19_control_153 : decode cX19_control 153 = .ok (.aload_n 0, 1) := dk_42 (dk_at dksX19_control_5 18 rfl rfl)
theorem dX19_control_154 : decode cX19_control 154 = .ok (.aload_n 0, 1) := dk_42 (dk_at dksX19_control_5 19 rfl rfl)
theorem dX19_control_155 : decode cX19_control 155 = .ok (.iload_n 1, 1) := dk_27 (dk_at dksX19_control_5 20 rfl rfl)
theorem dX19_control_156 : decode cX19_control 156 = .ok (.iconst 1, 1) := dk_4 (dk_at dksX19_control_5 21 rfl rfl)
theorem dX19_control_157 : decode cX19_control 157 = .ok (.invokevirtual 131, 3) := dk_182 0 131 (dk_at dksX19_control_6 0 rfl rfl)
theorem dX19_control_160 : decode cX19_control 160 = .ok (.putfield 220, 3) := dk_181 0 220 (dk_at dksX19_control_6 3 rfl rfl)
theorem dX19_control_163 : decode cX19_control 163 = .ok (.aload_n 0, 1) := dk_42 (dk_at dksX19_control_6 6 rfl rfl)
theorem dX19_control_164 : decode cX19_control 164 = .ok (.getfield 90, 3) := dk_180 0 90 (dk_at dksX19_control_6 7 rfl rfl)
theorem dX19_control_167 : decode cX19_control 167 = .ok (.iconst 1, 1) := dk_4 (dk_at dksX19_control_6 10 rfl rfl)
theorem dX19_control_168 : decode cX19_control 168 = .ok (.invokevirtual 225, 3) := dk_182 0 225 (dk_at dksX19_control_6 11 rfl rfl)
theorem dX19_control_171 : decode cX19_control 171 = .ok (.goto 73, 3) := dk_167 0 73 (dk_at dksX19_control_6 14 rfl rfl)
theorem dX19_control_174 : decode cX19_control 174 = .ok (.aload_n 0, 1) := dk_42 (dk_at dksX19_control_6 17 rfl rfl)
theorem dX19_control_175 : decode cX19_control 175 = .ok (.aload_n 0, 1) := dk_42 (dk_at dksX19_control_6 18 rfl rfl)
theorem dX19_control_176 : decode cX19_control 176 = .ok (.getfield 54, 3) := dk_180 0 54 (dk_at dksX19_control_6 19 rfl rfl)
theorem dX19_control_179 : decode cX19_control 179 = .ok (.aload_n 0, 1) := dk_42 (dk_at dksX19_control_6 22 rfl rfl)
theorem dX19_control_180 : decode cX19_control 180 = .ok (.iload_n 1, 1) := dk_27 (dk_at dksX19_control_6 23 rfl rfl)
theorem dX19_control_181 : decode cX19_control 181 = .ok (.iconst 1, 1) := dk_4 (dk_at dksX19_control_7 0 rfl rfl)
theorem dX19_control_182 : decode cX19_control 182 = .ok (.invokevirtual 131, 3) := dk_182 0 131 (dk_at dksX19_control_7 1 rfl rfl)
theorem dX19_control_185 : decode cX19_control 185 = .ok (.iconst 0, 1) := dk_3 (dk_at dksX19_control_7 4 rfl rfl)
theorem dX19_control_186 : decode cX19_control 186 = .ok (.iconst 0, 1) := dk_3 (dk_at dksX19_control_7 5 rfl rfl)
theorem dX19_control_187 : decode cX19_control 187 = .ok (.invokevirtual 228, 3) := dk_182 0 228 (dk_at dksX19_control_7 6 rfl rfl)
theorem dX19_control_190 : decode cX19_control 190 = .ok (.invokevirtual 122, 3) := dk_182 0 122 (dk_at dksX19_control_7 9 rfl rfl)
theorem dX19_control_193 : decode cX19_control 193 = .ok (.goto 51, 3) := dk_167 0 51 (dk_at dksX19_control_7 12 rfl rfl)
theorem dX19_control_196 : decode cX19_control 196 = .ok (.aload_n 0, 1) := dk_42 (dk_at dksX19_control_7 15 rfl rfl)
theorem dX19_control_197 : decode cX19_control 197 = .ok (.invokevirtual 232, 3) := dk_182 0 232 (dk_at dksX19_control_7 16 rfl rfl)
theorem dX19_control_200 : decode cX19_control 200 = .ok (.goto 44, 3) := dk_167 0 44 (dk_at dksX19_control_7 19 rfl rfl)
theorem dX19_control_203 : decode cX19_control 203 = .ok (.aload_n 0, 1) := dk_42 (dk_at dksX19_control_7 22 rfl rfl)
theorem dX19_control_204 : decode cX19_control 204 = .ok (.getfield 94, 3) := dk_180 0 94 (dk_at dksX19_control_8 0 rfl rfl)
theorem dX19_control_207 : decode cX19_control 207 = .ok (.aload_n 0, 1) := dk_42 (dk_at dksX19_control_8 3 rfl rfl)
theorem dX19_control_208 : decode cX19_control 208 = .ok (.iconst 0, 1) := dk_3 (dk_at dksX19_control_8 4 rfl rfl)
theorem dX19_control_209 : decode cX19_control 209 = .ok (.invokevirtual 235, 3) := dk_182 0 235 (dk_at dksX19_control_8 5 rfl rfl)
theorem dX19_control_212 : decode cX19_control 212 = .ok (.bipush 8, 2) := dk_16 8 (dk_at dksX19_control_8 8 rfl rfl)
theorem dX19_control_214 : decode cX19_control 214 = .ok (.idiv, 1) := dk_108 (dk_at dksX19_control_8 10 rfl rfl)
theorem dX19_control_215 : decode cX19_control 215 = .ok (.i2l, 1) := dk_133 (dk_at dksX19_control_8 11 rfl rfl)
theorem dX19_control_216 : decode cX19_control 216 = .ok (.invokevirtual 183, 3) := dk_182 0 183 (dk_at dksX19_control_8 12 rfl rfl)
theorem dX19_control_219 : decode cX19_control 219 = .ok (.aload_n 0, 1) := dk_42 (dk_at dksX19_control_8 15 rfl rfl)
theorem dX19_control_220 : decode cX19_control 220 = .ok (.invokevirtual 139, 3) := dk_182 0 139 (dk_at dksX19_control_8 16 rfl rfl)
theorem dX19_control_223 : decode cX19_control 223 = .ok (.istore_n 3, 1) := dk_62 (dk_at dksX19_control_8 19 rfl rfl)
theorem dX19_control_224 : decode cX19_control 224 = .ok (.aload_n 0, 1) := dk_42 (dk_at dksX19_control_8 20 rfl rfl)
theorem dX19_control_225 : decode cX19_control 225 = .ok (.aload_n 0, 1) := dk_42 (dk_at dksX19_control_8 21 rfl rfl)
theorem dX19_control_226 : decode cX19_control 226 = .ok (.getfield 54, 3) := dk_180 0 54 (dk_at dksX19_control_9 0 rfl rfl)
theorem dX19_control_229 : decode cX19_control 229 = .ok (.iconst 0, 1) := dk_3 (dk_at dksX19_control_9 3 rfl rfl)
theorem dX19_control_230 : decode cX19_control 230 = .ok (.aload_n 0, 1) := dk_42 (dk_at dksX19_control_9 4 rfl rfl)
theorem dX19_control_231 : decode cX19_control 231 = .ok (.invokevirtual 139, 3) := dk_182 0 139 (dk_at dksX19_control_9 5 rfl rfl)
theorem dX19_control_234 : decode cX19_control 234 = .ok (.iload_n 3, 1) := dk_29 (dk_at dksX19_control_9 8 rfl rfl)
theorem dX19_control_235 : decode cX19_control 235 = .ok (.invokevirtual 228, 3) := dk_182 0 228 (dk_at dksX19_control_9 9 rfl rfl)
theorem dX19_control_238 : decode cX19_control 238 = .ok (.invokevirtual 122, 3) := dk_182 0 122 (dk_at dksX19_control_9 12 rfl rfl)
theorem dX19_control_241 : decode cX19_control 241 = .ok (.goto 3, 3) := dk_167 0 3 (dk_at dksX19_control_9 15 rfl rfl)
theorem dX19_control_244 : decode cX19_control 244 = .ok (.return_, 1) := dk_177 (dk_at dksX19_control_9 18 rfl rfl)
abbrev cX19_enter : ByteArray := prog_9_method_10_code
def yX19_enter : MethodName := ⟨RX19, "enter", "(I)V"⟩
def dkwX19_enter_0 : List UInt8 := [42, 180, 0, 125, 153, 0, 14, 42, 3, 42, 180, 0, 125, 3, 3, 182, 0, 159, 42, 27, 181, 0, 125, 177]
abbrev dktX19_enter_0 : List UInt8 := dkwX19_enter_0 ++ []
theorem dksX19_enter_0 : cX19_enter.data.toList.drop 0 = dktX19_enter_0 := by decide +kernel
theorem dX19_enter_0 : decode cX19_enter 0 = .ok (.aload_n 0, 1) := dk_42 (dk_at dksX19_enter_0 0 rfl rfl)
theorem dX19_enter_1 : decode cX19_enter 1 = .ok (.getfield 125, 3) := dk_180 0 125 (dk_at dksX19_enter_0 1 rfl rfl)
theorem dX19_enter_4 : decode cX19_enter 4 = .ok (.ifCond .eq 14, 3) := dk_153 0 14 (dk_at dksX19_enter_0 4 rfl rfl)
theorem dX19_enter_7 : decode cX19_enter 7 = .ok (.aload_n 0, 1) := dk_42 (dk_at dksX19_enter_0 7 rfl rfl)
theorem dX19_enter_8 : decode cX19_enter 8 = .ok (.iconst 0, 1) := dk_3 (dk_at dksX19_enter_0 8 rfl rfl)
theorem dX19_enter_9 : decode cX19_enter 9 = .ok (.aload_n 0, 1) := dk_42 (dk_at dksX19_enter_0 9 rfl rfl)
theorem dX19_enter_10 : decode cX19_enter 10 = .ok (.getfield 125, 3) := dk_180 0 125 (dk_at dksX19_enter_0 10 rfl rfl)
theorem dX19_enter_13 : decode cX19_enter 13 = .ok (.iconst 0, 1) := dk_3 (dk_at dksX19_enter_0 13 rfl rfl)
theorem dX19_enter_14 : decode cX19_enter 14 = .ok (.iconst 0, 1) := dk_3 (dk_at dksX19_enter_0 14 rfl rfl)
theorem dX19_enter_15 : decode cX19_enter 15 = .ok (.invokevirtual 159, 3) := dk_182 0 159 (dk_at dksX19_enter_0 15 rfl rfl)
theorem dX19_enter_18 : decode cX19_enter 18 = .ok (.aload_n 0, 1) := dk_42 (dk_at dksX19_enter_0 18 rfl rfl)
theorem dX19_enter_19 : decode cX19_enter 19 = .ok (.iload_n 1, 1) := dk_27 (dk_at dksX19_enter_0 19 rfl rfl)
theorem dX19_enter_20 : decode cX19_enter 20 = .ok (.putfield 125, 3) := dk_181 0 125 (dk_at dksX19_enter_0 20 rfl rfl)
theorem dX19_enter_23 : decode cX19_enter 23 = .ok (.return_, 1) := dk_177 (dk_at dksX19_enter_0 23 rfl rfl)
abbrev cX19_branch : ByteArray := prog_9_method_18_code
def yX19_branch : MethodName := ⟨RX19, "branch", "(II)V"⟩
def dkwX19_branch_6 : List UInt8 := [182, 0, 131, 182, 0, 208, 177]
abbrev dktX19_branch_6 : List UInt8 := dkwX19_branch_6 ++ []
def dkwX19_branch_5 : List UInt8 := [180, 0, 54, 29, 5, 182, 0, 199, 182, 0, 122, 42, 42, 27, 21, 4, 153, 0, 7, 4, 167, 0, 4, 5]
abbrev dktX19_branch_5 : List UInt8 := dkwX19_branch_5 ++ dktX19_branch_6
def dkwX19_branch_4 : List UInt8 := [16, 54, 159, 0, 19, 28, 16, 53, 160, 0, 7, 4, 167, 0, 4, 3, 21, 4, 159, 0, 16, 42, 42]
abbrev dktX19_branch_4 : List UInt8 := dkwX19_branch_4 ++ dktX19_branch_5
def dkwX19_branch_3 : List UInt8 := [16, 55, 160, 0, 21, 21, 4, 153, 0, 16, 42, 42, 180, 0, 54, 29, 6, 182, 0, 199, 182, 0, 122, 28]
abbrev dktX19_branch_3 : List UInt8 := dkwX19_branch_3 ++ dktX19_branch_4
def dkwX19_branch_2 : List UInt8 := [167, 0, 4, 3, 54, 4, 167, 0, 16, 29, 16, 10, 159, 0, 7, 4, 167, 0, 4, 3, 54, 4, 28]
abbrev dktX19_branch_2 : List UInt8 := dkwX19_branch_2 ++ dktX19_branch_3
def dkwX19_branch_1 : List UInt8 := [167, 0, 44, 28, 16, 54, 160, 0, 25, 42, 180, 0, 54, 29, 182, 0, 236, 8, 160, 0, 7, 4]
abbrev dktX19_branch_1 : List UInt8 := dkwX19_branch_1 ++ dktX19_branch_2
def dkwX19_branch_0 : List UInt8 := [42, 182, 0, 139, 62, 28, 16, 53, 160, 0, 19, 29, 16, 8, 160, 0, 7, 4, 167, 0, 4, 3, 54, 4]
abbrev dktX19_branch_0 : List UInt8 := dkwX19_branch_0 ++ dktX19_branch_1
theorem dksX19_branch_0 : cX19_branch.data.toList.drop 0 = dktX19_branch_0 := by decide +kernel
theorem dksX19_branch_1 : cX19_branch.data.toList.drop 24 = dktX19_branch_1 := dk_seg dksX19_branch_0 24 rfl rfl
theorem dksX19_branch_2 : cX19_branch.data.toList.drop 46 = dktX19_branch_2 := dk_seg dksX19_branch_1 22 rfl rfl
theorem dksX19_branch_3 : cX19_branch.data.toList.drop 69 = dktX19_branch_3 := dk_seg dksX19_branch_2 23 rfl rfl
theorem dksX19_branch_4 : cX19_branch.data.toList.drop 93 = dktX19_branch_4 := dk_seg dksX19_branch_3 24 rfl rfl
theorem dksX19_branch_5 : cX19_branch.data.toList.drop 116 = dktX19_branch_5 := dk_seg dksX19_branch_4 23 rfl rfl
theorem dksX19_branch_6 : cX19_branch.data.toList.drop 140 = dktX19_branch_6 := dk_seg dksX19_branch_5 24 rfl rfl
theorem dX19_branch_0 : decode cX19_branch 0 = .ok (.aload_n 0, 1) := dk_42 (dk_at dksX19_branch_0 0 rfl rfl)
theorem dX19_branch_1 : decode cX19_branch 1 = .ok (.invokevirtual 139, 3) := dk_182 0 139 (dk_at dksX19_branch_0 1 rfl rfl)
theorem dX19_branch_4 : decode cX19_branch 4 = .ok (.istore_n 3, 1) := dk_62 (dk_at dksX19_branch_0 4 rfl rfl)
theorem dX19_branch_5 : decode cX19_branch 5 = .ok (.iload_n 2, 1) := dk_28 (dk_at dksX19_branch_0 5 rfl rfl)
theorem dX19_branch_6 : decode cX19_branch 6 = .ok (.bipush 53, 2) := dk_16 53 (dk_at dksX19_branch_0 6 rfl rfl)
theorem dX19_branch_8 : decode cX19_branch 8 = .ok (.if_icmp .ne 19, 3) := dk_160 0 19 (dk_at dksX19_branch_0 8 rfl rfl)
theorem dX19_branch_11 : decode cX19_branch 11 = .ok (.iload_n 3, 1) := dk_29 (dk_at dksX19_branch_0 11 rfl rfl)
theorem dX19_branch_12 : decode cX19_branch 12 = .ok (.bipush 8, 2) := dk_16 8 (dk_at dksX19_branch_0 12 rfl rfl)
theorem dX19_branch_14 : decode cX19_branch 14 = .ok (.if_icmp .ne 7, 3) := dk_160 0 7 (dk_at dksX19_branch_0 14 rfl rfl)
theorem dX19_branch_17 : decode cX19_branch 17 = .ok (.iconst 1, 1) := dk_4 (dk_at dksX19_branch_0 17 rfl rfl)
theorem dX19_branch_18 : decode cX19_branch 18 = .ok (.goto 4, 3) := dk_167 0 4 (dk_at dksX19_branch_0 18 rfl rfl)
theorem dX19_branch_21 : decode cX19_branch 21 = .ok (.iconst 0, 1) := dk_3 (dk_at dksX19_branch_0 21 rfl rfl)
theorem dX19_branch_22 : decode cX19_branch 22 = .ok (.istore 4, 2) := dk_54 4 (dk_at dksX19_branch_0 22 rfl rfl)
theorem dX19_branch_24 : decode cX19_branch 24 = .ok (.goto 44, 3) := dk_167 0 44 (dk_at dksX19_branch_1 0 rfl rfl)
theorem dX19_branch_27 : decode cX19_branch 27 = .ok (.iload_n 2, 1) := dk_28 (dk_at dksX19_branch_1 3 rfl rfl)
theorem dX19_branch_28 : decode cX19_branch 28 = .ok (.bipush 54, 2) := dk_16 54 (dk_at dksX19_branch_1 4 rfl rfl)
theorem dX19_branch_30 : decode cX19_branch 30 = .ok (.if_icmp .ne 25, 3) := dk_160 0 25 (dk_at dksX19_branch_1 6 rfl rfl)
theorem dX19_branch_33 : decode cX19_branch 33 = .ok (.aload_n 0, 1) := dk_42 (dk_at dksX19_branch_1 9 rfl rfl)
theorem dX19_branch_34 : decode cX19_branch 34 = .ok (.getfield 54, 3) := dk_180 0 54 (dk_at dksX19_branch_1 10 rfl rfl)
theorem dX19_branch_37 : decode cX19_branch 37 = .ok (.iload_n 3, 1) := dk_29 (dk_at dksX19_branch_1 13 rfl rfl)
theorem dX19_branch_38 : decode cX19_branch 38 = .ok (.invokevirtual 236, 3) := dk_182 0 236 (dk_at dksX19_branch_1 14 rfl rfl)
theorem dX19_branch_41 : decode cX19_branch 41 = .ok (.iconst 5, 1) := dk_8 (dk_at dksX19_branch_1 17 rfl rfl)
theorem dX19_branch_42 : decode cX19_branch 42 = .ok (.if_icmp .ne 7, 3) := dk_160 0 7 (dk_at dksX19_branch_1 18 rfl rfl)
theorem dX19_branch_45 : decode cX19_branch 45 = .ok (.iconst 1, 1) := dk_4 (dk_at dksX19_branch_1 21 rfl rfl)
theorem dX19_branch_46 : decode cX19_branch 46 = .ok (.goto 4, 3) := dk_167 0 4 (dk_at dksX19_branch_2 0 rfl rfl)
theorem dX19_branch_49 : decode cX19_branch 49 = .ok (.iconst 0, 1) := dk_3 (dk_at dksX19_branch_2 3 rfl rfl)
theorem dX19_branch_50 : decode cX19_branch 50 = .ok (.istore 4, 2) := dk_54 4 (dk_at dksX19_branch_2 4 rfl rfl)
theorem dX19_branch_52 : decode cX19_branch 52 = .ok (.goto 16, 3) := dk_167 0 16 (dk_at dksX19_branch_2 6 rfl rfl)
theorem dX19_branch_55 : decode cX19_branch 55 = .ok (.iload_n 3, 1) := dk_29 (dk_at dksX19_branch_2 9 rfl rfl)
theorem dX19_branch_56 : decode cX19_branch 56 = .ok (.bipush 10, 2) := dk_16 10 (dk_at dksX19_branch_2 10 rfl rfl)
theorem dX19_branch_58 : decode cX19_branch 58 = .ok (.if_icmp .eq 7, 3) := dk_159 0 7 (dk_at dksX19_branch_2 12 rfl rfl)
theorem dX19_branch_61 : decode cX19_branch 61 = .ok (.iconst 1, 1) := dk_4 (dk_at dksX19_branch_2 15 rfl rfl)
theorem dX19_branch_62 : decode cX19_branch 62 = .ok (.goto 4, 3) := dk_167 0 4 (dk_at dksX19_branch_2 16 rfl rfl)
theorem dX19_branch_65 : decode cX19_branch 65 = .ok (.iconst 0, 1) := dk_3 (dk_at dksX19_branch_2 19 rfl rfl)
theorem dX19_branch_66 : decode cX19_branch 66 = .ok (.istore 4, 2) := dk_54 4 (dk_at dksX19_branch_2 20 rfl rfl)
theorem dX19_branch_68 : decode cX19_branch 68 = .ok (.iload_n 2, 1) := dk_28 (dk_at dksX19_branch_2 22 rfl rfl)
theorem dX19_branch_69 : decode cX19_branch 69 = .ok (.bipush 55, 2) := dk_16 55 (dk_at dksX19_branch_3 0 rfl rfl)
theorem dX19_branch_71 : decode cX19_branch 71 = .ok (.if_icmp .ne 21, 3) := dk_160 0 21 (dk_at dksX19_branch_3 2 rfl rfl)
theorem dX19_branch_74 : decode cX19_branch 74 = .ok (.iload 4, 2) := dk_21 4 (dk_at dksX19_branch_3 5 rfl rfl)
theorem dX19_branch_76 : decode cX19_branch 76 = .ok (.ifCond .eq 16, 3) := dk_153 0 16 (dk_at dksX19_branch_3 7 rfl rfl)
theorem dX19_branch_79 : decode cX19_branch 79 = .ok (.aload_n 0, 1) := dk_42 (dk_at dksX19_branch_3 10 rfl rfl)
theorem dX19_branch_80 : decode cX19_branch 80 = .ok (.aload_n 0, 1) := dk_42 (dk_at dksX19_branch_3 11 rfl rfl)
theorem dX19_branch_81 : decode cX19_branch 81 = .ok (.getfield 54, 3) := dk_180 0 54 (dk_at dksX19_branch_3 12 rfl rfl)
theorem dX19_branch_84 : decode cX19_branch 84 = .ok (.iload_n 3, 1) := dk_29 (dk_at dksX19_branch_3 15 rfl rfl)
theorem dX19_branch_85 : decode cX19_branch 85 = .ok (.iconst 3, 1) := dk_6 (dk_at dksX19_branch_3 16 rfl rfl)
theorem dX19_branch_86 : decode cX19_branch 86 = .ok (.invokevirtual 199, 3) := dk_182 0 199 (dk_at dksX19_branch_3 17 rfl rfl)
theorem dX19_branch_89 : decode cX19_branch 89 = .ok (.invokevirtual 122, 3) := dk_182 0 122 (dk_at dksX19_branch_3 20 rfl rfl)
theorem dX19_branch_92 : decode cX19_branch 92 = .ok (.iload_n 2, 1) := dk_28 (dk_at dksX19_branch_3 23 rfl rfl)
theorem dX19_branch_93 : decode cX19_branch 93 = .ok (.bipush 54, 2) := dk_16 54 (dk_at dksX19_branch_4 0 rfl rfl)
theorem dX19_branch_95 : decode cX19_branch 95 = .ok (.if_icmp .eq 19, 3) := dk_159 0 19 (dk_at dksX19_branch_4 2 rfl rfl)
theorem dX19_branch_98 : decode cX19_branch 98 = .ok (.iload_n 2, 1) := dk_28 (dk_at dksX19_branch_4 5 rfl rfl)
theorem dX19_branch_99 : decode cX19_branch 99 = .ok (.bipush 53, 2) := dk_16 53 (dk_at dksX19_branch_4 6 rfl rfl)
theorem dX19_branch_101 : decode cX19_branch 101 = .ok (.if_icmp .ne 7, 3) := dk_160 0 7 (dk_at dksX19_branch_4 8 rfl rfl)
theorem dX19_branch_104 : decode cX19_branch 104 = .ok (.iconst 1, 1) := dk_4 (dk_at dksX19_branch_4 11 rfl rfl)
theorem dX19_branch_105 : decode cX19_branch 105 = .ok (.goto 4, 3) := dk_167 0 4 (dk_at dksX19_branch_4 12 rfl rfl)
theorem dX19_branch_108 : decode cX19_branch 108 = .ok (.iconst 0, 1) := dk_3 (dk_at dksX19_branch_4 15 rfl rfl)
theorem dX19_branch_109 : decode cX19_branch 109 = .ok (.iload 4, 2) := dk_21 4 (dk_at dksX19_branch_4 16 rfl rfl)
theorem dX19_branch_111 : decode cX19_branch 111 = .ok (.if_icmp .eq 16, 3) := dk_159 0 16 (dk_at dksX19_branch_4 18 rfl rfl)
theorem dX19_branch_114 : decode cX19_branch 114 = .ok (.aload_n 0, 1) := dk_42 (dk_at dksX19_branch_4 21 rfl rfl)
theorem dX19_branch_115 : decode cX19_branch 115 = .ok (.aload_n 0, 1) := dk_42 (dk_at dksX19_branch_4 22 rfl rfl)
theorem dX19_branch_116 : decode cX19_branch 116 = .ok (.getfield 54, 3) := dk_180 0 54 (dk_at dksX19_branch_5 0 rfl rfl)
theorem dX19_branch_119 : decode cX19_branch 119 = .ok (.iload_n 3, 1) := dk_29 (dk_at dksX19_branch_5 3 rfl rfl)
theorem dX19_branch_120 : decode cX19_branch 120 = .ok (.iconst 2, 1) := dk_5 (dk_at dksX19_branch_5 4 rfl rfl)
theorem dX19_branch_121 : decode cX19_branch 121 = .ok (.invokevirtual 199, 3) := dk_182 0 199 (dk_at dksX19_branch_5 5 rfl rfl)
theorem dX19_branch_124 : decode cX19_branch 124 = .ok (.invokevirtual 122, 3) := dk_182 0 122 (dk_at dksX19_branch_5 8 rfl rfl)
theorem dX19_branch_127 : decode cX19_branch 127 = .ok (.aload_n 0, 1) := dk_42 (dk_at dksX19_branch_5 11 rfl rfl)
theorem dX19_branch_128 : decode cX19_branch 128 = .ok (.aload_n 0, 1) := dk_42 (dk_at dksX19_branch_5 12 rfl rfl)
theorem dX19_branch_129 : decode cX19_branch 129 = .ok (.iload_n 1, 1) := dk_27 (dk_at dksX19_branch_5 13 rfl rfl)
theorem dX19_branch_130 : decode cX19_branch 130 = .ok (.iload 4, 2) := dk_21 4 (dk_at dksX19_branch_5 14 rfl rfl)
theorem dX19_branch_132 : decode cX19_branch 132 = .ok (.ifCond .eq 7, 3) := dk_153 0 7 (dk_at dksX19_branch_5 16 rfl rfl)
theorem dX19_branch_135 : decode cX19_branch 135 = .ok (.iconst 1, 1) := dk_4 (dk_at dksX19_branch_5 19 rfl rfl)
theorem dX19_branch_136 : decode cX19_branch 136 = .ok (.goto 4, 3) := dk_167 0 4 (dk_at dksX19_branch_5 20 rfl rfl)
theorem dX19_branch_139 : decode cX19_branch 139 = .ok (.iconst 2, 1) := dk_5 (dk_at dksX19_branch_5 23 rfl rfl)
theorem dX19_branch_140 : decode cX19_branch 140 = .ok (.invokevirtual 131, 3) := dk_182 0 131 (dk_at dksX19_branch_6 0 rfl rfl)
theorem dX19_branch_143 : decode cX19_branch 143 = .ok (.invokevirtual 208, 3) := dk_182 0 208 (dk_at dksX19_branch_6 3 rfl rfl)
theorem dX19_branch_146 : decode cX19_branch 146 = .ok (.return_, 1) := dk_177 (dk_at dksX19_branch_6 6 rfl rfl)
abbrev cX19_map : ByteArray := prog_9_method_24_code
def yX19_map : MethodName := ⟨RX19, "map", "(II)V"⟩
def dkwX19_map_3 : List UInt8 := [182, 0, 131, 181, 0, 125, 177]
abbrev dktX19_map_3 : List UInt8 := dkwX19_map_3 ++ []
def dkwX19_map_2 : List UInt8 := [182, 0, 199, 182, 0, 122, 42, 16, 6, 42, 180, 0, 125, 3, 3, 182, 0, 159, 42, 42, 27, 4]
abbrev dktX19_map_2 : List UInt8 := dkwX19_map_2 ++ dktX19_map_3
def dkwX19_map_1 : List UInt8 := [42, 28, 182, 0, 122, 177, 42, 180, 0, 94, 20, 0, 206, 182, 0, 183, 42, 42, 180, 0, 54, 28, 5]
abbrev dktX19_map_1 : List UInt8 := dkwX19_map_1 ++ dktX19_map_2
def dkwX19_map_0 : List UInt8 := [42, 27, 5, 182, 0, 131, 6, 159, 0, 11, 42, 27, 28, 3, 182, 0, 153, 177, 28, 16, 8, 160, 0, 9]
abbrev dktX19_map_0 : List UInt8 := dkwX19_map_0 ++ dktX19_map_1
theorem dksX19_map_0 : cX19_map.data.toList.drop 0 = dktX19_map_0 := by decide +kernel
theorem dksX19_map_1 : cX19_map.data.toList.drop 24 = dktX19_map_1 := dk_seg dksX19_map_0 24 rfl rfl
theorem dksX19_map_2 : cX19_map.data.toList.drop 47 = dktX19_map_2 := dk_seg dksX19_map_1 23 rfl rfl
theorem dksX19_map_3 : cX19_map.data.toList.drop 69 = dktX19_map_3 := dk_seg dksX19_map_2 22 rfl rfl
theorem dX19_map_0 : decode cX19_map 0 = .ok (.aload_n 0, 1) := dk_42 (dk_at dksX19_map_0 0 rfl rfl)
theorem dX19_map_1 : decode cX19_map 1 = .ok (.iload_n 1, 1) := dk_27 (dk_at dksX19_map_0 1 rfl rfl)
theorem dX19_map_2 : decode cX19_map 2 = .ok (.iconst 2, 1) := dk_5 (dk_at dksX19_map_0 2 rfl rfl)
theorem dX19_map_3 : decode cX19_map 3 = .ok (.invokevirtual 131, 3) := dk_182 0 131 (dk_at dksX19_map_0 3 rfl rfl)
theorem dX19_map_6 : decode cX19_map 6 = .ok (.iconst 3, 1) := dk_6 (dk_at dksX19_map_0 6 rfl rfl)
theorem dX19_map_7 : decode cX19_map 7 = .ok (.if_icmp .eq 11, 3) := dk_159 0 11 (dk_at dksX19_map_0 7 rfl rfl)
theorem dX19_map_10 : decode cX19_map 10 = .ok (.aload_n 0, 1) := dk_42 (dk_at dksX19_map_0 10 rfl rfl)
theorem dX19_map_11 : decode cX19_map 11 = .ok (.iload_n 1, 1) := dk_27 (dk_at dksX19_map_0 11 rfl rfl)
theorem dX19_map_12 : decode cX19_map 12 = .ok (.iload_n 2, 1) := dk_28 (dk_at dksX19_map_0 12 rfl rfl)
theorem dX19_map_13 : decode cX19_map 13 = .ok (.iconst 0, 1) := dk_3 (dk_at dksX19_map_0 13 rfl rfl)
theorem dX19_map_14 : decode cX19_map 14 = .ok (.invokevirtual 153, 3) := dk_182 0 153 (dk_at dksX19_map_0 14 rfl rfl)
theorem dX19_map_17 : decode cX19_map 17 = .ok (.return_, 1) := dk_177 (dk_at dksX19_map_0 17 rfl rfl)
theorem dX19_map_18 : decode cX19_map 18 = .ok (.iload_n 2, 1) := dk_28 (dk_at dksX19_map_0 18 rfl rfl)
theorem dX19_map_19 : decode cX19_map 19 = .ok (.bipush 8, 2) := dk_16 8 (dk_at dksX19_map_0 19 rfl rfl)
theorem dX19_map_21 : decode cX19_map 21 = .ok (.if_icmp .ne 9, 3) := dk_160 0 9 (dk_at dksX19_map_0 21 rfl rfl)
theorem dX19_map_24 : decode cX19_map 24 = .ok (.aload_n 0, 1) := dk_42 (dk_at dksX19_map_1 0 rfl rfl)
theorem dX19_map_25 : decode cX19_map 25 = .ok (.iload_n 2, 1) := dk_28 (dk_at dksX19_map_1 1 rfl rfl)
theorem dX19_map_26 : decode cX19_map 26 = .ok (.invokevirtual 122, 3) := dk_182 0 122 (dk_at dksX19_map_1 2 rfl rfl)
theorem dX19_map_29 : decode cX19_map 29 = .ok (.return_, 1) := dk_177 (dk_at dksX19_map_1 5 rfl rfl)
theorem dX19_map_30 : decode cX19_map 30 = .ok (.aload_n 0, 1) := dk_42 (dk_at dksX19_map_1 6 rfl rfl)
theorem dX19_map_31 : decode cX19_map 31 = .ok (.getfield 94, 3) := dk_180 0 94 (dk_at dksX19_map_1 7 rfl rfl)
theorem dX19_map_34 : decode cX19_map 34 = .ok (.ldc2_w 206, 3) := dk_20 0 206 (dk_at dksX19_map_1 10 rfl rfl)
theorem dX19_map_37 : decode cX19_map 37 = .ok (.invokevirtual 183, 3) := dk_182 0 183 (dk_at dksX19_map_1 13 rfl rfl)
theorem dX19_map_40 : decode cX19_map 40 = .ok (.aload_n 0, 1) := dk_42 (dk_at dksX19_map_1 16 rfl rfl)
theorem dX19_map_41 : decode cX19_map 41 = .ok (.aload_n 0, 1) := dk_42 (dk_at dksX19_map_1 17 rfl rfl)
theorem dX19_map_42 : decode cX19_map 42 = .ok (.getfield 54, 3) := dk_180 0 54 (dk_at dksX19_map_1 18 rfl rfl)
theorem dX19_map_45 : decode cX19_map 45 = .ok (.iload_n 2, 1) := dk_28 (dk_at dksX19_map_1 21 rfl rfl)
theorem dX19_map_46 : decode cX19_map 46 = .ok (.iconst 2, 1) := dk_5 (dk_at dksX19_map_1 22 rfl rfl)
theorem dX19_map_47 : decode cX19_map 47 = .ok (.invokevirtual 199, 3) := dk_182 0 199 (dk_at dksX19_map_2 0 rfl rfl)
theorem dX19_map_50 : decode cX19_map 50 = .ok (.invokevirtual 122, 3) := dk_182 0 122 (dk_at dksX19_map_2 3 rfl rfl)
theorem dX19_map_53 : decode cX19_map 53 = .ok (.aload_n 0, 1) := dk_42 (dk_at dksX19_map_2 6 rfl rfl)
theorem dX19_map_54 : decode cX19_map 54 = .ok (.bipush 6, 2) := dk_16 6 (dk_at dksX19_map_2 7 rfl rfl)
theorem dX19_map_56 : decode cX19_map 56 = .ok (.aload_n 0, 1) := dk_42 (dk_at dksX19_map_2 9 rfl rfl)
theorem dX19_map_57 : decode cX19_map 57 = .ok (.getfield 125, 3) := dk_180 0 125 (dk_at dksX19_map_2 10 rfl rfl)
theorem dX19_map_60 : decode cX19_map 60 = .ok (.iconst 0, 1) := dk_3 (dk_at dksX19_map_2 13 rfl rfl)
theorem dX19_map_61 : decode cX19_map 61 = .ok (.iconst 0, 1) := dk_3 (dk_at dksX19_map_2 14 rfl rfl)
theorem dX19_map_62 : decode cX19_map 62 = .ok (.invokevirtual 159, 3) := dk_182 0 159 (dk_at dksX19_map_2 15 rfl rfl)
theorem dX19_map_65 : decode cX19_map 65 = .ok (.aload_n 0, 1) := dk_42 (dk_at dksX19_map_2 18 rfl rfl)
theorem dX19_map_66 : decode cX19_map 66 = .ok (.aload_n 0, 1) := dk_42 (dk_at dksX19_map_2 19 rfl rfl)
theorem dX19_map_67 : decode cX19_map 67 = .ok (.iload_n 1, 1) := dk_27 (dk_at dksX19_map_2 20 rfl rfl)
theorem dX19_map_68 : decode cX19_map 68 = .ok (.iconst 1, 1) := dk_4 (dk_at dksX19_map_2 21 rfl rfl)
theorem dX19_map_69 : decode cX19_map 69 = .ok (.invokevirtual 131, 3) := dk_182 0 131 (dk_at dksX19_map_3 0 rfl rfl)
theorem dX19_map_72 : decode cX19_map 72 = .ok (.putfield 125, 3) := dk_181 0 125 (dk_at dksX19_map_3 3 rfl rfl)
theorem dX19_map_75 : decode cX19_map 75 = .ok (.return_, 1) := dk_177 (dk_at dksX19_map_3 6 rfl rfl)
abbrev cX19_exec : ByteArray := prog_9_method_28_code
def yX19_exec : MethodName := ⟨RX19, "exec", "()V"⟩
def dkwX19_exec_3 : List UInt8 := [180, 0, 54, 28, 5, 182, 0, 199, 182, 0, 208, 177]
abbrev dktX19_exec_3 : List UInt8 := dkwX19_exec_3 ++ []
def dkwX19_exec_2 : List UInt8 := [182, 0, 203, 60, 42, 180, 0, 54, 28, 6, 182, 0, 199, 61, 167, 255, 206, 42, 27, 182, 0, 122, 42, 42]
abbrev dktX19_exec_2 : List UInt8 := dkwX19_exec_2 ++ dktX19_exec_3
def dkwX19_exec_1 : List UInt8 := [180, 0, 94, 20, 0, 206, 182, 0, 183, 42, 180, 0, 54, 42, 180, 0, 54, 28, 7, 182, 0, 199, 27]
abbrev dktX19_exec_1 : List UInt8 := dkwX19_exec_1 ++ dktX19_exec_2
def dkwX19_exec_0 : List UInt8 := [42, 182, 0, 139, 60, 42, 182, 0, 139, 61, 42, 180, 0, 54, 28, 6, 182, 0, 199, 153, 0, 44, 42]
abbrev dktX19_exec_0 : List UInt8 := dkwX19_exec_0 ++ dktX19_exec_1
theorem dksX19_exec_0 : cX19_exec.data.toList.drop 0 = dktX19_exec_0 := by decide +kernel
theorem dksX19_exec_1 : cX19_exec.data.toList.drop 23 = dktX19_exec_1 := dk_seg dksX19_exec_0 23 rfl rfl
theorem dksX19_exec_2 : cX19_exec.data.toList.drop 46 = dktX19_exec_2 := dk_seg dksX19_exec_1 23 rfl rfl
theorem dksX19_exec_3 : cX19_exec.data.toList.drop 70 = dktX19_exec_3 := dk_seg dksX19_exec_2 24 rfl rfl
theorem dX19_exec_0 : decode cX19_exec 0 = .ok (.aload_n 0, 1) := dk_42 (dk_at dksX19_exec_0 0 rfl rfl)
theorem dX19_exec_1 : decode cX19_exec 1 = .ok (.invokevirtual 139, 3) := dk_182 0 139 (dk_at dksX19_exec_0 1 rfl rfl)
theorem dX19_exec_4 : decode cX19_exec 4 = .ok (.istore_n 1, 1) := dk_60 (dk_at dksX19_exec_0 4 rfl rfl)
theorem dX19_exec_5 : decode cX19_exec 5 = .ok (.aload_n 0, 1) := dk_42 (dk_at dksX19_exec_0 5 rfl rfl)
theorem dX19_exec_6 : decode cX19_exec 6 = .ok (.invokevirtual 139, 3) := dk_182 0 139 (dk_at dksX19_exec_0 6 rfl rfl)
theorem dX19_exec_9 : decode cX19_exec 9 = .ok (.istore_n 2, 1) := dk_61 (dk_at dksX19_exec_0 9 rfl rfl)
theorem dX19_exec_10 : decode cX19_exec 10 = .ok (.aload_n 0, 1) := dk_42 (dk_at dksX19_exec_0 10 rfl rfl)
theorem dX19_exec_11 : decode cX19_exec 11 = .ok (.getfield 54, 3) := dk_180 0 54 (dk_at dksX19_exec_0 11 rfl rfl)
theorem dX19_exec_14 : decode cX19_exec 14 = .ok (.iload_n 2, 1) := dk_28 (dk_at dksX19_exec_0 14 rfl rfl)
theorem dX19_exec_15 : decode cX19_exec 15 = .ok (.iconst 3, 1) := dk_6 (dk_at dksX19_exec_0 15 rfl rfl)
theorem dX19_exec_16 : decode cX19_exec 16 = .ok (.invokevirtual 199, 3) := dk_182 0 199 (dk_at dksX19_exec_0 16 rfl rfl)
theorem dX19_exec_19 : decode cX19_exec 19 = .ok (.ifCond .eq 44, 3) := dk_153 0 44 (dk_at dksX19_exec_0 19 rfl rfl)
theorem dX19_exec_22 : decode cX19_exec 22 = .ok (.aload_n 0, 1) := dk_42 (dk_at dksX19_exec_0 22 rfl rfl)
theorem dX19_exec_23 : decode cX19_exec 23 = .ok (.getfield 94, 3) := dk_180 0 94 (dk_at dksX19_exec_1 0 rfl rfl)
theorem dX19_exec_26 : decode cX19_exec 26 = .ok (.ldc2_w 206, 3) := dk_20 0 206 (dk_at dksX19_exec_1 3 rfl rfl)
theorem dX19_exec_29 : decode cX19_exec 29 = .ok (.invokevirtual 183, 3) := dk_182 0 183 (dk_at dksX19_exec_1 6 rfl rfl)
theorem dX19_exec_32 : decode cX19_exec 32 = .ok (.aload_n 0, 1) := dk_42 (dk_at dksX19_exec_1 9 rfl rfl)
theorem dX19_exec_33 : decode cX19_exec 33 = .ok (.getfield 54, 3) := dk_180 0 54 (dk_at dksX19_exec_1 10 rfl rfl)
theorem dX19_exec_36 : decode cX19_exec 36 = .ok (.aload_n 0, 1) := dk_42 (dk_at dksX19_exec_1 13 rfl rfl)
theorem dX19_exec_37 : decode cX19_exec 37 = .ok (.getfield 54, 3) := dk_180 0 54 (dk_at dksX19_exec_1 14 rfl rfl)
theorem dX19_exec_40 : decode cX19_exec 40 = .ok (.iload_n 2, 1) := dk_28 (dk_at dksX19_exec_1 17 rfl rfl)
theorem dX19_exec_41 : decode cX19_exec 41 = .ok (.iconst 4, 1) := dk_7 (dk_at dksX19_exec_1 18 rfl rfl)
theorem dX19_exec_42 : decode cX19_exec 42 = .ok (.invokevirtual 199, 3) := dk_182 0 199 (dk_at dksX19_exec_1 19 rfl rfl)
theorem dX19_exec_45 : decode cX19_exec 45 = .ok (.iload_n 1, 1) := dk_27 (dk_at dksX19_exec_1 22 rfl rfl)
theorem dX19_exec_46 : decode cX19_exec 46 = .ok (.invokevirtual 203, 3) := dk_182 0 203 (dk_at dksX19_exec_2 0 rfl rfl)
theorem dX19_exec_49 : decode cX19_exec 49 = .ok (.istore_n 1, 1) := dk_60 (dk_at dksX19_exec_2 3 rfl rfl)
theorem dX19_exec_50 : decode cX19_exec 50 = .ok (.aload_n 0, 1) := dk_42 (dk_at dksX19_exec_2 4 rfl rfl)
theorem dX19_exec_51 : decode cX19_exec 51 = .ok (.getfield 54, 3) := dk_180 0 54 (dk_at dksX19_exec_2 5 rfl rfl)
theorem dX19_exec_54 : decode cX19_exec 54 = .ok (.iload_n 2, 1) := dk_28 (dk_at dksX19_exec_2 8 rfl rfl)
theorem dX19_exec_55 : decode cX19_exec 55 = .ok (.iconst 3, 1) := dk_6 (dk_at dksX19_exec_2 9 rfl rfl)
theorem dX19_exec_56 : decode cX19_exec 56 = .ok (.invokevirtual 199, 3) := dk_182 0 199 (dk_at dksX19_exec_2 10 rfl rfl)
theorem dX19_exec_59 : decode cX19_exec 59 = .ok (.istore_n 2, 1) := dk_61 (dk_at dksX19_exec_2 13 rfl rfl)
theorem dX19_exec_60 : decode cX19_exec 60 = .ok (.goto (-50), 3) := dk_167 255 206 (dk_at dksX19_exec_2 14 rfl rfl)
theorem dX19_exec_63 : decode cX19_exec 63 = .ok (.aload_n 0, 1) := dk_42 (dk_at dksX19_exec_2 17 rfl rfl)
theorem dX19_exec_64 : decode cX19_exec 64 = .ok (.iload_n 1, 1) := dk_27 (dk_at dksX19_exec_2 18 rfl rfl)
theorem dX19_exec_65 : decode cX19_exec 65 = .ok (.invokevirtual 122, 3) := dk_182 0 122 (dk_at dksX19_exec_2 19 rfl rfl)
theorem dX19_exec_68 : decode cX19_exec 68 = .ok (.aload_n 0, 1) := dk_42 (dk_at dksX19_exec_2 22 rfl rfl)
theorem dX19_exec_69 : decode cX19_exec 69 = .ok (.aload_n 0, 1) := dk_42 (dk_at dksX19_exec_2 23 rfl rfl)
theorem dX19_exec_70 : decode cX19_exec 70 = .ok (.getfield 54, 3) := dk_180 0 54 (dk_at dksX19_exec_3 0 rfl rfl)
theorem dX19_exec_73 : decode cX19_exec 73 = .ok (.iload_n 2, 1) := dk_28 (dk_at dksX19_exec_3 3 rfl rfl)
theorem dX19_exec_74 : decode cX19_exec 74 = .ok (.iconst 2, 1) := dk_5 (dk_at dksX19_exec_3 4 rfl rfl)
theorem dX19_exec_75 : decode cX19_exec 75 = .ok (.invokevirtual 199, 3) := dk_182 0 199 (dk_at dksX19_exec_3 5 rfl rfl)
theorem dX19_exec_78 : decode cX19_exec 78 = .ok (.invokevirtual 208, 3) := dk_182 0 208 (dk_at dksX19_exec_3 8 rfl rfl)
theorem dX19_exec_81 : decode cX19_exec 81 = .ok (.return_, 1) := dk_177 (dk_at dksX19_exec_3 11 rfl rfl)
abbrev cX19_length : ByteArray := prog_9_method_5_code
def yX19_length : MethodName := ⟨RX19, "length", "(I)I"⟩
def dkwX19_length_0 : List UInt8 := [42, 180, 0, 54, 42, 27, 182, 0, 102, 182, 0, 106, 172]
abbrev dktX19_length_0 : List UInt8 := dkwX19_length_0 ++ []
theorem dksX19_length_0 : cX19_length.data.toList.drop 0 = dktX19_length_0 := by decide +kernel
theorem dX19_length_0 : decode cX19_length 0 = .ok (.aload_n 0, 1) := dk_42 (dk_at dksX19_length_0 0 rfl rfl)
theorem dX19_length_1 : decode cX19_length 1 = .ok (.getfield 54, 3) := dk_180 0 54 (dk_at dksX19_length_0 1 rfl rfl)
theorem dX19_length_4 : decode cX19_length 4 = .ok (.aload_n 0, 1) := dk_42 (dk_at dksX19_length_0 4 rfl rfl)
theorem dX19_length_5 : decode cX19_length 5 = .ok (.iload_n 1, 1) := dk_27 (dk_at dksX19_length_0 5 rfl rfl)
theorem dX19_length_6 : decode cX19_length 6 = .ok (.invokevirtual 102, 3) := dk_182 0 102 (dk_at dksX19_length_0 6 rfl rfl)
theorem dX19_length_9 : decode cX19_length 9 = .ok (.invokevirtual 106, 3) := dk_182 0 106 (dk_at dksX19_length_0 9 rfl rfl)
theorem dX19_length_12 : decode cX19_length 12 = .ok (.ireturn, 1) := dk_172 (dk_at dksX19_length_0 12 rfl rfl)
abbrev cX19_plain : ByteArray := prog_9_method_31_code
def yX19_plain : MethodName := ⟨RX19, "plain", "(II)V"⟩
def dkwX19_plain_12 : List UInt8 := [96, 16, 8, 108, 133, 97, 182, 0, 183, 42, 28, 29, 182, 1, 38, 177]
abbrev dktX19_plain_12 : List UInt8 := dkwX19_plain_12 ++ []
def dkwX19_plain_11 : List UInt8 := [42, 4, 182, 0, 235, 133, 105, 20, 1, 36, 109, 167, 0, 18, 42, 3, 182, 0, 235, 42, 4, 182, 0, 235]
abbrev dktX19_plain_11 : List UInt8 := dkwX19_plain_11 ++ dktX19_plain_12
def dkwX19_plain_10 : List UInt8 := [180, 0, 94, 20, 0, 206, 28, 16, 67, 159, 0, 9, 28, 16, 68, 160, 0, 23, 42, 3, 182, 0, 235, 133]
abbrev dktX19_plain_10 : List UInt8 := dkwX19_plain_10 ++ dktX19_plain_11
def dkwX19_plain_9 : List UInt8 := [167, 0, 10, 21, 4, 21, 5, 159, 0, 8, 16, 6, 167, 0, 4, 7, 182, 0, 122, 167, 0, 67, 42]
abbrev dktX19_plain_9 : List UInt8 := dkwX19_plain_9 ++ dktX19_plain_10
def dkwX19_plain_8 : List UInt8 := [21, 5, 153, 0, 37, 167, 0, 29, 28, 16, 74, 160, 0, 16, 21, 4, 154, 0, 18, 21, 5, 153, 0, 18]
abbrev dktX19_plain_8 : List UInt8 := dkwX19_plain_8 ++ dktX19_plain_9
def dkwX19_plain_7 : List UInt8 := [16, 6, 160, 0, 7, 4, 167, 0, 4, 3, 54, 5, 42, 28, 16, 73, 160, 0, 16, 21, 4, 153, 0, 42]
abbrev dktX19_plain_7 : List UInt8 := dkwX19_plain_7 ++ dktX19_plain_8
def dkwX19_plain_6 : List UInt8 := [182, 0, 183, 42, 182, 0, 139, 16, 6, 160, 0, 7, 4, 167, 0, 4, 3, 54, 4, 42, 182, 0, 139]
abbrev dktX19_plain_6 : List UInt8 := dkwX19_plain_6 ++ dktX19_plain_7
def dkwX19_plain_5 : List UInt8 := [153, 0, 12, 42, 28, 29, 182, 1, 33, 167, 0, 172, 29, 4, 160, 0, 103, 42, 180, 0, 94, 20, 0, 206]
abbrev dktX19_plain_5 : List UInt8 := dkwX19_plain_5 ++ dktX19_plain_6
def dkwX19_plain_4 : List UInt8 := [182, 1, 26, 153, 0, 8, 16, 6, 167, 0, 4, 7, 182, 0, 122, 167, 0, 188, 28, 184, 1, 30]
abbrev dktX19_plain_4 : List UInt8 := dkwX19_plain_4 ++ dktX19_plain_5
def dkwX19_plain_3 : List UInt8 := [16, 80, 161, 0, 38, 42, 180, 0, 94, 20, 0, 206, 182, 0, 183, 42, 42, 28, 42, 182, 0, 139]
abbrev dktX19_plain_3 : List UInt8 := dkwX19_plain_3 ++ dktX19_plain_4
def dkwX19_plain_2 : List UInt8 := [180, 0, 70, 21, 4, 42, 182, 0, 139, 29, 182, 1, 18, 184, 1, 23, 182, 0, 122, 167, 0, 229, 28]
abbrev dktX19_plain_2 : List UInt8 := dkwX19_plain_2 ++ dktX19_plain_3
def dkwX19_plain_1 : List UInt8 := [42, 4, 182, 0, 235, 184, 1, 13, 16, 8, 108, 96, 133, 182, 0, 183, 42, 182, 0, 139, 54, 4, 42, 42]
abbrev dktX19_plain_1 : List UInt8 := dkwX19_plain_1 ++ dktX19_plain_2
def dkwX19_plain_0 : List UInt8 := [42, 27, 4, 182, 0, 131, 62, 28, 16, 79, 160, 0, 60, 42, 180, 0, 94, 16, 10, 42, 3, 182, 0, 235]
abbrev dktX19_plain_0 : List UInt8 := dkwX19_plain_0 ++ dktX19_plain_1
theorem dksX19_plain_0 : cX19_plain.data.toList.drop 0 = dktX19_plain_0 := by decide +kernel
theorem dksX19_plain_1 : cX19_plain.data.toList.drop 24 = dktX19_plain_1 := dk_seg dksX19_plain_0 24 rfl rfl
theorem dksX19_plain_2 : cX19_plain.data.toList.drop 48 = dktX19_plain_2 := dk_seg dksX19_plain_1 24 rfl rfl
theorem dksX19_plain_3 : cX19_plain.data.toList.drop 71 = dktX19_plain_3 := dk_seg dksX19_plain_2 23 rfl rfl
theorem dksX19_plain_4 : cX19_plain.data.toList.drop 93 = dktX19_plain_4 := dk_seg dksX19_plain_3 22 rfl rfl
theorem dksX19_plain_5 : cX19_plain.data.toList.drop 115 = dktX19_plain_5 := dk_seg dksX19_plain_4 22 rfl rfl
theorem dksX19_plain_6 : cX19_plain.data.toList.drop 139 = dktX19_plain_6 := dk_seg dksX19_plain_5 24 rfl rfl
theorem dksX19_plain_7 : cX19_plain.data.toList.drop 162 = dktX19_plain_7 := dk_seg dksX19_plain_6 23 rfl rfl
theorem dksX19_plain_8 : cX19_plain.data.toList.drop 186 = dktX19_plain_8 := dk_seg dksX19_plain_7 24 rfl rfl
theorem dksX19_plain_9 : cX19_plain.data.toList.drop 210 = dktX19_plain_9 := dk_seg dksX19_plain_8 24 rfl rfl
theorem dksX19_plain_10 : cX19_plain.data.toList.drop 233 = dktX19_plain_10 := dk_seg dksX19_plain_9 23 rfl rfl
theorem dksX19_plain_11 : cX19_plain.data.toList.drop 257 = dktX19_plain_11 := dk_seg dksX19_plain_10 24 rfl rfl
theorem dksX19_plain_12 : cX19_plain.data.toList.drop 281 = dktX19_plain_12 := dk_seg dksX19_plain_11 24 rfl rfl
theorem dX19_plain_0 : decode cX19_plain 0 = .ok (.aload_n 0, 1) := dk_42 (dk_at dksX19_plain_0 0 rfl rfl)
theorem dX19_plain_1 : decode cX19_plain 1 = .ok (.iload_n 1, 1) := dk_27 (dk_at dksX19_plain_0 1 rfl rfl)
theorem dX19_plain_2 : decode cX19_plain 2 = .ok (.iconst 1, 1) := dk_4 (dk_at dksX19_plain_0 2 rfl rfl)
theorem dX19_plain_3 : decode cX19_plain 3 = .ok (.invokevirtual 131, 3) := dk_182 0 131 (dk_at dksX19_plain_0 3 rfl rfl)
theorem dX19_plain_6 : decode cX19_plain 6 = .ok (.istore_n 3, 1) := dk_62 (dk_at dksX19_plain_0 6 rfl rfl)
theorem dX19_plain_7 : decode cX19_plain 7 = .ok (.iload_n 2, 1) := dk_28 (dk_at dksX19_plain_0 7 rfl rfl)
theorem dX19_plain_8 : decode cX19_plain 8 = .ok (.bipush 79, 2) := dk_16 79 (dk_at dksX19_plain_0 8 rfl rfl)
theorem dX19_plain_10 : decode cX19_plain 10 = .ok (.if_icmp .ne 60, 3) := dk_160 0 60 (dk_at dksX19_plain_0 10 rfl rfl)
theorem dX19_plain_13 : decode cX19_plain 13 = .ok (.aload_n 0, 1) := dk_42 (dk_at dksX19_plain_0 13 rfl rfl)
theorem dX19_plain_14 : decode cX19_plain 14 = .ok (.getfield 94, 3) := dk_180 0 94 (dk_at dksX19_plain_0 14 rfl rfl)
theorem dX19_plain_17 : decode cX19_plain 17 = .ok (.bipush 10, 2) := dk_16 10 (dk_at dksX19_plain_0 17 rfl rfl)
theorem dX19_plain_19 : decode cX19_plain 19 = .ok (.aload_n 0, 1) := dk_42 (dk_at dksX19_plain_0 19 rfl rfl)
theorem dX19_plain_20 : decode cX19_plain 20 = .ok (.iconst 0, 1) := dk_3 (dk_at dksX19_plain_0 20 rfl rfl)
theorem dX19_plain_21 : decode cX19_plain 21 = .ok (.invokevirtual 235, 3) := dk_182 0 235 (dk_at dksX19_plain_0 21 rfl rfl)
theorem dX19_plain_24 : decode cX19_plain 24 = .ok (.aload_n 0, 1) := dk_42 (dk_at dksX19_plain_1 0 rfl rfl)
theorem dX19_plain_25 : decode cX19_plain 25 = .ok (.iconst 1, 1) := dk_4 (dk_at dksX19_plain_1 1 rfl rfl)
theorem dX19_plain_26 : decode cX19_plain 26 = .ok (.invokevirtual 235, 3) := dk_182 0 235 (dk_at dksX19_plain_1 2 rfl rfl)
theorem dX19_plain_29 : decode cX19_plain 29 = .ok (.invokestatic 269, 3) := dk_184 1 13 (dk_at dksX19_plain_1 5 rfl rfl)
theorem dX19_plain_32 : decode cX19_plain 32 = .ok (.bipush 8, 2) := dk_16 8 (dk_at dksX19_plain_1 8 rfl rfl)
theorem dX19_plain_34 : decode cX19_plain 34 = .ok (.idiv, 1) := dk_108 (dk_at dksX19_plain_1 10 rfl rfl)
theorem dX19_plain_35 : decode cX19_plain 35 = .ok (.iadd, 1) := dk_96 (dk_at dksX19_plain_1 11 rfl rfl)
theorem dX19_plain_36 : decode cX19_plain 36 = .ok (.i2l, 1) := dk_133 (dk_at dksX19_plain_1 12 rfl rfl)
theorem dX19_plain_37 : decode cX19_plain 37 = .ok (.invokevirtual 183, 3) := dk_182 0 183 (dk_at dksX19_plain_1 13 rfl rfl)
theorem dX19_plain_40 : decode cX19_plain 40 = .ok (.aload_n 0, 1) := dk_42 (dk_at dksX19_plain_1 16 rfl rfl)
theorem dX19_plain_41 : decode cX19_plain 41 = .ok (.invokevirtual 139, 3) := dk_182 0 139 (dk_at dksX19_plain_1 17 rfl rfl)
theorem dX19_plain_44 : decode cX19_plain 44 = .ok (.istore 4, 2) := dk_54 4 (dk_at dksX19_plain_1 20 rfl rfl)
theorem dX19_plain_46 : decode cX19_plain 46 = .ok (.aload_n 0, 1) := dk_42 (dk_at dksX19_plain_1 22 rfl rfl)
theorem dX19_plain_47 : decode cX19_plain 47 = .ok (.aload_n 0, 1) := dk_42 (dk_at dksX19_plain_1 23 rfl rfl)
theorem dX19_plain_48 : decode cX19_plain 48 = .ok (.getfield 70, 3) := dk_180 0 70 (dk_at dksX19_plain_2 0 rfl rfl)
theorem dX19_plain_51 : decode cX19_plain 51 = .ok (.iload 4, 2) := dk_21 4 (dk_at dksX19_plain_2 3 rfl rfl)
theorem dX19_plain_53 : decode cX19_plain 53 = .ok (.aload_n 0, 1) := dk_42 (dk_at dksX19_plain_2 5 rfl rfl)
theorem dX19_plain_54 : decode cX19_plain 54 = .ok (.invokevirtual 139, 3) := dk_182 0 139 (dk_at dksX19_plain_2 6 rfl rfl)
theorem dX19_plain_57 : decode cX19_plain 57 = .ok (.iload_n 3, 1) := dk_29 (dk_at dksX19_plain_2 9 rfl rfl)
theorem dX19_plain_58 : decode cX19_plain 58 = .ok (.invokevirtual 274, 3) := dk_182 1 18 (dk_at dksX19_plain_2 10 rfl rfl)
theorem dX19_plain_61 : decode cX19_plain 61 = .ok (.invokestatic 279, 3) := dk_184 1 23 (dk_at dksX19_plain_2 13 rfl rfl)
theorem dX19_plain_64 : decode cX19_plain 64 = .ok (.invokevirtual 122, 3) := dk_182 0 122 (dk_at dksX19_plain_2 16 rfl rfl)
theorem dX19_plain_67 : decode cX19_plain 67 = .ok (.goto 229, 3) := dk_167 0 229 (dk_at dksX19_plain_2 19 rfl rfl)
theorem dX19_plain_70 : decode cX19_plain 70 = .ok (.iload_n 2, 1) := dk_28 (dk_at dksX19_plain_2 22 rfl rfl)
theorem dX19_plain_71 : decode cX19_plain 71 = .ok (.bipush 80, 2) := dk_16 80 (dk_at dksX19_plain_3 0 rfl rfl)
theorem dX19_plain_73 : decode cX19_plain 73 = .ok (.if_icmp .lt 38, 3) := dk_161 0 38 (dk_at dksX19_plain_3 2 rfl rfl)
theorem dX19_plain_76 : decode cX19_plain 76 = .ok (.aload_n 0, 1) := dk_42 (dk_at dksX19_plain_3 5 rfl rfl)
theorem dX19_plain_77 : decode cX19_plain 77 = .ok (.getfield 94, 3) := dk_180 0 94 (dk_at dksX19_plain_3 6 rfl rfl)
theorem dX19_plain_80 : decode cX19_plain 80 = .ok (.ldc2_w 206, 3) := dk_20 0 206 (dk_at dksX19_plain_3 9 rfl rfl)
theorem dX19_plain_83 : decode cX19_plain 83 = .ok (.invokevirtual 183, 3) := dk_182 0 183 (dk_at dksX19_plain_3 12 rfl rfl)
theorem dX19_plain_86 : decode cX19_plain 86 = .ok (.aload_n 0, 1) := dk_42 (dk_at dksX19_plain_3 15 rfl rfl)
theorem dX19_plain_87 : decode cX19_plain 87 = .ok (.aload_n 0, 1) := dk_42 (dk_at dksX19_plain_3 16 rfl rfl)
theorem dX19_plain_88 : decode cX19_plain 88 = .ok (.iload_n 2, 1) := dk_28 (dk_at dksX19_plain_3 17 rfl rfl)
theorem dX19_plain_89 : decode cX19_plain 89 = .ok (.aload_n 0, 1) := dk_42 (dk_at dksX19_plain_3 18 rfl rfl)
theorem dX19_plain_90 : decode cX19_plain 90 = .ok (.invokevirtual 139, 3) := dk_182 0 139 (dk_at dksX19_plain_3 19 rfl rfl)
theorem dX19_plain_93 : decode cX19_plain 93 = .ok (.invokevirtual 282, 3) := dk_182 1 26 (dk_at dksX19_plain_4 0 rfl rfl)
theorem dX19_plain_96 : decode cX19_plain 96 = .ok (.ifCond .eq 8, 3) := dk_153 0 8 (dk_at dksX19_plain_4 3 rfl rfl)
theorem dX19_plain_99 : decode cX19_plain 99 = .ok (.bipush 6, 2) := dk_16 6 (dk_at dksX19_plain_4 6 rfl rfl)
theorem dX19_plain_101 : decode cX19_plain 101 = .ok (.goto 4, 3) := dk_167 0 4 (dk_at dksX19_plain_4 8 rfl rfl)
theorem dX19_plain_104 : decode cX19_plain 104 = .ok (.iconst 4, 1) := dk_7 (dk_at dksX19_plain_4 11 rfl rfl)
theorem dX19_plain_105 : decode cX19_plain 105 = .ok (.invokevirtual 122, 3) := dk_182 0 122 (dk_at dksX19_plain_4 12 rfl rfl)
theorem dX19_plain_108 : decode cX19_plain 108 = .ok (.goto 188, 3) := dk_167 0 188 (dk_at dksX19_plain_4 15 rfl rfl)
theorem dX19_plain_111 : decode cX19_plain 111 = .ok (.iload_n 2, 1) := dk_28 (dk_at dksX19_plain_4 18 rfl rfl)
theorem dX19_plain_112 : decode cX19_plain 112 = .ok (.invokestatic 286, 3) := dk_184 1 30 (dk_at dksX19_plain_4 19 rfl rfl)
theorem dX19_plain_115 : decode cX19_plain 115 = .ok (.ifCond .eq 12, 3) := dk_153 0 12 (dk_at dksX19_plain_5 0 rfl rfl)
theorem dX19_plain_118 : decode cX19_plain 118 = .ok (.aload_n 0, 1) := dk_42 (dk_at dksX19_plain_5 3 rfl rfl)
theorem dX19_plain_119 : decode cX19_plain 119 = .ok (.iload_n 2, 1) := dk_28 (dk_at dksX19_plain_5 4 rfl rfl)
theorem dX19_plain_120 : decode cX19_plain 120 = .ok (.iload_n 3, 1) := dk_29 (dk_at dksX19_plain_5 5 rfl rfl)
theorem dX19_plain_121 : decode cX19_plain 121 = .ok (.invokevirtual 289, 3) := dk_182 1 33 (dk_at dksX19_plain_5 6 rfl rfl)
theorem dX19_plain_124 : decode cX19_plain 124 = .ok (.goto 172, 3) := dk_167 0 172 (dk_at dksX19_plain_5 9 rfl rfl)
theorem dX19_plain_127 : decode cX19_plain 127 = .ok (.iload_n 3, 1) := dk_29 (dk_at dksX19_plain_5 12 rfl rfl)
theorem dX19_plain_128 : decode cX19_plain 128 = .ok (.iconst 1, 1) := dk_4 (dk_at dksX19_plain_5 13 rfl rfl)
theorem dX19_plain_129 : decode cX19_plain 129 = .ok (.if_icmp .ne 103, 3) := dk_160 0 103 (dk_at dksX19_plain_5 14 rfl rfl)
theorem dX19_plain_132 : decode cX19_plain 132 = .ok (.aload_n 0, 1) := dk_42 (dk_at dksX19_plain_5 17 rfl rfl)
theorem dX19_plain_133 : decode cX19_plain 133 = .ok (.getfield 94, 3) := dk_180 0 94 (dk_at dksX19_plain_5 18 rfl rfl)
theorem dX19_plain_136 : decode cX19_plain 136 = .ok (.ldc2_w 206, 3) := dk_20 0 206 (dk_at dksX19_plain_5 21 rfl rfl)
theorem dX19_plain_139 : decode cX19_plain 139 = .ok (.invokevirtual 183, 3) := dk_182 0 183 (dk_at dksX19_plain_6 0 rfl rfl)
theorem dX19_plain_142 : decode cX19_plain 142 = .ok (.aload_n 0, 1) := dk_42 (dk_at dksX19_plain_6 3 rfl rfl)
theorem dX19_plain_143 : decode cX19_plain 143 = .ok (.invokevirtual 139, 3) := dk_182 0 139 (dk_at dksX19_plain_6 4 rfl rfl)
theorem dX19_plain_146 : decode cX19_plain 146 = .ok (.bipush 6, 2) := dk_16 6 (dk_at dksX19_plain_6 7 rfl rfl)
theorem dX19_plain_148 : decode cX19_plain 148 = .ok (.if_icmp .ne 7, 3) := dk_160 0 7 (dk_at dksX19_plain_6 9 rfl rfl)
theorem dX19_plain_151 : decode cX19_plain 151 = .ok (.iconst 1, 1) := dk_4 (dk_at dksX19_plain_6 12 rfl rfl)
theorem dX19_plain_152 : decode cX19_plain 152 = .ok (.goto 4, 3) := dk_167 0 4 (dk_at dksX19_plain_6 13 rfl rfl)
theorem dX19_plain_155 : decode cX19_plain 155 = .ok (.iconst 0, 1) := dk_3 (dk_at dksX19_plain_6 16 rfl rfl)
theorem dX19_plain_156 : decode cX19_plain 156 = .ok (.istore 4, 2) := dk_54 4 (dk_at dksX19_plain_6 17 rfl rfl)
theorem dX19_plain_158 : decode cX19_plain 158 = .ok (.aload_n 0, 1) := dk_42 (dk_at dksX19_plain_6 19 rfl rfl)
theorem dX19_plain_159 : decode cX19_plain 159 = .ok (.invokevirtual 139, 3) := dk_182 0 139 (dk_at dksX19_plain_6 20 rfl rfl)
theorem dX19_plain_162 : decode cX19_plain 162 = .ok (.bipush 6, 2) := dk_16 6 (dk_at dksX19_plain_7 0 rfl rfl)
theorem dX19_plain_164 : decode cX19_plain 164 = .ok (.if_icmp .ne 7, 3) := dk_160 0 7 (dk_at dksX19_plain_7 2 rfl rfl)
theorem dX19_plain_167 : decode cX19_plain 167 = .ok (.iconst 1, 1) := dk_4 (dk_at dksX19_plain_7 5 rfl rfl)
theorem dX19_plain_168 : decode cX19_plain 168 = .ok (.goto 4, 3) := dk_167 0 4 (dk_at dksX19_plain_7 6 rfl rfl)
theorem dX19_plain_171 : decode cX19_plain 171 = .ok (.iconst 0, 1) := dk_3 (dk_at dksX19_plain_7 9 rfl rfl)
theorem dX19_plain_172 : decode cX19_plain 172 = .ok (.istore 5, 2) := dk_54 5 (dk_at dksX19_plain_7 10 rfl rfl)
theorem dX19_plain_174 : decode cX19_plain 174 = .ok (.aload_n 0, 1) := dk_42 (dk_at dksX19_plain_7 12 rfl rfl)
theorem dX19_plain_175 : decode cX19_plain 175 = .ok (.iload_n 2, 1) := dk_28 (dk_at dksX19_plain_7 13 rfl rfl)
theorem dX19_plain_176 : decode cX19_plain 176 = .ok (.bipush 73, 2) := dk_16 73 (dk_at dksX19_plain_7 14 rfl rfl)
theorem dX19_plain_178 : decode cX19_plain 178 = .ok (.if_icmp .ne 16, 3) := dk_160 0 16 (dk_at dksX19_plain_7 16 rfl rfl)
theorem dX19_plain_181 : decode cX19_plain 181 = .ok (.iload 4, 2) := dk_21 4 (dk_at dksX19_plain_7 19 rfl rfl)
theorem dX19_plain_183 : decode cX19_plain 183 = .ok (.ifCond .eq 42, 3) := dk_153 0 42 (dk_at dksX19_plain_7 21 rfl rfl)
theorem dX19_plain_186 : decode cX19_plain 186 = .ok (.iload 5, 2) := dk_21 5 (dk_at dksX19_plain_8 0 rfl rfl)
theorem dX19_plain_188 : decode cX19_plain 188 = .ok (.ifCond .eq 37, 3) := dk_153 0 37 (dk_at dksX19_plain_8 2 rfl rfl)
theorem dX19_plain_191 : decode cX19_plain 191 = .ok (.goto 29, 3) := dk_167 0 29 (dk_at dksX19_plain_8 5 rfl rfl)
theorem dX19_plain_194 : decode cX19_plain 194 = .ok (.iload_n 2, 1) := dk_28 (dk_at dksX19_plain_8 8 rfl rfl)
theorem dX19_plain_195 : decode cX19_plain 195 = .ok (.bipush 74, 2) := dk_16 74 (dk_at dksX19_plain_8 9 rfl rfl)
theorem dX19_plain_197 : decode cX19_plain 197 = .ok (.if_icmp .ne 16, 3) := dk_160 0 16 (dk_at dksX19_plain_8 11 rfl rfl)
theorem dX19_plain_200 : decode cX19_plain 200 = .ok (.iload 4, 2) := dk_21 4 (dk_at dksX19_plain_8 14 rfl rfl)
theorem dX19_plain_202 : decode cX19_plain 202 = .ok (.ifCond .ne 18, 3) := dk_154 0 18 (dk_at dksX19_plain_8 16 rfl rfl)
theorem dX19_plain_205 : decode cX19_plain 205 = .ok (.iload 5, 2) := dk_21 5 (dk_at dksX19_plain_8 19 rfl rfl)
theorem dX19_plain_207 : decode cX19_plain 207 = .ok (.ifCond .eq 18, 3) := dk_153 0 18 (dk_at dksX19_plain_8 21 rfl rfl)
theorem dX19_plain_210 : decode cX19_plain 210 = .ok (.goto 10, 3) := dk_167 0 10 (dk_at dksX19_plain_9 0 rfl rfl)
theorem dX19_plain_213 : decode cX19_plain 213 = .ok (.iload 4, 2) := dk_21 4 (dk_at dksX19_plain_9 3 rfl rfl)
theorem dX19_plain_215 : decode cX19_plain 215 = .ok (.iload 5, 2) := dk_21 5 (dk_at dksX19_plain_9 5 rfl rfl)
theorem dX19_plain_217 : decode cX19_plain 217 = .ok (.if_icmp .eq 8, 3) := dk_159 0 8 (dk_at dksX19_plain_9 7 rfl rfl)
theorem dX19_plain_220 : decode cX19_plain 220 = .ok (.bipush 6, 2) := dk_16 6 (dk_at dksX19_plain_9 10 rfl rfl)
theorem dX19_plain_222 : decode cX19_plain 222 = .ok (.goto 4, 3) := dk_167 0 4 (dk_at dksX19_plain_9 12 rfl rfl)
theorem dX19_plain_225 : decode cX19_plain 225 = .ok (.iconst 4, 1) := dk_7 (dk_at dksX19_plain_9 15 rfl rfl)
theorem dX19_plain_226 : decode cX19_plain 226 = .ok (.invokevirtual 122, 3) := dk_182 0 122 (dk_at dksX19_plain_9 16 rfl rfl)
theorem dX19_plain_229 : decode cX19_plain 229 = .ok (.goto 67, 3) := dk_167 0 67 (dk_at dksX19_plain_9 19 rfl rfl)
theorem dX19_plain_232 : decode cX19_plain 232 = .ok (.aload_n 0, 1) := dk_42 (dk_at dksX19_plain_9 22 rfl rfl)
theorem dX19_plain_233 : decode cX19_plain 233 = .ok (.getfield 94, 3) := dk_180 0 94 (dk_at dksX19_plain_10 0 rfl rfl)
theorem dX19_plain_236 : decode cX19_plain 236 = .ok (.ldc2_w 206, 3) := dk_20 0 206 (dk_at dksX19_plain_10 3 rfl rfl)
theorem dX19_plain_239 : decode cX19_plain 239 = .ok (.iload_n 2, 1) := dk_28 (dk_at dksX19_plain_10 6 rfl rfl)
theorem dX19_plain_240 : decode cX19_plain 240 = .ok (.bipush 67, 2) := dk_16 67 (dk_at dksX19_plain_10 7 rfl rfl)
theorem dX19_plain_242 : decode cX19_plain 242 = .ok (.if_icmp .eq 9, 3) := dk_159 0 9 (dk_at dksX19_plain_10 9 rfl rfl)
theorem dX19_plain_245 : decode cX19_plain 245 = .ok (.iload_n 2, 1) := dk_28 (dk_at dksX19_plain_10 12 rfl rfl)
theorem dX19_plain_246 : decode cX19_plain 246 = .ok (.bipush 68, 2) := dk_16 68 (dk_at dksX19_plain_10 13 rfl rfl)
theorem dX19_plain_248 : decode cX19_plain 248 = .ok (.if_icmp .ne 23, 3) := dk_160 0 23 (dk_at dksX19_plain_10 15 rfl rfl)
theorem dX19_plain_251 : decode cX19_plain 251 = .ok (.aload_n 0, 1) := dk_42 (dk_at dksX19_plain_10 18 rfl rfl)
theorem dX19_plain_252 : decode cX19_plain 252 = .ok (.iconst 0, 1) := dk_3 (dk_at dksX19_plain_10 19 rfl rfl)
theorem dX19_plain_253 : decode cX19_plain 253 = .ok (.invokevirtual 235, 3) := dk_182 0 235 (dk_at dksX19_plain_10 20 rfl rfl)
theorem dX19_plain_256 : decode cX19_plain 256 = .ok (.i2l, 1) := dk_133 (dk_at dksX19_plain_10 23 rfl rfl)
theorem dX19_plain_257 : decode cX19_plain 257 = .ok (.aload_n 0, 1) := dk_42 (dk_at dksX19_plain_11 0 rfl rfl)
theorem dX19_plain_258 : decode cX19_plain 258 = .ok (.iconst 1, 1) := dk_4 (dk_at dksX19_plain_11 1 rfl rfl)
theorem dX19_plain_259 : decode cX19_plain 259 = .ok (.invokevirtual 235, 3) := dk_182 0 235 (dk_at dksX19_plain_11 2 rfl rfl)
theorem dX19_plain_262 : decode cX19_plain 262 = .ok (.i2l, 1) := dk_133 (dk_at dksX19_plain_11 5 rfl rfl)
theorem dX19_plain_263 : decode cX19_plain 263 = .ok (.lmul, 1) := dk_105 (dk_at dksX19_plain_11 6 rfl rfl)
theorem dX19_plain_264 : decode cX19_plain 264 = .ok (.ldc2_w 292, 3) := dk_20 1 36 (dk_at dksX19_plain_11 7 rfl rfl)
theorem dX19_plain_267 : decode cX19_plain 267 = .ok (.ldiv, 1) := dk_109 (dk_at dksX19_plain_11 10 rfl rfl)
theorem dX19_plain_268 : decode cX19_plain 268 = .ok (.goto 18, 3) := dk_167 0 18 (dk_at dksX19_plain_11 11 rfl rfl)
theorem dX19_plain_271 : decode cX19_plain 271 = .ok (.aload_n 0, 1) := dk_42 (dk_at dksX19_plain_11 14 rfl rfl)
theorem dX19_plain_272 : decode cX19_plain 272 = .ok (.iconst 0, 1) := dk_3 (dk_at dksX19_plain_11 15 rfl rfl)
theorem dX19_plain_273 : decode cX19_plain 273 = .ok (.invokevirtual 235, 3) := dk_182 0 235 (dk_at dksX19_plain_11 16 rfl rfl)
theorem dX19_plain_276 : decode cX19_plain 276 = .ok (.aload_n 0, 1) := dk_42 (dk_at dksX19_plain_11 19 rfl rfl)
theorem dX19_plain_277 : decode cX19_plain 277 = .ok (.iconst 1, 1) := dk_4 (dk_at dksX19_plain_11 20 rfl rfl)
theorem dX19_plain_278 : decode cX19_plain 278 = .ok (.invokevirtual 235, 3) := dk_182 0 235 (dk_at dksX19_plain_11 21 rfl rfl)
theorem dX19_plain_281 : decode cX19_plain 281 = .ok (.iadd, 1) := dk_96 (dk_at dksX19_plain_12 0 rfl rfl)
theorem dX19_plain_282 : decode cX19_plain 282 = .ok (.bipush 8, 2) := dk_16 8 (dk_at dksX19_plain_12 1 rfl rfl)
theorem dX19_plain_284 : decode cX19_plain 284 = .ok (.idiv, 1) := dk_108 (dk_at dksX19_plain_12 3 rfl rfl)
theorem dX19_plain_285 : decode cX19_plain 285 = .ok (.i2l, 1) := dk_133 (dk_at dksX19_plain_12 4 rfl rfl)
theorem dX19_plain_286 : decode cX19_plain 286 = .ok (.ladd, 1) := dk_97 (dk_at dksX19_plain_12 5 rfl rfl)
theorem dX19_plain_287 : decode cX19_plain 287 = .ok (.invokevirtual 183, 3) := dk_182 0 183 (dk_at dksX19_plain_12 6 rfl rfl)
theorem dX19_plain_290 : decode cX19_plain 290 = .ok (.aload_n 0, 1) := dk_42 (dk_at dksX19_plain_12 9 rfl rfl)
theorem dX19_plain_291 : decode cX19_plain 291 = .ok (.iload_n 2, 1) := dk_28 (dk_at dksX19_plain_12 10 rfl rfl)
theorem dX19_plain_292 : decode cX19_plain 292 = .ok (.iload_n 3, 1) := dk_29 (dk_at dksX19_plain_12 11 rfl rfl)
theorem dX19_plain_293 : decode cX19_plain 293 = .ok (.invokevirtual 294, 3) := dk_182 1 38 (dk_at dksX19_plain_12 12 rfl rfl)
theorem dX19_plain_296 : decode cX19_plain 296 = .ok (.return_, 1) := dk_177 (dk_at dksX19_plain_12 15 rfl rfl)
abbrev cX19_sign : ByteArray := prog_9_method_32_code
def yX19_sign : MethodName := ⟨RX19, "sign", "(II)Z"⟩
def dkwX19_sign_5 : List UInt8 := [29, 154, 0, 7, 4, 167, 0, 4, 3, 172]
abbrev dktX19_sign_5 : List UInt8 := dkwX19_sign_5 ++ []
def dkwX19_sign_4 : List UInt8 := [154, 0, 7, 4, 167, 0, 4, 3, 172, 29, 154, 0, 8, 21, 4, 153, 0, 7, 4, 167, 0, 4, 3, 172]
abbrev dktX19_sign_4 : List UInt8 := dkwX19_sign_4 ++ dktX19_sign_5
def dkwX19_sign_3 : List UInt8 := [21, 4, 172, 21, 4, 154, 0, 7, 4, 167, 0, 4, 3, 172, 29, 172, 29, 154, 0, 12, 21, 4]
abbrev dktX19_sign_3 : List UInt8 := dkwX19_sign_3 ++ dktX19_sign_4
def dkwX19_sign_2 : List UInt8 := [170, 0, 0, 0, 0, 0, 81, 0, 0, 0, 80, 0, 0, 0, 84, 0, 0, 0, 35, 0, 0, 0, 38, 0, 0, 0, 49, 0, 0, 0, 51, 0, 0, 0, 66]
abbrev dktX19_sign_2 : List UInt8 := dkwX19_sign_2 ++ dktX19_sign_3
def dkwX19_sign_1 : List UInt8 := [27]
abbrev dktX19_sign_1 : List UInt8 := dkwX19_sign_1 ++ dktX19_sign_2
def dkwX19_sign_0 : List UInt8 := [42, 180, 0, 54, 28, 182, 1, 41, 62, 28, 3, 184, 1, 23, 160, 0, 7, 4, 167, 0, 4, 3, 54, 4]
abbrev dktX19_sign_0 : List UInt8 := dkwX19_sign_0 ++ dktX19_sign_1
theorem dksX19_sign_0 : cX19_sign.data.toList.drop 0 = dktX19_sign_0 := by decide +kernel
theorem dksX19_sign_1 : cX19_sign.data.toList.drop 24 = dktX19_sign_1 := dk_seg dksX19_sign_0 24 rfl rfl
theorem dksX19_sign_2 : cX19_sign.data.toList.drop 25 = dktX19_sign_2 := dk_seg dksX19_sign_1 1 rfl rfl
theorem dksX19_sign_3 : cX19_sign.data.toList.drop 60 = dktX19_sign_3 := dk_seg dksX19_sign_2 35 rfl rfl
theorem dksX19_sign_4 : cX19_sign.data.toList.drop 82 = dktX19_sign_4 := dk_seg dksX19_sign_3 22 rfl rfl
theorem dksX19_sign_5 : cX19_sign.data.toList.drop 106 = dktX19_sign_5 := dk_seg dksX19_sign_4 24 rfl rfl
theorem dX19_sign_0 : decode cX19_sign 0 = .ok (.aload_n 0, 1) := dk_42 (dk_at dksX19_sign_0 0 rfl rfl)
theorem dX19_sign_1 : decode cX19_sign 1 = .ok (.getfield 54, 3) := dk_180 0 54 (dk_at dksX19_sign_0 1 rfl rfl)
theorem dX19_sign_4 : decode cX19_sign 4 = .ok (.iload_n 2, 1) := dk_28 (dk_at dksX19_sign_0 4 rfl rfl)
theorem dX19_sign_5 : decode cX19_sign 5 = .ok (.invokevirtual 297, 3) := dk_182 1 41 (dk_at dksX19_sign_0 5 rfl rfl)
theorem dX19_sign_8 : decode cX19_sign 8 = .ok (.istore_n 3, 1) := dk_62 (dk_at dksX19_sign_0 8 rfl rfl)
theorem dX19_sign_9 : decode cX19_sign 9 = .ok (.iload_n 2, 1) := dk_28 (dk_at dksX19_sign_0 9 rfl rfl)
theorem dX19_sign_10 : decode cX19_sign 10 = .ok (.iconst 0, 1) := dk_3 (dk_at dksX19_sign_0 10 rfl rfl)
theorem dX19_sign_11 : decode cX19_sign 11 = .ok (.invokestatic 279, 3) := dk_184 1 23 (dk_at dksX19_sign_0 11 rfl rfl)
theorem dX19_sign_14 : decode cX19_sign 14 = .ok (.if_icmp .ne 7, 3) := dk_160 0 7 (dk_at dksX19_sign_0 14 rfl rfl)
theorem dX19_sign_17 : decode cX19_sign 17 = .ok (.iconst 1, 1) := dk_4 (dk_at dksX19_sign_0 17 rfl rfl)
theorem dX19_sign_18 : decode cX19_sign 18 = .ok (.goto 4, 3) := dk_167 0 4 (dk_at dksX19_sign_0 18 rfl rfl)
theorem dX19_sign_21 : decode cX19_sign 21 = .ok (.iconst 0, 1) := dk_3 (dk_at dksX19_sign_0 21 rfl rfl)
theorem dX19_sign_22 : decode cX19_sign 22 = .ok (.istore 4, 2) := dk_54 4 (dk_at dksX19_sign_0 22 rfl rfl)
theorem dX19_sign_24 : decode cX19_sign 24 = .ok (.iload_n 1, 1) := dk_27 (dk_at dksX19_sign_1 0 rfl rfl)
theorem dX19_sign_25 : decode cX19_sign 25 = .ok (.tableswitch 81 80 84 #[35, 38, 49, 51, 66], 35) := by decide +kernel
theorem dX19_sign_60 : decode cX19_sign 60 = .ok (.iload 4, 2) := dk_21 4 (dk_at dksX19_sign_3 0 rfl rfl)
theorem dX19_sign_62 : decode cX19_sign 62 = .ok (.ireturn, 1) := dk_172 (dk_at dksX19_sign_3 2 rfl rfl)
theorem dX19_sign_63 : decode cX19_sign 63 = .ok (.iload 4, 2) := dk_21 4 (dk_at dksX19_sign_3 3 rfl rfl)
theorem dX19_sign_65 : decode cX19_sign 65 = .ok (.ifCond .ne 7, 3) := dk_154 0 7 (dk_at dksX19_sign_3 5 rfl rfl)
theorem dX19_sign_68 : decode cX19_sign 68 = .ok (.iconst 1, 1) := dk_4 (dk_at dksX19_sign_3 8 rfl rfl)
theorem dX19_sign_69 : decode cX19_sign 69 = .ok (.goto 4, 3) := dk_167 0 4 (dk_at dksX19_sign_3 9 rfl rfl)
theorem dX19_sign_72 : decode cX19_sign 72 = .ok (.iconst 0, 1) := dk_3 (dk_at dksX19_sign_3 12 rfl rfl)
theorem dX19_sign_73 : decode cX19_sign 73 = .ok (.ireturn, 1) := dk_172 (dk_at dksX19_sign_3 13 rfl rfl)
theorem dX19_sign_74 : decode cX19_sign 74 = .ok (.iload_n 3, 1) := dk_29 (dk_at dksX19_sign_3 14 rfl rfl)
theorem dX19_sign_75 : decode cX19_sign 75 = .ok (.ireturn, 1) := dk_172 (dk_at dksX19_sign_3 15 rfl rfl)
theorem dX19_sign_76 : decode cX19_sign 76 = .ok (.iload_n 3, 1) := dk_29 (dk_at dksX19_sign_3 16 rfl rfl)
theorem dX19_sign_77 : decode cX19_sign 77 = .ok (.ifCond .ne 12, 3) := dk_154 0 12 (dk_at dksX19_sign_3 17 rfl rfl)
theorem dX19_sign_80 : decode cX19_sign 80 = .ok (.iload 4, 2) := dk_21 4 (dk_at dksX19_sign_3 20 rfl rfl)
theorem dX19_sign_82 : decode cX19_sign 82 = .ok (.ifCond .ne 7, 3) := dk_154 0 7 (dk_at dksX19_sign_4 0 rfl rfl)
theorem dX19_sign_85 : decode cX19_sign 85 = .ok (.iconst 1, 1) := dk_4 (dk_at dksX19_sign_4 3 rfl rfl)
theorem dX19_sign_86 : decode cX19_sign 86 = .ok (.goto 4, 3) := dk_167 0 4 (dk_at dksX19_sign_4 4 rfl rfl)
theorem dX19_sign_89 : decode cX19_sign 89 = .ok (.iconst 0, 1) := dk_3 (dk_at dksX19_sign_4 7 rfl rfl)
theorem dX19_sign_90 : decode cX19_sign 90 = .ok (.ireturn, 1) := dk_172 (dk_at dksX19_sign_4 8 rfl rfl)
theorem dX19_sign_91 : decode cX19_sign 91 = .ok (.iload_n 3, 1) := dk_29 (dk_at dksX19_sign_4 9 rfl rfl)
theorem dX19_sign_92 : decode cX19_sign 92 = .ok (.ifCond .ne 8, 3) := dk_154 0 8 (dk_at dksX19_sign_4 10 rfl rfl)
theorem dX19_sign_95 : decode cX19_sign 95 = .ok (.iload 4, 2) := dk_21 4 (dk_at dksX19_sign_4 13 rfl rfl)
theorem dX19_sign_97 : decode cX19_sign 97 = .ok (.ifCond .eq 7, 3) := dk_153 0 7 (dk_at dksX19_sign_4 15 rfl rfl)
theorem dX19_sign_100 : decode cX19_sign 100 = .ok (.iconst 1, 1) := dk_4 (dk_at dksX19_sign_4 18 rfl rfl)
theorem dX19_sign_101 : decode cX19_sign 101 = .ok (.goto 4, 3) := dk_167 0 4 (dk_at dksX19_sign_4 19 rfl rfl)
theorem dX19_sign_104 : decode cX19_sign 104 = .ok (.iconst 0, 1) := dk_3 (dk_at dksX19_sign_4 22 rfl rfl)
theorem dX19_sign_105 : decode cX19_sign 105 = .ok (.ireturn, 1) := dk_172 (dk_at dksX19_sign_4 23 rfl rfl)
theorem dX19_sign_106 : decode cX19_sign 106 = .ok (.iload_n 3, 1) := dk_29 (dk_at dksX19_sign_5 0 rfl rfl)
theorem dX19_sign_107 : decode cX19_sign 107 = .ok (.ifCond .ne 7, 3) := dk_154 0 7 (dk_at dksX19_sign_5 1 rfl rfl)
theorem dX19_sign_110 : decode cX19_sign 110 = .ok (.iconst 1, 1) := dk_4 (dk_at dksX19_sign_5 4 rfl rfl)
theorem dX19_sign_111 : decode cX19_sign 111 = .ok (.goto 4, 3) := dk_167 0 4 (dk_at dksX19_sign_5 5 rfl rfl)
theorem dX19_sign_114 : decode cX19_sign 114 = .ok (.iconst 0, 1) := dk_3 (dk_at dksX19_sign_5 8 rfl rfl)
theorem dX19_sign_115 : decode cX19_sign 115 = .ok (.ireturn, 1) := dk_172 (dk_at dksX19_sign_5 9 rfl rfl)
abbrev cX19_isUnary : ByteArray := prog_9_method_30_code
def yX19_isUnary : MethodName := ⟨RX19, "isUnary", "(I)Z"⟩
def dkwX19_isUnary_1 : List UInt8 := [26, 16, 85, 163, 0, 7, 4, 167, 0, 4, 3, 172]
abbrev dktX19_isUnary_1 : List UInt8 := dkwX19_isUnary_1 ++ []
def dkwX19_isUnary_0 : List UInt8 := [26, 16, 69, 161, 0, 9, 26, 16, 72, 164, 0, 21, 26, 16, 76, 159, 0, 15, 26, 16, 80, 161, 0, 13]
abbrev dktX19_isUnary_0 : List UInt8 := dkwX19_isUnary_0 ++ dktX19_isUnary_1
theorem dksX19_isUnary_0 : cX19_isUnary.data.toList.drop 0 = dktX19_isUnary_0 := by decide +kernel
theorem dksX19_isUnary_1 : cX19_isUnary.data.toList.drop 24 = dktX19_isUnary_1 := dk_seg dksX19_isUnary_0 24 rfl rfl
theorem dX19_isUnary_0 : decode cX19_isUnary 0 = .ok (.iload_n 0, 1) := dk_26 (dk_at dksX19_isUnary_0 0 rfl rfl)
theorem dX19_isUnary_1 : decode cX19_isUnary 1 = .ok (.bipush 69, 2) := dk_16 69 (dk_at dksX19_isUnary_0 1 rfl rfl)
theorem dX19_isUnary_3 : decode cX19_isUnary 3 = .ok (.if_icmp .lt 9, 3) := dk_161 0 9 (dk_at dksX19_isUnary_0 3 rfl rfl)
theorem dX19_isUnary_6 : decode cX19_isUnary 6 = .ok (.iload_n 0, 1) := dk_26 (dk_at dksX19_isUnary_0 6 rfl rfl)
theorem dX19_isUnary_7 : decode cX19_isUnary 7 = .ok (.bipush 72, 2) := dk_16 72 (dk_at dksX19_isUnary_0 7 rfl rfl)
theorem dX19_isUnary_9 : decode cX19_isUnary 9 = .ok (.if_icmp .le 21, 3) := dk_164 0 21 (dk_at dksX19_isUnary_0 9 rfl rfl)
theorem dX19_isUnary_12 : decode cX19_isUnary 12 = .ok (.iload_n 0, 1) := dk_26 (dk_at dksX19_isUnary_0 12 rfl rfl)
theorem dX19_isUnary_13 : decode cX19_isUnary 13 = .ok (.bipush 76, 2) := dk_16 76 (dk_at dksX19_isUnary_0 13 rfl rfl)
theorem dX19_isUnary_15 : decode cX19_isUnary 15 = .ok (.if_icmp .eq 15, 3) := dk_159 0 15 (dk_at dksX19_isUnary_0 15 rfl rfl)
theorem dX19_isUnary_18 : decode cX19_isUnary 18 = .ok (.iload_n 0, 1) := dk_26 (dk_at dksX19_isUnary_0 18 rfl rfl)
theorem dX19_isUnary_19 : decode cX19_isUnary 19 = .ok (.bipush 80, 2) := dk_16 80 (dk_at dksX19_isUnary_0 19 rfl rfl)
theorem dX19_isUnary_21 : decode cX19_isUnary 21 = .ok (.if_icmp .lt 13, 3) := dk_161 0 13 (dk_at dksX19_isUnary_0 21 rfl rfl)
theorem dX19_isUnary_24 : decode cX19_isUnary 24 = .ok (.iload_n 0, 1) := dk_26 (dk_at dksX19_isUnary_1 0 rfl rfl)
theorem dX19_isUnary_25 : decode cX19_isUnary 25 = .ok (.bipush 85, 2) := dk_16 85 (dk_at dksX19_isUnary_1 1 rfl rfl)
theorem dX19_isUnary_27 : decode cX19_isUnary 27 = .ok (.if_icmp .gt 7, 3) := dk_163 0 7 (dk_at dksX19_isUnary_1 3 rfl rfl)
theorem dX19_isUnary_30 : decode cX19_isUnary 30 = .ok (.iconst 1, 1) := dk_4 (dk_at dksX19_isUnary_1 6 rfl rfl)
theorem dX19_isUnary_31 : decode cX19_isUnary 31 = .ok (.goto 4, 3) := dk_167 0 4 (dk_at dksX19_isUnary_1 7 rfl rfl)
theorem dX19_isUnary_34 : decode cX19_isUnary 34 = .ok (.iconst 0, 1) := dk_3 (dk_at dksX19_isUnary_1 10 rfl rfl)
theorem dX19_isUnary_35 : decode cX19_isUnary 35 = .ok (.ireturn, 1) := dk_172 (dk_at dksX19_isUnary_1 11 rfl rfl)
abbrev cX19_unary : ByteArray := prog_9_method_33_code
def yX19_unary : MethodName := ⟨RX19, "unary", "(II)V"⟩
def dkwX19_unary_13 : List UInt8 := [182, 0, 122, 177]
abbrev dktX19_unary_13 : List UInt8 := dkwX19_unary_13 ++ []
def dkwX19_unary_12 : List UInt8 := [154, 0, 7, 4, 167, 0, 4, 3, 181, 1, 48, 42, 42, 180, 0, 54, 42, 180, 0, 30, 182, 1, 56]
abbrev dktX19_unary_12 : List UInt8 := dkwX19_unary_12 ++ dktX19_unary_13
def dkwX19_unary_11 : List UInt8 := [182, 1, 63, 42, 180, 0, 30, 42, 180, 0, 30, 180, 1, 48, 154, 0, 17, 42, 180, 0, 30, 182, 1, 52]
abbrev dktX19_unary_11 : List UInt8 := dkwX19_unary_11 ++ dktX19_unary_12
def dkwX19_unary_10 : List UInt8 := [180, 0, 27, 10, 182, 1, 60, 42, 180, 0, 12, 42, 180, 0, 23, 42, 180, 0, 27, 3, 42, 180, 0, 30]
abbrev dktX19_unary_10 : List UInt8 := dkwX19_unary_10 ++ dktX19_unary_11
def dkwX19_unary_9 : List UInt8 := [153, 0, 8, 16, 8, 167, 0, 12, 42, 180, 0, 54, 7, 29, 182, 0, 156, 182, 0, 122, 167, 0, 78, 42]
abbrev dktX19_unary_9 : List UInt8 := dkwX19_unary_9 ++ dktX19_unary_10
def dkwX19_unary_8 : List UInt8 := [182, 0, 122, 167, 0, 117, 42, 29, 182, 0, 122, 167, 0, 109, 42, 42, 180, 0, 23, 180, 1, 48]
abbrev dktX19_unary_8 : List UInt8 := dkwX19_unary_8 ++ dktX19_unary_9
def dkwX19_unary_7 : List UInt8 := [167, 0, 143, 42, 180, 0, 23, 3, 181, 1, 48, 42, 42, 180, 0, 54, 42, 180, 0, 23, 182, 1, 56]
abbrev dktX19_unary_7 : List UInt8 := dkwX19_unary_7 ++ dktX19_unary_8
def dkwX19_unary_6 : List UInt8 := [4, 167, 0, 4, 3, 181, 1, 48, 42, 42, 180, 0, 54, 42, 180, 0, 23, 182, 1, 56, 182, 0, 122]
abbrev dktX19_unary_6 : List UInt8 := dkwX19_unary_6 ++ dktX19_unary_7
def dkwX19_unary_5 : List UInt8 := [42, 180, 0, 23, 42, 180, 0, 23, 180, 1, 48, 154, 0, 17, 42, 180, 0, 23, 182, 1, 52, 154, 0, 7]
abbrev dktX19_unary_5 : List UInt8 := dkwX19_unary_5 ++ dktX19_unary_6
def dkwX19_unary_4 : List UInt8 := [170, 0, 0, 0, 0, 0, 0, 147, 0, 0, 0, 69, 0, 0, 0, 72, 0, 0, 0, 32, 0, 0, 0, 82, 0, 0, 0, 108, 0, 0, 0, 116]
abbrev dktX19_unary_4 : List UInt8 := dkwX19_unary_4 ++ dktX19_unary_5
def dkwX19_unary_3 : List UInt8 := [182, 1, 44, 27]
abbrev dktX19_unary_3 : List UInt8 := dkwX19_unary_3 ++ dktX19_unary_4
def dkwX19_unary_2 : List UInt8 := [16, 8, 108, 96, 133, 182, 0, 183, 42, 182, 0, 139, 62, 42, 180, 0, 54, 29, 42, 180, 0, 23]
abbrev dktX19_unary_2 : List UInt8 := dkwX19_unary_2 ++ dktX19_unary_3
def dkwX19_unary_1 : List UInt8 := [160, 0, 7, 7, 167, 0, 5, 16, 6, 182, 0, 122, 177, 42, 180, 0, 94, 16, 10, 42, 3, 182, 0, 235]
abbrev dktX19_unary_1 : List UInt8 := dkwX19_unary_1 ++ dktX19_unary_2
def dkwX19_unary_0 : List UInt8 := [28, 4, 160, 0, 33, 42, 180, 0, 94, 20, 0, 206, 182, 0, 183, 42, 42, 182, 0, 139, 16, 6]
abbrev dktX19_unary_0 : List UInt8 := dkwX19_unary_0 ++ dktX19_unary_1
theorem dksX19_unary_0 : cX19_unary.data.toList.drop 0 = dktX19_unary_0 := by decide +kernel
theorem dksX19_unary_1 : cX19_unary.data.toList.drop 22 = dktX19_unary_1 := dk_seg dksX19_unary_0 22 rfl rfl
theorem dksX19_unary_2 : cX19_unary.data.toList.drop 46 = dktX19_unary_2 := dk_seg dksX19_unary_1 24 rfl rfl
theorem dksX19_unary_3 : cX19_unary.data.toList.drop 68 = dktX19_unary_3 := dk_seg dksX19_unary_2 22 rfl rfl
theorem dksX19_unary_4 : cX19_unary.data.toList.drop 72 = dktX19_unary_4 := dk_seg dksX19_unary_3 4 rfl rfl
theorem dksX19_unary_5 : cX19_unary.data.toList.drop 104 = dktX19_unary_5 := dk_seg dksX19_unary_4 32 rfl rfl
theorem dksX19_unary_6 : cX19_unary.data.toList.drop 128 = dktX19_unary_6 := dk_seg dksX19_unary_5 24 rfl rfl
theorem dksX19_unary_7 : cX19_unary.data.toList.drop 151 = dktX19_unary_7 := dk_seg dksX19_unary_6 23 rfl rfl
theorem dksX19_unary_8 : cX19_unary.data.toList.drop 174 = dktX19_unary_8 := dk_seg dksX19_unary_7 23 rfl rfl
theorem dksX19_unary_9 : cX19_unary.data.toList.drop 196 = dktX19_unary_9 := dk_seg dksX19_unary_8 22 rfl rfl
theorem dksX19_unary_10 : cX19_unary.data.toList.drop 220 = dktX19_unary_10 := dk_seg dksX19_unary_9 24 rfl rfl
theorem dksX19_unary_11 : cX19_unary.data.toList.drop 244 = dktX19_unary_11 := dk_seg dksX19_unary_10 24 rfl rfl
theorem dksX19_unary_12 : cX19_unary.data.toList.drop 268 = dktX19_unary_12 := dk_seg dksX19_unary_11 24 rfl rfl
theorem dksX19_unary_13 : cX19_unary.data.toList.drop 291 = dktX19_unary_13 := dk_seg dksX19_unary_12 23 rfl rfl
theorem dX19_unary_0 : decode cX19_unary 0 = .ok (.iload_n 2, 1) := dk_28 (dk_at dksX19_unary_0 0 rfl rfl)
theorem dX19_unary_1 : decode cX19_unary 1 = .ok (.iconst 1, 1) := dk_4 (dk_at dksX19_unary_0 1 rfl rfl)
theorem dX19_unary_2 : decode cX19_unary 2 = .ok (.if_icmp .ne 33, 3) := dk_160 0 33 (dk_at dksX19_unary_0 2 rfl rfl)
theorem dX19_unary_5 : decode cX19_unary 5 = .ok (.aload_n 0, 1) := dk_42 (dk_at dksX19_unary_0 5 rfl rfl)
theorem dX19_unary_6 : decode cX19_unary 6 = .ok (.getfield 94, 3) := dk_180 0 94 (dk_at dksX19_unary_0 6 rfl rfl)
theorem dX19_unary_9 : decode cX19_unary 9 = .ok (.ldc2_w 206, 3) := dk_20 0 206 (dk_at dksX19_unary_0 9 rfl rfl)
theorem dX19_unary_12 : decode cX19_unary 12 = .ok (.invokevirtual 183, 3) := dk_182 0 183 (dk_at dksX19_unary_0 12 rfl rfl)
theorem dX19_unary_15 : decode cX19_unary 15 = .ok (.aload_n 0, 1) := dk_42 (dk_at dksX19_unary_0 15 rfl rfl)
theorem dX19_unary_16 : decode cX19_unary 16 = .ok (.aload_n 0, 1) := dk_42 (dk_at dksX19_unary_0 16 rfl rfl)
theorem dX19_unary_17 : decode cX19_unary 17 = .ok (.invokevirtual 139, 3) := dk_182 0 139 (dk_at dksX19_unary_0 17 rfl rfl)
theorem dX19_unary_20 : decode cX19_unary 20 = .ok (.bipush 6, 2) := dk_16 6 (dk_at dksX19_unary_0 20 rfl rfl)
theorem dX19_unary_22 : decode cX19_unary 22 = .ok (.if_icmp .ne 7, 3) := dk_160 0 7 (dk_at dksX19_unary_1 0 rfl rfl)
theorem dX19_unary_25 : decode cX19_unary 25 = .ok (.iconst 4, 1) := dk_7 (dk_at dksX19_unary_1 3 rfl rfl)
theorem dX19_unary_26 : decode cX19_unary 26 = .ok (.goto 5, 3) := dk_167 0 5 (dk_at dksX19_unary_1 4 rfl rfl)
theorem dX19_unary_29 : decode cX19_unary 29 = .ok (.bipush 6, 2) := dk_16 6 (dk_at dksX19_unary_1 7 rfl rfl)
theorem dX19_unary_31 : decode cX19_unary 31 = .ok (.invokevirtual 122, 3) := dk_182 0 122 (dk_at dksX19_unary_1 9 rfl rfl)
theorem dX19_unary_34 : decode cX19_unary 34 = .ok (.return_, 1) := dk_177 (dk_at dksX19_unary_1 12 rfl rfl)
theorem dX19_unary_35 : decode cX19_unary 35 = .ok (.aload_n 0, 1) := dk_42 (dk_at dksX19_unary_1 13 rfl rfl)
theorem dX19_unary_36 : decode cX19_unary 36 = .ok (.getfield 94, 3) := dk_180 0 94 (dk_at dksX19_unary_1 14 rfl rfl)
theorem dX19_unary_39 : decode cX19_unary 39 = .ok (.bipush 10, 2) := dk_16 10 (dk_at dksX19_unary_1 17 rfl rfl)
theorem dX19_unary_41 : decode cX19_unary 41 = .ok (.aload_n 0, 1) := dk_42 (dk_at dksX19_unary_1 19 rfl rfl)
theorem dX19_unary_42 : decode cX19_unary 42 = .ok (.iconst 0, 1) := dk_3 (dk_at dksX19_unary_1 20 rfl rfl)
theorem dX19_unary_43 : decode cX19_unary 43 = .ok (.invokevirtual 235, 3) := dk_182 0 235 (dk_at dksX19_unary_1 21 rfl rfl)
theorem dX19_unary_46 : decode cX19_unary 46 = .ok (.bipush 8, 2) := dk_16 8 (dk_at dksX19_unary_2 0 rfl rfl)
theorem dX19_unary_48 : decode cX19_unary 48 = .ok (.idiv, 1) := dk_108 (dk_at dksX19_unary_2 2 rfl rfl)
theorem dX19_unary_49 : decode cX19_unary 49 = .ok (.iadd, 1) := dk_96 (dk_at dksX19_unary_2 3 rfl rfl)
theorem dX19_unary_50 : decode cX19_unary 50 = .ok (.i2l, 1) := dk_133 (dk_at dksX19_unary_2 4 rfl rfl)
theorem dX19_unary_51 : decode cX19_unary 51 = .ok (.invokevirtual 183, 3) := dk_182 0 183 (dk_at dksX19_unary_2 5 rfl rfl)
theorem dX19_unary_54 : decode cX19_unary 54 = .ok (.aload_n 0, 1) := dk_42 (dk_at dksX19_unary_2 8 rfl rfl)
theorem dX19_unary_55 : decode cX19_unary 55 = .ok (.invokevirtual 139, 3) := dk_182 0 139 (dk_at dksX19_unary_2 9 rfl rfl)
theorem dX19_unary_58 : decode cX19_unary 58 = .ok (.istore_n 3, 1) := dk_62 (dk_at dksX19_unary_2 12 rfl rfl)
theorem dX19_unary_59 : decode cX19_unary 59 = .ok (.aload_n 0, 1) := dk_42 (dk_at dksX19_unary_2 13 rfl rfl)
theorem dX19_unary_60 : decode cX19_unary 60 = .ok (.getfield 54, 3) := dk_180 0 54 (dk_at dksX19_unary_2 14 rfl rfl)
theorem dX19_unary_63 : decode cX19_unary 63 = .ok (.iload_n 3, 1) := dk_29 (dk_at dksX19_unary_2 17 rfl rfl)
theorem dX19_unary_64 : decode cX19_unary 64 = .ok (.aload_n 0, 1) := dk_42 (dk_at dksX19_unary_2 18 rfl rfl)
theorem dX19_unary_65 : decode cX19_unary 65 = .ok (.getfield 23, 3) := dk_180 0 23 (dk_at dksX19_unary_2 19 rfl rfl)
theorem dX19_unary_68 : decode cX19_unary 68 = .ok (.invokevirtual 300, 3) := dk_182 1 44 (dk_at dksX19_unary_3 0 rfl rfl)
theorem dX19_unary_71 : decode cX19_unary 71 = .ok (.iload_n 1, 1) := dk_27 (dk_at dksX19_unary_3 3 rfl rfl)
theorem dX19_unary_72 : decode cX19_unary 72 = .ok (.tableswitch 147 69 72 #[32, 82, 108, 116], 32) := by decide +kernel
theorem dX19_unary_104 : decode cX19_unary 104 = .ok (.aload_n 0, 1) := dk_42 (dk_at dksX19_unary_5 0 rfl rfl)
theorem dX19_unary_105 : decode cX19_unary 105 = .ok (.getfield 23, 3) := dk_180 0 23 (dk_at dksX19_unary_5 1 rfl rfl)
theorem dX19_unary_108 : decode cX19_unary 108 = .ok (.aload_n 0, 1) := dk_42 (dk_at dksX19_unary_5 4 rfl rfl)
theorem dX19_unary_109 : decode cX19_unary 109 = .ok (.getfield 23, 3) := dk_180 0 23 (dk_at dksX19_unary_5 5 rfl rfl)
theorem dX19_unary_112 : decode cX19_unary 112 = .ok (.getfield 304, 3) := dk_180 1 48 (dk_at dksX19_unary_5 8 rfl rfl)
theorem dX19_unary_115 : decode cX19_unary 115 = .ok (.ifCond .ne 17, 3) := dk_154 0 17 (dk_at dksX19_unary_5 11 rfl rfl)
theorem dX19_unary_118 : decode cX19_unary 118 = .ok (.aload_n 0, 1) := dk_42 (dk_at dksX19_unary_5 14 rfl rfl)
theorem dX19_unary_119 : decode cX19_unary 119 = .ok (.getfield 23, 3) := dk_180 0 23 (dk_at dksX19_unary_5 15 rfl rfl)
theorem dX19_unary_122 : decode cX19_unary 122 = .ok (.invokevirtual 308, 3) := dk_182 1 52 (dk_at dksX19_unary_5 18 rfl rfl)
theorem dX19_unary_125 : decode cX19_unary 125 = .ok (.ifCond .ne 7, 3) := dk_154 0 7 (dk_at dksX19_unary_5 21 rfl rfl)
theorem dX19_unary_128 : decode cX19_unary 128 = .ok (.iconst 1, 1) := dk_4 (dk_at dksX19_unary_6 0 rfl rfl)
theorem dX19_unary_129 : decode cX19_unary 129 = .ok (.goto 4, 3) := dk_167 0 4 (dk_at dksX19_unary_6 1 rfl rfl)
theorem dX19_unary_132 : decode cX19_unary 132 = .ok (.iconst 0, 1) := dk_3 (dk_at dksX19_unary_6 4 rfl rfl)
theorem dX19_unary_133 : decode cX19_unary 133 = .ok (.putfield 304, 3) := dk_181 1 48 (dk_at dksX19_unary_6 5 rfl rfl)
theorem dX19_unary_136 : decode cX19_unary 136 = .ok (.aload_n 0, 1) := dk_42 (dk_at dksX19_unary_6 8 rfl rfl)
theorem dX19_unary_137 : decode cX19_unary 137 = .ok (.aload_n 0, 1) := dk_42 (dk_at dksX19_unary_6 9 rfl rfl)
theorem dX19_unary_138 : decode cX19_unary 138 = .ok (.getfield 54, 3) := dk_180 0 54 (dk_at dksX19_unary_6 10 rfl rfl)
theorem dX19_unary_141 : decode cX19_unary 141 = .ok (.aload_n 0, 1) := dk_42 (dk_at dksX19_unary_6 13 rfl rfl)
theorem dX19_unary_142 : decode cX19_unary 142 = .ok (.getfield 23, 3) := dk_180 0 23 (dk_at dksX19_unary_6 14 rfl rfl)
theorem dX19_unary_145 : decode cX19_unary 145 = .ok (.invokevirtual 312, 3) := dk_182 1 56 (dk_at dksX19_unary_6 17 rfl rfl)
theorem dX19_unary_148 : decode cX19_unary 148 = .ok (.invokevirtual 122, 3) := dk_182 0 122 (dk_at dksX19_unary_6 20 rfl rfl)
theorem dX19_unary_151 : decode cX19_unary 151 = .ok (.goto 143, 3) := dk_167 0 143 (dk_at dksX19_unary_7 0 rfl rfl)
theorem dX19_unary_154 : decode cX19_unary 154 = .ok (.aload_n 0, 1) := dk_42 (dk_at dksX19_unary_7 3 rfl rfl)
theorem dX19_unary_155 : decode cX19_unary 155 = .ok (.getfield 23, 3) := dk_180 0 23 (dk_at dksX19_unary_7 4 rfl rfl)
theorem dX19_unary_158 : decode cX19_unary 158 = .ok (.iconst 0, 1) := dk_3 (dk_at dksX19_unary_7 7 rfl rfl)
theorem dX19_unary_159 : decode cX19_unary 159 = .ok (.putfield 304, 3) := dk_181 1 48 (dk_at dksX19_unary_7 8 rfl rfl)
theorem dX19_unary_162 : decode cX19_unary 162 = .ok (.aload_n 0, 1) := dk_42 (dk_at dksX19_unary_7 11 rfl rfl)
theorem dX19_unary_163 : decode cX19_unary 163 = .ok (.aload_n 0, 1) := dk_42 (dk_at dksX19_unary_7 12 rfl rfl)
theorem dX19_unary_164 : decode cX19_unary 164 = .ok (.getfield 54, 3) := dk_180 0 54 (dk_at dksX19_unary_7 13 rfl rfl)
theorem dX19_unary_167 : decode cX19_unary 167 = .ok (.aload_n 0, 1) := dk_42 (dk_at dksX19_unary_7 16 rfl rfl)
theorem dX19_unary_168 : decode cX19_unary 168 = .ok (.getfield 23, 3) := dk_180 0 23 (dk_at dksX19_unary_7 17 rfl rfl)
theorem dX19_unary_171 : decode cX19_unary 171 = .ok (.invokevirtual 312, 3) := dk_182 1 56 (dk_at dksX19_unary_7 20 rfl rfl)
theorem dX19_unary_174 : decode cX19_unary 174 = .ok (.invokevirtual 122, 3) := dk_182 0 122 (dk_at dksX19_unary_8 0 rfl rfl)
theorem dX19_unary_177 : decode cX19_unary 177 = .ok (.goto 117, 3) := dk_167 0 117 (dk_at dksX19_unary_8 3 rfl rfl)
theorem dX19_unary_180 : decode cX19_unary 180 = .ok (.aload_n 0, 1) := dk_42 (dk_at dksX19_unary_8 6 rfl rfl)
theorem dX19_unary_181 : decode cX19_unary 181 = .ok (.iload_n 3, 1) := dk_29 (dk_at dksX19_unary_8 7 rfl rfl)
theorem dX19_unary_182 : decode cX19_unary 182 = .ok (.invokevirtual 122, 3) := dk_182 0 122 (dk_at dksX19_unary_8 8 rfl rfl)
theorem dX19_unary_185 : decode cX19_unary 185 = .ok (.goto 109, 3) := dk_167 0 109 (dk_at dksX19_unary_8 11 rfl rfl)
theorem dX19_unary_188 : decode cX19_unary 188 = .ok (.aload_n 0, 1) := dk_42 (dk_at dksX19_unary_8 14 rfl rfl)
theorem dX19_unary_189 : decode cX19_unary 189 = .ok (.aload_n 0, 1) := dk_42 (dk_at dksX19_unary_8 15 rfl rfl)
theorem dX19_unary_190 : decode cX19_unary 190 = .ok (.getfield 23, 3) := dk_180 0 23 (dk_at dksX19_unary_8 16 rfl rfl)
theorem dX19_unary_193 : decode cX19_unary 193 = .ok (.getfield 304, 3) := dk_180 1 48 (dk_at dksX19_unary_8 19 rfl rfl)
theorem dX19_unary_196 : decode cX19_unary 196 = .ok (.ifCond .eq 8, 3) := dk_153 0 8 (dk_at dksX19_unary_9 0 rfl rfl)
theorem dX19_unary_199 : decode cX19_unary 199 = .ok (.bipush 8, 2) := dk_16 8 (dk_at dksX19_unary_9 3 rfl rfl)
theorem dX19_unary_201 : decode cX19_unary 201 = .ok (.goto 12, 3) := dk_167 0 12 (dk_at dksX19_unary_9 5 rfl rfl)
theorem dX19_unary_204 : decode cX19_unary 204 = .ok (.aload_n 0, 1) := dk_42 (dk_at dksX19_unary_9 8 rfl rfl)
theorem dX19_unary_205 : decode cX19_unary 205 = .ok (.getfield 54, 3) := dk_180 0 54 (dk_at dksX19_unary_9 9 rfl rfl)
theorem dX19_unary_208 : decode cX19_unary 208 = .ok (.iconst 4, 1) := dk_7 (dk_at dksX19_unary_9 12 rfl rfl)
theorem dX19_unary_209 : decode cX19_unary 209 = .ok (.iload_n 3, 1) := dk_29 (dk_at dksX19_unary_9 13 rfl rfl)
theorem dX19_unary_210 : decode cX19_unary 210 = .ok (.invokevirtual 156, 3) := dk_182 0 156 (dk_at dksX19_unary_9 14 rfl rfl)
theorem dX19_unary_213 : decode cX19_unary 213 = .ok (.invokevirtual 122, 3) := dk_182 0 122 (dk_at dksX19_unary_9 17 rfl rfl)
theorem dX19_unary_216 : decode cX19_unary 216 = .ok (.goto 78, 3) := dk_167 0 78 (dk_at dksX19_unary_9 20 rfl rfl)
theorem dX19_unary_219 : decode cX19_unary 219 = .ok (.aload_n 0, 1) := dk_42 (dk_at dksX19_unary_9 23 rfl rfl)
theorem dX19_unary_220 : decode cX19_unary 220 = .ok (.getfield 27, 3) := dk_180 0 27 (dk_at dksX19_unary_10 0 rfl rfl)
theorem dX19_unary_223 : decode cX19_unary 223 = .ok (.lconst 1, 1) := dk_10 (dk_at dksX19_unary_10 3 rfl rfl)
theorem dX19_unary_224 : decode cX19_unary 224 = .ok (.invokevirtual 316, 3) := dk_182 1 60 (dk_at dksX19_unary_10 4 rfl rfl)
theorem dX19_unary_227 : decode cX19_unary 227 = .ok (.aload_n 0, 1) := dk_42 (dk_at dksX19_unary_10 7 rfl rfl)
theorem dX19_unary_228 : decode cX19_unary 228 = .ok (.getfield 12, 3) := dk_180 0 12 (dk_at dksX19_unary_10 8 rfl rfl)
theorem dX19_unary_231 : decode cX19_unary 231 = .ok (.aload_n 0, 1) := dk_42 (dk_at dksX19_unary_10 11 rfl rfl)
theorem dX19_unary_232 : decode cX19_unary 232 = .ok (.getfield 23, 3) := dk_180 0 23 (dk_at dksX19_unary_10 12 rfl rfl)
theorem dX19_unary_235 : decode cX19_unary 235 = .ok (.aload_n 0, 1) := dk_42 (dk_at dksX19_unary_10 15 rfl rfl)
theorem dX19_unary_236 : decode cX19_unary 236 = .ok (.getfield 27, 3) := dk_180 0 27 (dk_at dksX19_unary_10 16 rfl rfl)
theorem dX19_unary_239 : decode cX19_unary 239 = .ok (.iconst 0, 1) := dk_3 (dk_at dksX19_unary_10 19 rfl rfl)
theorem dX19_unary_240 : decode cX19_unary 240 = .ok (.aload_n 0, 1) := dk_42 (dk_at dksX19_unary_10 20 rfl rfl)
theorem dX19_unary_241 : decode cX19_unary 241 = .ok (.getfield 30, 3) := dk_180 0 30 (dk_at dksX19_unary_10 21 rfl rfl)
theorem dX19_unary_244 : decode cX19_unary 244 = .ok (.invokevirtual 319, 3) := dk_182 1 63 (dk_at dksX19_unary_11 0 rfl rfl)
theorem dX19_unary_247 : decode cX19_unary 247 = .ok (.aload_n 0, 1) := dk_42 (dk_at dksX19_unary_11 3 rfl rfl)
theorem dX19_unary_248 : decode cX19_unary 248 = .ok (.getfield 30, 3) := dk_180 0 30 (dk_at dksX19_unary_11 4 rfl rfl)
theorem dX19_unary_251 : decode cX19_unary 251 = .ok (.aload_n 0, 1) := dk_42 (dk_at dksX19_unary_11 7 rfl rfl)
theorem dX19_unary_252 : decode cX19_unary 252 = .ok (.getfield 30, 3) := dk_180 0 30 (dk_at dksX19_unary_11 8 rfl rfl)
theorem dX19_unary_255 : decode cX19_unary 255 = .ok (.getfield 304, 3) := dk_180 1 48 (dk_at dksX19_unary_11 11 rfl rfl)
theorem dX19_unary_258 : decode cX19_unary 258 = .ok (.ifCond .ne 17, 3) := dk_154 0 17 (dk_at dksX19_unary_11 14 rfl rfl)
theorem dX19_unary_261 : decode cX19_unary 261 = .ok (.aload_n 0, 1) := dk_42 (dk_at dksX19_unary_11 17 rfl rfl)
theorem dX19_unary_262 : decode cX19_unary 262 = .ok (.getfield 30, 3) := dk_180 0 30 (dk_at dksX19_unary_11 18 rfl rfl)
theorem dX19_unary_265 : decode cX19_unary 265 = .ok (.invokevirtual 308, 3) := dk_182 1 52 (dk_at dksX19_unary_11 21 rfl rfl)
theorem dX19_unary_268 : decode cX19_unary 268 = .ok (.ifCond .ne 7, 3) := dk_154 0 7 (dk_at dksX19_unary_12 0 rfl rfl)
theorem dX19_unary_271 : decode cX19_unary 271 = .ok (.iconst 1, 1) := dk_4 (dk_at dksX19_unary_12 3 rfl rfl)
theorem dX19_unary_272 : decode cX19_unary 272 = .ok (.goto 4, 3) := dk_167 0 4 (dk_at dksX19_unary_12 4 rfl rfl)
theorem dX19_unary_275 : decode cX19_unary 275 = .ok (.iconst 0, 1) := dk_3 (dk_at dksX19_unary_12 7 rfl rfl)
theorem dX19_unary_276 : decode cX19_unary 276 = .ok (.putfield 304, 3) := dk_181 1 48 (dk_at dksX19_unary_12 8 rfl rfl)
theorem dX19_unary_279 : decode cX19_unary 279 = .ok (.aload_n 0, 1) := dk_42 (dk_at dksX19_unary_12 11 rfl rfl)
theorem dX19_unary_280 : decode cX19_unary 280 = .ok (.aload_n 0, 1) := dk_42 (dk_at dksX19_unary_12 12 rfl rfl)
theorem dX19_unary_281 : decode cX19_unary 281 = .ok (.getfield 54, 3) := dk_180 0 54 (dk_at dksX19_unary_12 13 rfl rfl)
theorem dX19_unary_284 : decode cX19_unary 284 = .ok (.aload_n 0, 1) := dk_42 (dk_at dksX19_unary_12 16 rfl rfl)
theorem dX19_unary_285 : decode cX19_unary 285 = .ok (.getfield 30, 3) := dk_180 0 30 (dk_at dksX19_unary_12 17 rfl rfl)
theorem dX19_unary_288 : decode cX19_unary 288 = .ok (.invokevirtual 312, 3) := dk_182 1 56 (dk_at dksX19_unary_12 20 rfl rfl)
theorem dX19_unary_291 : decode cX19_unary 291 = .ok (.invokevirtual 122, 3) := dk_182 0 122 (dk_at dksX19_unary_13 0 rfl rfl)
theorem dX19_unary_294 : decode cX19_unary 294 = .ok (.return_, 1) := dk_177 (dk_at dksX19_unary_13 3 rfl rfl)
abbrev cX19_binary : ByteArray := prog_9_method_34_code
def yX19_binary : MethodName := ⟨RX19, "binary", "(II)V"⟩
def dkwX19_binary_16 : List UInt8 := [180, 0, 30, 182, 1, 88, 42, 3, 182, 1, 77, 177]
abbrev dktX19_binary_16 : List UInt8 := dkwX19_binary_16 ++ []
def dkwX19_binary_15 : List UInt8 := [182, 1, 85, 167, 0, 31, 42, 180, 0, 12, 42, 180, 0, 23, 42, 180, 0, 27, 27, 16, 73, 100, 42]
abbrev dktX19_binary_15 : List UInt8 := dkwX19_binary_15 ++ dktX19_binary_16
def dkwX19_binary_14 : List UInt8 := [180, 0, 30, 182, 1, 81, 42, 28, 7, 160, 0, 7, 4, 167, 0, 4, 3, 182, 1, 77, 167, 0, 38, 42]
abbrev dktX19_binary_14 : List UInt8 := dkwX19_binary_14 ++ dktX19_binary_15
def dkwX19_binary_13 : List UInt8 := [182, 0, 156, 182, 0, 122, 167, 0, 74, 42, 180, 0, 12, 42, 180, 0, 23, 42, 180, 0, 27, 42]
abbrev dktX19_binary_13 : List UInt8 := dkwX19_binary_13 ++ dktX19_binary_14
def dkwX19_binary_12 : List UInt8 := [153, 0, 8, 16, 8, 167, 0, 22, 42, 180, 0, 54, 7, 42, 180, 0, 54, 42, 180, 0, 30, 182, 1, 56]
abbrev dktX19_binary_12 : List UInt8 := dkwX19_binary_12 ++ dktX19_binary_13
def dkwX19_binary_11 : List UInt8 := [180, 0, 23, 42, 180, 0, 27, 4, 42, 180, 0, 30, 182, 1, 63, 42, 42, 180, 0, 30, 180, 1, 48]
abbrev dktX19_binary_11 : List UInt8 := dkwX19_binary_11 ++ dktX19_binary_12
def dkwX19_binary_10 : List UInt8 := [180, 0, 27, 4, 42, 180, 0, 30, 182, 1, 63, 42, 3, 182, 1, 77, 167, 0, 135, 42, 180, 0, 12, 42]
abbrev dktX19_binary_10 : List UInt8 := dkwX19_binary_10 ++ dktX19_binary_11
def dkwX19_binary_9 : List UInt8 := [160, 0, 7, 4, 167, 0, 4, 3, 182, 1, 77, 167, 0, 163, 42, 180, 0, 12, 42, 180, 0, 23, 42]
abbrev dktX19_binary_9 : List UInt8 := dkwX19_binary_9 ++ dktX19_binary_10
def dkwX19_binary_8 : List UInt8 := [42, 180, 0, 12, 42, 180, 0, 23, 42, 180, 0, 27, 3, 42, 180, 0, 30, 182, 1, 63, 42, 28, 7]
abbrev dktX19_binary_8 : List UInt8 := dkwX19_binary_8 ++ dktX19_binary_9
def dkwX19_binary_7 : List UInt8 := [170, 0, 0, 0, 0, 203, 0, 0, 0, 64, 0, 0, 0, 68, 0, 0, 0, 34, 0, 0, 0, 71, 0, 0, 0, 99, 0, 0, 0, 160, 0, 0, 0, 196]
abbrev dktX19_binary_7 : List UInt8 := dkwX19_binary_7 ++ dktX19_binary_8
def dkwX19_binary_6 : List UInt8 := [180, 0, 54, 21, 4, 42, 180, 0, 27, 182, 1, 44, 27]
abbrev dktX19_binary_6 : List UInt8 := dkwX19_binary_6 ++ dktX19_binary_7
def dkwX19_binary_5 : List UInt8 := [22, 8, 105, 182, 1, 73, 182, 0, 122, 177, 42, 180, 0, 54, 29, 42, 180, 0, 23, 182, 1, 44, 42]
abbrev dktX19_binary_5 : List UInt8 := dkwX19_binary_5 ++ dktX19_binary_6
def dkwX19_binary_4 : List UInt8 := [22, 6, 22, 8, 97, 167, 0, 22, 27, 16, 65, 160, 0, 11, 22, 6, 22, 8, 101, 167, 0, 8, 22, 6]
abbrev dktX19_binary_4 : List UInt8 := dkwX19_binary_4 ++ dktX19_binary_5
def dkwX19_binary_3 : List UInt8 := [4, 122, 133, 55, 6, 21, 4, 4, 122, 133, 55, 8, 42, 42, 180, 0, 54, 27, 16, 64, 160, 0, 11]
abbrev dktX19_binary_3 : List UInt8 := dkwX19_binary_3 ++ dktX19_binary_4
def dkwX19_binary_2 : List UInt8 := [21, 5, 153, 0, 79, 27, 16, 64, 159, 0, 15, 27, 16, 65, 159, 0, 9, 27, 16, 67, 160, 0, 61, 29]
abbrev dktX19_binary_2 : List UInt8 := dkwX19_binary_2 ++ dktX19_binary_3
def dkwX19_binary_1 : List UInt8 := [42, 4, 182, 0, 102, 54, 4, 42, 182, 1, 70, 54, 5, 42, 89, 180, 0, 98, 5, 100, 181, 0, 98]
abbrev dktX19_binary_1 : List UInt8 := dkwX19_binary_1 ++ dktX19_binary_2
def dkwX19_binary_0 : List UInt8 := [27, 16, 77, 159, 0, 9, 27, 16, 78, 160, 0, 9, 42, 27, 182, 1, 67, 177, 42, 3, 182, 0, 102, 62]
abbrev dktX19_binary_0 : List UInt8 := dkwX19_binary_0 ++ dktX19_binary_1
theorem dksX19_binary_0 : cX19_binary.data.toList.drop 0 = dktX19_binary_0 := by decide +kernel
theorem dksX19_binary_1 : cX19_binary.data.toList.drop 24 = dktX19_binary_1 := dk_seg dksX19_binary_0 24 rfl rfl
theorem dksX19_binary_2 : cX19_binary.data.toList.drop 47 = dktX19_binary_2 := dk_seg dksX19_binary_1 23 rfl rfl
theorem dksX19_binary_3 : cX19_binary.data.toList.drop 71 = dktX19_binary_3 := dk_seg dksX19_binary_2 24 rfl rfl
theorem dksX19_binary_4 : cX19_binary.data.toList.drop 94 = dktX19_binary_4 := dk_seg dksX19_binary_3 23 rfl rfl
theorem dksX19_binary_5 : cX19_binary.data.toList.drop 118 = dktX19_binary_5 := dk_seg dksX19_binary_4 24 rfl rfl
theorem dksX19_binary_6 : cX19_binary.data.toList.drop 141 = dktX19_binary_6 := dk_seg dksX19_binary_5 23 rfl rfl
theorem dksX19_binary_7 : cX19_binary.data.toList.drop 154 = dktX19_binary_7 := dk_seg dksX19_binary_6 13 rfl rfl
theorem dksX19_binary_8 : cX19_binary.data.toList.drop 188 = dktX19_binary_8 := dk_seg dksX19_binary_7 34 rfl rfl
theorem dksX19_binary_9 : cX19_binary.data.toList.drop 211 = dktX19_binary_9 := dk_seg dksX19_binary_8 23 rfl rfl
theorem dksX19_binary_10 : cX19_binary.data.toList.drop 234 = dktX19_binary_10 := dk_seg dksX19_binary_9 23 rfl rfl
theorem dksX19_binary_11 : cX19_binary.data.toList.drop 258 = dktX19_binary_11 := dk_seg dksX19_binary_10 24 rfl rfl
theorem dksX19_binary_12 : cX19_binary.data.toList.drop 281 = dktX19_binary_12 := dk_seg dksX19_binary_11 23 rfl rfl
theorem dksX19_binary_13 : cX19_binary.data.toList.drop 305 = dktX19_binary_13 := dk_seg dksX19_binary_12 24 rfl rfl
theorem dksX19_binary_14 : cX19_binary.data.toList.drop 327 = dktX19_binary_14 := dk_seg dksX19_binary_13 22 rfl rfl
theorem dksX19_binary_15 : cX19_binary.data.toList.drop 351 = dktX19_binary_15 := dk_seg dksX19_binary_14 24 rfl rfl
theorem dksX19_binary_16 : cX19_binary.data.toList.drop 374 = dktX19_binary_16 := dk_seg dksX19_binary_15 23 rfl rfl
theorem dX19_binary_0 : decode cX19_binary 0 = .ok (.iload_n 1, 1) := dk_27 (dk_at dksX19_binary_0 0 rfl rfl)
theorem dX19_binary_1 : decode cX19_binary 1 = .ok (.bipush 77, 2) := dk_16 77 (dk_at dksX19_binary_0 1 rfl rfl)
theorem dX19_binary_3 : decode cX19_binary 3 = .ok (.if_icmp .eq 9, 3) := dk_159 0 9 (dk_at dksX19_binary_0 3 rfl rfl)
theorem dX19_binary_6 : decode cX19_binary 6 = .ok (.iload_n 1, 1) := dk_27 (dk_at dksX19_binary_0 6 rfl rfl)
theorem dX19_binary_7 : decode cX19_binary 7 = .ok (.bipush 78, 2) := dk_16 78 (dk_at dksX19_binary_0 7 rfl rfl)
theorem dX19_binary_9 : decode cX19_binary 9 = .ok (.if_icmp .ne 9, 3) := dk_160 0 9 (dk_at dksX19_binary_0 9 rfl rfl)
theorem dX19_binary_12 : decode cX19_binary 12 = .ok (.aload_n 0, 1) := dk_42 (dk_at dksX19_binary_0 12 rfl rfl)
theorem dX19_binary_13 : decode cX19_binary 13 = .ok (.iload_n 1, 1) := dk_27 (dk_at dksX19_binary_0 13 rfl rfl)
theorem dX19_binary_14 : decode cX19_binary 14 = .ok (.invokevirtual 323, 3) := dk_182 1 67 (dk_at dksX19_binary_0 14 rfl rfl)
theorem dX19_binary_17 : decode cX19_binary 17 = .ok (.return_, 1) := dk_177 (dk_at dksX19_binary_0 17 rfl rfl)
theorem dX19_binary_18 : decode cX19_binary 18 = .ok (.aload_n 0, 1) := dk_42 (dk_at dksX19_binary_0 18 rfl rfl)
theorem dX19_binary_19 : decode cX19_binary 19 = .ok (.iconst 0, 1) := dk_3 (dk_at dksX19_binary_0 19 rfl rfl)
theorem dX19_binary_20 : decode cX19_binary 20 = .ok (.invokevirtual 102, 3) := dk_182 0 102 (dk_at dksX19_binary_0 20 rfl rfl)
theorem dX19_binary_23 : decode cX19_binary 23 = .ok (.istore_n 3, 1) := dk_62 (dk_at dksX19_binary_0 23 rfl rfl)
theorem dX19_binary_24 : decode cX19_binary 24 = .ok (.aload_n 0, 1) := dk_42 (dk_at dksX19_binary_1 0 rfl rfl)
theorem dX19_binary_25 : decode cX19_binary 25 = .ok (.iconst 1, 1) := dk_4 (dk_at dksX19_binary_1 1 rfl rfl)
theorem dX19_binary_26 : decode cX19_binary 26 = .ok (.invokevirtual 102, 3) := dk_182 0 102 (dk_at dksX19_binary_1 2 rfl rfl)
theorem dX19_binary_29 : decode cX19_binary 29 = .ok (.istore 4, 2) := dk_54 4 (dk_at dksX19_binary_1 5 rfl rfl)
theorem dX19_binary_31 : decode cX19_binary 31 = .ok (.aload_n 0, 1) := dk_42 (dk_at dksX19_binary_1 7 rfl rfl)
theorem dX19_binary_32 : decode cX19_binary 32 = .ok (.invokevirtual 326, 3) := dk_182 1 70 (dk_at dksX19_binary_1 8 rfl rfl)
theorem dX19_binary_35 : decode cX19_binary 35 = .ok (.istore 5, 2) := dk_54 5 (dk_at dksX19_binary_1 11 rfl rfl)
theorem dX19_binary_37 : decode cX19_binary 37 = .ok (.aload_n 0, 1) := dk_42 (dk_at dksX19_binary_1 13 rfl rfl)
theorem dX19_binary_38 : decode cX19_binary 38 = .ok (.dup, 1) := dk_89 (dk_at dksX19_binary_1 14 rfl rfl)
theorem dX19_binary_39 : decode cX19_binary 39 = .ok (.getfield 98, 3) := dk_180 0 98 (dk_at dksX19_binary_1 15 rfl rfl)
theorem dX19_binary_42 : decode cX19_binary 42 = .ok (.iconst 2, 1) := dk_5 (dk_at dksX19_binary_1 18 rfl rfl)
theorem dX19_binary_43 : decode cX19_binary 43 = .ok (.isub, 1) := dk_100 (dk_at dksX19_binary_1 19 rfl rfl)
theorem dX19_binary_44 : decode cX19_binary 44 = .ok (.putfield 98, 3) := dk_181 0 98 (dk_at dksX19_binary_1 20 rfl rfl)
theorem dX19_binary_47 : decode cX19_binary 47 = .ok (.iload 5, 2) := dk_21 5 (dk_at dksX19_binary_2 0 rfl rfl)
theorem dX19_binary_49 : decode cX19_binary 49 = .ok (.ifCond .eq 79, 3) := dk_153 0 79 (dk_at dksX19_binary_2 2 rfl rfl)
theorem dX19_binary_52 : decode cX19_binary 52 = .ok (.iload_n 1, 1) := dk_27 (dk_at dksX19_binary_2 5 rfl rfl)
theorem dX19_binary_53 : decode cX19_binary 53 = .ok (.bipush 64, 2) := dk_16 64 (dk_at dksX19_binary_2 6 rfl rfl)
theorem dX19_binary_55 : decode cX19_binary 55 = .ok (.if_icmp .eq 15, 3) := dk_159 0 15 (dk_at dksX19_binary_2 8 rfl rfl)
theorem dX19_binary_58 : decode cX19_binary 58 = .ok (.iload_n 1, 1) := dk_27 (dk_at dksX19_binary_2 11 rfl rfl)
theorem dX19_binary_59 : decode cX19_binary 59 = .ok (.bipush 65, 2) := dk_16 65 (dk_at dksX19_binary_2 12 rfl rfl)
theorem dX19_binary_61 : decode cX19_binary 61 = .ok (.if_icmp .eq 9, 3) := dk_159 0 9 (dk_at dksX19_binary_2 14 rfl rfl)
theorem dX19_binary_64 : decode cX19_binary 64 = .ok (.iload_n 1, 1) := dk_27 (dk_at dksX19_binary_2 17 rfl rfl)
theorem dX19_binary_65 : decode cX19_binary 65 = .ok (.bipush 67, 2) := dk_16 67 (dk_at dksX19_binary_2 18 rfl rfl)
theorem dX19_binary_67 : decode cX19_binary 67 = .ok (.if_icmp .ne 61, 3) := dk_160 0 61 (dk_at dksX19_binary_2 20 rfl rfl)
theorem dX19_binary_70 : decode cX19_binary 70 = .ok (.iload_n 3, 1) := dk_29 (dk_at dksX19_binary_2 23 rfl rfl)
theorem dX19_binary_71 : decode cX19_binary 71 = .ok (.iconst 1, 1) := dk_4 (dk_at dksX19_binary_3 0 rfl rfl)
theorem dX19_binary_72 : decode cX19_binary 72 = .ok (.ishr, 1) := dk_122 (dk_at dksX19_binary_3 1 rfl rfl)
theorem dX19_binary_73 : decode cX19_binary 73 = .ok (.i2l, 1) := dk_133 (dk_at dksX19_binary_3 2 rfl rfl)
theorem dX19_binary_74 : decode cX19_binary 74 = .ok (.lstore 6, 2) := dk_55 6 (dk_at dksX19_binary_3 3 rfl rfl)
theorem dX19_binary_76 : decode cX19_binary 76 = .ok (.iload 4, 2) := dk_21 4 (dk_at dksX19_binary_3 5 rfl rfl)
theorem dX19_binary_78 : decode cX19_binary 78 = .ok (.iconst 1, 1) := dk_4 (dk_at dksX19_binary_3 7 rfl rfl)
theorem dX19_binary_79 : decode cX19_binary 79 = .ok (.ishr, 1) := dk_122 (dk_at dksX19_binary_3 8 rfl rfl)
theorem dX19_binary_80 : decode cX19_binary 80 = .ok (.i2l, 1) := dk_133 (dk_at dksX19_binary_3 9 rfl rfl)
theorem dX19_binary_81 : decode cX19_binary 81 = .ok (.lstore 8, 2) := dk_55 8 (dk_at dksX19_binary_3 10 rfl rfl)
theorem dX19_binary_83 : decode cX19_binary 83 = .ok (.aload_n 0, 1) := dk_42 (dk_at dksX19_binary_3 12 rfl rfl)
theorem dX19_binary_84 : decode cX19_binary 84 = .ok (.aload_n 0, 1) := dk_42 (dk_at dksX19_binary_3 13 rfl rfl)
theorem dX19_binary_85 : decode cX19_binary 85 = .ok (.getfield 54, 3) := dk_180 0 54 (dk_at dksX19_binary_3 14 rfl rfl)
theorem dX19_binary_88 : decode cX19_binary 88 = .ok (.iload_n 1, 1) := dk_27 (dk_at dksX19_binary_3 17 rfl rfl)
theorem dX19_binary_89 : decode cX19_binary 89 = .ok (.bipush 64, 2) := dk_16 64 (dk_at dksX19_binary_3 18 rfl rfl)
theorem dX19_binary_91 : decode cX19_binary 91 = .ok (.if_icmp .ne 11, 3) := dk_160 0 11 (dk_at dksX19_binary_3 20 rfl rfl)
theorem dX19_binary_94 : decode cX19_binary 94 = .ok (.lload 6, 2) := dk_22 6 (dk_at dksX19_binary_4 0 rfl rfl)
theorem dX19_binary_96 : decode cX19_binary 96 = .ok (.lload 8, 2) := dk_22 8 (dk_at dksX19_binary_4 2 rfl rfl)
theorem dX19_binary_98 : decode cX19_binary 98 = .ok (.ladd, 1) := dk_97 (dk_at dksX19_binary_4 4 rfl rfl)
theorem dX19_binary_99 : decode cX19_binary 99 = .ok (.goto 22, 3) := dk_167 0 22 (dk_at dksX19_binary_4 5 rfl rfl)
theorem dX19_binary_102 : decode cX19_binary 102 = .ok (.iload_n 1, 1) := dk_27 (dk_at dksX19_binary_4 8 rfl rfl)
theorem dX19_binary_103 : decode cX19_binary 103 = .ok (.bipush 65, 2) := dk_16 65 (dk_at dksX19_binary_4 9 rfl rfl)
theorem dX19_binary_105 : decode cX19_binary 105 = .ok (.if_icmp .ne 11, 3) := dk_160 0 11 (dk_at dksX19_binary_4 11 rfl rfl)
theorem dX19_binary_108 : decode cX19_binary 108 = .ok (.lload 6, 2) := dk_22 6 (dk_at dksX19_binary_4 14 rfl rfl)
theorem dX19_binary_110 : decode cX19_binary 110 = .ok (.lload 8, 2) := dk_22 8 (dk_at dksX19_binary_4 16 rfl rfl)
theorem dX19_binary_112 : decode cX19_binary 112 = .ok (.lsub, 1) := dk_101 (dk_at dksX19_binary_4 18 rfl rfl)
theorem dX19_binary_113 : decode cX19_binary 113 = .ok (.goto 8, 3) := dk_167 0 8 (dk_at dksX19_binary_4 19 rfl rfl)
theorem dX19_binary_116 : decode cX19_binary 116 = .ok (.lload 6, 2) := dk_22 6 (dk_at dksX19_binary_4 22 rfl rfl)
theorem dX19_binary_118 : decode cX19_binary 118 = .ok (.lload 8, 2) := dk_22 8 (dk_at dksX19_binary_5 0 rfl rfl)
theorem dX19_binary_120 : decode cX19_binary 120 = .ok (.lmul, 1) := dk_105 (dk_at dksX19_binary_5 2 rfl rfl)
theorem dX19_binary_121 : decode cX19_binary 121 = .ok (.invokevirtual 329, 3) := dk_182 1 73 (dk_at dksX19_binary_5 3 rfl rfl)
theorem dX19_binary_124 : decode cX19_binary 124 = .ok (.invokevirtual 122, 3) := dk_182 0 122 (dk_at dksX19_binary_5 6 rfl rfl)
theorem dX19_binary_127 : decode cX19_binary 127 = .ok (.return_, 1) := dk_177 (dk_at dksX19_binary_5 9 rfl rfl)
theorem dX19_binary_128 : decode cX19_binary 128 = .ok (.aload_n 0, 1) := dk_42 (dk_at dksX19_binary_5 10 rfl rfl)
theorem dX19_binary_129 : decode cX19_binary 129 = .ok (.getfield 54, 3) := dk_180 0 54 (dk_at dksX19_binary_5 11 rfl rfl)
theorem dX19_binary_132 : decode cX19_binary 132 = .ok (.iload_n 3, 1) := dk_29 (dk_at dksX19_binary_5 14 rfl rfl)
theorem dX19_binary_133 : decode cX19_binary 133 = .ok (.aload_n 0, 1) := dk_42 (dk_at dksX19_binary_5 15 rfl rfl)
theorem dX19_binary_134 : decode cX19_binary 134 = .ok (.getfield 23, 3) := dk_180 0 23 (dk_at dksX19_binary_5 16 rfl rfl)
theorem dX19_binary_137 : decode cX19_binary 137 = .ok (.invokevirtual 300, 3) := dk_182 1 44 (dk_at dksX19_binary_5 19 rfl rfl)
theorem dX19_binary_140 : decode cX19_binary 140 = .ok (.aload_n 0, 1) := dk_42 (dk_at dksX19_binary_5 22 rfl rfl)
theorem dX19_binary_141 : decode cX19_binary 141 = .ok (.getfield 54, 3) := dk_180 0 54 (dk_at dksX19_binary_6 0 rfl rfl)
theorem dX19_binary_144 : decode cX19_binary 144 = .ok (.iload 4, 2) := dk_21 4 (dk_at dksX19_binary_6 3 rfl rfl)
theorem dX19_binary_146 : decode cX19_binary 146 = .ok (.aload_n 0, 1) := dk_42 (dk_at dksX19_binary_6 5 rfl rfl)
theorem dX19_binary_147 : decode cX19_binary 147 = .ok (.getfield 27, 3) := dk_180 0 27 (dk_at dksX19_binary_6 6 rfl rfl)
theorem dX19_binary_150 : decode cX19_binary 150 = .ok (.invokevirtual 300, 3) := dk_182 1 44 (dk_at dksX19_binary_6 9 rfl rfl)
theorem dX19_binary_153 : decode cX19_binary 153 = .ok (.iload_n 1, 1) := dk_27 (dk_at dksX19_binary_6 12 rfl rfl)
theorem dX19_binary_154 : decode cX19_binary 154 = .ok (.tableswitch 203 64 68 #[34, 71, 99, 160, 196], 34) := by decide +kernel
theorem dX19_binary_188 : decode cX19_binary 188 = .ok (.aload_n 0, 1) := dk_42 (dk_at dksX19_binary_8 0 rfl rfl)
theorem dX19_binary_189 : decode cX19_binary 189 = .ok (.getfield 12, 3) := dk_180 0 12 (dk_at dksX19_binary_8 1 rfl rfl)
theorem dX19_binary_192 : decode cX19_binary 192 = .ok (.aload_n 0, 1) := dk_42 (dk_at dksX19_binary_8 4 rfl rfl)
theorem dX19_binary_193 : decode cX19_binary 193 = .ok (.getfield 23, 3) := dk_180 0 23 (dk_at dksX19_binary_8 5 rfl rfl)
theorem dX19_binary_196 : decode cX19_binary 196 = .ok (.aload_n 0, 1) := dk_42 (dk_at dksX19_binary_8 8 rfl rfl)
theorem dX19_binary_197 : decode cX19_binary 197 = .ok (.getfield 27, 3) := dk_180 0 27 (dk_at dksX19_binary_8 9 rfl rfl)
theorem dX19_binary_200 : decode cX19_binary 200 = .ok (.iconst 0, 1) := dk_3 (dk_at dksX19_binary_8 12 rfl rfl)
theorem dX19_binary_201 : decode cX19_binary 201 = .ok (.aload_n 0, 1) := dk_42 (dk_at dksX19_binary_8 13 rfl rfl)
theorem dX19_binary_202 : decode cX19_binary 202 = .ok (.getfield 30, 3) := dk_180 0 30 (dk_at dksX19_binary_8 14 rfl rfl)
theorem dX19_binary_205 : decode cX19_binary 205 = .ok (.invokevirtual 319, 3) := dk_182 1 63 (dk_at dksX19_binary_8 17 rfl rfl)
theorem dX19_binary_208 : decode cX19_binary 208 = .ok (.aload_n 0, 1) := dk_42 (dk_at dksX19_binary_8 20 rfl rfl)
theorem dX19_binary_209 : decode cX19_binary 209 = .ok (.iload_n 2, 1) := dk_28 (dk_at dksX19_binary_8 21 rfl rfl)
theorem dX19_binary_210 : decode cX19_binary 210 = .ok (.iconst 4, 1) := dk_7 (dk_at dksX19_binary_8 22 rfl rfl)
theorem dX19_binary_211 : decode cX19_binary 211 = .ok (.if_icmp .ne 7, 3) := dk_160 0 7 (dk_at dksX19_binary_9 0 rfl rfl)
theorem dX19_binary_214 : decode cX19_binary 214 = .ok (.iconst 1, 1) := dk_4 (dk_at dksX19_binary_9 3 rfl rfl)
theorem dX19_binary_215 : decode cX19_binary 215 = .ok (.goto 4, 3) := dk_167 0 4 (dk_at dksX19_binary_9 4 rfl rfl)
theorem dX19_binary_218 : decode cX19_binary 218 = .ok (.iconst 0, 1) := dk_3 (dk_at dksX19_binary_9 7 rfl rfl)
theorem dX19_binary_219 : decode cX19_binary 219 = .ok (.invokevirtual 333, 3) := dk_182 1 77 (dk_at dksX19_binary_9 8 rfl rfl)
theorem dX19_binary_222 : decode cX19_binary 222 = .ok (.goto 163, 3) := dk_167 0 163 (dk_at dksX19_binary_9 11 rfl rfl)
theorem dX19_binary_225 : decode cX19_binary 225 = .ok (.aload_n 0, 1) := dk_42 (dk_at dksX19_binary_9 14 rfl rfl)
theorem dX19_binary_226 : decode cX19_binary 226 = .ok (.getfield 12, 3) := dk_180 0 12 (dk_at dksX19_binary_9 15 rfl rfl)
theorem dX19_binary_229 : decode cX19_binary 229 = .ok (.aload_n 0, 1) := dk_42 (dk_at dksX19_binary_9 18 rfl rfl)
theorem dX19_binary_230 : decode cX19_binary 230 = .ok (.getfield 23, 3) := dk_180 0 23 (dk_at dksX19_binary_9 19 rfl rfl)
theorem dX19_binary_233 : decode cX19_binary 233 = .ok (.aload_n 0, 1) := dk_42 (dk_at dksX19_binary_9 22 rfl rfl)
theorem dX19_binary_234 : decode cX19_binary 234 = .ok (.getfield 27, 3) := dk_180 0 27 (dk_at dksX19_binary_10 0 rfl rfl)
theorem dX19_binary_237 : decode cX19_binary 237 = .ok (.iconst 1, 1) := dk_4 (dk_at dksX19_binary_10 3 rfl rfl)
theorem dX19_binary_238 : decode cX19_binary 238 = .ok (.aload_n 0, 1) := dk_42 (dk_at dksX19_binary_10 4 rfl rfl)
theorem dX19_binary_239 : decode cX19_binary 239 = .ok (.getfield 30, 3) := dk_180 0 30 (dk_at dksX19_binary_10 5 rfl rfl)
theorem dX19_binary_242 : decode cX19_binary 242 = .ok (.invokevirtual 319, 3) := dk_182 1 63 (dk_at dksX19_binary_10 8 rfl rfl)
theorem dX19_binary_245 : decode cX19_binary 245 = .ok (.aload_n 0, 1) := dk_42 (dk_at dksX19_binary_10 11 rfl rfl)
theorem dX19_binary_246 : decode cX19_binary 246 = .ok (.iconst 0, 1) := dk_3 (dk_at dksX19_binary_10 12 rfl rfl)
theorem dX19_binary_247 : decode cX19_binary 247 = .ok (.invokevirtual 333, 3) := dk_182 1 77 (dk_at dksX19_binary_10 13 rfl rfl)
theorem dX19_binary_250 : decode cX19_binary 250 = .ok (.goto 135, 3) := dk_167 0 135 (dk_at dksX19_binary_10 16 rfl rfl)
theorem dX19_binary_253 : decode cX19_binary 253 = .ok (.aload_n 0, 1) := dk_42 (dk_at dksX19_binary_10 19 rfl rfl)
theorem dX19_binary_254 : decode cX19_binary 254 = .ok (.getfield 12, 3) := dk_180 0 12 (dk_at dksX19_binary_10 20 rfl rfl)
theorem dX19_binary_257 : decode cX19_binary 257 = .ok (.aload_n 0, 1) := dk_42 (dk_at dksX19_binary_10 23 rfl rfl)
theorem dX19_binary_258 : decode cX19_binary 258 = .ok (.getfield 23, 3) := dk_180 0 23 (dk_at dksX19_binary_11 0 rfl rfl)
theorem dX19_binary_261 : decode cX19_binary 261 = .ok (.aload_n 0, 1) := dk_42 (dk_at dksX19_binary_11 3 rfl rfl)
theorem dX19_binary_262 : decode cX19_binary 262 = .ok (.getfield 27, 3) := dk_180 0 27 (dk_at dksX19_binary_11 4 rfl rfl)
theorem dX19_binary_265 : decode cX19_binary 265 = .ok (.iconst 1, 1) := dk_4 (dk_at dksX19_binary_11 7 rfl rfl)
theorem dX19_binary_266 : decode cX19_binary 266 = .ok (.aload_n 0, 1) := dk_42 (dk_at dksX19_binary_11 8 rfl rfl)
theorem dX19_binary_267 : decode cX19_binary 267 = .ok (.getfield 30, 3) := dk_180 0 30 (dk_at dksX19_binary_11 9 rfl rfl)
theorem dX19_binary_270 : decode cX19_binary 270 = .ok (.invokevirtual 319, 3) := dk_182 1 63 (dk_at dksX19_binary_11 12 rfl rfl)
theorem dX19_binary_273 : decode cX19_binary 273 = .ok (.aload_n 0, 1) := dk_42 (dk_at dksX19_binary_11 15 rfl rfl)
theorem dX19_binary_274 : decode cX19_binary 274 = .ok (.aload_n 0, 1) := dk_42 (dk_at dksX19_binary_11 16 rfl rfl)
theorem dX19_binary_275 : decode cX19_binary 275 = .ok (.getfield 30, 3) := dk_180 0 30 (dk_at dksX19_binary_11 17 rfl rfl)
theorem dX19_binary_278 : decode cX19_binary 278 = .ok (.getfield 304, 3) := dk_180 1 48 (dk_at dksX19_binary_11 20 rfl rfl)
theorem dX19_binary_281 : decode cX19_binary 281 = .ok (.ifCond .eq 8, 3) := dk_153 0 8 (dk_at dksX19_binary_12 0 rfl rfl)
theorem dX19_binary_284 : decode cX19_binary 284 = .ok (.bipush 8, 2) := dk_16 8 (dk_at dksX19_binary_12 3 rfl rfl)
theorem dX19_binary_286 : decode cX19_binary 286 = .ok (.goto 22, 3) := dk_167 0 22 (dk_at dksX19_binary_12 5 rfl rfl)
theorem dX19_binary_289 : decode cX19_binary 289 = .ok (.aload_n 0, 1) := dk_42 (dk_at dksX19_binary_12 8 rfl rfl)
theorem dX19_binary_290 : decode cX19_binary 290 = .ok (.getfield 54, 3) := dk_180 0 54 (dk_at dksX19_binary_12 9 rfl rfl)
theorem dX19_binary_293 : decode cX19_binary 293 = .ok (.iconst 4, 1) := dk_7 (dk_at dksX19_binary_12 12 rfl rfl)
theorem dX19_binary_294 : decode cX19_binary 294 = .ok (.aload_n 0, 1) := dk_42 (dk_at dksX19_binary_12 13 rfl rfl)
theorem dX19_binary_295 : decode cX19_binary 295 = .ok (.getfield 54, 3) := dk_180 0 54 (dk_at dksX19_binary_12 14 rfl rfl)
theorem dX19_binary_298 : decode cX19_binary 298 = .ok (.aload_n 0, 1) := dk_42 (dk_at dksX19_binary_12 17 rfl rfl)
theorem dX19_binary_299 : decode cX19_binary 299 = .ok (.getfield 30, 3) := dk_180 0 30 (dk_at dksX19_binary_12 18 rfl rfl)
theorem dX19_binary_302 : decode cX19_binary 302 = .ok (.invokevirtual 312, 3) := dk_182 1 56 (dk_at dksX19_binary_12 21 rfl rfl)
theorem dX19_binary_305 : decode cX19_binary 305 = .ok (.invokevirtual 156, 3) := dk_182 0 156 (dk_at dksX19_binary_13 0 rfl rfl)
theorem dX19_binary_308 : decode cX19_binary 308 = .ok (.invokevirtual 122, 3) := dk_182 0 122 (dk_at dksX19_binary_13 3 rfl rfl)
theorem dX19_binary_311 : decode cX19_binary 311 = .ok (.goto 74, 3) := dk_167 0 74 (dk_at dksX19_binary_13 6 rfl rfl)
theorem dX19_binary_314 : decode cX19_binary 314 = .ok (.aload_n 0, 1) := dk_42 (dk_at dksX19_binary_13 9 rfl rfl)
theorem dX19_binary_315 : decode cX19_binary 315 = .ok (.getfield 12, 3) := dk_180 0 12 (dk_at dksX19_binary_13 10 rfl rfl)
theorem dX19_binary_318 : decode cX19_binary 318 = .ok (.aload_n 0, 1) := dk_42 (dk_at dksX19_binary_13 13 rfl rfl)
theorem dX19_binary_319 : decode cX19_binary 319 = .ok (.getfield 23, 3) := dk_180 0 23 (dk_at dksX19_binary_13 14 rfl rfl)
theorem dX19_binary_322 : decode cX19_binary 322 = .ok (.aload_n 0, 1) := dk_42 (dk_at dksX19_binary_13 17 rfl rfl)
theorem dX19_binary_323 : decode cX19_binary 323 = .ok (.getfield 27, 3) := dk_180 0 27 (dk_at dksX19_binary_13 18 rfl rfl)
theorem dX19_binary_326 : decode cX19_binary 326 = .ok (.aload_n 0, 1) := dk_42 (dk_at dksX19_binary_13 21 rfl rfl)
theorem dX19_binary_327 : decode cX19_binary 327 = .ok (.getfield 30, 3) := dk_180 0 30 (dk_at dksX19_binary_14 0 rfl rfl)
theorem dX19_binary_330 : decode cX19_binary 330 = .ok (.invokevirtual 337, 3) := dk_182 1 81 (dk_at dksX19_binary_14 3 rfl rfl)
theorem dX19_binary_333 : decode cX19_binary 333 = .ok (.aload_n 0, 1) := dk_42 (dk_at dksX19_binary_14 6 rfl rfl)
theorem dX19_binary_334 : decode cX19_binary 334 = .ok (.iload_n 2, 1) := dk_28 (dk_at dksX19_binary_14 7 rfl rfl)
theorem dX19_binary_335 : decode cX19_binary 335 = .ok (.iconst 4, 1) := dk_7 (dk_at dksX19_binary_14 8 rfl rfl)
theorem dX19_binary_336 : decode cX19_binary 336 = .ok (.if_icmp .ne 7, 3) := dk_160 0 7 (dk_at dksX19_binary_14 9 rfl rfl)
theorem dX19_binary_339 : decode cX19_binary 339 = .ok (.iconst 1, 1) := dk_4 (dk_at dksX19_binary_14 12 rfl rfl)
theorem dX19_binary_340 : decode cX19_binary 340 = .ok (.goto 4, 3) := dk_167 0 4 (dk_at dksX19_binary_14 13 rfl rfl)
theorem dX19_binary_343 : decode cX19_binary 343 = .ok (.iconst 0, 1) := dk_3 (dk_at dksX19_binary_14 16 rfl rfl)
theorem dX19_binary_344 : decode cX19_binary 344 = .ok (.invokevirtual 333, 3) := dk_182 1 77 (dk_at dksX19_binary_14 17 rfl rfl)
theorem dX19_binary_347 : decode cX19_binary 347 = .ok (.goto 38, 3) := dk_167 0 38 (dk_at dksX19_binary_14 20 rfl rfl)
theorem dX19_binary_350 : decode cX19_binary 350 = .ok (.aload_n 0, 1) := dk_42 (dk_at dksX19_binary_14 23 rfl rfl)
theorem dX19_binary_351 : decode cX19_binary 351 = .ok (.invokevirtual 341, 3) := dk_182 1 85 (dk_at dksX19_binary_15 0 rfl rfl)
theorem dX19_binary_354 : decode cX19_binary 354 = .ok (.goto 31, 3) := dk_167 0 31 (dk_at dksX19_binary_15 3 rfl rfl)
theorem dX19_binary_357 : decode cX19_binary 357 = .ok (.aload_n 0, 1) := dk_42 (dk_at dksX19_binary_15 6 rfl rfl)
theorem dX19_binary_358 : decode cX19_binary 358 = .ok (.getfield 12, 3) := dk_180 0 12 (dk_at dksX19_binary_15 7 rfl rfl)
theorem dX19_binary_361 : decode cX19_binary 361 = .ok (.aload_n 0, 1) := dk_42 (dk_at dksX19_binary_15 10 rfl rfl)
theorem dX19_binary_362 : decode cX19_binary 362 = .ok (.getfield 23, 3) := dk_180 0 23 (dk_at dksX19_binary_15 11 rfl rfl)
theorem dX19_binary_365 : decode cX19_binary 365 = .ok (.aload_n 0, 1) := dk_42 (dk_at dksX19_binary_15 14 rfl rfl)
theorem dX19_binary_366 : decode cX19_binary 366 = .ok (.getfield 27, 3) := dk_180 0 27 (dk_at dksX19_binary_15 15 rfl rfl)
theorem dX19_binary_369 : decode cX19_binary 369 = .ok (.iload_n 1, 1) := dk_27 (dk_at dksX19_binary_15 18 rfl rfl)
theorem dX19_binary_370 : decode cX19_binary 370 = .ok (.bipush 73, 2) := dk_16 73 (dk_at dksX19_binary_15 19 rfl rfl)
theorem dX19_binary_372 : decode cX19_binary 372 = .ok (.isub, 1) := dk_100 (dk_at dksX19_binary_15 21 rfl rfl)
theorem dX19_binary_373 : decode cX19_binary 373 = .ok (.aload_n 0, 1) := dk_42 (dk_at dksX19_binary_15 22 rfl rfl)
theorem dX19_binary_374 : decode cX19_binary 374 = .ok (.getfield 30, 3) := dk_180 0 30 (dk_at dksX19_binary_16 0 rfl rfl)
theorem dX19_binary_377 : decode cX19_binary 377 = .ok (.invokevirtual 344, 3) := dk_182 1 88 (dk_at dksX19_binary_16 3 rfl rfl)
theorem dX19_binary_380 : decode cX19_binary 380 = .ok (.aload_n 0, 1) := dk_42 (dk_at dksX19_binary_16 6 rfl rfl)
theorem dX19_binary_381 : decode cX19_binary 381 = .ok (.iconst 0, 1) := dk_3 (dk_at dksX19_binary_16 7 rfl rfl)
theorem dX19_binary_382 : decode cX19_binary 382 = .ok (.invokevirtual 333, 3) := dk_182 1 77 (dk_at dksX19_binary_16 8 rfl rfl)
theorem dX19_binary_385 : decode cX19_binary 385 = .ok (.return_, 1) := dk_177 (dk_at dksX19_binary_16 11 rfl rfl)
abbrev cX19_shift : ByteArray := prog_9_method_37_code
def yX19_shift : MethodName := ⟨RX19, "shift", "(I)V"⟩
def dkwX19_shift_5 : List UInt8 := [182, 1, 56, 182, 0, 122, 177]
abbrev dktX19_shift_5 : List UInt8 := dkwX19_shift_5 ++ []
def dkwX19_shift_4 : List UInt8 := [42, 180, 0, 23, 28, 4, 122, 42, 180, 0, 30, 182, 1, 106, 42, 42, 180, 0, 54, 42, 180, 0, 30]
abbrev dktX19_shift_4 : List UInt8 := dkwX19_shift_4 ++ dktX19_shift_5
def dkwX19_shift_3 : List UInt8 := [180, 0, 12, 42, 180, 0, 23, 28, 4, 122, 42, 180, 0, 30, 182, 1, 102, 167, 0, 21, 42, 180, 0, 12]
abbrev dktX19_shift_3 : List UInt8 := dkwX19_shift_3 ++ dktX19_shift_4
def dkwX19_shift_2 : List UInt8 := [180, 0, 23, 182, 1, 44, 42, 89, 180, 0, 98, 5, 100, 181, 0, 98, 27, 16, 77, 160, 0, 24, 42]
abbrev dktX19_shift_2 : List UInt8 := dkwX19_shift_2 ++ dktX19_shift_3
def dkwX19_shift_1 : List UInt8 := [163, 0, 7, 4, 167, 0, 4, 3, 6, 182, 1, 95, 42, 180, 0, 54, 42, 3, 182, 0, 102, 42]
abbrev dktX19_shift_1 : List UInt8 := dkwX19_shift_1 ++ dktX19_shift_2
def dkwX19_shift_0 : List UInt8 := [42, 4, 182, 0, 102, 61, 42, 180, 0, 90, 28, 184, 1, 9, 153, 0, 16, 28, 4, 122, 17, 1, 0]
abbrev dktX19_shift_0 : List UInt8 := dkwX19_shift_0 ++ dktX19_shift_1
theorem dksX19_shift_0 : cX19_shift.data.toList.drop 0 = dktX19_shift_0 := by decide +kernel
theorem dksX19_shift_1 : cX19_shift.data.toList.drop 23 = dktX19_shift_1 := dk_seg dksX19_shift_0 23 rfl rfl
theorem dksX19_shift_2 : cX19_shift.data.toList.drop 45 = dktX19_shift_2 := dk_seg dksX19_shift_1 22 rfl rfl
theorem dksX19_shift_3 : cX19_shift.data.toList.drop 68 = dktX19_shift_3 := dk_seg dksX19_shift_2 23 rfl rfl
theorem dksX19_shift_4 : cX19_shift.data.toList.drop 92 = dktX19_shift_4 := dk_seg dksX19_shift_3 24 rfl rfl
theorem dksX19_shift_5 : cX19_shift.data.toList.drop 115 = dktX19_shift_5 := dk_seg dksX19_shift_4 23 rfl rfl
theorem dX19_shift_0 : decode cX19_shift 0 = .ok (.aload_n 0, 1) := dk_42 (dk_at dksX19_shift_0 0 rfl rfl)
theorem dX19_shift_1 : decode cX19_shift 1 = .ok (.iconst 1, 1) := dk_4 (dk_at dksX19_shift_0 1 rfl rfl)
theorem dX19_shift_2 : decode cX19_shift 2 = .ok (.invokevirtual 102, 3) := dk_182 0 102 (dk_at dksX19_shift_0 2 rfl rfl)
theorem dX19_shift_5 : decode cX19_shift 5 = .ok (.istore_n 2, 1) := dk_61 (dk_at dksX19_shift_0 5 rfl rfl)
theorem dX19_shift_6 : decode cX19_shift 6 = .ok (.aload_n 0, 1) := dk_42 (dk_at dksX19_shift_0 6 rfl rfl)
theorem dX19_shift_7 : decode cX19_shift 7 = .ok (.getfield 90, 3) := dk_180 0 90 (dk_at dksX19_shift_0 7 rfl rfl)
theorem dX19_shift_10 : decode cX19_shift 10 = .ok (.iload_n 2, 1) := dk_28 (dk_at dksX19_shift_0 10 rfl rfl)
theorem dX19_shift_11 : decode cX19_shift 11 = .ok (.invokestatic 265, 3) := dk_184 1 9 (dk_at dksX19_shift_0 11 rfl rfl)
theorem dX19_shift_14 : decode cX19_shift 14 = .ok (.ifCond .eq 16, 3) := dk_153 0 16 (dk_at dksX19_shift_0 14 rfl rfl)
theorem dX19_shift_17 : decode cX19_shift 17 = .ok (.iload_n 2, 1) := dk_28 (dk_at dksX19_shift_0 17 rfl rfl)
theorem dX19_shift_18 : decode cX19_shift 18 = .ok (.iconst 1, 1) := dk_4 (dk_at dksX19_shift_0 18 rfl rfl)
theorem dX19_shift_19 : decode cX19_shift 19 = .ok (.ishr, 1) := dk_122 (dk_at dksX19_shift_0 19 rfl rfl)
theorem dX19_shift_20 : decode cX19_shift 20 = .ok (.sipush 256, 3) := dk_17 1 0 (dk_at dksX19_shift_0 20 rfl rfl)
theorem dX19_shift_23 : decode cX19_shift 23 = .ok (.if_icmp .gt 7, 3) := dk_163 0 7 (dk_at dksX19_shift_1 0 rfl rfl)
theorem dX19_shift_26 : decode cX19_shift 26 = .ok (.iconst 1, 1) := dk_4 (dk_at dksX19_shift_1 3 rfl rfl)
theorem dX19_shift_27 : decode cX19_shift 27 = .ok (.goto 4, 3) := dk_167 0 4 (dk_at dksX19_shift_1 4 rfl rfl)
theorem dX19_shift_30 : decode cX19_shift 30 = .ok (.iconst 0, 1) := dk_3 (dk_at dksX19_shift_1 7 rfl rfl)
theorem dX19_shift_31 : decode cX19_shift 31 = .ok (.iconst 3, 1) := dk_6 (dk_at dksX19_shift_1 8 rfl rfl)
theorem dX19_shift_32 : decode cX19_shift 32 = .ok (.invokevirtual 351, 3) := dk_182 1 95 (dk_at dksX19_shift_1 9 rfl rfl)
theorem dX19_shift_35 : decode cX19_shift 35 = .ok (.aload_n 0, 1) := dk_42 (dk_at dksX19_shift_1 12 rfl rfl)
theorem dX19_shift_36 : decode cX19_shift 36 = .ok (.getfield 54, 3) := dk_180 0 54 (dk_at dksX19_shift_1 13 rfl rfl)
theorem dX19_shift_39 : decode cX19_shift 39 = .ok (.aload_n 0, 1) := dk_42 (dk_at dksX19_shift_1 16 rfl rfl)
theorem dX19_shift_40 : decode cX19_shift 40 = .ok (.iconst 0, 1) := dk_3 (dk_at dksX19_shift_1 17 rfl rfl)
theorem dX19_shift_41 : decode cX19_shift 41 = .ok (.invokevirtual 102, 3) := dk_182 0 102 (dk_at dksX19_shift_1 18 rfl rfl)
theorem dX19_shift_44 : decode cX19_shift 44 = .ok (.aload_n 0, 1) := dk_42 (dk_at dksX19_shift_1 21 rfl rfl)
theorem dX19_shift_45 : decode cX19_shift 45 = .ok (.getfield 23, 3) := dk_180 0 23 (dk_at dksX19_shift_2 0 rfl rfl)
theorem dX19_shift_48 : decode cX19_shift 48 = .ok (.invokevirtual 300, 3) := dk_182 1 44 (dk_at dksX19_shift_2 3 rfl rfl)
theorem dX19_shift_51 : decode cX19_shift 51 = .ok (.aload_n 0, 1) := dk_42 (dk_at dksX19_shift_2 6 rfl rfl)
theorem dX19_shift_52 : decode cX19_shift 52 = .ok (.dup, 1) := dk_89 (dk_at dksX19_shift_2 7 rfl rfl)
theorem dX19_shift_53 : decode cX19_shift 53 = .ok (.getfield 98, 3) := dk_180 0 98 (dk_at dksX19_shift_2 8 rfl rfl)
theorem dX19_shift_56 : decode cX19_shift 56 = .ok (.iconst 2, 1) := dk_5 (dk_at dksX19_shift_2 11 rfl rfl)
theorem dX19_shift_57 : decode cX19_shift 57 = .ok (.isub, 1) := dk_100 (dk_at dksX19_shift_2 12 rfl rfl)
theorem dX19_shift_58 : decode cX19_shift 58 = .ok (.putfield 98, 3) := dk_181 0 98 (dk_at dksX19_shift_2 13 rfl rfl)
theorem dX19_shift_61 : decode cX19_shift 61 = .ok (.iload_n 1, 1) := dk_27 (dk_at dksX19_shift_2 16 rfl rfl)
theorem dX19_shift_62 : decode cX19_shift 62 = .ok (.bipush 77, 2) := dk_16 77 (dk_at dksX19_shift_2 17 rfl rfl)
theorem dX19_shift_64 : decode cX19_shift 64 = .ok (.if_icmp .ne 24, 3) := dk_160 0 24 (dk_at dksX19_shift_2 19 rfl rfl)
theorem dX19_shift_67 : decode cX19_shift 67 = .ok (.aload_n 0, 1) := dk_42 (dk_at dksX19_shift_2 22 rfl rfl)
theorem dX19_shift_68 : decode cX19_shift 68 = .ok (.getfield 12, 3) := dk_180 0 12 (dk_at dksX19_shift_3 0 rfl rfl)
theorem dX19_shift_71 : decode cX19_shift 71 = .ok (.aload_n 0, 1) := dk_42 (dk_at dksX19_shift_3 3 rfl rfl)
theorem dX19_shift_72 : decode cX19_shift 72 = .ok (.getfield 23, 3) := dk_180 0 23 (dk_at dksX19_shift_3 4 rfl rfl)
theorem dX19_shift_75 : decode cX19_shift 75 = .ok (.iload_n 2, 1) := dk_28 (dk_at dksX19_shift_3 7 rfl rfl)
theorem dX19_shift_76 : decode cX19_shift 76 = .ok (.iconst 1, 1) := dk_4 (dk_at dksX19_shift_3 8 rfl rfl)
theorem dX19_shift_77 : decode cX19_shift 77 = .ok (.ishr, 1) := dk_122 (dk_at dksX19_shift_3 9 rfl rfl)
theorem dX19_shift_78 : decode cX19_shift 78 = .ok (.aload_n 0, 1) := dk_42 (dk_at dksX19_shift_3 10 rfl rfl)
theorem dX19_shift_79 : decode cX19_shift 79 = .ok (.getfield 30, 3) := dk_180 0 30 (dk_at dksX19_shift_3 11 rfl rfl)
theorem dX19_shift_82 : decode cX19_shift 82 = .ok (.invokevirtual 358, 3) := dk_182 1 102 (dk_at dksX19_shift_3 14 rfl rfl)
theorem dX19_shift_85 : decode cX19_shift 85 = .ok (.goto 21, 3) := dk_167 0 21 (dk_at dksX19_shift_3 17 rfl rfl)
theorem dX19_shift_88 : decode cX19_shift 88 = .ok (.aload_n 0, 1) := dk_42 (dk_at dksX19_shift_3 20 rfl rfl)
theorem dX19_shift_89 : decode cX19_shift 89 = .ok (.getfield 12, 3) := dk_180 0 12 (dk_at dksX19_shift_3 21 rfl rfl)
theorem dX19_shift_92 : decode cX19_shift 92 = .ok (.aload_n 0, 1) := dk_42 (dk_at dksX19_shift_4 0 rfl rfl)
theorem dX19_shift_93 : decode cX19_shift 93 = .ok (.getfield 23, 3) := dk_180 0 23 (dk_at dksX19_shift_4 1 rfl rfl)
theorem dX19_shift_96 : decode cX19_shift 96 = .ok (.iload_n 2, 1) := dk_28 (dk_at dksX19_shift_4 4 rfl rfl)
theorem dX19_shift_97 : decode cX19_shift 97 = .ok (.iconst 1, 1) := dk_4 (dk_at dksX19_shift_4 5 rfl rfl)
theorem dX19_shift_98 : decode cX19_shift 98 = .ok (.ishr, 1) := dk_122 (dk_at dksX19_shift_4 6 rfl rfl)
theorem dX19_shift_99 : decode cX19_shift 99 = .ok (.aload_n 0, 1) := dk_42 (dk_at dksX19_shift_4 7 rfl rfl)
theorem dX19_shift_100 : decode cX19_shift 100 = .ok (.getfield 30, 3) := dk_180 0 30 (dk_at dksX19_shift_4 8 rfl rfl)
theorem dX19_shift_103 : decode cX19_shift 103 = .ok (.invokevirtual 362, 3) := dk_182 1 106 (dk_at dksX19_shift_4 11 rfl rfl)
theorem dX19_shift_106 : decode cX19_shift 106 = .ok (.aload_n 0, 1) := dk_42 (dk_at dksX19_shift_4 14 rfl rfl)
theorem dX19_shift_107 : decode cX19_shift 107 = .ok (.aload_n 0, 1) := dk_42 (dk_at dksX19_shift_4 15 rfl rfl)
theorem dX19_shift_108 : decode cX19_shift 108 = .ok (.getfield 54, 3) := dk_180 0 54 (dk_at dksX19_shift_4 16 rfl rfl)
theorem dX19_shift_111 : decode cX19_shift 111 = .ok (.aload_n 0, 1) := dk_42 (dk_at dksX19_shift_4 19 rfl rfl)
theorem dX19_shift_112 : decode cX19_shift 112 = .ok (.getfield 30, 3) := dk_180 0 30 (dk_at dksX19_shift_4 20 rfl rfl)
theorem dX19_shift_115 : decode cX19_shift 115 = .ok (.invokevirtual 312, 3) := dk_182 1 56 (dk_at dksX19_shift_5 0 rfl rfl)
theorem dX19_shift_118 : decode cX19_shift 118 = .ok (.invokevirtual 122, 3) := dk_182 0 122 (dk_at dksX19_shift_5 3 rfl rfl)
theorem dX19_shift_121 : decode cX19_shift 121 = .ok (.return_, 1) := dk_177 (dk_at dksX19_shift_5 6 rfl rfl)
abbrev cX19_areSmall : ByteArray := prog_9_method_29_code
def yX19_areSmall : MethodName := ⟨RX19, "areSmall", "()Z"⟩
def dkwX19_areSmall_1 : List UInt8 := [167, 0, 4, 3, 172]
abbrev dktX19_areSmall_1 : List UInt8 := dkwX19_areSmall_1 ++ []
def dkwX19_areSmall_0 : List UInt8 := [42, 3, 182, 0, 102, 184, 1, 9, 153, 0, 18, 42, 4, 182, 0, 102, 184, 1, 9, 153, 0, 7, 4]
abbrev dktX19_areSmall_0 : List UInt8 := dkwX19_areSmall_0 ++ dktX19_areSmall_1
theorem dksX19_areSmall_0 : cX19_areSmall.data.toList.drop 0 = dktX19_areSmall_0 := by decide +kernel
theorem dksX19_areSmall_1 : cX19_areSmall.data.toList.drop 23 = dktX19_areSmall_1 := dk_seg dksX19_areSmall_0 23 rfl rfl
theorem dX19_areSmall_0 : decode cX19_areSmall 0 = .ok (.aload_n 0, 1) := dk_42 (dk_at dksX19_areSmall_0 0 rfl rfl)
theorem dX19_areSmall_1 : decode cX19_areSmall 1 = .ok (.iconst 0, 1) := dk_3 (dk_at dksX19_areSmall_0 1 rfl rfl)
theorem dX19_areSmall_2 : decode cX19_areSmall 2 = .ok (.invokevirtual 102, 3) := dk_182 0 102 (dk_at dksX19_areSmall_0 2 rfl rfl)
theorem dX19_areSmall_5 : decode cX19_areSmall 5 = .ok (.invokestatic 265, 3) := dk_184 1 9 (dk_at dksX19_areSmall_0 5 rfl rfl)
theorem dX19_areSmall_8 : decode cX19_areSmall 8 = .ok (.ifCond .eq 18, 3) := dk_153 0 18 (dk_at dksX19_areSmall_0 8 rfl rfl)
theorem dX19_areSmall_11 : decode cX19_areSmall 11 = .ok (.aload_n 0, 1) := dk_42 (dk_at dksX19_areSmall_0 11 rfl rfl)
theorem dX19_areSmall_12 : decode cX19_areSmall 12 = .ok (.iconst 1, 1) := dk_4 (dk_at dksX19_areSmall_0 12 rfl rfl)
theorem dX19_areSmall_13 : decode cX19_areSmall 13 = .ok (.invokevirtual 102, 3) := dk_182 0 102 (dk_at dksX19_areSmall_0 13 rfl rfl)
theorem dX19_areSmall_16 : decode cX19_areSmall 16 = .ok (.invokestatic 265, 3) := dk_184 1 9 (dk_at dksX19_areSmall_0 16 rfl rfl)
theorem dX19_areSmall_19 : decode cX19_areSmall 19 = .ok (.ifCond .eq 7, 3) := dk_153 0 7 (dk_at dksX19_areSmall_0 19 rfl rfl)
theorem dX19_areSmall_22 : decode cX19_areSmall 22 = .ok (.iconst 1, 1) := dk_4 (dk_at dksX19_areSmall_0 22 rfl rfl)
theorem dX19_areSmall_23 : decode cX19_areSmall 23 = .ok (.goto 4, 3) := dk_167 0 4 (dk_at dksX19_areSmall_1 0 rfl rfl)
theorem dX19_areSmall_26 : decode cX19_areSmall 26 = .ok (.iconst 0, 1) := dk_3 (dk_at dksX19_areSmall_1 3 rfl rfl)
theorem dX19_areSmall_27 : decode cX19_areSmall 27 = .ok (.ireturn, 1) := dk_172 (dk_at dksX19_areSmall_1 4 rfl rfl)
abbrev cX19_pushNumber : ByteArray := prog_9_method_35_code
def yX19_pushNumber : MethodName := ⟨RX19, "pushNumber", "(Z)V"⟩
def dkwX19_pushNumber_1 : List UInt8 := [3, 5, 182, 1, 95, 42, 42, 180, 0, 54, 42, 180, 0, 30, 182, 1, 56, 182, 0, 122, 177]
abbrev dktX19_pushNumber_1 : List UInt8 := dkwX19_pushNumber_1 ++ []
def dkwX19_pushNumber_0 : List UInt8 := [42, 180, 0, 90, 27, 153, 0, 15, 42, 180, 0, 30, 182, 1, 92, 16, 63, 163, 0, 7, 4, 167, 0, 4]
abbrev dktX19_pushNumber_0 : List UInt8 := dkwX19_pushNumber_0 ++ dktX19_pushNumber_1
theorem dksX19_pushNumber_0 : cX19_pushNumber.data.toList.drop 0 = dktX19_pushNumber_0 := by decide +kernel
theorem dksX19_pushNumber_1 : cX19_pushNumber.data.toList.drop 24 = dktX19_pushNumber_1 := dk_seg dksX19_pushNumber_0 24 rfl rfl
theorem dX19_pushNumber_0 : decode cX19_pushNumber 0 = .ok (.aload_n 0, 1) := dk_42 (dk_at dksX19_pushNumber_0 0 rfl rfl)
theorem dX19_pushNumber_1 : decode cX19_pushNumber 1 = .ok (.getfield 90, 3) := dk_180 0 90 (dk_at dksX19_pushNumber_0 1 rfl rfl)
theorem dX19_pushNumber_4 : decode cX19_pushNumber 4 = .ok (.iload_n 1, 1) := dk_27 (dk_at dksX19_pushNumber_0 4 rfl rfl)
theorem dX19_pushNumber_5 : decode cX19_pushNumber 5 = .ok (.ifCond .eq 15, 3) := dk_153 0 15 (dk_at dksX19_pushNumber_0 5 rfl rfl)
theorem dX19_pushNumber_8 : decode cX19_pushNumber 8 = .ok (.aload_n 0, 1) := dk_42 (dk_at dksX19_pushNumber_0 8 rfl rfl)
theorem dX19_pushNumber_9 : decode cX19_pushNumber 9 = .ok (.getfield 30, 3) := dk_180 0 30 (dk_at dksX19_pushNumber_0 9 rfl rfl)
theorem dX19_pushNumber_12 : decode cX19_pushNumber 12 = .ok (.invokevirtual 348, 3) := dk_182 1 92 (dk_at dksX19_pushNumber_0 12 rfl rfl)
theorem dX19_pushNumber_15 : decode cX19_pushNumber 15 = .ok (.bipush 63, 2) := dk_16 63 (dk_at dksX19_pushNumber_0 15 rfl rfl)
theorem dX19_pushNumber_17 : decode cX19_pushNumber 17 = .ok (.if_icmp .gt 7, 3) := dk_163 0 7 (dk_at dksX19_pushNumber_0 17 rfl rfl)
theorem dX19_pushNumber_20 : decode cX19_pushNumber 20 = .ok (.iconst 1, 1) := dk_4 (dk_at dksX19_pushNumber_0 20 rfl rfl)
theorem dX19_pushNumber_21 : decode cX19_pushNumber 21 = .ok (.goto 4, 3) := dk_167 0 4 (dk_at dksX19_pushNumber_0 21 rfl rfl)
theorem dX19_pushNumber_24 : decode cX19_pushNumber 24 = .ok (.iconst 0, 1) := dk_3 (dk_at dksX19_pushNumber_1 0 rfl rfl)
theorem dX19_pushNumber_25 : decode cX19_pushNumber 25 = .ok (.iconst 2, 1) := dk_5 (dk_at dksX19_pushNumber_1 1 rfl rfl)
theorem dX19_pushNumber_26 : decode cX19_pushNumber 26 = .ok (.invokevirtual 351, 3) := dk_182 1 95 (dk_at dksX19_pushNumber_1 2 rfl rfl)
theorem dX19_pushNumber_29 : decode cX19_pushNumber 29 = .ok (.aload_n 0, 1) := dk_42 (dk_at dksX19_pushNumber_1 5 rfl rfl)
theorem dX19_pushNumber_30 : decode cX19_pushNumber 30 = .ok (.aload_n 0, 1) := dk_42 (dk_at dksX19_pushNumber_1 6 rfl rfl)
theorem dX19_pushNumber_31 : decode cX19_pushNumber 31 = .ok (.getfield 54, 3) := dk_180 0 54 (dk_at dksX19_pushNumber_1 7 rfl rfl)
theorem dX19_pushNumber_34 : decode cX19_pushNumber 34 = .ok (.aload_n 0, 1) := dk_42 (dk_at dksX19_pushNumber_1 10 rfl rfl)
theorem dX19_pushNumber_35 : decode cX19_pushNumber 35 = .ok (.getfield 30, 3) := dk_180 0 30 (dk_at dksX19_pushNumber_1 11 rfl rfl)
theorem dX19_pushNumber_38 : decode cX19_pushNumber 38 = .ok (.invokevirtual 312, 3) := dk_182 1 56 (dk_at dksX19_pushNumber_1 14 rfl rfl)
theorem dX19_pushNumber_41 : decode cX19_pushNumber 41 = .ok (.invokevirtual 122, 3) := dk_182 0 122 (dk_at dksX19_pushNumber_1 17 rfl rfl)
theorem dX19_pushNumber_44 : decode cX19_pushNumber 44 = .ok (.return_, 1) := dk_177 (dk_at dksX19_pushNumber_1 20 rfl rfl)
abbrev cX19_divide : ByteArray := prog_9_method_36_code
def yX19_divide : MethodName := ⟨RX19, "divide", "()V"⟩
def dkwX19_divide_5 : List UInt8 := [180, 0, 54, 42, 180, 0, 33, 182, 1, 56, 182, 0, 203, 182, 0, 156, 182, 0, 122, 177]
abbrev dktX19_divide_5 : List UInt8 := dkwX19_divide_5 ++ []
def dkwX19_divide_4 : List UInt8 := [180, 0, 54, 42, 180, 0, 30, 182, 1, 56, 61, 42, 42, 180, 0, 54, 7, 42, 180, 0, 54, 28, 42]
abbrev dktX19_divide_4 : List UInt8 := dkwX19_divide_4 ++ dktX19_divide_5
def dkwX19_divide_3 : List UInt8 := [159, 0, 17, 42, 180, 0, 30, 182, 1, 52, 154, 0, 7, 4, 167, 0, 4, 3, 181, 1, 48, 42]
abbrev dktX19_divide_3 : List UInt8 := dkwX19_divide_3 ++ dktX19_divide_4
def dkwX19_divide_2 : List UInt8 := [180, 0, 30, 42, 180, 0, 33, 182, 1, 99, 42, 180, 0, 30, 42, 180, 0, 30, 180, 1, 48, 27]
abbrev dktX19_divide_2 : List UInt8 := dkwX19_divide_2 ++ dktX19_divide_3
def dkwX19_divide_1 : List UInt8 := [60, 42, 180, 0, 27, 3, 181, 1, 48, 42, 180, 0, 12, 42, 180, 0, 23, 42, 180, 0, 27, 4, 42]
abbrev dktX19_divide_1 : List UInt8 := dkwX19_divide_1 ++ dktX19_divide_2
def dkwX19_divide_0 : List UInt8 := [42, 180, 0, 27, 182, 1, 52, 153, 0, 10, 42, 16, 8, 182, 0, 122, 177, 42, 180, 0, 27, 180, 1, 48]
abbrev dktX19_divide_0 : List UInt8 := dkwX19_divide_0 ++ dktX19_divide_1
theorem dksX19_divide_0 : cX19_divide.data.toList.drop 0 = dktX19_divide_0 := by decide +kernel
theorem dksX19_divide_1 : cX19_divide.data.toList.drop 24 = dktX19_divide_1 := dk_seg dksX19_divide_0 24 rfl rfl
theorem dksX19_divide_2 : cX19_divide.data.toList.drop 47 = dktX19_divide_2 := dk_seg dksX19_divide_1 23 rfl rfl
theorem dksX19_divide_3 : cX19_divide.data.toList.drop 69 = dktX19_divide_3 := dk_seg dksX19_divide_2 22 rfl rfl
theorem dksX19_divide_4 : cX19_divide.data.toList.drop 91 = dktX19_divide_4 := dk_seg dksX19_divide_3 22 rfl rfl
theorem dksX19_divide_5 : cX19_divide.data.toList.drop 114 = dktX19_divide_5 := dk_seg dksX19_divide_4 23 rfl rfl
theorem dX19_divide_0 : decode cX19_divide 0 = .ok (.aload_n 0, 1) := dk_42 (dk_at dksX19_divide_0 0 rfl rfl)
theorem dX19_divide_1 : decode cX19_divide 1 = .ok (.getfield 27, 3) := dk_180 0 27 (dk_at dksX19_divide_0 1 rfl rfl)
theorem dX19_divide_4 : decode cX19_divide 4 = .ok (.invokevirtual 308, 3) := dk_182 1 52 (dk_at dksX19_divide_0 4 rfl rfl)
theorem dX19_divide_7 : decode cX19_divide 7 = .ok (.ifCond .eq 10, 3) := dk_153 0 10 (dk_at dksX19_divide_0 7 rfl rfl)
theorem dX19_divide_10 : decode cX19_divide 10 = .ok (.aload_n 0, 1) := dk_42 (dk_at dksX19_divide_0 10 rfl rfl)
theorem dX19_divide_11 : decode cX19_divide 11 = .ok (.bipush 8, 2) := dk_16 8 (dk_at dksX19_divide_0 11 rfl rfl)
theorem dX19_divide_13 : decode cX19_divide 13 = .ok (.invokevirtual 122, 3) := dk_182 0 122 (dk_at dksX19_divide_0 13 rfl rfl)
theorem dX19_divide_16 : decode cX19_divide 16 = .ok (.return_, 1) := dk_177 (dk_at dksX19_divide_0 16 rfl rfl)
theorem dX19_divide_17 : decode cX19_divide 17 = .ok (.aload_n 0, 1) := dk_42 (dk_at dksX19_divide_0 17 rfl rfl)
theorem dX19_divide_18 : decode cX19_divide 18 = .ok (.getfield 27, 3) := dk_180 0 27 (dk_at dksX19_divide_0 18 rfl rfl)
theorem dX19_divide_21 : decode cX19_divide 21 = .ok (.getfield 304, 3) := dk_180 1 48 (dk_at dksX19_divide_0 21 rfl rfl)
theorem dX19_divide_24 : decode cX19_divide 24 = .ok (.istore_n 1, 1) := dk_60 (dk_at dksX19_divide_1 0 rfl rfl)
theorem dX19_divide_25 : decode cX19_divide 25 = .ok (.aload_n 0, 1) := dk_42 (dk_at dksX19_divide_1 1 rfl rfl)
theorem dX19_divide_26 : decode cX19_divide 26 = .ok (.getfield 27, 3) := dk_180 0 27 (dk_at dksX19_divide_1 2 rfl rfl)
theorem dX19_divide_29 : decode cX19_divide 29 = .ok (.iconst 0, 1) := dk_3 (dk_at dksX19_divide_1 5 rfl rfl)
theorem dX19_divide_30 : decode cX19_divide 30 = .ok (.putfield 304, 3) := dk_181 1 48 (dk_at dksX19_divide_1 6 rfl rfl)
theorem dX19_divide_33 : decode cX19_divide 33 = .ok (.aload_n 0, 1) := dk_42 (dk_at dksX19_divide_1 9 rfl rfl)
theorem dX19_divide_34 : decode cX19_divide 34 = .ok (.getfield 12, 3) := dk_180 0 12 (dk_at dksX19_divide_1 10 rfl rfl)
theorem dX19_divide_37 : decode cX19_divide 37 = .ok (.aload_n 0, 1) := dk_42 (dk_at dksX19_divide_1 13 rfl rfl)
theorem dX19_divide_38 : decode cX19_divide 38 = .ok (.getfield 23, 3) := dk_180 0 23 (dk_at dksX19_divide_1 14 rfl rfl)
theorem dX19_divide_41 : decode cX19_divide 41 = .ok (.aload_n 0, 1) := dk_42 (dk_at dksX19_divide_1 17 rfl rfl)
theorem dX19_divide_42 : decode cX19_divide 42 = .ok (.getfield 27, 3) := dk_180 0 27 (dk_at dksX19_divide_1 18 rfl rfl)
theorem dX19_divide_45 : decode cX19_divide 45 = .ok (.iconst 1, 1) := dk_4 (dk_at dksX19_divide_1 21 rfl rfl)
theorem dX19_divide_46 : decode cX19_divide 46 = .ok (.aload_n 0, 1) := dk_42 (dk_at dksX19_divide_1 22 rfl rfl)
theorem dX19_divide_47 : decode cX19_divide 47 = .ok (.getfield 30, 3) := dk_180 0 30 (dk_at dksX19_divide_2 0 rfl rfl)
theorem dX19_divide_50 : decode cX19_divide 50 = .ok (.aload_n 0, 1) := dk_42 (dk_at dksX19_divide_2 3 rfl rfl)
theorem dX19_divide_51 : decode cX19_divide 51 = .ok (.getfield 33, 3) := dk_180 0 33 (dk_at dksX19_divide_2 4 rfl rfl)
theorem dX19_divide_54 : decode cX19_divide 54 = .ok (.invokevirtual 355, 3) := dk_182 1 99 (dk_at dksX19_divide_2 7 rfl rfl)
theorem dX19_divide_57 : decode cX19_divide 57 = .ok (.aload_n 0, 1) := dk_42 (dk_at dksX19_divide_2 10 rfl rfl)
theorem dX19_divide_58 : decode cX19_divide 58 = .ok (.getfield 30, 3) := dk_180 0 30 (dk_at dksX19_divide_2 11 rfl rfl)
theorem dX19_divide_61 : decode cX19_divide 61 = .ok (.aload_n 0, 1) := dk_42 (dk_at dksX19_divide_2 14 rfl rfl)
theorem dX19_divide_62 : decode cX19_divide 62 = .ok (.getfield 30, 3) := dk_180 0 30 (dk_at dksX19_divide_2 15 rfl rfl)
theorem dX19_divide_65 : decode cX19_divide 65 = .ok (.getfield 304, 3) := dk_180 1 48 (dk_at dksX19_divide_2 18 rfl rfl)
theorem dX19_divide_68 : decode cX19_divide 68 = .ok (.iload_n 1, 1) := dk_27 (dk_at dksX19_divide_2 21 rfl rfl)
theorem dX19_divide_69 : decode cX19_divide 69 = .ok (.if_icmp .eq 17, 3) := dk_159 0 17 (dk_at dksX19_divide_3 0 rfl rfl)
theorem dX19_divide_72 : decode cX19_divide 72 = .ok (.aload_n 0, 1) := dk_42 (dk_at dksX19_divide_3 3 rfl rfl)
theorem dX19_divide_73 : decode cX19_divide 73 = .ok (.getfield 30, 3) := dk_180 0 30 (dk_at dksX19_divide_3 4 rfl rfl)
theorem dX19_divide_76 : decode cX19_divide 76 = .ok (.invokevirtual 308, 3) := dk_182 1 52 (dk_at dksX19_divide_3 7 rfl rfl)
theorem dX19_divide_79 : decode cX19_divide 79 = .ok (.ifCond .ne 7, 3) := dk_154 0 7 (dk_at dksX19_divide_3 10 rfl rfl)
theorem dX19_divide_82 : decode cX19_divide 82 = .ok (.iconst 1, 1) := dk_4 (dk_at dksX19_divide_3 13 rfl rfl)
theorem dX19_divide_83 : decode cX19_divide 83 = .ok (.goto 4, 3) := dk_167 0 4 (dk_at dksX19_divide_3 14 rfl rfl)
theorem dX19_divide_86 : decode cX19_divide 86 = .ok (.iconst 0, 1) := dk_3 (dk_at dksX19_divide_3 17 rfl rfl)
theorem dX19_divide_87 : decode cX19_divide 87 = .ok (.putfield 304, 3) := dk_181 1 48 (dk_at dksX19_divide_3 18 rfl rfl)
theorem dX19_divide_90 : decode cX19_divide 90 = .ok (.aload_n 0, 1) := dk_42 (dk_at dksX19_divide_3 21 rfl rfl)
theorem dX19_divide_91 : decode cX19_divide 91 = .ok (.getfield 54, 3) := dk_180 0 54 (dk_at dksX19_divide_4 0 rfl rfl)
theorem dX19_divide_94 : decode cX19_divide 94 = .ok (.aload_n 0, 1) := dk_42 (dk_at dksX19_divide_4 3 rfl rfl)
theorem dX19_divide_95 : decode cX19_divide 95 = .ok (.getfield 30, 3) := dk_180 0 30 (dk_at dksX19_divide_4 4 rfl rfl)
theorem dX19_divide_98 : decode cX19_divide 98 = .ok (.invokevirtual 312, 3) := dk_182 1 56 (dk_at dksX19_divide_4 7 rfl rfl)
theorem dX19_divide_101 : decode cX19_divide 101 = .ok (.istore_n 2, 1) := dk_61 (dk_at dksX19_divide_4 10 rfl rfl)
theorem dX19_divide_102 : decode cX19_divide 102 = .ok (.aload_n 0, 1) := dk_42 (dk_at dksX19_divide_4 11 rfl rfl)
theorem dX19_divide_103 : decode cX19_divide 103 = .ok (.aload_n 0, 1) := dk_42 (dk_at dksX19_divide_4 12 rfl rfl)
theorem dX19_divide_104 : decode cX19_divide 104 = .ok (.getfield 54, 3) := dk_180 0 54 (dk_at dksX19_divide_4 13 rfl rfl)
theorem dX19_divide_107 : decode cX19_divide 107 = .ok (.iconst 4, 1) := dk_7 (dk_at dksX19_divide_4 16 rfl rfl)
theorem dX19_divide_108 : decode cX19_divide 108 = .ok (.aload_n 0, 1) := dk_42 (dk_at dksX19_divide_4 17 rfl rfl)
theorem dX19_divide_109 : decode cX19_divide 109 = .ok (.getfield 54, 3) := dk_180 0 54 (dk_at dksX19_divide_4 18 rfl rfl)
theorem dX19_divide_112 : decode cX19_divide 112 = .ok (.iload_n 2, 1) := dk_28 (dk_at dksX19_divide_4 21 rfl rfl)
theorem dX19_divide_113 : decode cX19_divide 113 = .ok (.aload_n 0, 1) := dk_42 (dk_at dksX19_divide_4 22 rfl rfl)
theorem dX19_divide_114 : decode cX19_divide 114 = .ok (.getfield 54, 3) := dk_180 0 54 (dk_at dksX19_divide_5 0 rfl rfl)
theorem dX19_divide_117 : decode cX19_divide 117 = .ok (.aload_n 0, 1) := dk_42 (dk_at dksX19_divide_5 3 rfl rfl)
theorem dX19_divide_118 : decode cX19_divide 118 = .ok (.getfield 33, 3) := dk_180 0 33 (dk_at dksX19_divide_5 4 rfl rfl)
theorem dX19_divide_121 : decode cX19_divide 121 = .ok (.invokevirtual 312, 3) := dk_182 1 56 (dk_at dksX19_divide_5 7 rfl rfl)
theorem dX19_divide_124 : decode cX19_divide 124 = .ok (.invokevirtual 203, 3) := dk_182 0 203 (dk_at dksX19_divide_5 10 rfl rfl)
theorem dX19_divide_127 : decode cX19_divide 127 = .ok (.invokevirtual 156, 3) := dk_182 0 156 (dk_at dksX19_divide_5 13 rfl rfl)
theorem dX19_divide_130 : decode cX19_divide 130 = .ok (.invokevirtual 122, 3) := dk_182 0 122 (dk_at dksX19_divide_5 16 rfl rfl)
theorem dX19_divide_133 : decode cX19_divide 133 = .ok (.return_, 1) := dk_177 (dk_at dksX19_divide_5 19 rfl rfl)
abbrev cX19_collection : ByteArray := prog_9_method_38_code
def yX19_collection : MethodName := ⟨RX19, "collection", "(II)V"⟩
def dkwX19_collection_10 : List UInt8 := [177]
abbrev dktX19_collection_10 : List UInt8 := dkwX19_collection_10 ++ []
def dkwX19_collection_9 : List UInt8 := [167, 0, 24, 42, 28, 29, 42, 27, 5, 182, 0, 131, 5, 160, 0, 7, 4, 167, 0, 4, 3, 182, 1, 128]
abbrev dktX19_collection_9 : List UInt8 := dkwX19_collection_9 ++ dktX19_collection_10
def dkwX19_collection_8 : List UInt8 := [42, 21, 4, 154, 0, 8, 16, 8, 167, 0, 13, 42, 180, 0, 54, 7, 21, 4, 182, 0, 156, 182, 0, 122]
abbrev dktX19_collection_8 : List UInt8 := dkwX19_collection_8 ++ dktX19_collection_9
def dkwX19_collection_7 : List UInt8 := [3, 182, 0, 235, 133, 105, 97, 182, 0, 183, 42, 180, 0, 78, 42, 182, 0, 139, 29, 182, 1, 123, 54, 4]
abbrev dktX19_collection_7 : List UInt8 := dkwX19_collection_7 ++ dktX19_collection_8
def dkwX19_collection_6 : List UInt8 := [182, 0, 139, 29, 182, 1, 118, 182, 0, 122, 167, 0, 86, 42, 180, 0, 94, 20, 0, 206, 20, 1, 121, 42]
abbrev dktX19_collection_6 : List UInt8 := dkwX19_collection_6 ++ dktX19_collection_7
def dkwX19_collection_5 : List UInt8 := [167, 0, 120, 42, 180, 0, 94, 16, 10, 42, 3, 182, 0, 235, 7, 108, 96, 133, 182, 0, 183, 42, 42, 42]
abbrev dktX19_collection_5 : List UInt8 := dkwX19_collection_5 ++ dktX19_collection_6
def dkwX19_collection_4 : List UInt8 := [20, 0, 206, 182, 0, 183, 42, 42, 42, 182, 0, 139, 29, 182, 1, 115, 184, 1, 23, 182, 0, 122]
abbrev dktX19_collection_4 : List UInt8 := dkwX19_collection_4 ++ dktX19_collection_5
def dkwX19_collection_3 : List UInt8 := [167, 0, 166, 42, 180, 0, 94, 20, 0, 206, 182, 0, 183, 42, 182, 1, 112, 167, 0, 149, 42, 180, 0, 94]
abbrev dktX19_collection_3 : List UInt8 := dkwX19_collection_3 ++ dktX19_collection_4
def dkwX19_collection_2 : List UInt8 := [42, 180, 0, 94, 20, 0, 206, 182, 0, 183, 42, 29, 154, 0, 7, 4, 167, 0, 4, 3, 182, 1, 109]
abbrev dktX19_collection_2 : List UInt8 := dkwX19_collection_2 ++ dktX19_collection_3
def dkwX19_collection_1 : List UInt8 := [170, 0, 0, 0, 0, 0, 0, 220, 0, 0, 0, 86, 0, 0, 0, 94, 0, 0, 0, 52, 0, 0, 0, 78, 0, 0, 0, 95, 0, 0, 0, 220, 0, 0, 0, 220, 0, 0, 0, 220, 0, 0, 0, 220, 0, 0, 0, 124, 0, 0, 0, 158]
abbrev dktX19_collection_1 : List UInt8 := dkwX19_collection_1 ++ dktX19_collection_2
def dkwX19_collection_0 : List UInt8 := [42, 27, 4, 182, 0, 131, 62, 28]
abbrev dktX19_collection_0 : List UInt8 := dkwX19_collection_0 ++ dktX19_collection_1
theorem dksX19_collection_0 : cX19_collection.data.toList.drop 0 = dktX19_collection_0 := by decide +kernel
theorem dksX19_collection_1 : cX19_collection.data.toList.drop 8 = dktX19_collection_1 := dk_seg dksX19_collection_0 8 rfl rfl
theorem dksX19_collection_2 : cX19_collection.data.toList.drop 60 = dktX19_collection_2 := dk_seg dksX19_collection_1 52 rfl rfl
theorem dksX19_collection_3 : cX19_collection.data.toList.drop 83 = dktX19_collection_3 := dk_seg dksX19_collection_2 23 rfl rfl
theorem dksX19_collection_4 : cX19_collection.data.toList.drop 107 = dktX19_collection_4 := dk_seg dksX19_collection_3 24 rfl rfl
theorem dksX19_collection_5 : cX19_collection.data.toList.drop 129 = dktX19_collection_5 := dk_seg dksX19_collection_4 22 rfl rfl
theorem dksX19_collection_6 : cX19_collection.data.toList.drop 153 = dktX19_collection_6 := dk_seg dksX19_collection_5 24 rfl rfl
theorem dksX19_collection_7 : cX19_collection.data.toList.drop 177 = dktX19_collection_7 := dk_seg dksX19_collection_6 24 rfl rfl
theorem dksX19_collection_8 : cX19_collection.data.toList.drop 201 = dktX19_collection_8 := dk_seg dksX19_collection_7 24 rfl rfl
theorem dksX19_collection_9 : cX19_collection.data.toList.drop 225 = dktX19_collection_9 := dk_seg dksX19_collection_8 24 rfl rfl
theorem dksX19_collection_10 : cX19_collection.data.toList.drop 249 = dktX19_collection_10 := dk_seg dksX19_collection_9 24 rfl rfl
theorem dX19_collection_0 : decode cX19_collection 0 = .ok (.aload_n 0, 1) := dk_42 (dk_at dksX19_collection_0 0 rfl rfl)
theorem dX19_collection_1 : decode cX19_collection 1 = .ok (.iload_n 1, 1) := dk_27 (dk_at dksX19_collection_0 1 rfl rfl)
theorem dX19_collection_2 : decode cX19_collection 2 = .ok (.iconst 1, 1) := dk_4 (dk_at dksX19_collection_0 2 rfl rfl)
theorem dX19_collection_3 : decode cX19_collection 3 = .ok (.invokevirtual 131, 3) := dk_182 0 131 (dk_at dksX19_collection_0 3 rfl rfl)
theorem dX19_collection_6 : decode cX19_collection 6 = .ok (.istore_n 3, 1) := dk_62 (dk_at dksX19_collection_0 6 rfl rfl)
theorem dX19_collection_7 : decode cX19_collection 7 = .ok (.iload_n 2, 1) := dk_28 (dk_at dksX19_collection_0 7 rfl rfl)
theorem dX19_collection_8 : decode cX19_collection 8 = .ok (.tableswitch 220 86 94 #[52, 78, 95, 220, 220, 220, 220, 124, 158], 52) := by decide +kernel
theorem dX19_collection_60 : decode cX19_collection 60 = .ok (.aload_n 0, 1) := dk_42 (dk_at dksX19_collection_2 0 rfl rfl)
theorem dX19_collection_61 : decode cX19_collection 61 = .ok (.getfield 94, 3) := dk_180 0 94 (dk_at dksX19_collection_2 1 rfl rfl)
theorem dX19_collection_64 : decode cX19_collection 64 = .ok (.ldc2_w 206, 3) := dk_20 0 206 (dk_at dksX19_collection_2 4 rfl rfl)
theorem dX19_collection_67 : decode cX19_collection 67 = .ok (.invokevirtual 183, 3) := dk_182 0 183 (dk_at dksX19_collection_2 7 rfl rfl)
theorem dX19_collection_70 : decode cX19_collection 70 = .ok (.aload_n 0, 1) := dk_42 (dk_at dksX19_collection_2 10 rfl rfl)
theorem dX19_collection_71 : decode cX19_collection 71 = .ok (.iload_n 3, 1) := dk_29 (dk_at dksX19_collection_2 11 rfl rfl)
theorem dX19_collection_72 : decode cX19_collection 72 = .ok (.ifCond .ne 7, 3) := dk_154 0 7 (dk_at dksX19_collection_2 12 rfl rfl)
theorem dX19_collection_75 : decode cX19_collection 75 = .ok (.iconst 1, 1) := dk_4 (dk_at dksX19_collection_2 15 rfl rfl)
theorem dX19_collection_76 : decode cX19_collection 76 = .ok (.goto 4, 3) := dk_167 0 4 (dk_at dksX19_collection_2 16 rfl rfl)
theorem dX19_collection_79 : decode cX19_collection 79 = .ok (.iconst 0, 1) := dk_3 (dk_at dksX19_collection_2 19 rfl rfl)
theorem dX19_collection_80 : decode cX19_collection 80 = .ok (.invokevirtual 365, 3) := dk_182 1 109 (dk_at dksX19_collection_2 20 rfl rfl)
theorem dX19_collection_83 : decode cX19_collection 83 = .ok (.goto 166, 3) := dk_167 0 166 (dk_at dksX19_collection_3 0 rfl rfl)
theorem dX19_collection_86 : decode cX19_collection 86 = .ok (.aload_n 0, 1) := dk_42 (dk_at dksX19_collection_3 3 rfl rfl)
theorem dX19_collection_87 : decode cX19_collection 87 = .ok (.getfield 94, 3) := dk_180 0 94 (dk_at dksX19_collection_3 4 rfl rfl)
theorem dX19_collection_90 : decode cX19_collection 90 = .ok (.ldc2_w 206, 3) := dk_20 0 206 (dk_at dksX19_collection_3 7 rfl rfl)
theorem dX19_collection_93 : decode cX19_collection 93 = .ok (.invokevirtual 183, 3) := dk_182 0 183 (dk_at dksX19_collection_3 10 rfl rfl)
theorem dX19_collection_96 : decode cX19_collection 96 = .ok (.aload_n 0, 1) := dk_42 (dk_at dksX19_collection_3 13 rfl rfl)
theorem dX19_collection_97 : decode cX19_collection 97 = .ok (.invokevirtual 368, 3) := dk_182 1 112 (dk_at dksX19_collection_3 14 rfl rfl)
theorem dX19_collection_100 : decode cX19_collection 100 = .ok (.goto 149, 3) := dk_167 0 149 (dk_at dksX19_collection_3 17 rfl rfl)
theorem dX19_collection_103 : decode cX19_collection 103 = .ok (.aload_n 0, 1) := dk_42 (dk_at dksX19_collection_3 20 rfl rfl)
theorem dX19_collection_104 : decode cX19_collection 104 = .ok (.getfield 94, 3) := dk_180 0 94 (dk_at dksX19_collection_3 21 rfl rfl)
theorem dX19_collection_107 : decode cX19_collection 107 = .ok (.ldc2_w 206, 3) := dk_20 0 206 (dk_at dksX19_collection_4 0 rfl rfl)
theorem dX19_collection_110 : decode cX19_collection 110 = .ok (.invokevirtual 183, 3) := dk_182 0 183 (dk_at dksX19_collection_4 3 rfl rfl)
theorem dX19_collection_113 : decode cX19_collection 113 = .ok (.aload_n 0, 1) := dk_42 (dk_at dksX19_collection_4 6 rfl rfl)
theorem dX19_collection_114 : decode cX19_collection 114 = .ok (.aload_n 0, 1) := dk_42 (dk_at dksX19_collection_4 7 rfl rfl)
theorem dX19_collection_115 : decode cX19_collection 115 = .ok (.aload_n 0, 1) := dk_42 (dk_at dksX19_collection_4 8 rfl rfl)
theorem dX19_collection_116 : decode cX19_collection 116 = .ok (.invokevirtual 139, 3) := dk_182 0 139 (dk_at dksX19_collection_4 9 rfl rfl)
theorem dX19_collection_119 : decode cX19_collection 119 = .ok (.iload_n 3, 1) := dk_29 (dk_at dksX19_collection_4 12 rfl rfl)
theorem dX19_collection_120 : decode cX19_collection 120 = .ok (.invokevirtual 371, 3) := dk_182 1 115 (dk_at dksX19_collection_4 13 rfl rfl)
theorem dX19_collection_123 : decode cX19_collection 123 = .ok (.invokestatic 279, 3) := dk_184 1 23 (dk_at dksX19_collection_4 16 rfl rfl)
theorem dX19_collection_126 : decode cX19_collection 126 = .ok (.invokevirtual 122, 3) := dk_182 0 122 (dk_at dksX19_collection_4 19 rfl rfl)
theorem dX19_collection_129 : decode cX19_collection 129 = .ok (.goto 120, 3) := dk_167 0 120 (dk_at dksX19_collection_5 0 rfl rfl)
theorem dX19_collection_132 : decode cX19_collection 132 = .ok (.aload_n 0, 1) := dk_42 (dk_at dksX19_collection_5 3 rfl rfl)
theorem dX19_collection_133 : decode cX19_collection 133 = .ok (.getfield 94, 3) := dk_180 0 94 (dk_at dksX19_collection_5 4 rfl rfl)
theorem dX19_collection_136 : decode cX19_collection 136 = .ok (.bipush 10, 2) := dk_16 10 (dk_at dksX19_collection_5 7 rfl rfl)
theorem dX19_collection_138 : decode cX19_collection 138 = .ok (.aload_n 0, 1) := dk_42 (dk_at dksX19_collection_5 9 rfl rfl)
theorem dX19_collection_139 : decode cX19_collection 139 = .ok (.iconst 0, 1) := dk_3 (dk_at dksX19_collection_5 10 rfl rfl)
theorem dX19_collection_140 : decode cX19_collection 140 = .ok (.invokevirtual 235, 3) := dk_182 0 235 (dk_at dksX19_collection_5 11 rfl rfl)
theorem dX19_collection_143 : decode cX19_collection 143 = .ok (.iconst 4, 1) := dk_7 (dk_at dksX19_collection_5 14 rfl rfl)
theorem dX19_collection_144 : decode cX19_collection 144 = .ok (.idiv, 1) := dk_108 (dk_at dksX19_collection_5 15 rfl rfl)
theorem dX19_collection_145 : decode cX19_collection 145 = .ok (.iadd, 1) := dk_96 (dk_at dksX19_collection_5 16 rfl rfl)
theorem dX19_collection_146 : decode cX19_collection 146 = .ok (.i2l, 1) := dk_133 (dk_at dksX19_collection_5 17 rfl rfl)
theorem dX19_collection_147 : decode cX19_collection 147 = .ok (.invokevirtual 183, 3) := dk_182 0 183 (dk_at dksX19_collection_5 18 rfl rfl)
theorem dX19_collection_150 : decode cX19_collection 150 = .ok (.aload_n 0, 1) := dk_42 (dk_at dksX19_collection_5 21 rfl rfl)
theorem dX19_collection_151 : decode cX19_collection 151 = .ok (.aload_n 0, 1) := dk_42 (dk_at dksX19_collection_5 22 rfl rfl)
theorem dX19_collection_152 : decode cX19_collection 152 = .ok (.aload_n 0, 1) := dk_42 (dk_at dksX19_collection_5 23 rfl rfl)
theorem dX19_collection_153 : decode cX19_collection 153 = .ok (.invokevirtual 139, 3) := dk_182 0 139 (dk_at dksX19_collection_6 0 rfl rfl)
theorem dX19_collection_156 : decode cX19_collection 156 = .ok (.iload_n 3, 1) := dk_29 (dk_at dksX19_collection_6 3 rfl rfl)
theorem dX19_collection_157 : decode cX19_collection 157 = .ok (.invokevirtual 374, 3) := dk_182 1 118 (dk_at dksX19_collection_6 4 rfl rfl)
theorem dX19_collection_160 : decode cX19_collection 160 = .ok (.invokevirtual 122, 3) := dk_182 0 122 (dk_at dksX19_collection_6 7 rfl rfl)
theorem dX19_collection_163 : decode cX19_collection 163 = .ok (.goto 86, 3) := dk_167 0 86 (dk_at dksX19_collection_6 10 rfl rfl)
theorem dX19_collection_166 : decode cX19_collection 166 = .ok (.aload_n 0, 1) := dk_42 (dk_at dksX19_collection_6 13 rfl rfl)
theorem dX19_collection_167 : decode cX19_collection 167 = .ok (.getfield 94, 3) := dk_180 0 94 (dk_at dksX19_collection_6 14 rfl rfl)
theorem dX19_collection_170 : decode cX19_collection 170 = .ok (.ldc2_w 206, 3) := dk_20 0 206 (dk_at dksX19_collection_6 17 rfl rfl)
theorem dX19_collection_173 : decode cX19_collection 173 = .ok (.ldc2_w 377, 3) := dk_20 1 121 (dk_at dksX19_collection_6 20 rfl rfl)
theorem dX19_collection_176 : decode cX19_collection 176 = .ok (.aload_n 0, 1) := dk_42 (dk_at dksX19_collection_6 23 rfl rfl)
theorem dX19_collection_177 : decode cX19_collection 177 = .ok (.iconst 0, 1) := dk_3 (dk_at dksX19_collection_7 0 rfl rfl)
theorem dX19_collection_178 : decode cX19_collection 178 = .ok (.invokevirtual 235, 3) := dk_182 0 235 (dk_at dksX19_collection_7 1 rfl rfl)
theorem dX19_collection_181 : decode cX19_collection 181 = .ok (.i2l, 1) := dk_133 (dk_at dksX19_collection_7 4 rfl rfl)
theorem dX19_collection_182 : decode cX19_collection 182 = .ok (.lmul, 1) := dk_105 (dk_at dksX19_collection_7 5 rfl rfl)
theorem dX19_collection_183 : decode cX19_collection 183 = .ok (.ladd, 1) := dk_97 (dk_at dksX19_collection_7 6 rfl rfl)
theorem dX19_collection_184 : decode cX19_collection 184 = .ok (.invokevirtual 183, 3) := dk_182 0 183 (dk_at dksX19_collection_7 7 rfl rfl)
theorem dX19_collection_187 : decode cX19_collection 187 = .ok (.aload_n 0, 1) := dk_42 (dk_at dksX19_collection_7 10 rfl rfl)
theorem dX19_collection_188 : decode cX19_collection 188 = .ok (.getfield 78, 3) := dk_180 0 78 (dk_at dksX19_collection_7 11 rfl rfl)
theorem dX19_collection_191 : decode cX19_collection 191 = .ok (.aload_n 0, 1) := dk_42 (dk_at dksX19_collection_7 14 rfl rfl)
theorem dX19_collection_192 : decode cX19_collection 192 = .ok (.invokevirtual 139, 3) := dk_182 0 139 (dk_at dksX19_collection_7 15 rfl rfl)
theorem dX19_collection_195 : decode cX19_collection 195 = .ok (.iload_n 3, 1) := dk_29 (dk_at dksX19_collection_7 18 rfl rfl)
theorem dX19_collection_196 : decode cX19_collection 196 = .ok (.invokevirtual 379, 3) := dk_182 1 123 (dk_at dksX19_collection_7 19 rfl rfl)
theorem dX19_collection_199 : decode cX19_collection 199 = .ok (.istore 4, 2) := dk_54 4 (dk_at dksX19_collection_7 22 rfl rfl)
theorem dX19_collection_201 : decode cX19_collection 201 = .ok (.aload_n 0, 1) := dk_42 (dk_at dksX19_collection_8 0 rfl rfl)
theorem dX19_collection_202 : decode cX19_collection 202 = .ok (.iload 4, 2) := dk_21 4 (dk_at dksX19_collection_8 1 rfl rfl)
theorem dX19_collection_204 : decode cX19_collection 204 = .ok (.ifCond .ne 8, 3) := dk_154 0 8 (dk_at dksX19_collection_8 3 rfl rfl)
theorem dX19_collection_207 : decode cX19_collection 207 = .ok (.bipush 8, 2) := dk_16 8 (dk_at dksX19_collection_8 6 rfl rfl)
theorem dX19_collection_209 : decode cX19_collection 209 = .ok (.goto 13, 3) := dk_167 0 13 (dk_at dksX19_collection_8 8 rfl rfl)
theorem dX19_collection_212 : decode cX19_collection 212 = .ok (.aload_n 0, 1) := dk_42 (dk_at dksX19_collection_8 11 rfl rfl)
theorem dX19_collection_213 : decode cX19_collection 213 = .ok (.getfield 54, 3) := dk_180 0 54 (dk_at dksX19_collection_8 12 rfl rfl)
theorem dX19_collection_216 : decode cX19_collection 216 = .ok (.iconst 4, 1) := dk_7 (dk_at dksX19_collection_8 15 rfl rfl)
theorem dX19_collection_217 : decode cX19_collection 217 = .ok (.iload 4, 2) := dk_21 4 (dk_at dksX19_collection_8 16 rfl rfl)
theorem dX19_collection_219 : decode cX19_collection 219 = .ok (.invokevirtual 156, 3) := dk_182 0 156 (dk_at dksX19_collection_8 18 rfl rfl)
theorem dX19_collection_222 : decode cX19_collection 222 = .ok (.invokevirtual 122, 3) := dk_182 0 122 (dk_at dksX19_collection_8 21 rfl rfl)
theorem dX19_collection_225 : decode cX19_collection 225 = .ok (.goto 24, 3) := dk_167 0 24 (dk_at dksX19_collection_9 0 rfl rfl)
theorem dX19_collection_228 : decode cX19_collection 228 = .ok (.aload_n 0, 1) := dk_42 (dk_at dksX19_collection_9 3 rfl rfl)
theorem dX19_collection_229 : decode cX19_collection 229 = .ok (.iload_n 2, 1) := dk_28 (dk_at dksX19_collection_9 4 rfl rfl)
theorem dX19_collection_230 : decode cX19_collection 230 = .ok (.iload_n 3, 1) := dk_29 (dk_at dksX19_collection_9 5 rfl rfl)
theorem dX19_collection_231 : decode cX19_collection 231 = .ok (.aload_n 0, 1) := dk_42 (dk_at dksX19_collection_9 6 rfl rfl)
theorem dX19_collection_232 : decode cX19_collection 232 = .ok (.iload_n 1, 1) := dk_27 (dk_at dksX19_collection_9 7 rfl rfl)
theorem dX19_collection_233 : decode cX19_collection 233 = .ok (.iconst 2, 1) := dk_5 (dk_at dksX19_collection_9 8 rfl rfl)
theorem dX19_collection_234 : decode cX19_collection 234 = .ok (.invokevirtual 131, 3) := dk_182 0 131 (dk_at dksX19_collection_9 9 rfl rfl)
theorem dX19_collection_237 : decode cX19_collection 237 = .ok (.iconst 2, 1) := dk_5 (dk_at dksX19_collection_9 12 rfl rfl)
theorem dX19_collection_238 : decode cX19_collection 238 = .ok (.if_icmp .ne 7, 3) := dk_160 0 7 (dk_at dksX19_collection_9 13 rfl rfl)
theorem dX19_collection_241 : decode cX19_collection 241 = .ok (.iconst 1, 1) := dk_4 (dk_at dksX19_collection_9 16 rfl rfl)
theorem dX19_collection_242 : decode cX19_collection 242 = .ok (.goto 4, 3) := dk_167 0 4 (dk_at dksX19_collection_9 17 rfl rfl)
theorem dX19_collection_245 : decode cX19_collection 245 = .ok (.iconst 0, 1) := dk_3 (dk_at dksX19_collection_9 20 rfl rfl)
theorem dX19_collection_246 : decode cX19_collection 246 = .ok (.invokevirtual 384, 3) := dk_182 1 128 (dk_at dksX19_collection_9 21 rfl rfl)
theorem dX19_collection_249 : decode cX19_collection 249 = .ok (.return_, 1) := dk_177 (dk_at dksX19_collection_10 0 rfl rfl)
abbrev cX19_concat : ByteArray := prog_9_method_39_code
def yX19_concat : MethodName := ⟨RX19, "concat", "(Z)V"⟩
def dkwX19_concat_12 : List UInt8 := [182, 1, 141, 87, 42, 89, 180, 0, 98, 5, 100, 181, 0, 98, 42, 21, 5, 182, 0, 122, 177]
abbrev dktX19_concat_12 : List UInt8 := dkwX19_concat_12 ++ []
def dkwX19_concat_11 : List UInt8 := [42, 42, 4, 182, 0, 102, 3, 42, 180, 0, 54, 42, 4, 182, 0, 102, 182, 1, 132, 21, 5, 21, 6]
abbrev dktX19_concat_11 : List UInt8 := dkwX19_concat_11 ++ dktX19_concat_12
def dkwX19_concat_10 : List UInt8 := [167, 0, 61, 42, 21, 4, 3, 42, 180, 0, 54, 21, 4, 182, 1, 132, 21, 5, 3, 182, 1, 141, 54, 6]
abbrev dktX19_concat_10 : List UInt8 := dkwX19_concat_10 ++ dktX19_concat_11
def dkwX19_concat_9 : List UInt8 := [180, 0, 54, 21, 7, 6, 182, 0, 199, 54, 7, 167, 255, 199, 42, 89, 180, 0, 98, 4, 100, 181, 0, 98]
abbrev dktX19_concat_9 : List UInt8 := dkwX19_concat_9 ++ dktX19_concat_10
def dkwX19_concat_8 : List UInt8 := [180, 0, 54, 21, 7, 5, 182, 0, 199, 182, 1, 132, 21, 5, 21, 6, 182, 1, 141, 54, 6, 42]
abbrev dktX19_concat_8 : List UInt8 := dkwX19_concat_8 ++ dktX19_concat_9
def dkwX19_concat_7 : List UInt8 := [21, 7, 16, 10, 159, 0, 56, 42, 42, 180, 0, 54, 21, 7, 5, 182, 0, 199, 3, 42, 180, 0, 54, 42]
abbrev dktX19_concat_7 : List UInt8 := dkwX19_concat_7 ++ dktX19_concat_8
def dkwX19_concat_6 : List UInt8 := [182, 0, 183, 42, 180, 0, 54, 28, 182, 1, 138, 54, 5, 27, 153, 0, 83, 3, 54, 6, 21, 4, 54, 7]
abbrev dktX19_concat_6 : List UInt8 := dkwX19_concat_6 ++ dktX19_concat_7
def dkwX19_concat_5 : List UInt8 := [4, 167, 0, 4, 3, 5, 182, 1, 95, 42, 180, 0, 94, 28, 8, 96, 16, 8, 108, 5, 29, 104, 96, 133]
abbrev dktX19_concat_5 : List UInt8 := dkwX19_concat_5 ++ dktX19_concat_6
def dkwX19_concat_4 : List UInt8 := [180, 0, 54, 42, 4, 182, 0, 102, 182, 1, 132, 96, 61, 42, 180, 0, 90, 28, 17, 32, 0, 163, 0, 7]
abbrev dktX19_concat_4 : List UInt8 := dkwX19_concat_4 ++ dktX19_concat_5
def dkwX19_concat_3 : List UInt8 := [180, 0, 54, 21, 4, 182, 1, 135, 62, 167, 0, 26, 42, 180, 0, 54, 21, 4, 182, 1, 132, 42]
abbrev dktX19_concat_3 : List UInt8 := dkwX19_concat_3 ++ dktX19_concat_4
def dkwX19_concat_2 : List UInt8 := [182, 0, 199, 182, 1, 132, 96, 61, 42, 180, 0, 54, 21, 5, 6, 182, 0, 199, 54, 5, 167, 255, 210, 42]
abbrev dktX19_concat_2 : List UInt8 := dkwX19_concat_2 ++ dktX19_concat_3
def dkwX19_concat_1 : List UInt8 := [159, 0, 45, 28, 17, 32, 0, 163, 0, 38, 28, 42, 180, 0, 54, 42, 180, 0, 54, 21, 5, 5]
abbrev dktX19_concat_1 : List UInt8 := dkwX19_concat_1 ++ dktX19_concat_2
def dkwX19_concat_0 : List UInt8 := [3, 61, 3, 62, 42, 3, 182, 0, 102, 54, 4, 27, 153, 0, 69, 21, 4, 54, 5, 21, 5, 16, 10]
abbrev dktX19_concat_0 : List UInt8 := dkwX19_concat_0 ++ dktX19_concat_1
theorem dksX19_concat_0 : cX19_concat.data.toList.drop 0 = dktX19_concat_0 := by decide +kernel
theorem dksX19_concat_1 : cX19_concat.data.toList.drop 23 = dktX19_concat_1 := dk_seg dksX19_concat_0 23 rfl rfl
theorem dksX19_concat_2 : cX19_concat.data.toList.drop 45 = dktX19_concat_2 := dk_seg dksX19_concat_1 22 rfl rfl
theorem dksX19_concat_3 : cX19_concat.data.toList.drop 69 = dktX19_concat_3 := dk_seg dksX19_concat_2 24 rfl rfl
theorem dksX19_concat_4 : cX19_concat.data.toList.drop 91 = dktX19_concat_4 := dk_seg dksX19_concat_3 22 rfl rfl
theorem dksX19_concat_5 : cX19_concat.data.toList.drop 115 = dktX19_concat_5 := dk_seg dksX19_concat_4 24 rfl rfl
theorem dksX19_concat_6 : cX19_concat.data.toList.drop 139 = dktX19_concat_6 := dk_seg dksX19_concat_5 24 rfl rfl
theorem dksX19_concat_7 : cX19_concat.data.toList.drop 163 = dktX19_concat_7 := dk_seg dksX19_concat_6 24 rfl rfl
theorem dksX19_concat_8 : cX19_concat.data.toList.drop 187 = dktX19_concat_8 := dk_seg dksX19_concat_7 24 rfl rfl
theorem dksX19_concat_9 : cX19_concat.data.toList.drop 209 = dktX19_concat_9 := dk_seg dksX19_concat_8 22 rfl rfl
theorem dksX19_concat_10 : cX19_concat.data.toList.drop 233 = dktX19_concat_10 := dk_seg dksX19_concat_9 24 rfl rfl
theorem dksX19_concat_11 : cX19_concat.data.toList.drop 257 = dktX19_concat_11 := dk_seg dksX19_concat_10 24 rfl rfl
theorem dksX19_concat_12 : cX19_concat.data.toList.drop 280 = dktX19_concat_12 := dk_seg dksX19_concat_11 23 rfl rfl
theorem dX19_concat_0 : decode cX19_concat 0 = .ok (.iconst 0, 1) := dk_3 (dk_at dksX19_concat_0 0 rfl rfl)
theorem dX19_concat_1 : decode cX19_concat 1 = .ok (.istore_n 2, 1) := dk_61 (dk_at dksX19_concat_0 1 rfl rfl)
theorem dX19_concat_2 : decode cX19_concat 2 = .ok (.iconst 0, 1) := dk_3 (dk_at dksX19_concat_0 2 rfl rfl)
theorem dX19_concat_3 : decode cX19_concat 3 = .ok (.istore_n 3, 1) := dk_62 (dk_at dksX19_concat_0 3 rfl rfl)
theorem dX19_concat_4 : decode cX19_concat 4 = .ok (.aload_n 0, 1) := dk_42 (dk_at dksX19_concat_0 4 rfl rfl)
theorem dX19_concat_5 : decode cX19_concat 5 = .ok (.iconst 0, 1) := dk_3 (dk_at dksX19_concat_0 5 rfl rfl)
theorem dX19_concat_6 : decode cX19_concat 6 = .ok (.invokevirtual 102, 3) := dk_182 0 102 (dk_at dksX19_concat_0 6 rfl rfl)
theorem dX19_concat_9 : decode cX19_concat 9 = .ok (.istore 4, 2) := dk_54 4 (dk_at dksX19_concat_0 9 rfl rfl)
theorem dX19_concat_11 : decode cX19_concat 11 = .ok (.iload_n 1, 1) := dk_27 (dk_at dksX19_concat_0 11 rfl rfl)
theorem dX19_concat_12 : decode cX19_concat 12 = .ok (.ifCond .eq 69, 3) := dk_153 0 69 (dk_at dksX19_concat_0 12 rfl rfl)
theorem dX19_concat_15 : decode cX19_concat 15 = .ok (.iload 4, 2) := dk_21 4 (dk_at dksX19_concat_0 15 rfl rfl)
theorem dX19_concat_17 : decode cX19_concat 17 = .ok (.istore 5, 2) := dk_54 5 (dk_at dksX19_concat_0 17 rfl rfl)
theorem dX19_concat_19 : decode cX19_concat 19 = .ok (.iload 5, 2) := dk_21 5 (dk_at dksX19_concat_0 19 rfl rfl)
theorem dX19_concat_21 : decode cX19_concat 21 = .ok (.bipush 10, 2) := dk_16 10 (dk_at dksX19_concat_0 21 rfl rfl)
theorem dX19_concat_23 : decode cX19_concat 23 = .ok (.if_icmp .eq 45, 3) := dk_159 0 45 (dk_at dksX19_concat_1 0 rfl rfl)
theorem dX19_concat_26 : decode cX19_concat 26 = .ok (.iload_n 2, 1) := dk_28 (dk_at dksX19_concat_1 3 rfl rfl)
theorem dX19_concat_27 : decode cX19_concat 27 = .ok (.sipush 8192, 3) := dk_17 32 0 (dk_at dksX19_concat_1 4 rfl rfl)
theorem dX19_concat_30 : decode cX19_concat 30 = .ok (.if_icmp .gt 38, 3) := dk_163 0 38 (dk_at dksX19_concat_1 7 rfl rfl)
theorem dX19_concat_33 : decode cX19_concat 33 = .ok (.iload_n 2, 1) := dk_28 (dk_at dksX19_concat_1 10 rfl rfl)
theorem dX19_concat_34 : decode cX19_concat 34 = .ok (.aload_n 0, 1) := dk_42 (dk_at dksX19_concat_1 11 rfl rfl)
theorem dX19_concat_35 : decode cX19_concat 35 = .ok (.getfield 54, 3) := dk_180 0 54 (dk_at dksX19_concat_1 12 rfl rfl)
theorem dX19_concat_38 : decode cX19_concat 38 = .ok (.aload_n 0, 1) := dk_42 (dk_at dksX19_concat_1 15 rfl rfl)
theorem dX19_concat_39 : decode cX19_concat 39 = .ok (.getfield 54, 3) := dk_180 0 54 (dk_at dksX19_concat_1 16 rfl rfl)
theorem dX19_concat_42 : decode cX19_concat 42 = .ok (.iload 5, 2) := dk_21 5 (dk_at dksX19_concat_1 19 rfl rfl)
theorem dX19_concat_44 : decode cX19_concat 44 = .ok (.iconst 2, 1) := dk_5 (dk_at dksX19_concat_1 21 rfl rfl)
theorem dX19_concat_45 : decode cX19_concat 45 = .ok (.invokevirtual 199, 3) := dk_182 0 199 (dk_at dksX19_concat_2 0 rfl rfl)
theorem dX19_concat_48 : decode cX19_concat 48 = .ok (.invokevirtual 388, 3) := dk_182 1 132 (dk_at dksX19_concat_2 3 rfl rfl)
theorem dX19_concat_51 : decode cX19_concat 51 = .ok (.iadd, 1) := dk_96 (dk_at dksX19_concat_2 6 rfl rfl)
theorem dX19_concat_52 : decode cX19_concat 52 = .ok (.istore_n 2, 1) := dk_61 (dk_at dksX19_concat_2 7 rfl rfl)
theorem dX19_concat_53 : decode cX19_concat 53 = .ok (.aload_n 0, 1) := dk_42 (dk_at dksX19_concat_2 8 rfl rfl)
theorem dX19_concat_54 : decode cX19_concat 54 = .ok (.getfield 54, 3) := dk_180 0 54 (dk_at dksX19_concat_2 9 rfl rfl)
theorem dX19_concat_57 : decode cX19_concat 57 = .ok (.iload 5, 2) := dk_21 5 (dk_at dksX19_concat_2 12 rfl rfl)
theorem dX19_concat_59 : decode cX19_concat 59 = .ok (.iconst 3, 1) := dk_6 (dk_at dksX19_concat_2 14 rfl rfl)
theorem dX19_concat_60 : decode cX19_concat 60 = .ok (.invokevirtual 199, 3) := dk_182 0 199 (dk_at dksX19_concat_2 15 rfl rfl)
theorem dX19_concat_63 : decode cX19_concat 63 = .ok (.istore 5, 2) := dk_54 5 (dk_at dksX19_concat_2 18 rfl rfl)
theorem dX19_concat_65 : decode cX19_concat 65 = .ok (.goto (-46), 3) := dk_167 255 210 (dk_at dksX19_concat_2 20 rfl rfl)
theorem dX19_concat_68 : decode cX19_concat 68 = .ok (.aload_n 0, 1) := dk_42 (dk_at dksX19_concat_2 23 rfl rfl)
theorem dX19_concat_69 : decode cX19_concat 69 = .ok (.getfield 54, 3) := dk_180 0 54 (dk_at dksX19_concat_3 0 rfl rfl)
theorem dX19_concat_72 : decode cX19_concat 72 = .ok (.iload 4, 2) := dk_21 4 (dk_at dksX19_concat_3 3 rfl rfl)
theorem dX19_concat_74 : decode cX19_concat 74 = .ok (.invokevirtual 391, 3) := dk_182 1 135 (dk_at dksX19_concat_3 5 rfl rfl)
theorem dX19_concat_77 : decode cX19_concat 77 = .ok (.istore_n 3, 1) := dk_62 (dk_at dksX19_concat_3 8 rfl rfl)
theorem dX19_concat_78 : decode cX19_concat 78 = .ok (.goto 26, 3) := dk_167 0 26 (dk_at dksX19_concat_3 9 rfl rfl)
theorem dX19_concat_81 : decode cX19_concat 81 = .ok (.aload_n 0, 1) := dk_42 (dk_at dksX19_concat_3 12 rfl rfl)
theorem dX19_concat_82 : decode cX19_concat 82 = .ok (.getfield 54, 3) := dk_180 0 54 (dk_at dksX19_concat_3 13 rfl rfl)
theorem dX19_concat_85 : decode cX19_concat 85 = .ok (.iload 4, 2) := dk_21 4 (dk_at dksX19_concat_3 16 rfl rfl)
theorem dX19_concat_87 : decode cX19_concat 87 = .ok (.invokevirtual 388, 3) := dk_182 1 132 (dk_at dksX19_concat_3 18 rfl rfl)
theorem dX19_concat_90 : decode cX19_concat 90 = .ok (.aload_n 0, 1) := dk_42 (dk_at dksX19_concat_3 21 rfl rfl)
theorem dX19_concat_91 : decode cX19_concat 91 = .ok (.getfield 54, 3) := dk_180 0 54 (dk_at dksX19_concat_4 0 rfl rfl)
theorem dX19_concat_94 : decode cX19_concat 94 = .ok (.aload_n 0, 1) := dk_42 (dk_at dksX19_concat_4 3 rfl rfl)
theorem dX19_concat_95 : decode cX19_concat 95 = .ok (.iconst 1, 1) := dk_4 (dk_at dksX19_concat_4 4 rfl rfl)
theorem dX19_concat_96 : decode cX19_concat 96 = .ok (.invokevirtual 102, 3) := dk_182 0 102 (dk_at dksX19_concat_4 5 rfl rfl)
theorem dX19_concat_99 : decode cX19_concat 99 = .ok (.invokevirtual 388, 3) := dk_182 1 132 (dk_at dksX19_concat_4 8 rfl rfl)
theorem dX19_concat_102 : decode cX19_concat 102 = .ok (.iadd, 1) := dk_96 (dk_at dksX19_concat_4 11 rfl rfl)
theorem dX19_concat_103 : decode cX19_concat 103 = .ok (.istore_n 2, 1) := dk_61 (dk_at dksX19_concat_4 12 rfl rfl)
theorem dX19_concat_104 : decode cX19_concat 104 = .ok (.aload_n 0, 1) := dk_42 (dk_at dksX19_concat_4 13 rfl rfl)
theorem dX19_concat_105 : decode cX19_concat 105 = .ok (.getfield 90, 3) := dk_180 0 90 (dk_at dksX19_concat_4 14 rfl rfl)
theorem dX19_concat_108 : decode cX19_concat 108 = .ok (.iload_n 2, 1) := dk_28 (dk_at dksX19_concat_4 17 rfl rfl)
theorem dX19_concat_109 : decode cX19_concat 109 = .ok (.sipush 8192, 3) := dk_17 32 0 (dk_at dksX19_concat_4 18 rfl rfl)
theorem dX19_concat_112 : decode cX19_concat 112 = .ok (.if_icmp .gt 7, 3) := dk_163 0 7 (dk_at dksX19_concat_4 21 rfl rfl)
theorem dX19_concat_115 : decode cX19_concat 115 = .ok (.iconst 1, 1) := dk_4 (dk_at dksX19_concat_5 0 rfl rfl)
theorem dX19_concat_116 : decode cX19_concat 116 = .ok (.goto 4, 3) := dk_167 0 4 (dk_at dksX19_concat_5 1 rfl rfl)
theorem dX19_concat_119 : decode cX19_concat 119 = .ok (.iconst 0, 1) := dk_3 (dk_at dksX19_concat_5 4 rfl rfl)
theorem dX19_concat_120 : decode cX19_concat 120 = .ok (.iconst 2, 1) := dk_5 (dk_at dksX19_concat_5 5 rfl rfl)
theorem dX19_concat_121 : decode cX19_concat 121 = .ok (.invokevirtual 351, 3) := dk_182 1 95 (dk_at dksX19_concat_5 6 rfl rfl)
theorem dX19_concat_124 : decode cX19_concat 124 = .ok (.aload_n 0, 1) := dk_42 (dk_at dksX19_concat_5 9 rfl rfl)
theorem dX19_concat_125 : decode cX19_concat 125 = .ok (.getfield 94, 3) := dk_180 0 94 (dk_at dksX19_concat_5 10 rfl rfl)
theorem dX19_concat_128 : decode cX19_concat 128 = .ok (.iload_n 2, 1) := dk_28 (dk_at dksX19_concat_5 13 rfl rfl)
theorem dX19_concat_129 : decode cX19_concat 129 = .ok (.iconst 5, 1) := dk_8 (dk_at dksX19_concat_5 14 rfl rfl)
theorem dX19_concat_130 : decode cX19_concat 130 = .ok (.iadd, 1) := dk_96 (dk_at dksX19_concat_5 15 rfl rfl)
theorem dX19_concat_131 : decode cX19_concat 131 = .ok (.bipush 8, 2) := dk_16 8 (dk_at dksX19_concat_5 16 rfl rfl)
theorem dX19_concat_133 : decode cX19_concat 133 = .ok (.idiv, 1) := dk_108 (dk_at dksX19_concat_5 18 rfl rfl)
theorem dX19_concat_134 : decode cX19_concat 134 = .ok (.iconst 2, 1) := dk_5 (dk_at dksX19_concat_5 19 rfl rfl)
theorem dX19_concat_135 : decode cX19_concat 135 = .ok (.iload_n 3, 1) := dk_29 (dk_at dksX19_concat_5 20 rfl rfl)
theorem dX19_concat_136 : decode cX19_concat 136 = .ok (.imul, 1) := dk_104 (dk_at dksX19_concat_5 21 rfl rfl)
theorem dX19_concat_137 : decode cX19_concat 137 = .ok (.iadd, 1) := dk_96 (dk_at dksX19_concat_5 22 rfl rfl)
theorem dX19_concat_138 : decode cX19_concat 138 = .ok (.i2l, 1) := dk_133 (dk_at dksX19_concat_5 23 rfl rfl)
theorem dX19_concat_139 : decode cX19_concat 139 = .ok (.invokevirtual 183, 3) := dk_182 0 183 (dk_at dksX19_concat_6 0 rfl rfl)
theorem dX19_concat_142 : decode cX19_concat 142 = .ok (.aload_n 0, 1) := dk_42 (dk_at dksX19_concat_6 3 rfl rfl)
theorem dX19_concat_143 : decode cX19_concat 143 = .ok (.getfield 54, 3) := dk_180 0 54 (dk_at dksX19_concat_6 4 rfl rfl)
theorem dX19_concat_146 : decode cX19_concat 146 = .ok (.iload_n 2, 1) := dk_28 (dk_at dksX19_concat_6 7 rfl rfl)
theorem dX19_concat_147 : decode cX19_concat 147 = .ok (.invokevirtual 394, 3) := dk_182 1 138 (dk_at dksX19_concat_6 8 rfl rfl)
theorem dX19_concat_150 : decode cX19_concat 150 = .ok (.istore 5, 2) := dk_54 5 (dk_at dksX19_concat_6 11 rfl rfl)
theorem dX19_concat_152 : decode cX19_concat 152 = .ok (.iload_n 1, 1) := dk_27 (dk_at dksX19_concat_6 13 rfl rfl)
theorem dX19_concat_153 : decode cX19_concat 153 = .ok (.ifCond .eq 83, 3) := dk_153 0 83 (dk_at dksX19_concat_6 14 rfl rfl)
theorem dX19_concat_156 : decode cX19_concat 156 = .ok (.iconst 0, 1) := dk_3 (dk_at dksX19_concat_6 17 rfl rfl)
theorem dX19_concat_157 : decode cX19_concat 157 = .ok (.istore 6, 2) := dk_54 6 (dk_at dksX19_concat_6 18 rfl rfl)
theorem dX19_concat_159 : decode cX19_concat 159 = .ok (.iload 4, 2) := dk_21 4 (dk_at dksX19_concat_6 20 rfl rfl)
theorem dX19_concat_161 : decode cX19_concat 161 = .ok (.istore 7, 2) := dk_54 7 (dk_at dksX19_concat_6 22 rfl rfl)
theorem dX19_concat_163 : decode cX19_concat 163 = .ok (.iload 7, 2) := dk_21 7 (dk_at dksX19_concat_7 0 rfl rfl)
theorem dX19_concat_165 : decode cX19_concat 165 = .ok (.bipush 10, 2) := dk_16 10 (dk_at dksX19_concat_7 2 rfl rfl)
theorem dX19_concat_167 : decode cX19_concat 167 = .ok (.if_icmp .eq 56, 3) := dk_159 0 56 (dk_at dksX19_concat_7 4 rfl rfl)
theorem dX19_concat_170 : decode cX19_concat 170 = .ok (.aload_n 0, 1) := dk_42 (dk_at dksX19_concat_7 7 rfl rfl)
theorem dX19_concat_171 : decode cX19_concat 171 = .ok (.aload_n 0, 1) := dk_42 (dk_at dksX19_concat_7 8 rfl rfl)
theorem dX19_concat_172 : decode cX19_concat 172 = .ok (.getfield 54, 3) := dk_180 0 54 (dk_at dksX19_concat_7 9 rfl rfl)
theorem dX19_concat_175 : decode cX19_concat 175 = .ok (.iload 7, 2) := dk_21 7 (dk_at dksX19_concat_7 12 rfl rfl)
theorem dX19_concat_177 : decode cX19_concat 177 = .ok (.iconst 2, 1) := dk_5 (dk_at dksX19_concat_7 14 rfl rfl)
theorem dX19_concat_178 : decode cX19_concat 178 = .ok (.invokevirtual 199, 3) := dk_182 0 199 (dk_at dksX19_concat_7 15 rfl rfl)
theorem dX19_concat_181 : decode cX19_concat 181 = .ok (.iconst 0, 1) := dk_3 (dk_at dksX19_concat_7 18 rfl rfl)
theorem dX19_concat_182 : decode cX19_concat 182 = .ok (.aload_n 0, 1) := dk_42 (dk_at dksX19_concat_7 19 rfl rfl)
theorem dX19_concat_183 : decode cX19_concat 183 = .ok (.getfield 54, 3) := dk_180 0 54 (dk_at dksX19_concat_7 20 rfl rfl)
theorem dX19_concat_186 : decode cX19_concat 186 = .ok (.aload_n 0, 1) := dk_42 (dk_at dksX19_concat_7 23 rfl rfl)
theorem dX19_concat_187 : decode cX19_concat 187 = .ok (.getfield 54, 3) := dk_180 0 54 (dk_at dksX19_concat_8 0 rfl rfl)
theorem dX19_concat_190 : decode cX19_concat 190 = .ok (.iload 7, 2) := dk_21 7 (dk_at dksX19_concat_8 3 rfl rfl)
theorem dX19_concat_192 : decode cX19_concat 192 = .ok (.iconst 2, 1) := dk_5 (dk_at dksX19_concat_8 5 rfl rfl)
theorem dX19_concat_193 : decode cX19_concat 193 = .ok (.invokevirtual 199, 3) := dk_182 0 199 (dk_at dksX19_concat_8 6 rfl rfl)
theorem dX19_concat_196 : decode cX19_concat 196 = .ok (.invokevirtual 388, 3) := dk_182 1 132 (dk_at dksX19_concat_8 9 rfl rfl)
theorem dX19_concat_199 : decode cX19_concat 199 = .ok (.iload 5, 2) := dk_21 5 (dk_at dksX19_concat_8 12 rfl rfl)
theorem dX19_concat_201 : decode cX19_concat 201 = .ok (.iload 6, 2) := dk_21 6 (dk_at dksX19_concat_8 14 rfl rfl)
theorem dX19_concat_203 : decode cX19_concat 203 = .ok (.invokevirtual 397, 3) := dk_182 1 141 (dk_at dksX19_concat_8 16 rfl rfl)
theorem dX19_concat_206 : decode cX19_concat 206 = .ok (.istore 6, 2) := dk_54 6 (dk_at dksX19_concat_8 19 rfl rfl)
theorem dX19_concat_208 : decode cX19_concat 208 = .ok (.aload_n 0, 1) := dk_42 (dk_at dksX19_concat_8 21 rfl rfl)
theorem dX19_concat_209 : decode cX19_concat 209 = .ok (.getfield 54, 3) := dk_180 0 54 (dk_at dksX19_concat_9 0 rfl rfl)
theorem dX19_concat_212 : decode cX19_concat 212 = .ok (.iload 7, 2) := dk_21 7 (dk_at dksX19_concat_9 3 rfl rfl)
theorem dX19_concat_214 : decode cX19_concat 214 = .ok (.iconst 3, 1) := dk_6 (dk_at dksX19_concat_9 5 rfl rfl)
theorem dX19_concat_215 : decode cX19_concat 215 = .ok (.invokevirtual 199, 3) := dk_182 0 199 (dk_at dksX19_concat_9 6 rfl rfl)
theorem dX19_concat_218 : decode cX19_concat 218 = .ok (.istore 7, 2) := dk_54 7 (dk_at dksX19_concat_9 9 rfl rfl)
theorem dX19_concat_220 : decode cX19_concat 220 = .ok (.goto (-57), 3) := dk_167 255 199 (dk_at dksX19_concat_9 11 rfl rfl)
theorem dX19_concat_223 : decode cX19_concat 223 = .ok (.aload_n 0, 1) := dk_42 (dk_at dksX19_concat_9 14 rfl rfl)
theorem dX19_concat_224 : decode cX19_concat 224 = .ok (.dup, 1) := dk_89 (dk_at dksX19_concat_9 15 rfl rfl)
theorem dX19_concat_225 : decode cX19_concat 225 = .ok (.getfield 98, 3) := dk_180 0 98 (dk_at dksX19_concat_9 16 rfl rfl)
theorem dX19_concat_228 : decode cX19_concat 228 = .ok (.iconst 1, 1) := dk_4 (dk_at dksX19_concat_9 19 rfl rfl)
theorem dX19_concat_229 : decode cX19_concat 229 = .ok (.isub, 1) := dk_100 (dk_at dksX19_concat_9 20 rfl rfl)
theorem dX19_concat_230 : decode cX19_concat 230 = .ok (.putfield 98, 3) := dk_181 0 98 (dk_at dksX19_concat_9 21 rfl rfl)
theorem dX19_concat_233 : decode cX19_concat 233 = .ok (.goto 61, 3) := dk_167 0 61 (dk_at dksX19_concat_10 0 rfl rfl)
theorem dX19_concat_236 : decode cX19_concat 236 = .ok (.aload_n 0, 1) := dk_42 (dk_at dksX19_concat_10 3 rfl rfl)
theorem dX19_concat_237 : decode cX19_concat 237 = .ok (.iload 4, 2) := dk_21 4 (dk_at dksX19_concat_10 4 rfl rfl)
theorem dX19_concat_239 : decode cX19_concat 239 = .ok (.iconst 0, 1) := dk_3 (dk_at dksX19_concat_10 6 rfl rfl)
theorem dX19_concat_240 : decode cX19_concat 240 = .ok (.aload_n 0, 1) := dk_42 (dk_at dksX19_concat_10 7 rfl rfl)
theorem dX19_concat_241 : decode cX19_concat 241 = .ok (.getfield 54, 3) := dk_180 0 54 (dk_at dksX19_concat_10 8 rfl rfl)
theorem dX19_concat_244 : decode cX19_concat 244 = .ok (.iload 4, 2) := dk_21 4 (dk_at dksX19_concat_10 11 rfl rfl)
theorem dX19_concat_246 : decode cX19_concat 246 = .ok (.invokevirtual 388, 3) := dk_182 1 132 (dk_at dksX19_concat_10 13 rfl rfl)
theorem dX19_concat_249 : decode cX19_concat 249 = .ok (.iload 5, 2) := dk_21 5 (dk_at dksX19_concat_10 16 rfl rfl)
theorem dX19_concat_251 : decode cX19_concat 251 = .ok (.iconst 0, 1) := dk_3 (dk_at dksX19_concat_10 18 rfl rfl)
theorem dX19_concat_252 : decode cX19_concat 252 = .ok (.invokevirtual 397, 3) := dk_182 1 141 (dk_at dksX19_concat_10 19 rfl rfl)
theorem dX19_concat_255 : decode cX19_concat 255 = .ok (.istore 6, 2) := dk_54 6 (dk_at dksX19_concat_10 22 rfl rfl)
theorem dX19_concat_257 : decode cX19_concat 257 = .ok (.aload_n 0, 1) := dk_42 (dk_at dksX19_concat_11 0 rfl rfl)
theorem dX19_concat_258 : decode cX19_concat 258 = .ok (.aload_n 0, 1) := dk_42 (dk_at dksX19_concat_11 1 rfl rfl)
theorem dX19_concat_259 : decode cX19_concat 259 = .ok (.iconst 1, 1) := dk_4 (dk_at dksX19_concat_11 2 rfl rfl)
theorem dX19_concat_260 : decode cX19_concat 260 = .ok (.invokevirtual 102, 3) := dk_182 0 102 (dk_at dksX19_concat_11 3 rfl rfl)
theorem dX19_concat_263 : decode cX19_concat 263 = .ok (.iconst 0, 1) := dk_3 (dk_at dksX19_concat_11 6 rfl rfl)
theorem dX19_concat_264 : decode cX19_concat 264 = .ok (.aload_n 0, 1) := dk_42 (dk_at dksX19_concat_11 7 rfl rfl)
theorem dX19_concat_265 : decode cX19_concat 265 = .ok (.getfield 54, 3) := dk_180 0 54 (dk_at dksX19_concat_11 8 rfl rfl)
theorem dX19_concat_268 : decode cX19_concat 268 = .ok (.aload_n 0, 1) := dk_42 (dk_at dksX19_concat_11 11 rfl rfl)
theorem dX19_concat_269 : decode cX19_concat 269 = .ok (.iconst 1, 1) := dk_4 (dk_at dksX19_concat_11 12 rfl rfl)
theorem dX19_concat_270 : decode cX19_concat 270 = .ok (.invokevirtual 102, 3) := dk_182 0 102 (dk_at dksX19_concat_11 13 rfl rfl)
theorem dX19_concat_273 : decode cX19_concat 273 = .ok (.invokevirtual 388, 3) := dk_182 1 132 (dk_at dksX19_concat_11 16 rfl rfl)
theorem dX19_concat_276 : decode cX19_concat 276 = .ok (.iload 5, 2) := dk_21 5 (dk_at dksX19_concat_11 19 rfl rfl)
theorem dX19_concat_278 : decode cX19_concat 278 = .ok (.iload 6, 2) := dk_21 6 (dk_at dksX19_concat_11 21 rfl rfl)
theorem dX19_concat_280 : decode cX19_concat 280 = .ok (.invokevirtual 397, 3) := dk_182 1 141 (dk_at dksX19_concat_12 0 rfl rfl)
theorem dX19_concat_283 : decode cX19_concat 283 = .ok (.pop, 1) := dk_87 (dk_at dksX19_concat_12 3 rfl rfl)
theorem dX19_concat_284 : decode cX19_concat 284 = .ok (.aload_n 0, 1) := dk_42 (dk_at dksX19_concat_12 4 rfl rfl)
theorem dX19_concat_285 : decode cX19_concat 285 = .ok (.dup, 1) := dk_89 (dk_at dksX19_concat_12 5 rfl rfl)
theorem dX19_concat_286 : decode cX19_concat 286 = .ok (.getfield 98, 3) := dk_180 0 98 (dk_at dksX19_concat_12 6 rfl rfl)
theorem dX19_concat_289 : decode cX19_concat 289 = .ok (.iconst 2, 1) := dk_5 (dk_at dksX19_concat_12 9 rfl rfl)
theorem dX19_concat_290 : decode cX19_concat 290 = .ok (.isub, 1) := dk_100 (dk_at dksX19_concat_12 10 rfl rfl)
theorem dX19_concat_291 : decode cX19_concat 291 = .ok (.putfield 98, 3) := dk_181 0 98 (dk_at dksX19_concat_12 11 rfl rfl)
theorem dX19_concat_294 : decode cX19_concat 294 = .ok (.aload_n 0, 1) := dk_42 (dk_at dksX19_concat_12 14 rfl rfl)
theorem dX19_concat_295 : decode cX19_concat 295 = .ok (.iload 5, 2) := dk_21 5 (dk_at dksX19_concat_12 15 rfl rfl)
theorem dX19_concat_297 : decode cX19_concat 297 = .ok (.invokevirtual 122, 3) := dk_182 0 122 (dk_at dksX19_concat_12 17 rfl rfl)
theorem dX19_concat_300 : decode cX19_concat 300 = .ok (.return_, 1) := dk_177 (dk_at dksX19_concat_12 20 rfl rfl)
abbrev cX19_copy : ByteArray := prog_9_method_40_code
def yX19_copy : MethodName := ⟨RX19, "copy", "(IIIII)I"⟩
def dkwX19_copy_1 : List UInt8 := [27, 28, 21, 6, 96, 182, 1, 145, 182, 1, 148, 132, 6, 1, 167, 255, 221, 21, 5, 29, 96, 172]
abbrev dktX19_copy_1 : List UInt8 := dkwX19_copy_1 ++ []
def dkwX19_copy_0 : List UInt8 := [3, 54, 6, 21, 6, 29, 162, 0, 35, 42, 180, 0, 54, 21, 4, 21, 5, 21, 6, 96, 42, 180, 0, 54]
abbrev dktX19_copy_0 : List UInt8 := dkwX19_copy_0 ++ dktX19_copy_1
theorem dksX19_copy_0 : cX19_copy.data.toList.drop 0 = dktX19_copy_0 := by decide +kernel
theorem dksX19_copy_1 : cX19_copy.data.toList.drop 24 = dktX19_copy_1 := dk_seg dksX19_copy_0 24 rfl rfl
theorem dX19_copy_0 : decode cX19_copy 0 = .ok (.iconst 0, 1) := dk_3 (dk_at dksX19_copy_0 0 rfl rfl)
theorem dX19_copy_1 : decode cX19_copy 1 = .ok (.istore 6, 2) := dk_54 6 (dk_at dksX19_copy_0 1 rfl rfl)
theorem dX19_copy_3 : decode cX19_copy 3 = .ok (.iload 6, 2) := dk_21 6 (dk_at dksX19_copy_0 3 rfl rfl)
theorem dX19_copy_5 : decode cX19_copy 5 = .ok (.iload_n 3, 1) := dk_29 (dk_at dksX19_copy_0 5 rfl rfl)
theorem dX19_copy_6 : decode cX19_copy 6 = .ok (.if_icmp .ge 35, 3) := dk_162 0 35 (dk_at dksX19_copy_0 6 rfl rfl)
theorem dX19_copy_9 : decode cX19_copy 9 = .ok (.aload_n 0, 1) := dk_42 (dk_at dksX19_copy_0 9 rfl rfl)
theorem dX19_copy_10 : decode cX19_copy 10 = .ok (.getfield 54, 3) := dk_180 0 54 (dk_at dksX19_copy_0 10 rfl rfl)
theorem dX19_copy_13 : decode cX19_copy 13 = .ok (.iload 4, 2) := dk_21 4 (dk_at dksX19_copy_0 13 rfl rfl)
theorem dX19_copy_15 : decode cX19_copy 15 = .ok (.iload 5, 2) := dk_21 5 (dk_at dksX19_copy_0 15 rfl rfl)
theorem dX19_copy_17 : decode cX19_copy 17 = .ok (.iload 6, 2) := dk_21 6 (dk_at dksX19_copy_0 17 rfl rfl)
theorem dX19_copy_19 : decode cX19_copy 19 = .ok (.iadd, 1) := dk_96 (dk_at dksX19_copy_0 19 rfl rfl)
theorem dX19_copy_20 : decode cX19_copy 20 = .ok (.aload_n 0, 1) := dk_42 (dk_at dksX19_copy_0 20 rfl rfl)
theorem dX19_copy_21 : decode cX19_copy 21 = .ok (.getfield 54, 3) := dk_180 0 54 (dk_at dksX19_copy_0 21 rfl rfl)
theorem dX19_copy_24 : decode cX19_copy 24 = .ok (.iload_n 1, 1) := dk_27 (dk_at dksX19_copy_1 0 rfl rfl)
theorem dX19_copy_25 : decode cX19_copy 25 = .ok (.iload_n 2, 1) := dk_28 (dk_at dksX19_copy_1 1 rfl rfl)
theorem dX19_copy_26 : decode cX19_copy 26 = .ok (.iload 6, 2) := dk_21 6 (dk_at dksX19_copy_1 2 rfl rfl)
theorem dX19_copy_28 : decode cX19_copy 28 = .ok (.iadd, 1) := dk_96 (dk_at dksX19_copy_1 4 rfl rfl)
theorem dX19_copy_29 : decode cX19_copy 29 = .ok (.invokevirtual 401, 3) := dk_182 1 145 (dk_at dksX19_copy_1 5 rfl rfl)
theorem dX19_copy_32 : decode cX19_copy 32 = .ok (.invokevirtual 404, 3) := dk_182 1 148 (dk_at dksX19_copy_1 8 rfl rfl)
theorem dX19_copy_35 : decode cX19_copy 35 = .ok (.iinc 6 1, 3) := dk_132 6 1 (dk_at dksX19_copy_1 11 rfl rfl)
theorem dX19_copy_38 : decode cX19_copy 38 = .ok (.goto (-35), 3) := dk_167 255 221 (dk_at dksX19_copy_1 14 rfl rfl)
theorem dX19_copy_41 : decode cX19_copy 41 = .ok (.iload 5, 2) := dk_21 5 (dk_at dksX19_copy_1 17 rfl rfl)
theorem dX19_copy_43 : decode cX19_copy 43 = .ok (.iload_n 3, 1) := dk_29 (dk_at dksX19_copy_1 19 rfl rfl)
theorem dX19_copy_44 : decode cX19_copy 44 = .ok (.iadd, 1) := dk_96 (dk_at dksX19_copy_1 20 rfl rfl)
theorem dX19_copy_45 : decode cX19_copy 45 = .ok (.ireturn, 1) := dk_172 (dk_at dksX19_copy_1 21 rfl rfl)
abbrev cX19_slice : ByteArray := prog_9_method_41_code
def yX19_slice : MethodName := ⟨RX19, "slice", "()V"⟩
def dkwX19_slice_5 : List UInt8 := [182, 1, 141, 87, 42, 42, 180, 0, 54, 7, 21, 6, 182, 0, 156, 182, 0, 122, 177]
abbrev dktX19_slice_5 : List UInt8 := dkwX19_slice_5 ++ []
def dkwX19_slice_4 : List UInt8 := [180, 0, 54, 28, 4, 122, 182, 1, 138, 54, 6, 42, 29, 27, 4, 122, 28, 4, 122, 21, 6, 3]
abbrev dktX19_slice_4 : List UInt8 := dkwX19_slice_4 ++ dktX19_slice_5
def dkwX19_slice_3 : List UInt8 := [42, 16, 8, 182, 0, 122, 177, 42, 180, 0, 94, 28, 4, 122, 8, 96, 16, 8, 108, 133, 182, 0, 183, 42]
abbrev dktX19_slice_3 : List UInt8 := dkwX19_slice_3 ++ dktX19_slice_4
def dkwX19_slice_2 : List UInt8 := [28, 4, 122, 21, 4, 27, 4, 122, 100, 163, 0, 7, 4, 167, 0, 4, 3, 54, 5, 21, 5, 154, 0, 10]
abbrev dktX19_slice_2 : List UInt8 := dkwX19_slice_2 ++ dktX19_slice_3
def dkwX19_slice_1 : List UInt8 := [54, 4, 27, 184, 1, 9, 153, 0, 34, 28, 184, 1, 9, 153, 0, 27, 27, 4, 122, 21, 4, 163, 0, 19]
abbrev dktX19_slice_1 : List UInt8 := dkwX19_slice_1 ++ dktX19_slice_2
def dkwX19_slice_0 : List UInt8 := [42, 182, 0, 139, 60, 42, 182, 0, 139, 61, 42, 182, 0, 139, 62, 42, 180, 0, 54, 29, 182, 1, 132]
abbrev dktX19_slice_0 : List UInt8 := dkwX19_slice_0 ++ dktX19_slice_1
theorem dksX19_slice_0 : cX19_slice.data.toList.drop 0 = dktX19_slice_0 := by decide +kernel
theorem dksX19_slice_1 : cX19_slice.data.toList.drop 23 = dktX19_slice_1 := dk_seg dksX19_slice_0 23 rfl rfl
theorem dksX19_slice_2 : cX19_slice.data.toList.drop 47 = dktX19_slice_2 := dk_seg dksX19_slice_1 24 rfl rfl
theorem dksX19_slice_3 : cX19_slice.data.toList.drop 71 = dktX19_slice_3 := dk_seg dksX19_slice_2 24 rfl rfl
theorem dksX19_slice_4 : cX19_slice.data.toList.drop 95 = dktX19_slice_4 := dk_seg dksX19_slice_3 24 rfl rfl
theorem dksX19_slice_5 : cX19_slice.data.toList.drop 117 = dktX19_slice_5 := dk_seg dksX19_slice_4 22 rfl rfl
theorem dX19_slice_0 : decode cX19_slice 0 = .ok (.aload_n 0, 1) := dk_42 (dk_at dksX19_slice_0 0 rfl rfl)
theorem dX19_slice_1 : decode cX19_slice 1 = .ok (.invokevirtual 139, 3) := dk_182 0 139 (dk_at dksX19_slice_0 1 rfl rfl)
theorem dX19_slice_4 : decode cX19_slice 4 = .ok (.istore_n 1, 1) := dk_60 (dk_at dksX19_slice_0 4 rfl rfl)
theorem dX19_slice_5 : decode cX19_slice 5 = .ok (.aload_n 0, 1) := dk_42 (dk_at dksX19_slice_0 5 rfl rfl)
theorem dX19_slice_6 : decode cX19_slice 6 = .ok (.invokevirtual 139, 3) := dk_182 0 139 (dk_at dksX19_slice_0 6 rfl rfl)
theorem dX19_slice_9 : decode cX19_slice 9 = .ok (.istore_n 2, 1) := dk_61 (dk_at dksX19_slice_0 9 rfl rfl)
theorem dX19_slice_10 : decode cX19_slice 10 = .ok (.aload_n 0, 1) := dk_42 (dk_at dksX19_slice_0 10 rfl rfl)
theorem dX19_slice_11 : decode cX19_slice 11 = .ok (.invokevirtual 139, 3) := dk_182 0 139 (dk_at dksX19_slice_0 11 rfl rfl)
theorem dX19_slice_14 : decode cX19_slice 14 = .ok (.istore_n 3, 1) := dk_62 (dk_at dksX19_slice_0 14 rfl rfl)
theorem dX19_slice_15 : decode cX19_slice 15 = .ok (.aload_n 0, 1) := dk_42 (dk_at dksX19_slice_0 15 rfl rfl)
theorem dX19_slice_16 : decode cX19_slice 16 = .ok (.getfield 54, 3) := dk_180 0 54 (dk_at dksX19_slice_0 16 rfl rfl)
theorem dX19_slice_19 : decode cX19_slice 19 = .ok (.iload_n 3, 1) := dk_29 (dk_at dksX19_slice_0 19 rfl rfl)
theorem dX19_slice_20 : decode cX19_slice 20 = .ok (.invokevirtual 388, 3) := dk_182 1 132 (dk_at dksX19_slice_0 20 rfl rfl)
theorem dX19_slice_23 : decode cX19_slice 23 = .ok (.istore 4, 2) := dk_54 4 (dk_at dksX19_slice_1 0 rfl rfl)
theorem dX19_slice_25 : decode cX19_slice 25 = .ok (.iload_n 1, 1) := dk_27 (dk_at dksX19_slice_1 2 rfl rfl)
theorem dX19_slice_26 : decode cX19_slice 26 = .ok (.invokestatic 265, 3) := dk_184 1 9 (dk_at dksX19_slice_1 3 rfl rfl)
theorem dX19_slice_29 : decode cX19_slice 29 = .ok (.ifCond .eq 34, 3) := dk_153 0 34 (dk_at dksX19_slice_1 6 rfl rfl)
theorem dX19_slice_32 : decode cX19_slice 32 = .ok (.iload_n 2, 1) := dk_28 (dk_at dksX19_slice_1 9 rfl rfl)
theorem dX19_slice_33 : decode cX19_slice 33 = .ok (.invokestatic 265, 3) := dk_184 1 9 (dk_at dksX19_slice_1 10 rfl rfl)
theorem dX19_slice_36 : decode cX19_slice 36 = .ok (.ifCond .eq 27, 3) := dk_153 0 27 (dk_at dksX19_slice_1 13 rfl rfl)
theorem dX19_slice_39 : decode cX19_slice 39 = .ok (.iload_n 1, 1) := dk_27 (dk_at dksX19_slice_1 16 rfl rfl)
theorem dX19_slice_40 : decode cX19_slice 40 = .ok (.iconst 1, 1) := dk_4 (dk_at dksX19_slice_1 17 rfl rfl)
theorem dX19_slice_41 : decode cX19_slice 41 = .ok (.ishr, 1) := dk_122 (dk_at dksX19_slice_1 18 rfl rfl)
theorem dX19_slice_42 : decode cX19_slice 42 = .ok (.iload 4, 2) := dk_21 4 (dk_at dksX19_slice_1 19 rfl rfl)
theorem dX19_slice_44 : decode cX19_slice 44 = .ok (.if_icmp .gt 19, 3) := dk_163 0 19 (dk_at dksX19_slice_1 21 rfl rfl)
theorem dX19_slice_47 : decode cX19_slice 47 = .ok (.iload_n 2, 1) := dk_28 (dk_at dksX19_slice_2 0 rfl rfl)
theorem dX19_slice_48 : decode cX19_slice 48 = .ok (.iconst 1, 1) := dk_4 (dk_at dksX19_slice_2 1 rfl rfl)
theorem dX19_slice_49 : decode cX19_slice 49 = .ok (.ishr, 1) := dk_122 (dk_at dksX19_slice_2 2 rfl rfl)
theorem dX19_slice_50 : decode cX19_slice 50 = .ok (.iload 4, 2) := dk_21 4 (dk_at dksX19_slice_2 3 rfl rfl)
theorem dX19_slice_52 : decode cX19_slice 52 = .ok (.iload_n 1, 1) := dk_27 (dk_at dksX19_slice_2 5 rfl rfl)
theorem dX19_slice_53 : decode cX19_slice 53 = .ok (.iconst 1, 1) := dk_4 (dk_at dksX19_slice_2 6 rfl rfl)
theorem dX19_slice_54 : decode cX19_slice 54 = .ok (.ishr, 1) := dk_122 (dk_at dksX19_slice_2 7 rfl rfl)
theorem dX19_slice_55 : decode cX19_slice 55 = .ok (.isub, 1) := dk_100 (dk_at dksX19_slice_2 8 rfl rfl)
theorem dX19_slice_56 : decode cX19_slice 56 = .ok (.if_icmp .gt 7, 3) := dk_163 0 7 (dk_at dksX19_slice_2 9 rfl rfl)
theorem dX19_slice_59 : decode cX19_slice 59 = .ok (.iconst 1, 1) := dk_4 (dk_at dksX19_slice_2 12 rfl rfl)
theorem dX19_slice_60 : decode cX19_slice 60 = .ok (.goto 4, 3) := dk_167 0 4 (dk_at dksX19_slice_2 13 rfl rfl)
theorem dX19_slice_63 : decode cX19_slice 63 = .ok (.iconst 0, 1) := dk_3 (dk_at dksX19_slice_2 16 rfl rfl)
theorem dX19_slice_64 : decode cX19_slice 64 = .ok (.istore 5, 2) := dk_54 5 (dk_at dksX19_slice_2 17 rfl rfl)
theorem dX19_slice_66 : decode cX19_slice 66 = .ok (.iload 5, 2) := dk_21 5 (dk_at dksX19_slice_2 19 rfl rfl)
theorem dX19_slice_68 : decode cX19_slice 68 = .ok (.ifCond .ne 10, 3) := dk_154 0 10 (dk_at dksX19_slice_2 21 rfl rfl)
theorem dX19_slice_71 : decode cX19_slice 71 = .ok (.aload_n 0, 1) := dk_42 (dk_at dksX19_slice_3 0 rfl rfl)
theorem dX19_slice_72 : decode cX19_slice 72 = .ok (.bipush 8, 2) := dk_16 8 (dk_at dksX19_slice_3 1 rfl rfl)
theorem dX19_slice_74 : decode cX19_slice 74 = .ok (.invokevirtual 122, 3) := dk_182 0 122 (dk_at dksX19_slice_3 3 rfl rfl)
theorem dX19_slice_77 : decode cX19_slice 77 = .ok (.return_, 1) := dk_177 (dk_at dksX19_slice_3 6 rfl rfl)
theorem dX19_slice_78 : decode cX19_slice 78 = .ok (.aload_n 0, 1) := dk_42 (dk_at dksX19_slice_3 7 rfl rfl)
theorem dX19_slice_79 : decode cX19_slice 79 = .ok (.getfield 94, 3) := dk_180 0 94 (dk_at dksX19_slice_3 8 rfl rfl)
theorem dX19_slice_82 : decode cX19_slice 82 = .ok (.iload_n 2, 1) := dk_28 (dk_at dksX19_slice_3 11 rfl rfl)
theorem dX19_slice_83 : decode cX19_slice 83 = .ok (.iconst 1, 1) := dk_4 (dk_at dksX19_slice_3 12 rfl rfl)
theorem dX19_slice_84 : decode cX19_slice 84 = .ok (.ishr, 1) := dk_122 (dk_at dksX19_slice_3 13 rfl rfl)
theorem dX19_slice_85 : decode cX19_slice 85 = .ok (.iconst 5, 1) := dk_8 (dk_at dksX19_slice_3 14 rfl rfl)
theorem dX19_slice_86 : decode cX19_slice 86 = .ok (.iadd, 1) := dk_96 (dk_at dksX19_slice_3 15 rfl rfl)
theorem dX19_slice_87 : decode cX19_slice 87 = .ok (.bipush 8, 2) := dk_16 8 (dk_at dksX19_slice_3 16 rfl rfl)
theorem dX19_slice_89 : decode cX19_slice 89 = .ok (.idiv, 1) := dk_108 (dk_at dksX19_slice_3 18 rfl rfl)
theorem dX19_slice_90 : decode cX19_slice 90 = .ok (.i2l, 1) := dk_133 (dk_at dksX19_slice_3 19 rfl rfl)
theorem dX19_slice_91 : decode cX19_slice 91 = .ok (.invokevirtual 183, 3) := dk_182 0 183 (dk_at dksX19_slice_3 20 rfl rfl)
theorem dX19_slice_94 : decode cX19_slice 94 = .ok (.aload_n 0, 1) := dk_42 (dk_at dksX19_slice_3 23 rfl rfl)
theorem dX19_slice_95 : decode cX19_slice 95 = .ok (.getfield 54, 3) := dk_180 0 54 (dk_at dksX19_slice_4 0 rfl rfl)
theorem dX19_slice_98 : decode cX19_slice 98 = .ok (.iload_n 2, 1) := dk_28 (dk_at dksX19_slice_4 3 rfl rfl)
theorem dX19_slice_99 : decode cX19_slice 99 = .ok (.iconst 1, 1) := dk_4 (dk_at dksX19_slice_4 4 rfl rfl)
theorem dX19_slice_100 : decode cX19_slice 100 = .ok (.ishr, 1) := dk_122 (dk_at dksX19_slice_4 5 rfl rfl)
theorem dX19_slice_101 : decode cX19_slice 101 = .ok (.invokevirtual 394, 3) := dk_182 1 138 (dk_at dksX19_slice_4 6 rfl rfl)
theorem dX19_slice_104 : decode cX19_slice 104 = .ok (.istore 6, 2) := dk_54 6 (dk_at dksX19_slice_4 9 rfl rfl)
theorem dX19_slice_106 : decode cX19_slice 106 = .ok (.aload_n 0, 1) := dk_42 (dk_at dksX19_slice_4 11 rfl rfl)
theorem dX19_slice_107 : decode cX19_slice 107 = .ok (.iload_n 3, 1) := dk_29 (dk_at dksX19_slice_4 12 rfl rfl)
theorem dX19_slice_108 : decode cX19_slice 108 = .ok (.iload_n 1, 1) := dk_27 (dk_at dksX19_slice_4 13 rfl rfl)
theorem dX19_slice_109 : decode cX19_slice 109 = .ok (.iconst 1, 1) := dk_4 (dk_at dksX19_slice_4 14 rfl rfl)
theorem dX19_slice_110 : decode cX19_slice 110 = .ok (.ishr, 1) := dk_122 (dk_at dksX19_slice_4 15 rfl rfl)
theorem dX19_slice_111 : decode cX19_slice 111 = .ok (.iload_n 2, 1) := dk_28 (dk_at dksX19_slice_4 16 rfl rfl)
theorem dX19_slice_112 : decode cX19_slice 112 = .ok (.iconst 1, 1) := dk_4 (dk_at dksX19_slice_4 17 rfl rfl)
theorem dX19_slice_113 : decode cX19_slice 113 = .ok (.ishr, 1) := dk_122 (dk_at dksX19_slice_4 18 rfl rfl)
theorem dX19_slice_114 : decode cX19_slice 114 = .ok (.iload 6, 2) := dk_21 6 (dk_at dksX19_slice_4 19 rfl rfl)
theorem dX19_slice_116 : decode cX19_slice 116 = .ok (.iconst 0, 1) := dk_3 (dk_at dksX19_slice_4 21 rfl rfl)
theorem dX19_slice_117 : decode cX19_slice 117 = .ok (.invokevirtual 397, 3) := dk_182 1 141 (dk_at dksX19_slice_5 0 rfl rfl)
theorem dX19_slice_120 : decode cX19_slice 120 = .ok (.pop, 1) := dk_87 (dk_at dksX19_slice_5 3 rfl rfl)
theorem dX19_slice_121 : decode cX19_slice 121 = .ok (.aload_n 0, 1) := dk_42 (dk_at dksX19_slice_5 4 rfl rfl)
theorem dX19_slice_122 : decode cX19_slice 122 = .ok (.aload_n 0, 1) := dk_42 (dk_at dksX19_slice_5 5 rfl rfl)
theorem dX19_slice_123 : decode cX19_slice 123 = .ok (.getfield 54, 3) := dk_180 0 54 (dk_at dksX19_slice_5 6 rfl rfl)
theorem dX19_slice_126 : decode cX19_slice 126 = .ok (.iconst 4, 1) := dk_7 (dk_at dksX19_slice_5 9 rfl rfl)
theorem dX19_slice_127 : decode cX19_slice 127 = .ok (.iload 6, 2) := dk_21 6 (dk_at dksX19_slice_5 10 rfl rfl)
theorem dX19_slice_129 : decode cX19_slice 129 = .ok (.invokevirtual 156, 3) := dk_182 0 156 (dk_at dksX19_slice_5 12 rfl rfl)
theorem dX19_slice_132 : decode cX19_slice 132 = .ok (.invokevirtual 122, 3) := dk_182 0 122 (dk_at dksX19_slice_5 15 rfl rfl)
theorem dX19_slice_135 : decode cX19_slice 135 = .ok (.return_, 1) := dk_177 (dk_at dksX19_slice_5 18 rfl rfl)
abbrev cX19_size : ByteArray := prog_9_method_42_code
def yX19_size : MethodName := ⟨RX19, "size", "(II)I"⟩
def dkwX19_size_2 : List UInt8 := [172]
abbrev dktX19_size_2 : List UInt8 := dkwX19_size_2 ++ []
def dkwX19_size_1 : List UInt8 := [16, 15, 160, 0, 14, 42, 180, 0, 54, 27, 182, 0, 245, 167, 0, 11, 42, 180, 0, 54, 27, 182, 1, 132]
abbrev dktX19_size_1 : List UInt8 := dkwX19_size_1 ++ dktX19_size_2
def dkwX19_size_0 : List UInt8 := [28, 16, 11, 160, 0, 14, 42, 180, 0, 54, 27, 182, 1, 135, 167, 0, 34, 28, 16, 12, 159, 0, 9, 28]
abbrev dktX19_size_0 : List UInt8 := dkwX19_size_0 ++ dktX19_size_1
theorem dksX19_size_0 : cX19_size.data.toList.drop 0 = dktX19_size_0 := by decide +kernel
theorem dksX19_size_1 : cX19_size.data.toList.drop 24 = dktX19_size_1 := dk_seg dksX19_size_0 24 rfl rfl
theorem dksX19_size_2 : cX19_size.data.toList.drop 48 = dktX19_size_2 := dk_seg dksX19_size_1 24 rfl rfl
theorem dX19_size_0 : decode cX19_size 0 = .ok (.iload_n 2, 1) := dk_28 (dk_at dksX19_size_0 0 rfl rfl)
theorem dX19_size_1 : decode cX19_size 1 = .ok (.bipush 11, 2) := dk_16 11 (dk_at dksX19_size_0 1 rfl rfl)
theorem dX19_size_3 : decode cX19_size 3 = .ok (.if_icmp .ne 14, 3) := dk_160 0 14 (dk_at dksX19_size_0 3 rfl rfl)
theorem dX19_size_6 : decode cX19_size 6 = .ok (.aload_n 0, 1) := dk_42 (dk_at dksX19_size_0 6 rfl rfl)
theorem dX19_size_7 : decode cX19_size 7 = .ok (.getfield 54, 3) := dk_180 0 54 (dk_at dksX19_size_0 7 rfl rfl)
theorem dX19_size_10 : decode cX19_size 10 = .ok (.iload_n 1, 1) := dk_27 (dk_at dksX19_size_0 10 rfl rfl)
theorem dX19_size_11 : decode cX19_size 11 = .ok (.invokevirtual 391, 3) := dk_182 1 135 (dk_at dksX19_size_0 11 rfl rfl)
theorem dX19_size_14 : decode cX19_size 14 = .ok (.goto 34, 3) := dk_167 0 34 (dk_at dksX19_size_0 14 rfl rfl)
theorem dX19_size_17 : decode cX19_size 17 = .ok (.iload_n 2, 1) := dk_28 (dk_at dksX19_size_0 17 rfl rfl)
theorem dX19_size_18 : decode cX19_size 18 = .ok (.bipush 12, 2) := dk_16 12 (dk_at dksX19_size_0 18 rfl rfl)
theorem dX19_size_20 : decode cX19_size 20 = .ok (.if_icmp .eq 9, 3) := dk_159 0 9 (dk_at dksX19_size_0 20 rfl rfl)
theorem dX19_size_23 : decode cX19_size 23 = .ok (.iload_n 2, 1) := dk_28 (dk_at dksX19_size_0 23 rfl rfl)
theorem dX19_size_24 : decode cX19_size 24 = .ok (.bipush 15, 2) := dk_16 15 (dk_at dksX19_size_1 0 rfl rfl)
theorem dX19_size_26 : decode cX19_size 26 = .ok (.if_icmp .ne 14, 3) := dk_160 0 14 (dk_at dksX19_size_1 2 rfl rfl)
theorem dX19_size_29 : decode cX19_size 29 = .ok (.aload_n 0, 1) := dk_42 (dk_at dksX19_size_1 5 rfl rfl)
theorem dX19_size_30 : decode cX19_size 30 = .ok (.getfield 54, 3) := dk_180 0 54 (dk_at dksX19_size_1 6 rfl rfl)
theorem dX19_size_33 : decode cX19_size 33 = .ok (.iload_n 1, 1) := dk_27 (dk_at dksX19_size_1 9 rfl rfl)
theorem dX19_size_34 : decode cX19_size 34 = .ok (.invokevirtual 245, 3) := dk_182 0 245 (dk_at dksX19_size_1 10 rfl rfl)
theorem dX19_size_37 : decode cX19_size 37 = .ok (.goto 11, 3) := dk_167 0 11 (dk_at dksX19_size_1 13 rfl rfl)
theorem dX19_size_40 : decode cX19_size 40 = .ok (.aload_n 0, 1) := dk_42 (dk_at dksX19_size_1 16 rfl rfl)
theorem dX19_size_41 : decode cX19_size 41 = .ok (.getfield 54, 3) := dk_180 0 54 (dk_at dksX19_size_1 17 rfl rfl)
theorem dX19_size_44 : decode cX19_size 44 = .ok (.iload_n 1, 1) := dk_27 (dk_at dksX19_size_1 20 rfl rfl)
theorem dX19_size_45 : decode cX19_size 45 = .ok (.invokevirtual 388, 3) := dk_182 1 132 (dk_at dksX19_size_1 21 rfl rfl)
theorem dX19_size_48 : decode cX19_size 48 = .ok (.ireturn, 1) := dk_172 (dk_at dksX19_size_2 0 rfl rfl)
abbrev cX19_pack : ByteArray := prog_9_method_43_code
def yX19_pack : MethodName := ⟨RX19, "pack", "(II)I"⟩
def dkwX19_pack_2 : List UInt8 := [27, 28, 182, 1, 151, 42, 180, 0, 54, 42, 180, 0, 47, 3, 29, 182, 1, 155, 172]
abbrev dktX19_pack_2 : List UInt8 := dkwX19_pack_2 ++ []
def dkwX19_pack_1 : List UInt8 := [167, 0, 4, 3, 5, 182, 1, 95, 42, 180, 0, 47, 3, 8, 84, 42, 180, 0, 78, 42, 180, 0, 47, 4]
abbrev dktX19_pack_1 : List UInt8 := dkwX19_pack_1 ++ dktX19_pack_2
def dkwX19_pack_0 : List UInt8 := [4, 42, 180, 0, 54, 27, 182, 0, 106, 96, 62, 42, 180, 0, 90, 29, 17, 32, 0, 163, 0, 7, 4]
abbrev dktX19_pack_0 : List UInt8 := dkwX19_pack_0 ++ dktX19_pack_1
theorem dksX19_pack_0 : cX19_pack.data.toList.drop 0 = dktX19_pack_0 := by decide +kernel
theorem dksX19_pack_1 : cX19_pack.data.toList.drop 23 = dktX19_pack_1 := dk_seg dksX19_pack_0 23 rfl rfl
theorem dksX19_pack_2 : cX19_pack.data.toList.drop 47 = dktX19_pack_2 := dk_seg dksX19_pack_1 24 rfl rfl
theorem dX19_pack_0 : decode cX19_pack 0 = .ok (.iconst 1, 1) := dk_4 (dk_at dksX19_pack_0 0 rfl rfl)
theorem dX19_pack_1 : decode cX19_pack 1 = .ok (.aload_n 0, 1) := dk_42 (dk_at dksX19_pack_0 1 rfl rfl)
theorem dX19_pack_2 : decode cX19_pack 2 = .ok (.getfield 54, 3) := dk_180 0 54 (dk_at dksX19_pack_0 2 rfl rfl)
theorem dX19_pack_5 : decode cX19_pack 5 = .ok (.iload_n 1, 1) := dk_27 (dk_at dksX19_pack_0 5 rfl rfl)
theorem dX19_pack_6 : decode cX19_pack 6 = .ok (.invokevirtual 106, 3) := dk_182 0 106 (dk_at dksX19_pack_0 6 rfl rfl)
theorem dX19_pack_9 : decode cX19_pack 9 = .ok (.iadd, 1) := dk_96 (dk_at dksX19_pack_0 9 rfl rfl)
theorem dX19_pack_10 : decode cX19_pack 10 = .ok (.istore_n 3, 1) := dk_62 (dk_at dksX19_pack_0 10 rfl rfl)
theorem dX19_pack_11 : decode cX19_pack 11 = .ok (.aload_n 0, 1) := dk_42 (dk_at dksX19_pack_0 11 rfl rfl)
theorem dX19_pack_12 : decode cX19_pack 12 = .ok (.getfield 90, 3) := dk_180 0 90 (dk_at dksX19_pack_0 12 rfl rfl)
theorem dX19_pack_15 : decode cX19_pack 15 = .ok (.iload_n 3, 1) := dk_29 (dk_at dksX19_pack_0 15 rfl rfl)
theorem dX19_pack_16 : decode cX19_pack 16 = .ok (.sipush 8192, 3) := dk_17 32 0 (dk_at dksX19_pack_0 16 rfl rfl)
theorem dX19_pack_19 : decode cX19_pack 19 = .ok (.if_icmp .gt 7, 3) := dk_163 0 7 (dk_at dksX19_pack_0 19 rfl rfl)
theorem dX19_pack_22 : decode cX19_pack 22 = .ok (.iconst 1, 1) := dk_4 (dk_at dksX19_pack_0 22 rfl rfl)
theorem dX19_pack_23 : decode cX19_pack 23 = .ok (.goto 4, 3) := dk_167 0 4 (dk_at dksX19_pack_1 0 rfl rfl)
theorem dX19_pack_26 : decode cX19_pack 26 = .ok (.iconst 0, 1) := dk_3 (dk_at dksX19_pack_1 3 rfl rfl)
theorem dX19_pack_27 : decode cX19_pack 27 = .ok (.iconst 2, 1) := dk_5 (dk_at dksX19_pack_1 4 rfl rfl)
theorem dX19_pack_28 : decode cX19_pack 28 = .ok (.invokevirtual 351, 3) := dk_182 1 95 (dk_at dksX19_pack_1 5 rfl rfl)
theorem dX19_pack_31 : decode cX19_pack 31 = .ok (.aload_n 0, 1) := dk_42 (dk_at dksX19_pack_1 8 rfl rfl)
theorem dX19_pack_32 : decode cX19_pack 32 = .ok (.getfield 47, 3) := dk_180 0 47 (dk_at dksX19_pack_1 9 rfl rfl)
theorem dX19_pack_35 : decode cX19_pack 35 = .ok (.iconst 0, 1) := dk_3 (dk_at dksX19_pack_1 12 rfl rfl)
theorem dX19_pack_36 : decode cX19_pack 36 = .ok (.iconst 5, 1) := dk_8 (dk_at dksX19_pack_1 13 rfl rfl)
theorem dX19_pack_37 : decode cX19_pack 37 = .ok (.bastore, 1) := dk_84 (dk_at dksX19_pack_1 14 rfl rfl)
theorem dX19_pack_38 : decode cX19_pack 38 = .ok (.aload_n 0, 1) := dk_42 (dk_at dksX19_pack_1 15 rfl rfl)
theorem dX19_pack_39 : decode cX19_pack 39 = .ok (.getfield 78, 3) := dk_180 0 78 (dk_at dksX19_pack_1 16 rfl rfl)
theorem dX19_pack_42 : decode cX19_pack 42 = .ok (.aload_n 0, 1) := dk_42 (dk_at dksX19_pack_1 19 rfl rfl)
theorem dX19_pack_43 : decode cX19_pack 43 = .ok (.getfield 47, 3) := dk_180 0 47 (dk_at dksX19_pack_1 20 rfl rfl)
theorem dX19_pack_46 : decode cX19_pack 46 = .ok (.iconst 1, 1) := dk_4 (dk_at dksX19_pack_1 23 rfl rfl)
theorem dX19_pack_47 : decode cX19_pack 47 = .ok (.iload_n 1, 1) := dk_27 (dk_at dksX19_pack_2 0 rfl rfl)
theorem dX19_pack_48 : decode cX19_pack 48 = .ok (.iload_n 2, 1) := dk_28 (dk_at dksX19_pack_2 1 rfl rfl)
theorem dX19_pack_49 : decode cX19_pack 49 = .ok (.invokevirtual 407, 3) := dk_182 1 151 (dk_at dksX19_pack_2 2 rfl rfl)
theorem dX19_pack_52 : decode cX19_pack 52 = .ok (.aload_n 0, 1) := dk_42 (dk_at dksX19_pack_2 5 rfl rfl)
theorem dX19_pack_53 : decode cX19_pack 53 = .ok (.getfield 54, 3) := dk_180 0 54 (dk_at dksX19_pack_2 6 rfl rfl)
theorem dX19_pack_56 : decode cX19_pack 56 = .ok (.aload_n 0, 1) := dk_42 (dk_at dksX19_pack_2 9 rfl rfl)
theorem dX19_pack_57 : decode cX19_pack 57 = .ok (.getfield 47, 3) := dk_180 0 47 (dk_at dksX19_pack_2 10 rfl rfl)
theorem dX19_pack_60 : decode cX19_pack 60 = .ok (.iconst 0, 1) := dk_3 (dk_at dksX19_pack_2 13 rfl rfl)
theorem dX19_pack_61 : decode cX19_pack 61 = .ok (.iload_n 3, 1) := dk_29 (dk_at dksX19_pack_2 14 rfl rfl)
theorem dX19_pack_62 : decode cX19_pack 62 = .ok (.invokevirtual 411, 3) := dk_182 1 155 (dk_at dksX19_pack_2 15 rfl rfl)
theorem dX19_pack_65 : decode cX19_pack 65 = .ok (.ireturn, 1) := dk_172 (dk_at dksX19_pack_2 18 rfl rfl)
abbrev cX19_keyed : ByteArray := prog_9_method_44_code
def yX19_keyed : MethodName := ⟨RX19, "keyed", "(IIZ)V"⟩
def dkwX19_keyed_15 : List UInt8 := [160, 0, 9, 42, 21, 10, 182, 0, 122, 177]
abbrev dktX19_keyed_15 : List UInt8 := dkwX19_keyed_15 ++ []
def dkwX19_keyed_14 : List UInt8 := [42, 180, 0, 74, 21, 5, 21, 7, 28, 182, 1, 171, 54, 13, 42, 21, 13, 182, 0, 122, 27, 16, 92]
abbrev dktX19_keyed_14 : List UInt8 := dkwX19_keyed_14 ++ dktX19_keyed_15
def dkwX19_keyed_13 : List UInt8 := [21, 11, 5, 182, 0, 199, 167, 0, 4, 3, 28, 182, 1, 167, 54, 13, 167, 0, 22, 21, 9, 153, 0, 17]
abbrev dktX19_keyed_13 : List UInt8 := dkwX19_keyed_13 ++ dktX19_keyed_14
def dkwX19_keyed_12 : List UInt8 := [54, 13, 21, 12, 153, 0, 38, 42, 180, 0, 74, 21, 5, 21, 7, 29, 153, 0, 16, 42, 180, 0, 54]
abbrev dktX19_keyed_12 : List UInt8 := dkwX19_keyed_12 ++ dktX19_keyed_13
def dkwX19_keyed_11 : List UInt8 := [167, 0, 19, 3, 167, 0, 15, 21, 11, 16, 6, 160, 0, 7, 4, 167, 0, 4, 3, 54, 12, 21, 5]
abbrev dktX19_keyed_11 : List UInt8 := dkwX19_keyed_11 ++ dktX19_keyed_12
def dkwX19_keyed_10 : List UInt8 := [54, 11, 42, 89, 180, 0, 98, 4, 100, 181, 0, 98, 29, 153, 0, 18, 21, 11, 16, 8, 159, 0, 7, 4]
abbrev dktX19_keyed_10 : List UInt8 := dkwX19_keyed_10 ++ dktX19_keyed_11
def dkwX19_keyed_9 : List UInt8 := [160, 0, 20, 42, 89, 180, 0, 98, 4, 100, 181, 0, 98, 42, 21, 10, 182, 0, 122, 177, 42, 182, 0, 139]
abbrev dktX19_keyed_9 : List UInt8 := dkwX19_keyed_9 ++ dktX19_keyed_10
def dkwX19_keyed_8 : List UInt8 := [42, 180, 0, 54, 7, 42, 180, 0, 54, 21, 8, 6, 182, 0, 199, 182, 0, 156, 54, 10, 27, 16, 90]
abbrev dktX19_keyed_8 : List UInt8 := dkwX19_keyed_8 ++ dktX19_keyed_9
def dkwX19_keyed_7 : List UInt8 := [167, 0, 4, 7, 182, 0, 122, 177, 27, 16, 91, 159, 0, 8, 21, 9, 154, 0, 8, 16, 8, 167, 0, 21]
abbrev dktX19_keyed_7 : List UInt8 := dkwX19_keyed_7 ++ dktX19_keyed_8
def dkwX19_keyed_6 : List UInt8 := [16, 89, 160, 0, 29, 42, 89, 180, 0, 98, 4, 100, 181, 0, 98, 42, 21, 9, 153, 0, 8, 16, 6]
abbrev dktX19_keyed_6 : List UInt8 := dkwX19_keyed_6 ++ dktX19_keyed_7
def dkwX19_keyed_5 : List UInt8 := [21, 7, 28, 182, 1, 164, 54, 8, 21, 8, 16, 12, 159, 0, 7, 4, 167, 0, 4, 3, 54, 9, 27]
abbrev dktX19_keyed_5 : List UInt8 := dkwX19_keyed_5 ++ dktX19_keyed_6
def dkwX19_keyed_4 : List UInt8 := [153, 0, 18, 42, 3, 182, 0, 102, 16, 8, 159, 0, 8, 16, 12, 167, 0, 15, 42, 180, 0, 74, 21, 5]
abbrev dktX19_keyed_4 : List UInt8 := dkwX19_keyed_4 ++ dktX19_keyed_5
def dkwX19_keyed_3 : List UInt8 := [133, 21, 6, 133, 105, 97, 182, 0, 183, 42, 182, 0, 139, 54, 7, 27, 16, 91, 160, 0, 22, 29]
abbrev dktX19_keyed_3 : List UInt8 := dkwX19_keyed_3 ++ dktX19_keyed_4
def dkwX19_keyed_2 : List UInt8 := [184, 1, 159, 100, 54, 6, 42, 180, 0, 94, 20, 0, 206, 42, 3, 182, 0, 235, 16, 8, 108, 16, 20, 96]
abbrev dktX19_keyed_2 : List UInt8 := dkwX19_keyed_2 ++ dktX19_keyed_3
def dkwX19_keyed_1 : List UInt8 := [153, 0, 7, 5, 167, 0, 4, 4, 182, 0, 102, 54, 5, 16, 32, 42, 180, 0, 54, 21, 5, 182, 0, 245]
abbrev dktX19_keyed_1 : List UInt8 := dkwX19_keyed_1 ++ dktX19_keyed_2
def dkwX19_keyed_0 : List UInt8 := [27, 16, 91, 159, 0, 9, 27, 16, 92, 160, 0, 7, 4, 167, 0, 4, 3, 54, 4, 42, 21, 4]
abbrev dktX19_keyed_0 : List UInt8 := dkwX19_keyed_0 ++ dktX19_keyed_1
theorem dksX19_keyed_0 : cX19_keyed.data.toList.drop 0 = dktX19_keyed_0 := by decide +kernel
theorem dksX19_keyed_1 : cX19_keyed.data.toList.drop 22 = dktX19_keyed_1 := dk_seg dksX19_keyed_0 22 rfl rfl
theorem dksX19_keyed_2 : cX19_keyed.data.toList.drop 46 = dktX19_keyed_2 := dk_seg dksX19_keyed_1 24 rfl rfl
theorem dksX19_keyed_3 : cX19_keyed.data.toList.drop 70 = dktX19_keyed_3 := dk_seg dksX19_keyed_2 24 rfl rfl
theorem dksX19_keyed_4 : cX19_keyed.data.toList.drop 92 = dktX19_keyed_4 := dk_seg dksX19_keyed_3 22 rfl rfl
theorem dksX19_keyed_5 : cX19_keyed.data.toList.drop 116 = dktX19_keyed_5 := dk_seg dksX19_keyed_4 24 rfl rfl
theorem dksX19_keyed_6 : cX19_keyed.data.toList.drop 139 = dktX19_keyed_6 := dk_seg dksX19_keyed_5 23 rfl rfl
theorem dksX19_keyed_7 : cX19_keyed.data.toList.drop 162 = dktX19_keyed_7 := dk_seg dksX19_keyed_6 23 rfl rfl
theorem dksX19_keyed_8 : cX19_keyed.data.toList.drop 186 = dktX19_keyed_8 := dk_seg dksX19_keyed_7 24 rfl rfl
theorem dksX19_keyed_9 : cX19_keyed.data.toList.drop 209 = dktX19_keyed_9 := dk_seg dksX19_keyed_8 23 rfl rfl
theorem dksX19_keyed_10 : cX19_keyed.data.toList.drop 233 = dktX19_keyed_10 := dk_seg dksX19_keyed_9 24 rfl rfl
theorem dksX19_keyed_11 : cX19_keyed.data.toList.drop 257 = dktX19_keyed_11 := dk_seg dksX19_keyed_10 24 rfl rfl
theorem dksX19_keyed_12 : cX19_keyed.data.toList.drop 280 = dktX19_keyed_12 := dk_seg dksX19_keyed_11 23 rfl rfl
theorem dksX19_keyed_13 : cX19_keyed.data.toList.drop 303 = dktX19_keyed_13 := dk_seg dksX19_keyed_12 23 rfl rfl
theorem dksX19_keyed_14 : cX19_keyed.data.toList.drop 327 = dktX19_keyed_14 := dk_seg dksX19_keyed_13 24 rfl rfl
theorem dksX19_keyed_15 : cX19_keyed.data.toList.drop 350 = dktX19_keyed_15 := dk_seg dksX19_keyed_14 23 rfl rfl
theorem dX19_keyed_0 : decode cX19_keyed 0 = .ok (.iload_n 1, 1) := dk_27 (dk_at dksX19_keyed_0 0 rfl rfl)
theorem dX19_keyed_1 : decode cX19_keyed 1 = .ok (.bipush 91, 2) := dk_16 91 (dk_at dksX19_keyed_0 1 rfl rfl)
theorem dX19_keyed_3 : decode cX19_keyed 3 = .ok (.if_icmp .eq 9, 3) := dk_159 0 9 (dk_at dksX19_keyed_0 3 rfl rfl)
theorem dX19_keyed_6 : decode cX19_keyed 6 = .ok (.iload_n 1, 1) := dk_27 (dk_at dksX19_keyed_0 6 rfl rfl)
theorem dX19_keyed_7 : decode cX19_keyed 7 = .ok (.bipush 92, 2) := dk_16 92 (dk_at dksX19_keyed_0 7 rfl rfl)
theorem dX19_keyed_9 : decode cX19_keyed 9 = .ok (.if_icmp .ne 7, 3) := dk_160 0 7 (dk_at dksX19_keyed_0 9 rfl rfl)
theorem dX19_keyed_12 : decode cX19_keyed 12 = .ok (.iconst 1, 1) := dk_4 (dk_at dksX19_keyed_0 12 rfl rfl)
theorem dX19_keyed_13 : decode cX19_keyed 13 = .ok (.goto 4, 3) := dk_167 0 4 (dk_at dksX19_keyed_0 13 rfl rfl)
theorem dX19_keyed_16 : decode cX19_keyed 16 = .ok (.iconst 0, 1) := dk_3 (dk_at dksX19_keyed_0 16 rfl rfl)
theorem dX19_keyed_17 : decode cX19_keyed 17 = .ok (.istore 4, 2) := dk_54 4 (dk_at dksX19_keyed_0 17 rfl rfl)
theorem dX19_keyed_19 : decode cX19_keyed 19 = .ok (.aload_n 0, 1) := dk_42 (dk_at dksX19_keyed_0 19 rfl rfl)
theorem dX19_keyed_20 : decode cX19_keyed 20 = .ok (.iload 4, 2) := dk_21 4 (dk_at dksX19_keyed_0 20 rfl rfl)
theorem dX19_keyed_22 : decode cX19_keyed 22 = .ok (.ifCond .eq 7, 3) := dk_153 0 7 (dk_at dksX19_keyed_1 0 rfl rfl)
theorem dX19_keyed_25 : decode cX19_keyed 25 = .ok (.iconst 2, 1) := dk_5 (dk_at dksX19_keyed_1 3 rfl rfl)
theorem dX19_keyed_26 : decode cX19_keyed 26 = .ok (.goto 4, 3) := dk_167 0 4 (dk_at dksX19_keyed_1 4 rfl rfl)
theorem dX19_keyed_29 : decode cX19_keyed 29 = .ok (.iconst 1, 1) := dk_4 (dk_at dksX19_keyed_1 7 rfl rfl)
theorem dX19_keyed_30 : decode cX19_keyed 30 = .ok (.invokevirtual 102, 3) := dk_182 0 102 (dk_at dksX19_keyed_1 8 rfl rfl)
theorem dX19_keyed_33 : decode cX19_keyed 33 = .ok (.istore 5, 2) := dk_54 5 (dk_at dksX19_keyed_1 11 rfl rfl)
theorem dX19_keyed_35 : decode cX19_keyed 35 = .ok (.bipush 32, 2) := dk_16 32 (dk_at dksX19_keyed_1 13 rfl rfl)
theorem dX19_keyed_37 : decode cX19_keyed 37 = .ok (.aload_n 0, 1) := dk_42 (dk_at dksX19_keyed_1 15 rfl rfl)
theorem dX19_keyed_38 : decode cX19_keyed 38 = .ok (.getfield 54, 3) := dk_180 0 54 (dk_at dksX19_keyed_1 16 rfl rfl)
theorem dX19_keyed_41 : decode cX19_keyed 41 = .ok (.iload 5, 2) := dk_21 5 (dk_at dksX19_keyed_1 19 rfl rfl)
theorem dX19_keyed_43 : decode cX19_keyed 43 = .ok (.invokevirtual 245, 3) := dk_182 0 245 (dk_at dksX19_keyed_1 21 rfl rfl)
theorem dX19_keyed_46 : decode cX19_keyed 46 = .ok (.invokestatic 415, 3) := dk_184 1 159 (dk_at dksX19_keyed_2 0 rfl rfl)
theorem dX19_keyed_49 : decode cX19_keyed 49 = .ok (.isub, 1) := dk_100 (dk_at dksX19_keyed_2 3 rfl rfl)
theorem dX19_keyed_50 : decode cX19_keyed 50 = .ok (.istore 6, 2) := dk_54 6 (dk_at dksX19_keyed_2 4 rfl rfl)
theorem dX19_keyed_52 : decode cX19_keyed 52 = .ok (.aload_n 0, 1) := dk_42 (dk_at dksX19_keyed_2 6 rfl rfl)
theorem dX19_keyed_53 : decode cX19_keyed 53 = .ok (.getfield 94, 3) := dk_180 0 94 (dk_at dksX19_keyed_2 7 rfl rfl)
theorem dX19_keyed_56 : decode cX19_keyed 56 = .ok (.ldc2_w 206, 3) := dk_20 0 206 (dk_at dksX19_keyed_2 10 rfl rfl)
theorem dX19_keyed_59 : decode cX19_keyed 59 = .ok (.aload_n 0, 1) := dk_42 (dk_at dksX19_keyed_2 13 rfl rfl)
theorem dX19_keyed_60 : decode cX19_keyed 60 = .ok (.iconst 0, 1) := dk_3 (dk_at dksX19_keyed_2 14 rfl rfl)
theorem dX19_keyed_61 : decode cX19_keyed 61 = .ok (.invokevirtual 235, 3) := dk_182 0 235 (dk_at dksX19_keyed_2 15 rfl rfl)
theorem dX19_keyed_64 : decode cX19_keyed 64 = .ok (.bipush 8, 2) := dk_16 8 (dk_at dksX19_keyed_2 18 rfl rfl)
theorem dX19_keyed_66 : decode cX19_keyed 66 = .ok (.idiv, 1) := dk_108 (dk_at dksX19_keyed_2 20 rfl rfl)
theorem dX19_keyed_67 : decode cX19_keyed 67 = .ok (.bipush 20, 2) := dk_16 20 (dk_at dksX19_keyed_2 21 rfl rfl)
theorem dX19_keyed_69 : decode cX19_keyed 69 = .ok (.iadd, 1) := dk_96 (dk_at dksX19_keyed_2 23 rfl rfl)
theorem dX19_keyed_70 : decode cX19_keyed 70 = .ok (.i2l, 1) := dk_133 (dk_at dksX19_keyed_3 0 rfl rfl)
theorem dX19_keyed_71 : decode cX19_keyed 71 = .ok (.iload 6, 2) := dk_21 6 (dk_at dksX19_keyed_3 1 rfl rfl)
theorem dX19_keyed_73 : decode cX19_keyed 73 = .ok (.i2l, 1) := dk_133 (dk_at dksX19_keyed_3 3 rfl rfl)
theorem dX19_keyed_74 : decode cX19_keyed 74 = .ok (.lmul, 1) := dk_105 (dk_at dksX19_keyed_3 4 rfl rfl)
theorem dX19_keyed_75 : decode cX19_keyed 75 = .ok (.ladd, 1) := dk_97 (dk_at dksX19_keyed_3 5 rfl rfl)
theorem dX19_keyed_76 : decode cX19_keyed 76 = .ok (.invokevirtual 183, 3) := dk_182 0 183 (dk_at dksX19_keyed_3 6 rfl rfl)
theorem dX19_keyed_79 : decode cX19_keyed 79 = .ok (.aload_n 0, 1) := dk_42 (dk_at dksX19_keyed_3 9 rfl rfl)
theorem dX19_keyed_80 : decode cX19_keyed 80 = .ok (.invokevirtual 139, 3) := dk_182 0 139 (dk_at dksX19_keyed_3 10 rfl rfl)
theorem dX19_keyed_83 : decode cX19_keyed 83 = .ok (.istore 7, 2) := dk_54 7 (dk_at dksX19_keyed_3 13 rfl rfl)
theorem dX19_keyed_85 : decode cX19_keyed 85 = .ok (.iload_n 1, 1) := dk_27 (dk_at dksX19_keyed_3 15 rfl rfl)
theorem dX19_keyed_86 : decode cX19_keyed 86 = .ok (.bipush 91, 2) := dk_16 91 (dk_at dksX19_keyed_3 16 rfl rfl)
theorem dX19_keyed_88 : decode cX19_keyed 88 = .ok (.if_icmp .ne 22, 3) := dk_160 0 22 (dk_at dksX19_keyed_3 18 rfl rfl)
theorem dX19_keyed_91 : decode cX19_keyed 91 = .ok (.iload_n 3, 1) := dk_29 (dk_at dksX19_keyed_3 21 rfl rfl)
theorem dX19_keyed_92 : decode cX19_keyed 92 = .ok (.ifCond .eq 18, 3) := dk_153 0 18 (dk_at dksX19_keyed_4 0 rfl rfl)
theorem dX19_keyed_95 : decode cX19_keyed 95 = .ok (.aload_n 0, 1) := dk_42 (dk_at dksX19_keyed_4 3 rfl rfl)
theorem dX19_keyed_96 : decode cX19_keyed 96 = .ok (.iconst 0, 1) := dk_3 (dk_at dksX19_keyed_4 4 rfl rfl)
theorem dX19_keyed_97 : decode cX19_keyed 97 = .ok (.invokevirtual 102, 3) := dk_182 0 102 (dk_at dksX19_keyed_4 5 rfl rfl)
theorem dX19_keyed_100 : decode cX19_keyed 100 = .ok (.bipush 8, 2) := dk_16 8 (dk_at dksX19_keyed_4 8 rfl rfl)
theorem dX19_keyed_102 : decode cX19_keyed 102 = .ok (.if_icmp .eq 8, 3) := dk_159 0 8 (dk_at dksX19_keyed_4 10 rfl rfl)
theorem dX19_keyed_105 : decode cX19_keyed 105 = .ok (.bipush 12, 2) := dk_16 12 (dk_at dksX19_keyed_4 13 rfl rfl)
theorem dX19_keyed_107 : decode cX19_keyed 107 = .ok (.goto 15, 3) := dk_167 0 15 (dk_at dksX19_keyed_4 15 rfl rfl)
theorem dX19_keyed_110 : decode cX19_keyed 110 = .ok (.aload_n 0, 1) := dk_42 (dk_at dksX19_keyed_4 18 rfl rfl)
theorem dX19_keyed_111 : decode cX19_keyed 111 = .ok (.getfield 74, 3) := dk_180 0 74 (dk_at dksX19_keyed_4 19 rfl rfl)
theorem dX19_keyed_114 : decode cX19_keyed 114 = .ok (.iload 5, 2) := dk_21 5 (dk_at dksX19_keyed_4 22 rfl rfl)
theorem dX19_keyed_116 : decode cX19_keyed 116 = .ok (.iload 7, 2) := dk_21 7 (dk_at dksX19_keyed_5 0 rfl rfl)
theorem dX19_keyed_118 : decode cX19_keyed 118 = .ok (.iload_n 2, 1) := dk_28 (dk_at dksX19_keyed_5 2 rfl rfl)
theorem dX19_keyed_119 : decode cX19_keyed 119 = .ok (.invokevirtual 420, 3) := dk_182 1 164 (dk_at dksX19_keyed_5 3 rfl rfl)
theorem dX19_keyed_122 : decode cX19_keyed 122 = .ok (.istore 8, 2) := dk_54 8 (dk_at dksX19_keyed_5 6 rfl rfl)
theorem dX19_keyed_124 : decode cX19_keyed 124 = .ok (.iload 8, 2) := dk_21 8 (dk_at dksX19_keyed_5 8 rfl rfl)
theorem dX19_keyed_126 : decode cX19_keyed 126 = .ok (.bipush 12, 2) := dk_16 12 (dk_at dksX19_keyed_5 10 rfl rfl)
theorem dX19_keyed_128 : decode cX19_keyed 128 = .ok (.if_icmp .eq 7, 3) := dk_159 0 7 (dk_at dksX19_keyed_5 12 rfl rfl)
theorem dX19_keyed_131 : decode cX19_keyed 131 = .ok (.iconst 1, 1) := dk_4 (dk_at dksX19_keyed_5 15 rfl rfl)
theorem dX19_keyed_132 : decode cX19_keyed 132 = .ok (.goto 4, 3) := dk_167 0 4 (dk_at dksX19_keyed_5 16 rfl rfl)
theorem dX19_keyed_135 : decode cX19_keyed 135 = .ok (.iconst 0, 1) := dk_3 (dk_at dksX19_keyed_5 19 rfl rfl)
theorem dX19_keyed_136 : decode cX19_keyed 136 = .ok (.istore 9, 2) := dk_54 9 (dk_at dksX19_keyed_5 20 rfl rfl)
theorem dX19_keyed_138 : decode cX19_keyed 138 = .ok (.iload_n 1, 1) := dk_27 (dk_at dksX19_keyed_5 22 rfl rfl)
theorem dX19_keyed_139 : decode cX19_keyed 139 = .ok (.bipush 89, 2) := dk_16 89 (dk_at dksX19_keyed_6 0 rfl rfl)
theorem dX19_keyed_141 : decode cX19_keyed 141 = .ok (.if_icmp .ne 29, 3) := dk_160 0 29 (dk_at dksX19_keyed_6 2 rfl rfl)
theorem dX19_keyed_144 : decode cX19_keyed 144 = .ok (.aload_n 0, 1) := dk_42 (dk_at dksX19_keyed_6 5 rfl rfl)
theorem dX19_keyed_145 : decode cX19_keyed 145 = .ok (.dup, 1) := dk_89 (dk_at dksX19_keyed_6 6 rfl rfl)
theorem dX19_keyed_146 : decode cX19_keyed 146 = .ok (.getfield 98, 3) := dk_180 0 98 (dk_at dksX19_keyed_6 7 rfl rfl)
theorem dX19_keyed_149 : decode cX19_keyed 149 = .ok (.iconst 1, 1) := dk_4 (dk_at dksX19_keyed_6 10 rfl rfl)
theorem dX19_keyed_150 : decode cX19_keyed 150 = .ok (.isub, 1) := dk_100 (dk_at dksX19_keyed_6 11 rfl rfl)
theorem dX19_keyed_151 : decode cX19_keyed 151 = .ok (.putfield 98, 3) := dk_181 0 98 (dk_at dksX19_keyed_6 12 rfl rfl)
theorem dX19_keyed_154 : decode cX19_keyed 154 = .ok (.aload_n 0, 1) := dk_42 (dk_at dksX19_keyed_6 15 rfl rfl)
theorem dX19_keyed_155 : decode cX19_keyed 155 = .ok (.iload 9, 2) := dk_21 9 (dk_at dksX19_keyed_6 16 rfl rfl)
theorem dX19_keyed_157 : decode cX19_keyed 157 = .ok (.ifCond .eq 8, 3) := dk_153 0 8 (dk_at dksX19_keyed_6 18 rfl rfl)
theorem dX19_keyed_160 : decode cX19_keyed 160 = .ok (.bipush 6, 2) := dk_16 6 (dk_at dksX19_keyed_6 21 rfl rfl)
theorem dX19_keyed_162 : decode cX19_keyed 162 = .ok (.goto 4, 3) := dk_167 0 4 (dk_at dksX19_keyed_7 0 rfl rfl)
theorem dX19_keyed_165 : decode cX19_keyed 165 = .ok (.iconst 4, 1) := dk_7 (dk_at dksX19_keyed_7 3 rfl rfl)
theorem dX19_keyed_166 : decode cX19_keyed 166 = .ok (.invokevirtual 122, 3) := dk_182 0 122 (dk_at dksX19_keyed_7 4 rfl rfl)
theorem dX19_keyed_169 : decode cX19_keyed 169 = .ok (.return_, 1) := dk_177 (dk_at dksX19_keyed_7 7 rfl rfl)
theorem dX19_keyed_170 : decode cX19_keyed 170 = .ok (.iload_n 1, 1) := dk_27 (dk_at dksX19_keyed_7 8 rfl rfl)
theorem dX19_keyed_171 : decode cX19_keyed 171 = .ok (.bipush 91, 2) := dk_16 91 (dk_at dksX19_keyed_7 9 rfl rfl)
theorem dX19_keyed_173 : decode cX19_keyed 173 = .ok (.if_icmp .eq 8, 3) := dk_159 0 8 (dk_at dksX19_keyed_7 11 rfl rfl)
theorem dX19_keyed_176 : decode cX19_keyed 176 = .ok (.iload 9, 2) := dk_21 9 (dk_at dksX19_keyed_7 14 rfl rfl)
theorem dX19_keyed_178 : decode cX19_keyed 178 = .ok (.ifCond .ne 8, 3) := dk_154 0 8 (dk_at dksX19_keyed_7 16 rfl rfl)
theorem dX19_keyed_181 : decode cX19_keyed 181 = .ok (.bipush 8, 2) := dk_16 8 (dk_at dksX19_keyed_7 19 rfl rfl)
theorem dX19_keyed_183 : decode cX19_keyed 183 = .ok (.goto 21, 3) := dk_167 0 21 (dk_at dksX19_keyed_7 21 rfl rfl)
theorem dX19_keyed_186 : decode cX19_keyed 186 = .ok (.aload_n 0, 1) := dk_42 (dk_at dksX19_keyed_8 0 rfl rfl)
theorem dX19_keyed_187 : decode cX19_keyed 187 = .ok (.getfield 54, 3) := dk_180 0 54 (dk_at dksX19_keyed_8 1 rfl rfl)
theorem dX19_keyed_190 : decode cX19_keyed 190 = .ok (.iconst 4, 1) := dk_7 (dk_at dksX19_keyed_8 4 rfl rfl)
theorem dX19_keyed_191 : decode cX19_keyed 191 = .ok (.aload_n 0, 1) := dk_42 (dk_at dksX19_keyed_8 5 rfl rfl)
theorem dX19_keyed_192 : decode cX19_keyed 192 = .ok (.getfield 54, 3) := dk_180 0 54 (dk_at dksX19_keyed_8 6 rfl rfl)
theorem dX19_keyed_195 : decode cX19_keyed 195 = .ok (.iload 8, 2) := dk_21 8 (dk_at dksX19_keyed_8 9 rfl rfl)
theorem dX19_keyed_197 : decode cX19_keyed 197 = .ok (.iconst 3, 1) := dk_6 (dk_at dksX19_keyed_8 11 rfl rfl)
theorem dX19_keyed_198 : decode cX19_keyed 198 = .ok (.invokevirtual 199, 3) := dk_182 0 199 (dk_at dksX19_keyed_8 12 rfl rfl)
theorem dX19_keyed_201 : decode cX19_keyed 201 = .ok (.invokevirtual 156, 3) := dk_182 0 156 (dk_at dksX19_keyed_8 15 rfl rfl)
theorem dX19_keyed_204 : decode cX19_keyed 204 = .ok (.istore 10, 2) := dk_54 10 (dk_at dksX19_keyed_8 18 rfl rfl)
theorem dX19_keyed_206 : decode cX19_keyed 206 = .ok (.iload_n 1, 1) := dk_27 (dk_at dksX19_keyed_8 20 rfl rfl)
theorem dX19_keyed_207 : decode cX19_keyed 207 = .ok (.bipush 90, 2) := dk_16 90 (dk_at dksX19_keyed_8 21 rfl rfl)
theorem dX19_keyed_209 : decode cX19_keyed 209 = .ok (.if_icmp .ne 20, 3) := dk_160 0 20 (dk_at dksX19_keyed_9 0 rfl rfl)
theorem dX19_keyed_212 : decode cX19_keyed 212 = .ok (.aload_n 0, 1) := dk_42 (dk_at dksX19_keyed_9 3 rfl rfl)
theorem dX19_keyed_213 : decode cX19_keyed 213 = .ok (.dup, 1) := dk_89 (dk_at dksX19_keyed_9 4 rfl rfl)
theorem dX19_keyed_214 : decode cX19_keyed 214 = .ok (.getfield 98, 3) := dk_180 0 98 (dk_at dksX19_keyed_9 5 rfl rfl)
theorem dX19_keyed_217 : decode cX19_keyed 217 = .ok (.iconst 1, 1) := dk_4 (dk_at dksX19_keyed_9 8 rfl rfl)
theorem dX19_keyed_218 : decode cX19_keyed 218 = .ok (.isub, 1) := dk_100 (dk_at dksX19_keyed_9 9 rfl rfl)
theorem dX19_keyed_219 : decode cX19_keyed 219 = .ok (.putfield 98, 3) := dk_181 0 98 (dk_at dksX19_keyed_9 10 rfl rfl)
theorem dX19_keyed_222 : decode cX19_keyed 222 = .ok (.aload_n 0, 1) := dk_42 (dk_at dksX19_keyed_9 13 rfl rfl)
theorem dX19_keyed_223 : decode cX19_keyed 223 = .ok (.iload 10, 2) := dk_21 10 (dk_at dksX19_keyed_9 14 rfl rfl)
theorem dX19_keyed_225 : decode cX19_keyed 225 = .ok (.invokevirtual 122, 3) := dk_182 0 122 (dk_at dksX19_keyed_9 16 rfl rfl)
theorem dX19_keyed_228 : decode cX19_keyed 228 = .ok (.return_, 1) := dk_177 (dk_at dksX19_keyed_9 19 rfl rfl)
theorem dX19_keyed_229 : decode cX19_keyed 229 = .ok (.aload_n 0, 1) := dk_42 (dk_at dksX19_keyed_9 20 rfl rfl)
theorem dX19_keyed_230 : decode cX19_keyed 230 = .ok (.invokevirtual 139, 3) := dk_182 0 139 (dk_at dksX19_keyed_9 21 rfl rfl)
theorem dX19_keyed_233 : decode cX19_keyed 233 = .ok (.istore 11, 2) := dk_54 11 (dk_at dksX19_keyed_10 0 rfl rfl)
theorem dX19_keyed_235 : decode cX19_keyed 235 = .ok (.aload_n 0, 1) := dk_42 (dk_at dksX19_keyed_10 2 rfl rfl)
theorem dX19_keyed_236 : decode cX19_keyed 236 = .ok (.dup, 1) := dk_89 (dk_at dksX19_keyed_10 3 rfl rfl)
theorem dX19_keyed_237 : decode cX19_keyed 237 = .ok (.getfield 98, 3) := dk_180 0 98 (dk_at dksX19_keyed_10 4 rfl rfl)
theorem dX19_keyed_240 : decode cX19_keyed 240 = .ok (.iconst 1, 1) := dk_4 (dk_at dksX19_keyed_10 7 rfl rfl)
theorem dX19_keyed_241 : decode cX19_keyed 241 = .ok (.isub, 1) := dk_100 (dk_at dksX19_keyed_10 8 rfl rfl)
theorem dX19_keyed_242 : decode cX19_keyed 242 = .ok (.putfield 98, 3) := dk_181 0 98 (dk_at dksX19_keyed_10 9 rfl rfl)
theorem dX19_keyed_245 : decode cX19_keyed 245 = .ok (.iload_n 3, 1) := dk_29 (dk_at dksX19_keyed_10 12 rfl rfl)
theorem dX19_keyed_246 : decode cX19_keyed 246 = .ok (.ifCond .eq 18, 3) := dk_153 0 18 (dk_at dksX19_keyed_10 13 rfl rfl)
theorem dX19_keyed_249 : decode cX19_keyed 249 = .ok (.iload 11, 2) := dk_21 11 (dk_at dksX19_keyed_10 16 rfl rfl)
theorem dX19_keyed_251 : decode cX19_keyed 251 = .ok (.bipush 8, 2) := dk_16 8 (dk_at dksX19_keyed_10 18 rfl rfl)
theorem dX19_keyed_253 : decode cX19_keyed 253 = .ok (.if_icmp .eq 7, 3) := dk_159 0 7 (dk_at dksX19_keyed_10 20 rfl rfl)
theorem dX19_keyed_256 : decode cX19_keyed 256 = .ok (.iconst 1, 1) := dk_4 (dk_at dksX19_keyed_10 23 rfl rfl)
theorem dX19_keyed_257 : decode cX19_keyed 257 = .ok (.goto 19, 3) := dk_167 0 19 (dk_at dksX19_keyed_11 0 rfl rfl)
theorem dX19_keyed_260 : decode cX19_keyed 260 = .ok (.iconst 0, 1) := dk_3 (dk_at dksX19_keyed_11 3 rfl rfl)
theorem dX19_keyed_261 : decode cX19_keyed 261 = .ok (.goto 15, 3) := dk_167 0 15 (dk_at dksX19_keyed_11 4 rfl rfl)
theorem dX19_keyed_264 : decode cX19_keyed 264 = .ok (.iload 11, 2) := dk_21 11 (dk_at dksX19_keyed_11 7 rfl rfl)
theorem dX19_keyed_266 : decode cX19_keyed 266 = .ok (.bipush 6, 2) := dk_16 6 (dk_at dksX19_keyed_11 9 rfl rfl)
theorem dX19_keyed_268 : decode cX19_keyed 268 = .ok (.if_icmp .ne 7, 3) := dk_160 0 7 (dk_at dksX19_keyed_11 11 rfl rfl)
theorem dX19_keyed_271 : decode cX19_keyed 271 = .ok (.iconst 1, 1) := dk_4 (dk_at dksX19_keyed_11 14 rfl rfl)
theorem dX19_keyed_272 : decode cX19_keyed 272 = .ok (.goto 4, 3) := dk_167 0 4 (dk_at dksX19_keyed_11 15 rfl rfl)
theorem dX19_keyed_275 : decode cX19_keyed 275 = .ok (.iconst 0, 1) := dk_3 (dk_at dksX19_keyed_11 18 rfl rfl)
theorem dX19_keyed_276 : decode cX19_keyed 276 = .ok (.istore 12, 2) := dk_54 12 (dk_at dksX19_keyed_11 19 rfl rfl)
theorem dX19_keyed_278 : decode cX19_keyed 278 = .ok (.iload 5, 2) := dk_21 5 (dk_at dksX19_keyed_11 21 rfl rfl)
theorem dX19_keyed_280 : decode cX19_keyed 280 = .ok (.istore 13, 2) := dk_54 13 (dk_at dksX19_keyed_12 0 rfl rfl)
theorem dX19_keyed_282 : decode cX19_keyed 282 = .ok (.iload 12, 2) := dk_21 12 (dk_at dksX19_keyed_12 2 rfl rfl)
theorem dX19_keyed_284 : decode cX19_keyed 284 = .ok (.ifCond .eq 38, 3) := dk_153 0 38 (dk_at dksX19_keyed_12 4 rfl rfl)
theorem dX19_keyed_287 : decode cX19_keyed 287 = .ok (.aload_n 0, 1) := dk_42 (dk_at dksX19_keyed_12 7 rfl rfl)
theorem dX19_keyed_288 : decode cX19_keyed 288 = .ok (.getfield 74, 3) := dk_180 0 74 (dk_at dksX19_keyed_12 8 rfl rfl)
theorem dX19_keyed_291 : decode cX19_keyed 291 = .ok (.iload 5, 2) := dk_21 5 (dk_at dksX19_keyed_12 11 rfl rfl)
theorem dX19_keyed_293 : decode cX19_keyed 293 = .ok (.iload 7, 2) := dk_21 7 (dk_at dksX19_keyed_12 13 rfl rfl)
theorem dX19_keyed_295 : decode cX19_keyed 295 = .ok (.iload_n 3, 1) := dk_29 (dk_at dksX19_keyed_12 15 rfl rfl)
theorem dX19_keyed_296 : decode cX19_keyed 296 = .ok (.ifCond .eq 16, 3) := dk_153 0 16 (dk_at dksX19_keyed_12 16 rfl rfl)
theorem dX19_keyed_299 : decode cX19_keyed 299 = .ok (.aload_n 0, 1) := dk_42 (dk_at dksX19_keyed_12 19 rfl rfl)
theorem dX19_keyed_300 : decode cX19_keyed 300 = .ok (.getfield 54, 3) := dk_180 0 54 (dk_at dksX19_keyed_12 20 rfl rfl)
theorem dX19_keyed_303 : decode cX19_keyed 303 = .ok (.iload 11, 2) := dk_21 11 (dk_at dksX19_keyed_13 0 rfl rfl)
theorem dX19_keyed_305 : decode cX19_keyed 305 = .ok (.iconst 2, 1) := dk_5 (dk_at dksX19_keyed_13 2 rfl rfl)
theorem dX19_keyed_306 : decode cX19_keyed 306 = .ok (.invokevirtual 199, 3) := dk_182 0 199 (dk_at dksX19_keyed_13 3 rfl rfl)
theorem dX19_keyed_309 : decode cX19_keyed 309 = .ok (.goto 4, 3) := dk_167 0 4 (dk_at dksX19_keyed_13 6 rfl rfl)
theorem dX19_keyed_312 : decode cX19_keyed 312 = .ok (.iconst 0, 1) := dk_3 (dk_at dksX19_keyed_13 9 rfl rfl)
theorem dX19_keyed_313 : decode cX19_keyed 313 = .ok (.iload_n 2, 1) := dk_28 (dk_at dksX19_keyed_13 10 rfl rfl)
theorem dX19_keyed_314 : decode cX19_keyed 314 = .ok (.invokevirtual 423, 3) := dk_182 1 167 (dk_at dksX19_keyed_13 11 rfl rfl)
theorem dX19_keyed_317 : decode cX19_keyed 317 = .ok (.istore 13, 2) := dk_54 13 (dk_at dksX19_keyed_13 14 rfl rfl)
theorem dX19_keyed_319 : decode cX19_keyed 319 = .ok (.goto 22, 3) := dk_167 0 22 (dk_at dksX19_keyed_13 16 rfl rfl)
theorem dX19_keyed_322 : decode cX19_keyed 322 = .ok (.iload 9, 2) := dk_21 9 (dk_at dksX19_keyed_13 19 rfl rfl)
theorem dX19_keyed_324 : decode cX19_keyed 324 = .ok (.ifCond .eq 17, 3) := dk_153 0 17 (dk_at dksX19_keyed_13 21 rfl rfl)
theorem dX19_keyed_327 : decode cX19_keyed 327 = .ok (.aload_n 0, 1) := dk_42 (dk_at dksX19_keyed_14 0 rfl rfl)
theorem dX19_keyed_328 : decode cX19_keyed 328 = .ok (.getfield 74, 3) := dk_180 0 74 (dk_at dksX19_keyed_14 1 rfl rfl)
theorem dX19_keyed_331 : decode cX19_keyed 331 = .ok (.iload 5, 2) := dk_21 5 (dk_at dksX19_keyed_14 4 rfl rfl)
theorem dX19_keyed_333 : decode cX19_keyed 333 = .ok (.iload 7, 2) := dk_21 7 (dk_at dksX19_keyed_14 6 rfl rfl)
theorem dX19_keyed_335 : decode cX19_keyed 335 = .ok (.iload_n 2, 1) := dk_28 (dk_at dksX19_keyed_14 8 rfl rfl)
theorem dX19_keyed_336 : decode cX19_keyed 336 = .ok (.invokevirtual 427, 3) := dk_182 1 171 (dk_at dksX19_keyed_14 9 rfl rfl)
theorem dX19_keyed_339 : decode cX19_keyed 339 = .ok (.istore 13, 2) := dk_54 13 (dk_at dksX19_keyed_14 12 rfl rfl)
theorem dX19_keyed_341 : decode cX19_keyed 341 = .ok (.aload_n 0, 1) := dk_42 (dk_at dksX19_keyed_14 14 rfl rfl)
theorem dX19_keyed_342 : decode cX19_keyed 342 = .ok (.iload 13, 2) := dk_21 13 (dk_at dksX19_keyed_14 15 rfl rfl)
theorem dX19_keyed_344 : decode cX19_keyed 344 = .ok (.invokevirtual 122, 3) := dk_182 0 122 (dk_at dksX19_keyed_14 17 rfl rfl)
theorem dX19_keyed_347 : decode cX19_keyed 347 = .ok (.iload_n 1, 1) := dk_27 (dk_at dksX19_keyed_14 20 rfl rfl)
theorem dX19_keyed_348 : decode cX19_keyed 348 = .ok (.bipush 92, 2) := dk_16 92 (dk_at dksX19_keyed_14 21 rfl rfl)
theorem dX19_keyed_350 : decode cX19_keyed 350 = .ok (.if_icmp .ne 9, 3) := dk_160 0 9 (dk_at dksX19_keyed_15 0 rfl rfl)
theorem dX19_keyed_353 : decode cX19_keyed 353 = .ok (.aload_n 0, 1) := dk_42 (dk_at dksX19_keyed_15 3 rfl rfl)
theorem dX19_keyed_354 : decode cX19_keyed 354 = .ok (.iload 10, 2) := dk_21 10 (dk_at dksX19_keyed_15 4 rfl rfl)
theorem dX19_keyed_356 : decode cX19_keyed 356 = .ok (.invokevirtual 122, 3) := dk_182 0 122 (dk_at dksX19_keyed_15 6 rfl rfl)
theorem dX19_keyed_359 : decode cX19_keyed 359 = .ok (.return_, 1) := dk_177 (dk_at dksX19_keyed_15 9 rfl rfl)
abbrev cX19_ledger : ByteArray := prog_9_method_45_code
def yX19_ledger : MethodName := ⟨RX19, "ledger", "(II)V"⟩
def dkwX19_ledger_19 : List UInt8 := [182, 0, 131, 182, 1, 208, 182, 0, 122, 167, 0, 3, 177]
abbrev dktX19_ledger_19 : List UInt8 := dkwX19_ledger_19 ++ []
def dkwX19_ledger_18 : List UInt8 := [42, 29, 3, 182, 1, 186, 182, 0, 122, 42, 42, 180, 0, 54, 21, 4, 21, 5, 29, 3, 42, 27, 4]
abbrev dktX19_ledger_18 : List UInt8 := dkwX19_ledger_18 ++ dktX19_ledger_19
def dkwX19_ledger_17 : List UInt8 := [180, 1, 211, 90, 4, 96, 181, 1, 211, 96, 62, 42, 182, 0, 139, 54, 4, 42, 182, 0, 139, 54, 5, 42]
abbrev dktX19_ledger_17 : List UInt8 := dkwX19_ledger_17 ++ dktX19_ledger_18
def dkwX19_ledger_16 : List UInt8 := [16, 100, 162, 0, 7, 4, 167, 0, 4, 3, 16, 8, 182, 1, 95, 16, 100, 42, 180, 0, 86, 89]
abbrev dktX19_ledger_16 : List UInt8 := dkwX19_ledger_16 ++ dktX19_ledger_17
def dkwX19_ledger_15 : List UInt8 := [182, 0, 199, 2, 182, 1, 208, 182, 0, 122, 167, 0, 95, 42, 180, 0, 90, 42, 180, 0, 86, 180, 1, 211]
abbrev dktX19_ledger_15 : List UInt8 := dkwX19_ledger_15 ++ dktX19_ledger_16
def dkwX19_ledger_14 : List UInt8 := [180, 0, 54, 21, 4, 29, 42, 180, 0, 54, 21, 5, 5, 182, 0, 199, 42, 180, 0, 54, 21, 5, 6]
abbrev dktX19_ledger_14 : List UInt8 := dkwX19_ledger_14 ++ dktX19_ledger_15
def dkwX19_ledger_13 : List UInt8 := [167, 0, 150, 42, 182, 0, 139, 62, 42, 182, 0, 139, 54, 4, 42, 182, 0, 139, 54, 5, 42, 42]
abbrev dktX19_ledger_13 : List UInt8 := dkwX19_ledger_13 ++ dktX19_ledger_14
def dkwX19_ledger_12 : List UInt8 := [42, 182, 0, 139, 42, 27, 4, 182, 0, 131, 42, 27, 5, 182, 0, 131, 182, 1, 206, 182, 0, 122]
abbrev dktX19_ledger_12 : List UInt8 := dkwX19_ledger_12 ++ dktX19_ledger_13
def dkwX19_ledger_11 : List UInt8 := [5, 182, 0, 199, 42, 180, 0, 54, 29, 6, 182, 0, 199, 182, 1, 186, 182, 0, 122, 167, 0, 177, 42, 42]
abbrev dktX19_ledger_11 : List UInt8 := dkwX19_ledger_11 ++ dktX19_ledger_12
def dkwX19_ledger_10 : List UInt8 := [182, 0, 131, 182, 1, 203, 182, 0, 122, 167, 0, 211, 42, 182, 0, 139, 62, 42, 42, 42, 180, 0, 54, 29]
abbrev dktX19_ledger_10 : List UInt8 := dkwX19_ledger_10 ++ dktX19_ledger_11
def dkwX19_ledger_9 : List UInt8 := [133, 182, 1, 73, 182, 0, 122, 167, 0, 235, 42, 42, 180, 0, 54, 42, 180, 1, 192, 42, 27, 4]
abbrev dktX19_ledger_9 : List UInt8 := dkwX19_ledger_9 ++ dktX19_ledger_10
def dkwX19_ledger_8 : List UInt8 := [180, 1, 195, 182, 1, 73, 182, 0, 122, 167, 1, 1, 42, 42, 180, 0, 54, 42, 180, 0, 86, 180, 1, 200]
abbrev dktX19_ledger_8 : List UInt8 := dkwX19_ledger_8 ++ dktX19_ledger_9
def dkwX19_ledger_7 : List UInt8 := [42, 180, 1, 192, 3, 182, 1, 186, 182, 0, 122, 167, 1, 22, 42, 42, 180, 0, 54, 42, 180, 0, 86]
abbrev dktX19_ledger_7 : List UInt8 := dkwX19_ledger_7 ++ dktX19_ledger_8
def dkwX19_ledger_6 : List UInt8 := [182, 0, 122, 167, 1, 54, 42, 42, 42, 180, 1, 189, 3, 182, 1, 186, 182, 0, 122, 167, 1, 38, 42, 42]
abbrev dktX19_ledger_6 : List UInt8 := dkwX19_ledger_6 ++ dktX19_ledger_7
def dkwX19_ledger_5 : List UInt8 := [180, 1, 178, 182, 1, 73, 182, 0, 122, 167, 1, 70, 42, 42, 42, 180, 1, 181, 3, 182, 1, 186]
abbrev dktX19_ledger_5 : List UInt8 := dkwX19_ledger_5 ++ dktX19_ledger_6
def dkwX19_ledger_4 : List UInt8 := [42, 42, 180, 0, 54, 42, 180, 1, 174, 182, 1, 73, 182, 0, 122, 167, 1, 88, 42, 42, 180, 0, 54, 42]
abbrev dktX19_ledger_4 : List UInt8 := dkwX19_ledger_4 ++ dktX19_ledger_5
def dkwX19_ledger_3 : List UInt8 := [170, 0, 0, 0, 0, 1, 70, 0, 0, 0, 95, 0, 0, 0, 105, 0, 0, 0, 59, 0, 0, 0, 77, 0, 0, 0, 95, 0, 0, 0, 111, 0, 0, 0, 127, 0, 0, 0, 143, 0, 0, 0, 164, 0, 0, 0, 186, 0, 0, 0, 210, 0, 0, 0, 244, 0, 0, 1, 15]
abbrev dktX19_ledger_3 : List UInt8 := dkwX19_ledger_3 ++ dktX19_ledger_4
def dkwX19_ledger_2 : List UInt8 := [4, 182, 0, 235, 16, 8, 108, 96, 167, 0, 4, 3, 96, 133, 182, 0, 183, 28]
abbrev dktX19_ledger_2 : List UInt8 := dkwX19_ledger_2 ++ dktX19_ledger_3
def dkwX19_ledger_1 : List UInt8 := [16, 100, 42, 3, 182, 0, 235, 16, 8, 108, 96, 167, 0, 25, 28, 16, 106, 160, 0, 18, 17, 1, 44, 42]
abbrev dktX19_ledger_1 : List UInt8 := dkwX19_ledger_1 ++ dktX19_ledger_2
def dkwX19_ledger_0 : List UInt8 := [42, 180, 0, 94, 16, 10, 28, 16, 104, 160, 0, 8, 16, 50, 167, 0, 45, 28, 16, 105, 160, 0, 17]
abbrev dktX19_ledger_0 : List UInt8 := dkwX19_ledger_0 ++ dktX19_ledger_1
theorem dksX19_ledger_0 : cX19_ledger.data.toList.drop 0 = dktX19_ledger_0 := by decide +kernel
theorem dksX19_ledger_1 : cX19_ledger.data.toList.drop 23 = dktX19_ledger_1 := dk_seg dksX19_ledger_0 23 rfl rfl
theorem dksX19_ledger_2 : cX19_ledger.data.toList.drop 47 = dktX19_ledger_2 := dk_seg dksX19_ledger_1 24 rfl rfl
theorem dksX19_ledger_3 : cX19_ledger.data.toList.drop 65 = dktX19_ledger_3 := dk_seg dksX19_ledger_2 18 rfl rfl
theorem dksX19_ledger_4 : cX19_ledger.data.toList.drop 124 = dktX19_ledger_4 := dk_seg dksX19_ledger_3 59 rfl rfl
theorem dksX19_ledger_5 : cX19_ledger.data.toList.drop 148 = dktX19_ledger_5 := dk_seg dksX19_ledger_4 24 rfl rfl
theorem dksX19_ledger_6 : cX19_ledger.data.toList.drop 170 = dktX19_ledger_6 := dk_seg dksX19_ledger_5 22 rfl rfl
theorem dksX19_ledger_7 : cX19_ledger.data.toList.drop 194 = dktX19_ledger_7 := dk_seg dksX19_ledger_6 24 rfl rfl
theorem dksX19_ledger_8 : cX19_ledger.data.toList.drop 217 = dktX19_ledger_8 := dk_seg dksX19_ledger_7 23 rfl rfl
theorem dksX19_ledger_9 : cX19_ledger.data.toList.drop 241 = dktX19_ledger_9 := dk_seg dksX19_ledger_8 24 rfl rfl
theorem dksX19_ledger_10 : cX19_ledger.data.toList.drop 263 = dktX19_ledger_10 := dk_seg dksX19_ledger_9 22 rfl rfl
theorem dksX19_ledger_11 : cX19_ledger.data.toList.drop 287 = dktX19_ledger_11 := dk_seg dksX19_ledger_10 24 rfl rfl
theorem dksX19_ledger_12 : cX19_ledger.data.toList.drop 311 = dktX19_ledger_12 := dk_seg dksX19_ledger_11 24 rfl rfl
theorem dksX19_ledger_13 : cX19_ledger.data.toList.drop 333 = dktX19_ledger_13 := dk_seg dksX19_ledger_12 22 rfl rfl
theorem dksX19_ledger_14 : cX19_ledger.data.toList.drop 355 = dktX19_ledger_14 := dk_seg dksX19_ledger_13 22 rfl rfl
theorem dksX19_ledger_15 : cX19_ledger.data.toList.drop 378 = dktX19_ledger_15 := dk_seg dksX19_ledger_14 23 rfl rfl
theorem dksX19_ledger_16 : cX19_ledger.data.toList.drop 402 = dktX19_ledger_16 := dk_seg dksX19_ledger_15 24 rfl rfl
theorem dksX19_ledger_17 : cX19_ledger.data.toList.drop 424 = dktX19_ledger_17 := dk_seg dksX19_ledger_16 22 rfl rfl
theorem dksX19_ledger_18 : cX19_ledger.data.toList.drop 448 = dktX19_ledger_18 := dk_seg dksX19_ledger_17 24 rfl rfl
theorem dksX19_ledger_19 : cX19_ledger.data.toList.drop 471 = dktX19_ledger_19 := dk_seg dksX19_ledger_18 23 rfl rfl
theorem dX19_ledger_0 : decode cX19_ledger 0 = .ok (.aload_n 0, 1) := dk_42 (dk_at dksX19_ledger_0 0 rfl rfl)
theorem dX19_ledger_1 : decode cX19_ledger 1 = .ok (.getfield 94, 3) := dk_180 0 94 (dk_at dksX19_ledger_0 1 rfl rfl)
theorem dX19_ledger_4 : decode cX19_ledger 4 = .ok (.bipush 10, 2) := dk_16 10 (dk_at dksX19_ledger_0 4 rfl rfl)
theorem dX19_ledger_6 : decode cX19_ledger 6 = .ok (.iload_n 2, 1) := dk_28 (dk_at dksX19_ledger_0 6 rfl rfl)
theorem dX19_ledger_7 : decode cX19_ledger 7 = .ok (.bipush 104, 2) := dk_16 104 (dk_at dksX19_ledger_0 7 rfl rfl)
theorem dX19_ledger_9 : decode cX19_ledger 9 = .ok (.if_icmp .ne 8, 3) := dk_160 0 8 (dk_at dksX19_ledger_0 9 rfl rfl)
theorem dX19_ledger_12 : decode cX19_ledger 12 = .ok (.bipush 50, 2) := dk_16 50 (dk_at dksX19_ledger_0 12 rfl rfl)
theorem dX19_ledger_14 : decode cX19_ledger 14 = .ok (.goto 45, 3) := dk_167 0 45 (dk_at dksX19_ledger_0 14 rfl rfl)
theorem dX19_ledger_17 : decode cX19_ledger 17 = .ok (.iload_n 2, 1) := dk_28 (dk_at dksX19_ledger_0 17 rfl rfl)
theorem dX19_ledger_18 : decode cX19_ledger 18 = .ok (.bipush 105, 2) := dk_16 105 (dk_at dksX19_ledger_0 18 rfl rfl)
theorem dX19_ledger_20 : decode cX19_ledger 20 = .ok (.if_icmp .ne 17, 3) := dk_160 0 17 (dk_at dksX19_ledger_0 20 rfl rfl)
theorem dX19_ledger_23 : decode cX19_ledger 23 = .ok (.bipush 100, 2) := dk_16 100 (dk_at dksX19_ledger_1 0 rfl rfl)
theorem dX19_ledger_25 : decode cX19_ledger 25 = .ok (.aload_n 0, 1) := dk_42 (dk_at dksX19_ledger_1 2 rfl rfl)
theorem dX19_ledger_26 : decode cX19_ledger 26 = .ok (.iconst 0, 1) := dk_3 (dk_at dksX19_ledger_1 3 rfl rfl)
theorem dX19_ledger_27 : decode cX19_ledger 27 = .ok (.invokevirtual 235, 3) := dk_182 0 235 (dk_at dksX19_ledger_1 4 rfl rfl)
theorem dX19_ledger_30 : decode cX19_ledger 30 = .ok (.bipush 8, 2) := dk_16 8 (dk_at dksX19_ledger_1 7 rfl rfl)
theorem dX19_ledger_32 : decode cX19_ledger 32 = .ok (.idiv, 1) := dk_108 (dk_at dksX19_ledger_1 9 rfl rfl)
theorem dX19_ledger_33 : decode cX19_ledger 33 = .ok (.iadd, 1) := dk_96 (dk_at dksX19_ledger_1 10 rfl rfl)
theorem dX19_ledger_34 : decode cX19_ledger 34 = .ok (.goto 25, 3) := dk_167 0 25 (dk_at dksX19_ledger_1 11 rfl rfl)
theorem dX19_ledger_37 : decode cX19_ledger 37 = .ok (.iload_n 2, 1) := dk_28 (dk_at dksX19_ledger_1 14 rfl rfl)
theorem dX19_ledger_38 : decode cX19_ledger 38 = .ok (.bipush 106, 2) := dk_16 106 (dk_at dksX19_ledger_1 15 rfl rfl)
theorem dX19_ledger_40 : decode cX19_ledger 40 = .ok (.if_icmp .ne 18, 3) := dk_160 0 18 (dk_at dksX19_ledger_1 17 rfl rfl)
theorem dX19_ledger_43 : decode cX19_ledger 43 = .ok (.sipush 300, 3) := dk_17 1 44 (dk_at dksX19_ledger_1 20 rfl rfl)
theorem dX19_ledger_46 : decode cX19_ledger 46 = .ok (.aload_n 0, 1) := dk_42 (dk_at dksX19_ledger_1 23 rfl rfl)
theorem dX19_ledger_47 : decode cX19_ledger 47 = .ok (.iconst 1, 1) := dk_4 (dk_at dksX19_ledger_2 0 rfl rfl)
theorem dX19_ledger_48 : decode cX19_ledger 48 = .ok (.invokevirtual 235, 3) := dk_182 0 235 (dk_at dksX19_ledger_2 1 rfl rfl)
theorem dX19_ledger_51 : decode cX19_ledger 51 = .ok (.bipush 8, 2) := dk_16 8 (dk_at dksX19_ledger_2 4 rfl rfl)
theorem dX19_ledger_53 : decode cX19_ledger 53 = .ok (.idiv, 1) := dk_108 (dk_at dksX19_ledger_2 6 rfl rfl)
theorem dX19_ledger_54 : decode cX19_ledger 54 = .ok (.iadd, 1) := dk_96 (dk_at dksX19_ledger_2 7 rfl rfl)
theorem dX19_ledger_55 : decode cX19_ledger 55 = .ok (.goto 4, 3) := dk_167 0 4 (dk_at dksX19_ledger_2 8 rfl rfl)
theorem dX19_ledger_58 : decode cX19_ledger 58 = .ok (.iconst 0, 1) := dk_3 (dk_at dksX19_ledger_2 11 rfl rfl)
theorem dX19_ledger_59 : decode cX19_ledger 59 = .ok (.iadd, 1) := dk_96 (dk_at dksX19_ledger_2 12 rfl rfl)
theorem dX19_ledger_60 : decode cX19_ledger 60 = .ok (.i2l, 1) := dk_133 (dk_at dksX19_ledger_2 13 rfl rfl)
theorem dX19_ledger_61 : decode cX19_ledger 61 = .ok (.invokevirtual 183, 3) := dk_182 0 183 (dk_at dksX19_ledger_2 14 rfl rfl)
theorem dX19_ledger_64 : decode cX19_ledger 64 = .ok (.iload_n 2, 1) := dk_28 (dk_at dksX19_ledger_2 17 rfl rfl)
theorem dX19_ledger_65 : decode cX19_ledger 65 = .ok (.tableswitch 326 95 105 #[59, 77, 95, 111, 127, 143, 164, 186, 210, 244, 271], 59) := by decide +kernel
theorem dX19_ledger_124 : decode cX19_ledger 124 = .ok (.aload_n 0, 1) := dk_42 (dk_at dksX19_ledger_4 0 rfl rfl)
theorem dX19_ledger_125 : decode cX19_ledger 125 = .ok (.aload_n 0, 1) := dk_42 (dk_at dksX19_ledger_4 1 rfl rfl)
theorem dX19_ledger_126 : decode cX19_ledger 126 = .ok (.getfield 54, 3) := dk_180 0 54 (dk_at dksX19_ledger_4 2 rfl rfl)
theorem dX19_ledger_129 : decode cX19_ledger 129 = .ok (.aload_n 0, 1) := dk_42 (dk_at dksX19_ledger_4 5 rfl rfl)
theorem dX19_ledger_130 : decode cX19_ledger 130 = .ok (.getfield 430, 3) := dk_180 1 174 (dk_at dksX19_ledger_4 6 rfl rfl)
theorem dX19_ledger_133 : decode cX19_ledger 133 = .ok (.invokevirtual 329, 3) := dk_182 1 73 (dk_at dksX19_ledger_4 9 rfl rfl)
theorem dX19_ledger_136 : decode cX19_ledger 136 = .ok (.invokevirtual 122, 3) := dk_182 0 122 (dk_at dksX19_ledger_4 12 rfl rfl)
theorem dX19_ledger_139 : decode cX19_ledger 139 = .ok (.goto 344, 3) := dk_167 1 88 (dk_at dksX19_ledger_4 15 rfl rfl)
theorem dX19_ledger_142 : decode cX19_ledger 142 = .ok (.aload_n 0, 1) := dk_42 (dk_at dksX19_ledger_4 18 rfl rfl)
theorem dX19_ledger_143 : decode cX19_ledger 143 = .ok (.aload_n 0, 1) := dk_42 (dk_at dksX19_ledger_4 19 rfl rfl)
theorem dX19_ledger_144 : decode cX19_ledger 144 = .ok (.getfield 54, 3) := dk_180 0 54 (dk_at dksX19_ledger_4 20 rfl rfl)
theorem dX19_ledger_147 : decode cX19_ledger 147 = .ok (.aload_n 0, 1) := dk_42 (dk_at dksX19_ledger_4 23 rfl rfl)
theorem dX19_ledger_148 : decode cX19_ledger 148 = .ok (.getfield 434, 3) := dk_180 1 178 (dk_at dksX19_ledger_5 0 rfl rfl)
theorem dX19_ledger_151 : decode cX19_ledger 151 = .ok (.invokevirtual 329, 3) := dk_182 1 73 (dk_at dksX19_ledger_5 3 rfl rfl)
theorem dX19_ledger_154 : decode cX19_ledger 154 = .ok (.invokevirtual 122, 3) := dk_182 0 122 (dk_at dksX19_ledger_5 6 rfl rfl)
theorem dX19_ledger_157 : decode cX19_ledger 157 = .ok (.goto 326, 3) := dk_167 1 70 (dk_at dksX19_ledger_5 9 rfl rfl)
theorem dX19_ledger_160 : decode cX19_ledger 160 = .ok (.aload_n 0, 1) := dk_42 (dk_at dksX19_ledger_5 12 rfl rfl)
theorem dX19_ledger_161 : decode cX19_ledger 161 = .ok (.aload_n 0, 1) := dk_42 (dk_at dksX19_ledger_5 13 rfl rfl)
theorem dX19_ledger_162 : decode cX19_ledger 162 = .ok (.aload_n 0, 1) := dk_42 (dk_at dksX19_ledger_5 14 rfl rfl)
theorem dX19_ledger_163 : decode cX19_ledger 163 = .ok (.getfield 437, 3) := dk_180 1 181 (dk_at dksX19_ledger_5 15 rfl rfl)
theorem dX19_ledger_166 : decode cX19_ledger 166 = .ok (.iconst 0, 1) := dk_3 (dk_at dksX19_ledger_5 18 rfl rfl)
theorem dX19_ledger_167 : decode cX19_ledger 167 = .ok (.invokevirtual 442, 3) := dk_182 1 186 (dk_at dksX19_ledger_5 19 rfl rfl)
theorem dX19_ledger_170 : decode cX19_ledger 170 = .ok (.invokevirtual 122, 3) := dk_182 0 122 (dk_at dksX19_ledger_6 0 rfl rfl)
theorem dX19_ledger_173 : decode cX19_ledger 173 = .ok (.goto 310, 3) := dk_167 1 54 (dk_at dksX19_ledger_6 3 rfl rfl)
theorem dX19_ledger_176 : decode cX19_ledger 176 = .ok (.aload_n 0, 1) := dk_42 (dk_at dksX19_ledger_6 6 rfl rfl)
theorem dX19_ledger_177 : decode cX19_ledger 177 = .ok (.aload_n 0, 1) := dk_42 (dk_at dksX19_ledger_6 7 rfl rfl)
theorem dX19_ledger_178 : decode cX19_ledger 178 = .ok (.aload_n 0, 1) := dk_42 (dk_at dksX19_ledger_6 8 rfl rfl)
theorem dX19_ledger_179 : decode cX19_ledger 179 = .ok (.getfield 445, 3) := dk_180 1 189 (dk_at dksX19_ledger_6 9 rfl rfl)
theorem dX19_ledger_182 : decode cX19_ledger 182 = .ok (.iconst 0, 1) := dk_3 (dk_at dksX19_ledger_6 12 rfl rfl)
theorem dX19_ledger_183 : decode cX19_ledger 183 = .ok (.invokevirtual 442, 3) := dk_182 1 186 (dk_at dksX19_ledger_6 13 rfl rfl)
theorem dX19_ledger_186 : decode cX19_ledger 186 = .ok (.invokevirtual 122, 3) := dk_182 0 122 (dk_at dksX19_ledger_6 16 rfl rfl)
theorem dX19_ledger_189 : decode cX19_ledger 189 = .ok (.goto 294, 3) := dk_167 1 38 (dk_at dksX19_ledger_6 19 rfl rfl)
theorem dX19_ledger_192 : decode cX19_ledger 192 = .ok (.aload_n 0, 1) := dk_42 (dk_at dksX19_ledger_6 22 rfl rfl)
theorem dX19_ledger_193 : decode cX19_ledger 193 = .ok (.aload_n 0, 1) := dk_42 (dk_at dksX19_ledger_6 23 rfl rfl)
theorem dX19_ledger_194 : decode cX19_ledger 194 = .ok (.aload_n 0, 1) := dk_42 (dk_at dksX19_ledger_7 0 rfl rfl)
theorem dX19_ledger_195 : decode cX19_ledger 195 = .ok (.getfield 448, 3) := dk_180 1 192 (dk_at dksX19_ledger_7 1 rfl rfl)
theorem dX19_ledger_198 : decode cX19_ledger 198 = .ok (.iconst 0, 1) := dk_3 (dk_at dksX19_ledger_7 4 rfl rfl)
theorem dX19_ledger_199 : decode cX19_ledger 199 = .ok (.invokevirtual 442, 3) := dk_182 1 186 (dk_at dksX19_ledger_7 5 rfl rfl)
theorem dX19_ledger_202 : decode cX19_ledger 202 = .ok (.invokevirtual 122, 3) := dk_182 0 122 (dk_at dksX19_ledger_7 8 rfl rfl)
theorem dX19_ledger_205 : decode cX19_ledger 205 = .ok (.goto 278, 3) := dk_167 1 22 (dk_at dksX19_ledger_7 11 rfl rfl)
theorem dX19_ledger_208 : decode cX19_ledger 208 = .ok (.aload_n 0, 1) := dk_42 (dk_at dksX19_ledger_7 14 rfl rfl)
theorem dX19_ledger_209 : decode cX19_ledger 209 = .ok (.aload_n 0, 1) := dk_42 (dk_at dksX19_ledger_7 15 rfl rfl)
theorem dX19_ledger_210 : decode cX19_ledger 210 = .ok (.getfield 54, 3) := dk_180 0 54 (dk_at dksX19_ledger_7 16 rfl rfl)
theorem dX19_ledger_213 : decode cX19_ledger 213 = .ok (.aload_n 0, 1) := dk_42 (dk_at dksX19_ledger_7 19 rfl rfl)
theorem dX19_ledger_214 : decode cX19_ledger 214 = .ok (.getfield 86, 3) := dk_180 0 86 (dk_at dksX19_ledger_7 20 rfl rfl)
theorem dX19_ledger_217 : decode cX19_ledger 217 = .ok (.getfield 451, 3) := dk_180 1 195 (dk_at dksX19_ledger_8 0 rfl rfl)
theorem dX19_ledger_220 : decode cX19_ledger 220 = .ok (.invokevirtual 329, 3) := dk_182 1 73 (dk_at dksX19_ledger_8 3 rfl rfl)
theorem dX19_ledger_223 : decode cX19_ledger 223 = .ok (.invokevirtual 122, 3) := dk_182 0 122 (dk_at dksX19_ledger_8 6 rfl rfl)
theorem dX19_ledger_226 : decode cX19_ledger 226 = .ok (.goto 257, 3) := dk_167 1 1 (dk_at dksX19_ledger_8 9 rfl rfl)
theorem dX19_ledger_229 : decode cX19_ledger 229 = .ok (.aload_n 0, 1) := dk_42 (dk_at dksX19_ledger_8 12 rfl rfl)
theorem dX19_ledger_230 : decode cX19_ledger 230 = .ok (.aload_n 0, 1) := dk_42 (dk_at dksX19_ledger_8 13 rfl rfl)
theorem dX19_ledger_231 : decode cX19_ledger 231 = .ok (.getfield 54, 3) := dk_180 0 54 (dk_at dksX19_ledger_8 14 rfl rfl)
theorem dX19_ledger_234 : decode cX19_ledger 234 = .ok (.aload_n 0, 1) := dk_42 (dk_at dksX19_ledger_8 17 rfl rfl)
theorem dX19_ledger_235 : decode cX19_ledger 235 = .ok (.getfield 86, 3) := dk_180 0 86 (dk_at dksX19_ledger_8 18 rfl rfl)
theorem dX19_ledger_238 : decode cX19_ledger 238 = .ok (.getfield 456, 3) := dk_180 1 200 (dk_at dksX19_ledger_8 21 rfl rfl)
theorem dX19_ledger_241 : decode cX19_ledger 241 = .ok (.i2l, 1) := dk_133 (dk_at dksX19_ledger_9 0 rfl rfl)
theorem dX19_ledger_242 : decode cX19_ledger 242 = .ok (.invokevirtual 329, 3) := dk_182 1 73 (dk_at dksX19_ledger_9 1 rfl rfl)
theorem dX19_ledger_245 : decode cX19_ledger 245 = .ok (.invokevirtual 122, 3) := dk_182 0 122 (dk_at dksX19_ledger_9 4 rfl rfl)
theorem dX19_ledger_248 : decode cX19_ledger 248 = .ok (.goto 235, 3) := dk_167 0 235 (dk_at dksX19_ledger_9 7 rfl rfl)
theorem dX19_ledger_251 : decode cX19_ledger 251 = .ok (.aload_n 0, 1) := dk_42 (dk_at dksX19_ledger_9 10 rfl rfl)
theorem dX19_ledger_252 : decode cX19_ledger 252 = .ok (.aload_n 0, 1) := dk_42 (dk_at dksX19_ledger_9 11 rfl rfl)
theorem dX19_ledger_253 : decode cX19_ledger 253 = .ok (.getfield 54, 3) := dk_180 0 54 (dk_at dksX19_ledger_9 12 rfl rfl)
theorem dX19_ledger_256 : decode cX19_ledger 256 = .ok (.aload_n 0, 1) := dk_42 (dk_at dksX19_ledger_9 15 rfl rfl)
theorem dX19_ledger_257 : decode cX19_ledger 257 = .ok (.getfield 448, 3) := dk_180 1 192 (dk_at dksX19_ledger_9 16 rfl rfl)
theorem dX19_ledger_260 : decode cX19_ledger 260 = .ok (.aload_n 0, 1) := dk_42 (dk_at dksX19_ledger_9 19 rfl rfl)
theorem dX19_ledger_261 : decode cX19_ledger 261 = .ok (.iload_n 1, 1) := dk_27 (dk_at dksX19_ledger_9 20 rfl rfl)
theorem dX19_ledger_262 : decode cX19_ledger 262 = .ok (.iconst 1, 1) := dk_4 (dk_at dksX19_ledger_9 21 rfl rfl)
theorem dX19_ledger_263 : decode cX19_ledger 263 = .ok (.invokevirtual 131, 3) := dk_182 0 131 (dk_at dksX19_ledger_10 0 rfl rfl)
theorem dX19_ledger_266 : decode cX19_ledger 266 = .ok (.invokevirtual 459, 3) := dk_182 1 203 (dk_at dksX19_ledger_10 3 rfl rfl)
theorem dX19_ledger_269 : decode cX19_ledger 269 = .ok (.invokevirtual 122, 3) := dk_182 0 122 (dk_at dksX19_ledger_10 6 rfl rfl)
theorem dX19_ledger_272 : decode cX19_ledger 272 = .ok (.goto 211, 3) := dk_167 0 211 (dk_at dksX19_ledger_10 9 rfl rfl)
theorem dX19_ledger_275 : decode cX19_ledger 275 = .ok (.aload_n 0, 1) := dk_42 (dk_at dksX19_ledger_10 12 rfl rfl)
theorem dX19_ledger_276 : decode cX19_ledger 276 = .ok (.invokevirtual 139, 3) := dk_182 0 139 (dk_at dksX19_ledger_10 13 rfl rfl)
theorem dX19_ledger_279 : decode cX19_ledger 279 = .ok (.istore_n 3, 1) := dk_62 (dk_at dksX19_ledger_10 16 rfl rfl)
theorem dX19_ledger_280 : decode cX19_ledger 280 = .ok (.aload_n 0, 1) := dk_42 (dk_at dksX19_ledger_10 17 rfl rfl)
theorem dX19_ledger_281 : decode cX19_ledger 281 = .ok (.aload_n 0, 1) := dk_42 (dk_at dksX19_ledger_10 18 rfl rfl)
theorem dX19_ledger_282 : decode cX19_ledger 282 = .ok (.aload_n 0, 1) := dk_42 (dk_at dksX19_ledger_10 19 rfl rfl)
theorem dX19_ledger_283 : decode cX19_ledger 283 = .ok (.getfield 54, 3) := dk_180 0 54 (dk_at dksX19_ledger_10 20 rfl rfl)
theorem dX19_ledger_286 : decode cX19_ledger 286 = .ok (.iload_n 3, 1) := dk_29 (dk_at dksX19_ledger_10 23 rfl rfl)
theorem dX19_ledger_287 : decode cX19_ledger 287 = .ok (.iconst 2, 1) := dk_5 (dk_at dksX19_ledger_11 0 rfl rfl)
theorem dX19_ledger_288 : decode cX19_ledger 288 = .ok (.invokevirtual 199, 3) := dk_182 0 199 (dk_at dksX19_ledger_11 1 rfl rfl)
theorem dX19_ledger_291 : decode cX19_ledger 291 = .ok (.aload_n 0, 1) := dk_42 (dk_at dksX19_ledger_11 4 rfl rfl)
theorem dX19_ledger_292 : decode cX19_ledger 292 = .ok (.getfield 54, 3) := dk_180 0 54 (dk_at dksX19_ledger_11 5 rfl rfl)
theorem dX19_ledger_295 : decode cX19_ledger 295 = .ok (.iload_n 3, 1) := dk_29 (dk_at dksX19_ledger_11 8 rfl rfl)
theorem dX19_ledger_296 : decode cX19_ledger 296 = .ok (.iconst 3, 1) := dk_6 (dk_at dksX19_ledger_11 9 rfl rfl)
theorem dX19_ledger_297 : decode cX19_ledger 297 = .ok (.invokevirtual 199, 3) := dk_182 0 199 (dk_at dksX19_ledger_11 10 rfl rfl)
theorem dX19_ledger_300 : decode cX19_ledger 300 = .ok (.invokevirtual 442, 3) := dk_182 1 186 (dk_at dksX19_ledger_11 13 rfl rfl)
theorem dX19_ledger_303 : decode cX19_ledger 303 = .ok (.invokevirtual 122, 3) := dk_182 0 122 (dk_at dksX19_ledger_11 16 rfl rfl)
theorem dX19_ledger_306 : decode cX19_ledger 306 = .ok (.goto 177, 3) := dk_167 0 177 (dk_at dksX19_ledger_11 19 rfl rfl)
theorem dX19_ledger_309 : decode cX19_ledger 309 = .ok (.aload_n 0, 1) := dk_42 (dk_at dksX19_ledger_11 22 rfl rfl)
theorem dX19_ledger_310 : decode cX19_ledger 310 = .ok (.aload_n 0, 1) := dk_42 (dk_at dksX19_ledger_11 23 rfl rfl)
theorem dX19_ledger_311 : decode cX19_ledger 311 = .ok (.aload_n 0, 1) := dk_42 (dk_at dksX19_ledger_12 0 rfl rfl)
theorem dX19_ledger_312 : decode cX19_ledger 312 = .ok (.invokevirtual 139, 3) := dk_182 0 139 (dk_at dksX19_ledger_12 1 rfl rfl)
theorem dX19_ledger_315 : decode cX19_ledger 315 = .ok (.aload_n 0, 1) := dk_42 (dk_at dksX19_ledger_12 4 rfl rfl)
theorem dX19_ledger_316 : decode cX19_ledger 316 = .ok (.iload_n 1, 1) := dk_27 (dk_at dksX19_ledger_12 5 rfl rfl)
theorem dX19_ledger_317 : decode cX19_ledger 317 = .ok (.iconst 1, 1) := dk_4 (dk_at dksX19_ledger_12 6 rfl rfl)
theorem dX19_ledger_318 : decode cX19_ledger 318 = .ok (.invokevirtual 131, 3) := dk_182 0 131 (dk_at dksX19_ledger_12 7 rfl rfl)
theorem dX19_ledger_321 : decode cX19_ledger 321 = .ok (.aload_n 0, 1) := dk_42 (dk_at dksX19_ledger_12 10 rfl rfl)
theorem dX19_ledger_322 : decode cX19_ledger 322 = .ok (.iload_n 1, 1) := dk_27 (dk_at dksX19_ledger_12 11 rfl rfl)
theorem dX19_ledger_323 : decode cX19_ledger 323 = .ok (.iconst 2, 1) := dk_5 (dk_at dksX19_ledger_12 12 rfl rfl)
theorem dX19_ledger_324 : decode cX19_ledger 324 = .ok (.invokevirtual 131, 3) := dk_182 0 131 (dk_at dksX19_ledger_12 13 rfl rfl)
theorem dX19_ledger_327 : decode cX19_ledger 327 = .ok (.invokevirtual 462, 3) := dk_182 1 206 (dk_at dksX19_ledger_12 16 rfl rfl)
theorem dX19_ledger_330 : decode cX19_ledger 330 = .ok (.invokevirtual 122, 3) := dk_182 0 122 (dk_at dksX19_ledger_12 19 rfl rfl)
theorem dX19_ledger_333 : decode cX19_ledger 333 = .ok (.goto 150, 3) := dk_167 0 150 (dk_at dksX19_ledger_13 0 rfl rfl)
theorem dX19_ledger_336 : decode cX19_ledger 336 = .ok (.aload_n 0, 1) := dk_42 (dk_at dksX19_ledger_13 3 rfl rfl)
theorem dX19_ledger_337 : decode cX19_ledger 337 = .ok (.invokevirtual 139, 3) := dk_182 0 139 (dk_at dksX19_ledger_13 4 rfl rfl)
theorem dX19_ledger_340 : decode cX19_ledger 340 = .ok (.istore_n 3, 1) := dk_62 (dk_at dksX19_ledger_13 7 rfl rfl)
theorem dX19_ledger_341 : decode cX19_ledger 341 = .ok (.aload_n 0, 1) := dk_42 (dk_at dksX19_ledger_13 8 rfl rfl)
theorem dX19_ledger_342 : decode cX19_ledger 342 = .ok (.invokevirtual 139, 3) := dk_182 0 139 (dk_at dksX19_ledger_13 9 rfl rfl)
theorem dX19_ledger_345 : decode cX19_ledger 345 = .ok (.istore 4, 2) := dk_54 4 (dk_at dksX19_ledger_13 12 rfl rfl)
theorem dX19_ledger_347 : decode cX19_ledger 347 = .ok (.aload_n 0, 1) := dk_42 (dk_at dksX19_ledger_13 14 rfl rfl)
theorem dX19_ledger_348 : decode cX19_ledger 348 = .ok (.invokevirtual 139, 3) := dk_182 0 139 (dk_at dksX19_ledger_13 15 rfl rfl)
theorem dX19_ledger_351 : decode cX19_ledger 351 = .ok (.istore 5, 2) := dk_54 5 (dk_at dksX19_ledger_13 18 rfl rfl)
theorem dX19_ledger_353 : decode cX19_ledger 353 = .ok (.aload_n 0, 1) := dk_42 (dk_at dksX19_ledger_13 20 rfl rfl)
theorem dX19_ledger_354 : decode cX19_ledger 354 = .ok (.aload_n 0, 1) := dk_42 (dk_at dksX19_ledger_13 21 rfl rfl)
theorem dX19_ledger_355 : decode cX19_ledger 355 = .ok (.getfield 54, 3) := dk_180 0 54 (dk_at dksX19_ledger_14 0 rfl rfl)
theorem dX19_ledger_358 : decode cX19_ledger 358 = .ok (.iload 4, 2) := dk_21 4 (dk_at dksX19_ledger_14 3 rfl rfl)
theorem dX19_ledger_360 : decode cX19_ledger 360 = .ok (.iload_n 3, 1) := dk_29 (dk_at dksX19_ledger_14 5 rfl rfl)
theorem dX19_ledger_361 : decode cX19_ledger 361 = .ok (.aload_n 0, 1) := dk_42 (dk_at dksX19_ledger_14 6 rfl rfl)
theorem dX19_ledger_362 : decode cX19_ledger 362 = .ok (.getfield 54, 3) := dk_180 0 54 (dk_at dksX19_ledger_14 7 rfl rfl)
theorem dX19_ledger_365 : decode cX19_ledger 365 = .ok (.iload 5, 2) := dk_21 5 (dk_at dksX19_ledger_14 10 rfl rfl)
theorem dX19_ledger_367 : decode cX19_ledger 367 = .ok (.iconst 2, 1) := dk_5 (dk_at dksX19_ledger_14 12 rfl rfl)
theorem dX19_ledger_368 : decode cX19_ledger 368 = .ok (.invokevirtual 199, 3) := dk_182 0 199 (dk_at dksX19_ledger_14 13 rfl rfl)
theorem dX19_ledger_371 : decode cX19_ledger 371 = .ok (.aload_n 0, 1) := dk_42 (dk_at dksX19_ledger_14 16 rfl rfl)
theorem dX19_ledger_372 : decode cX19_ledger 372 = .ok (.getfield 54, 3) := dk_180 0 54 (dk_at dksX19_ledger_14 17 rfl rfl)
theorem dX19_ledger_375 : decode cX19_ledger 375 = .ok (.iload 5, 2) := dk_21 5 (dk_at dksX19_ledger_14 20 rfl rfl)
theorem dX19_ledger_377 : decode cX19_ledger 377 = .ok (.iconst 3, 1) := dk_6 (dk_at dksX19_ledger_14 22 rfl rfl)
theorem dX19_ledger_378 : decode cX19_ledger 378 = .ok (.invokevirtual 199, 3) := dk_182 0 199 (dk_at dksX19_ledger_15 0 rfl rfl)
theorem dX19_ledger_381 : decode cX19_ledger 381 = .ok (.iconst (-1), 1) := dk_2 (dk_at dksX19_ledger_15 3 rfl rfl)
theorem dX19_ledger_382 : decode cX19_ledger 382 = .ok (.invokevirtual 464, 3) := dk_182 1 208 (dk_at dksX19_ledger_15 4 rfl rfl)
theorem dX19_ledger_385 : decode cX19_ledger 385 = .ok (.invokevirtual 122, 3) := dk_182 0 122 (dk_at dksX19_ledger_15 7 rfl rfl)
theorem dX19_ledger_388 : decode cX19_ledger 388 = .ok (.goto 95, 3) := dk_167 0 95 (dk_at dksX19_ledger_15 10 rfl rfl)
theorem dX19_ledger_391 : decode cX19_ledger 391 = .ok (.aload_n 0, 1) := dk_42 (dk_at dksX19_ledger_15 13 rfl rfl)
theorem dX19_ledger_392 : decode cX19_ledger 392 = .ok (.getfield 90, 3) := dk_180 0 90 (dk_at dksX19_ledger_15 14 rfl rfl)
theorem dX19_ledger_395 : decode cX19_ledger 395 = .ok (.aload_n 0, 1) := dk_42 (dk_at dksX19_ledger_15 17 rfl rfl)
theorem dX19_ledger_396 : decode cX19_ledger 396 = .ok (.getfield 86, 3) := dk_180 0 86 (dk_at dksX19_ledger_15 18 rfl rfl)
theorem dX19_ledger_399 : decode cX19_ledger 399 = .ok (.getfield 467, 3) := dk_180 1 211 (dk_at dksX19_ledger_15 21 rfl rfl)
theorem dX19_ledger_402 : decode cX19_ledger 402 = .ok (.bipush 100, 2) := dk_16 100 (dk_at dksX19_ledger_16 0 rfl rfl)
theorem dX19_ledger_404 : decode cX19_ledger 404 = .ok (.if_icmp .ge 7, 3) := dk_162 0 7 (dk_at dksX19_ledger_16 2 rfl rfl)
theorem dX19_ledger_407 : decode cX19_ledger 407 = .ok (.iconst 1, 1) := dk_4 (dk_at dksX19_ledger_16 5 rfl rfl)
theorem dX19_ledger_408 : decode cX19_ledger 408 = .ok (.goto 4, 3) := dk_167 0 4 (dk_at dksX19_ledger_16 6 rfl rfl)
theorem dX19_ledger_411 : decode cX19_ledger 411 = .ok (.iconst 0, 1) := dk_3 (dk_at dksX19_ledger_16 9 rfl rfl)
theorem dX19_ledger_412 : decode cX19_ledger 412 = .ok (.bipush 8, 2) := dk_16 8 (dk_at dksX19_ledger_16 10 rfl rfl)
theorem dX19_ledger_414 : decode cX19_ledger 414 = .ok (.invokevirtual 351, 3) := dk_182 1 95 (dk_at dksX19_ledger_16 12 rfl rfl)
theorem dX19_ledger_417 : decode cX19_ledger 417 = .ok (.bipush 100, 2) := dk_16 100 (dk_at dksX19_ledger_16 15 rfl rfl)
theorem dX19_ledger_419 : decode cX19_ledger 419 = .ok (.aload_n 0, 1) := dk_42 (dk_at dksX19_ledger_16 17 rfl rfl)
theorem dX19_ledger_420 : decode cX19_ledger 420 = .ok (.getfield 86, 3) := dk_180 0 86 (dk_at dksX19_ledger_16 18 rfl rfl)
theorem dX19_ledger_423 : decode cX19_ledger 423 = .ok (.dup, 1) := dk_89 (dk_at dksX19_ledger_16 21 rfl rfl)
theorem dX19_ledger_424 : decode cX19_ledger 424 = .ok (.getfield 467, 3) := dk_180 1 211 (dk_at dksX19_ledger_17 0 rfl rfl)
theorem dX19_ledger_427 : decode cX19_ledger 427 = .ok (.dup_x1, 1) := dk_90 (dk_at dksX19_ledger_17 3 rfl rfl)
theorem dX19_ledger_428 : decode cX19_ledger 428 = .ok (.iconst 1, 1) := dk_4 (dk_at dksX19_ledger_17 4 rfl rfl)
theorem dX19_ledger_429 : decode cX19_ledger 429 = .ok (.iadd, 1) := dk_96 (dk_at dksX19_ledger_17 5 rfl rfl)
theorem dX19_ledger_430 : decode cX19_ledger 430 = .ok (.putfield 467, 3) := dk_181 1 211 (dk_at dksX19_ledger_17 6 rfl rfl)
theorem dX19_ledger_433 : decode cX19_ledger 433 = .ok (.iadd, 1) := dk_96 (dk_at dksX19_ledger_17 9 rfl rfl)
theorem dX19_ledger_434 : decode cX19_ledger 434 = .ok (.istore_n 3, 1) := dk_62 (dk_at dksX19_ledger_17 10 rfl rfl)
theorem dX19_ledger_435 : decode cX19_ledger 435 = .ok (.aload_n 0, 1) := dk_42 (dk_at dksX19_ledger_17 11 rfl rfl)
theorem dX19_ledger_436 : decode cX19_ledger 436 = .ok (.invokevirtual 139, 3) := dk_182 0 139 (dk_at dksX19_ledger_17 12 rfl rfl)
theorem dX19_ledger_439 : decode cX19_ledger 439 = .ok (.istore 4, 2) := dk_54 4 (dk_at dksX19_ledger_17 15 rfl rfl)
theorem dX19_ledger_441 : decode cX19_ledger 441 = .ok (.aload_n 0, 1) := dk_42 (dk_at dksX19_ledger_17 17 rfl rfl)
theorem dX19_ledger_442 : decode cX19_ledger 442 = .ok (.invokevirtual 139, 3) := dk_182 0 139 (dk_at dksX19_ledger_17 18 rfl rfl)
theorem dX19_ledger_445 : decode cX19_ledger 445 = .ok (.istore 5, 2) := dk_54 5 (dk_at dksX19_ledger_17 21 rfl rfl)
theorem dX19_ledger_447 : decode cX19_ledger 447 = .ok (.aload_n 0, 1) := dk_42 (dk_at dksX19_ledger_17 23 rfl rfl)
theorem dX19_ledger_448 : decode cX19_ledger 448 = .ok (.aload_n 0, 1) := dk_42 (dk_at dksX19_ledger_18 0 rfl rfl)
theorem dX19_ledger_449 : decode cX19_ledger 449 = .ok (.iload_n 3, 1) := dk_29 (dk_at dksX19_ledger_18 1 rfl rfl)
theorem dX19_ledger_450 : decode cX19_ledger 450 = .ok (.iconst 0, 1) := dk_3 (dk_at dksX19_ledger_18 2 rfl rfl)
theorem dX19_ledger_451 : decode cX19_ledger 451 = .ok (.invokevirtual 442, 3) := dk_182 1 186 (dk_at dksX19_ledger_18 3 rfl rfl)
theorem dX19_ledger_454 : decode cX19_ledger 454 = .ok (.invokevirtual 122, 3) := dk_182 0 122 (dk_at dksX19_ledger_18 6 rfl rfl)
theorem dX19_ledger_457 : decode cX19_ledger 457 = .ok (.aload_n 0, 1) := dk_42 (dk_at dksX19_ledger_18 9 rfl rfl)
theorem dX19_ledger_458 : decode cX19_ledger 458 = .ok (.aload_n 0, 1) := dk_42 (dk_at dksX19_ledger_18 10 rfl rfl)
theorem dX19_ledger_459 : decode cX19_ledger 459 = .ok (.getfield 54, 3) := dk_180 0 54 (dk_at dksX19_ledger_18 11 rfl rfl)
theorem dX19_ledger_462 : decode cX19_ledger 462 = .ok (.iload 4, 2) := dk_21 4 (dk_at dksX19_ledger_18 14 rfl rfl)
theorem dX19_ledger_464 : decode cX19_ledger 464 = .ok (.iload 5, 2) := dk_21 5 (dk_at dksX19_ledger_18 16 rfl rfl)
theorem dX19_ledger_466 : decode cX19_ledger 466 = .ok (.iload_n 3, 1) := dk_29 (dk_at dksX19_ledger_18 18 rfl rfl)
theorem dX19_ledger_467 : decode cX19_ledger 467 = .ok (.iconst 0, 1) := dk_3 (dk_at dksX19_ledger_18 19 rfl rfl)
theorem dX19_ledger_468 : decode cX19_ledger 468 = .ok (.aload_n 0, 1) := dk_42 (dk_at dksX19_ledger_18 20 rfl rfl)
theorem dX19_ledger_469 : decode cX19_ledger 469 = .ok (.iload_n 1, 1) := dk_27 (dk_at dksX19_ledger_18 21 rfl rfl)
theorem dX19_ledger_470 : decode cX19_ledger 470 = .ok (.iconst 1, 1) := dk_4 (dk_at dksX19_ledger_18 22 rfl rfl)
theorem dX19_ledger_471 : decode cX19_ledger 471 = .ok (.invokevirtual 131, 3) := dk_182 0 131 (dk_at dksX19_ledger_19 0 rfl rfl)
theorem dX19_ledger_474 : decode cX19_ledger 474 = .ok (.invokevirtual 464, 3) := dk_182 1 208 (dk_at dksX19_ledger_19 3 rfl rfl)
theorem dX19_ledger_477 : decode cX19_ledger 477 = .ok (.invokevirtual 122, 3) := dk_182 0 122 (dk_at dksX19_ledger_19 6 rfl rfl)
theorem dX19_ledger_480 : decode cX19_ledger 480 = .ok (.goto 3, 3) := dk_167 0 3 (dk_at dksX19_ledger_19 9 rfl rfl)
theorem dX19_ledger_483 : decode cX19_ledger 483 = .ok (.return_, 1) := dk_177 (dk_at dksX19_ledger_19 12 rfl rfl)
abbrev cX19_address : ByteArray := prog_9_method_46_code
def yX19_address : MethodName := ⟨RX19, "address", "(II)I"⟩
def dkwX19_address_1 : List UInt8 := [46, 28, 154, 0, 7, 3, 167, 0, 11, 42, 180, 0, 66, 28, 182, 1, 219, 182, 1, 220, 172]
abbrev dktX19_address_1 : List UInt8 := dkwX19_address_1 ++ []
def dkwX19_address_0 : List UInt8 := [42, 180, 0, 82, 42, 180, 0, 54, 27, 42, 180, 0, 66, 180, 1, 214, 42, 180, 0, 66, 180, 1, 216, 28]
abbrev dktX19_address_0 : List UInt8 := dkwX19_address_0 ++ dktX19_address_1
theorem dksX19_address_0 : cX19_address.data.toList.drop 0 = dktX19_address_0 := by decide +kernel
theorem dksX19_address_1 : cX19_address.data.toList.drop 24 = dktX19_address_1 := dk_seg dksX19_address_0 24 rfl rfl
theorem dX19_address_0 : decode cX19_address 0 = .ok (.aload_n 0, 1) := dk_42 (dk_at dksX19_address_0 0 rfl rfl)
theorem dX19_address_1 : decode cX19_address 1 = .ok (.getfield 82, 3) := dk_180 0 82 (dk_at dksX19_address_0 1 rfl rfl)
theorem dX19_address_4 : decode cX19_address 4 = .ok (.aload_n 0, 1) := dk_42 (dk_at dksX19_address_0 4 rfl rfl)
theorem dX19_address_5 : decode cX19_address 5 = .ok (.getfield 54, 3) := dk_180 0 54 (dk_at dksX19_address_0 5 rfl rfl)
theorem dX19_address_8 : decode cX19_address 8 = .ok (.iload_n 1, 1) := dk_27 (dk_at dksX19_address_0 8 rfl rfl)
theorem dX19_address_9 : decode cX19_address 9 = .ok (.aload_n 0, 1) := dk_42 (dk_at dksX19_address_0 9 rfl rfl)
theorem dX19_address_10 : decode cX19_address 10 = .ok (.getfield 66, 3) := dk_180 0 66 (dk_at dksX19_address_0 10 rfl rfl)
theorem dX19_address_13 : decode cX19_address 13 = .ok (.getfield 470, 3) := dk_180 1 214 (dk_at dksX19_address_0 13 rfl rfl)
theorem dX19_address_16 : decode cX19_address 16 = .ok (.aload_n 0, 1) := dk_42 (dk_at dksX19_address_0 16 rfl rfl)
theorem dX19_address_17 : decode cX19_address 17 = .ok (.getfield 66, 3) := dk_180 0 66 (dk_at dksX19_address_0 17 rfl rfl)
theorem dX19_address_20 : decode cX19_address 20 = .ok (.getfield 472, 3) := dk_180 1 216 (dk_at dksX19_address_0 20 rfl rfl)
theorem dX19_address_23 : decode cX19_address 23 = .ok (.iload_n 2, 1) := dk_28 (dk_at dksX19_address_0 23 rfl rfl)
theorem dX19_address_24 : decode cX19_address 24 = .ok (.iaload, 1) := dk_46 (dk_at dksX19_address_1 0 rfl rfl)
theorem dX19_address_25 : decode cX19_address 25 = .ok (.iload_n 2, 1) := dk_28 (dk_at dksX19_address_1 1 rfl rfl)
theorem dX19_address_26 : decode cX19_address 26 = .ok (.ifCond .ne 7, 3) := dk_154 0 7 (dk_at dksX19_address_1 2 rfl rfl)
theorem dX19_address_29 : decode cX19_address 29 = .ok (.iconst 0, 1) := dk_3 (dk_at dksX19_address_1 5 rfl rfl)
theorem dX19_address_30 : decode cX19_address 30 = .ok (.goto 11, 3) := dk_167 0 11 (dk_at dksX19_address_1 6 rfl rfl)
theorem dX19_address_33 : decode cX19_address 33 = .ok (.aload_n 0, 1) := dk_42 (dk_at dksX19_address_1 9 rfl rfl)
theorem dX19_address_34 : decode cX19_address 34 = .ok (.getfield 66, 3) := dk_180 0 66 (dk_at dksX19_address_1 10 rfl rfl)
theorem dX19_address_37 : decode cX19_address 37 = .ok (.iload_n 2, 1) := dk_28 (dk_at dksX19_address_1 13 rfl rfl)
theorem dX19_address_38 : decode cX19_address 38 = .ok (.invokevirtual 475, 3) := dk_182 1 219 (dk_at dksX19_address_1 14 rfl rfl)
theorem dX19_address_41 : decode cX19_address 41 = .ok (.invokevirtual 476, 3) := dk_182 1 220 (dk_at dksX19_address_1 17 rfl rfl)
theorem dX19_address_44 : decode cX19_address 44 = .ok (.ireturn, 1) := dk_172 (dk_at dksX19_address_1 20 rfl rfl)
abbrev cX19_contract : ByteArray := prog_9_method_47_code
def yX19_contract : MethodName := ⟨RX19, "contract", "(III)I"⟩
def dkwX19_contract_9 : List UInt8 := [167, 0, 5, 16, 8, 172]
abbrev dktX19_contract_9 : List UInt8 := dkwX19_contract_9 ++ []
def dkwX19_contract_8 : List UInt8 := [160, 0, 25, 42, 180, 0, 54, 7, 42, 180, 0, 54, 21, 4, 21, 6, 182, 1, 203, 182, 0, 156]
abbrev dktX19_contract_8 : List UInt8 := dkwX19_contract_8 ++ dktX19_contract_9
def dkwX19_contract_7 : List UInt8 := [46, 21, 6, 182, 1, 244, 54, 7, 21, 7, 155, 0, 39, 42, 180, 0, 62, 180, 1, 247, 21, 7, 46, 28]
abbrev dktX19_contract_7 : List UInt8 := dkwX19_contract_7 ++ dktX19_contract_8
def dkwX19_contract_6 : List UInt8 := [153, 0, 11, 29, 155, 0, 7, 2, 167, 0, 22, 42, 180, 0, 62, 42, 180, 0, 86, 180, 1, 242, 21, 4]
abbrev dktX19_contract_6 : List UInt8 := dkwX19_contract_6 ++ dktX19_contract_7
def dkwX19_contract_5 : List UInt8 := [182, 1, 240, 167, 0, 12, 29, 156, 0, 7, 3, 167, 0, 4, 29, 54, 6, 21, 6, 155, 0, 12, 21, 5]
abbrev dktX19_contract_5 : List UInt8 := dkwX19_contract_5 ++ dktX19_contract_6
def dkwX19_contract_4 : List UInt8 := [42, 180, 0, 82, 182, 1, 236, 42, 180, 0, 82, 180, 1, 233, 42, 180, 0, 54, 27, 182, 1, 132]
abbrev dktX19_contract_4 : List UInt8 := dkwX19_contract_4 ++ dktX19_contract_5
def dkwX19_contract_3 : List UInt8 := [21, 4, 3, 182, 1, 203, 182, 0, 156, 167, 0, 5, 16, 8, 172, 21, 5, 153, 0, 35, 42, 180, 0, 66]
abbrev dktX19_contract_3 : List UInt8 := dkwX19_contract_3 ++ dktX19_contract_4
def dkwX19_contract_2 : List UInt8 := [21, 4, 16, 100, 162, 0, 35, 29, 156, 0, 28, 28, 154, 0, 24, 42, 180, 0, 54, 7, 42, 180, 0, 54]
abbrev dktX19_contract_2 : List UInt8 := dkwX19_contract_2 ++ dktX19_contract_3
def dkwX19_contract_1 : List UInt8 := [154, 0, 6, 16, 8, 172, 42, 180, 0, 82, 180, 1, 233, 158, 0, 7, 4, 167, 0, 4, 3, 54, 5]
abbrev dktX19_contract_1 : List UInt8 := dkwX19_contract_1 ++ dktX19_contract_2
def dkwX19_contract_0 : List UInt8 := [42, 180, 0, 82, 42, 180, 0, 54, 27, 182, 1, 226, 54, 4, 42, 180, 0, 86, 180, 1, 229, 21, 4, 51]
abbrev dktX19_contract_0 : List UInt8 := dkwX19_contract_0 ++ dktX19_contract_1
theorem dksX19_contract_0 : cX19_contract.data.toList.drop 0 = dktX19_contract_0 := by decide +kernel
theorem dksX19_contract_1 : cX19_contract.data.toList.drop 24 = dktX19_contract_1 := dk_seg dksX19_contract_0 24 rfl rfl
theorem dksX19_contract_2 : cX19_contract.data.toList.drop 47 = dktX19_contract_2 := dk_seg dksX19_contract_1 23 rfl rfl
theorem dksX19_contract_3 : cX19_contract.data.toList.drop 71 = dktX19_contract_3 := dk_seg dksX19_contract_2 24 rfl rfl
theorem dksX19_contract_4 : cX19_contract.data.toList.drop 95 = dktX19_contract_4 := dk_seg dksX19_contract_3 24 rfl rfl
theorem dksX19_contract_5 : cX19_contract.data.toList.drop 117 = dktX19_contract_5 := dk_seg dksX19_contract_4 22 rfl rfl
theorem dksX19_contract_6 : cX19_contract.data.toList.drop 141 = dktX19_contract_6 := dk_seg dksX19_contract_5 24 rfl rfl
theorem dksX19_contract_7 : cX19_contract.data.toList.drop 165 = dktX19_contract_7 := dk_seg dksX19_contract_6 24 rfl rfl
theorem dksX19_contract_8 : cX19_contract.data.toList.drop 189 = dktX19_contract_8 := dk_seg dksX19_contract_7 24 rfl rfl
theorem dksX19_contract_9 : cX19_contract.data.toList.drop 211 = dktX19_contract_9 := dk_seg dksX19_contract_8 22 rfl rfl
theorem dX19_contract_0 : decode cX19_contract 0 = .ok (.aload_n 0, 1) := dk_42 (dk_at dksX19_contract_0 0 rfl rfl)
theorem dX19_contract_1 : decode cX19_contract 1 = .ok (.getfield 82, 3) := dk_180 0 82 (dk_at dksX19_contract_0 1 rfl rfl)
theorem dX19_contract_4 : decode cX19_contract 4 = .ok (.aload_n 0, 1) := dk_42 (dk_at dksX19_contract_0 4 rfl rfl)
theorem dX19_contract_5 : decode cX19_contract 5 = .ok (.getfield 54, 3) := dk_180 0 54 (dk_at dksX19_contract_0 5 rfl rfl)
theorem dX19_contract_8 : decode cX19_contract 8 = .ok (.iload_n 1, 1) := dk_27 (dk_at dksX19_contract_0 8 rfl rfl)
theorem dX19_contract_9 : decode cX19_contract 9 = .ok (.invokevirtual 482, 3) := dk_182 1 226 (dk_at dksX19_contract_0 9 rfl rfl)
theorem dX19_contract_12 : decode cX19_contract 12 = .ok (.istore 4, 2) := dk_54 4 (dk_at dksX19_contract_0 12 rfl rfl)
theorem dX19_contract_14 : decode cX19_contract 14 = .ok (.aload_n 0, 1) := dk_42 (dk_at dksX19_contract_0 14 rfl rfl)
theorem dX19_contract_15 : decode cX19_contract 15 = .ok (.getfield 86, 3) := dk_180 0 86 (dk_at dksX19_contract_0 15 rfl rfl)
theorem dX19_contract_18 : decode cX19_contract 18 = .ok (.getfield 485, 3) := dk_180 1 229 (dk_at dksX19_contract_0 18 rfl rfl)
theorem dX19_contract_21 : decode cX19_contract 21 = .ok (.iload 4, 2) := dk_21 4 (dk_at dksX19_contract_0 21 rfl rfl)
theorem dX19_contract_23 : decode cX19_contract 23 = .ok (.baload, 1) := dk_51 (dk_at dksX19_contract_0 23 rfl rfl)
theorem dX19_contract_24 : decode cX19_contract 24 = .ok (.ifCond .ne 6, 3) := dk_154 0 6 (dk_at dksX19_contract_1 0 rfl rfl)
theorem dX19_contract_27 : decode cX19_contract 27 = .ok (.bipush 8, 2) := dk_16 8 (dk_at dksX19_contract_1 3 rfl rfl)
theorem dX19_contract_29 : decode cX19_contract 29 = .ok (.ireturn, 1) := dk_172 (dk_at dksX19_contract_1 5 rfl rfl)
theorem dX19_contract_30 : decode cX19_contract 30 = .ok (.aload_n 0, 1) := dk_42 (dk_at dksX19_contract_1 6 rfl rfl)
theorem dX19_contract_31 : decode cX19_contract 31 = .ok (.getfield 82, 3) := dk_180 0 82 (dk_at dksX19_contract_1 7 rfl rfl)
theorem dX19_contract_34 : decode cX19_contract 34 = .ok (.getfield 489, 3) := dk_180 1 233 (dk_at dksX19_contract_1 10 rfl rfl)
theorem dX19_contract_37 : decode cX19_contract 37 = .ok (.ifCond .le 7, 3) := dk_158 0 7 (dk_at dksX19_contract_1 13 rfl rfl)
theorem dX19_contract_40 : decode cX19_contract 40 = .ok (.iconst 1, 1) := dk_4 (dk_at dksX19_contract_1 16 rfl rfl)
theorem dX19_contract_41 : decode cX19_contract 41 = .ok (.goto 4, 3) := dk_167 0 4 (dk_at dksX19_contract_1 17 rfl rfl)
theorem dX19_contract_44 : decode cX19_contract 44 = .ok (.iconst 0, 1) := dk_3 (dk_at dksX19_contract_1 20 rfl rfl)
theorem dX19_contract_45 : decode cX19_contract 45 = .ok (.istore 5, 2) := dk_54 5 (dk_at dksX19_contract_1 21 rfl rfl)
theorem dX19_contract_47 : decode cX19_contract 47 = .ok (.iload 4, 2) := dk_21 4 (dk_at dksX19_contract_2 0 rfl rfl)
theorem dX19_contract_49 : decode cX19_contract 49 = .ok (.bipush 100, 2) := dk_16 100 (dk_at dksX19_contract_2 2 rfl rfl)
theorem dX19_contract_51 : decode cX19_contract 51 = .ok (.if_icmp .ge 35, 3) := dk_162 0 35 (dk_at dksX19_contract_2 4 rfl rfl)
theorem dX19_contract_54 : decode cX19_contract 54 = .ok (.iload_n 3, 1) := dk_29 (dk_at dksX19_contract_2 7 rfl rfl)
theorem dX19_contract_55 : decode cX19_contract 55 = .ok (.ifCond .ge 28, 3) := dk_156 0 28 (dk_at dksX19_contract_2 8 rfl rfl)
theorem dX19_contract_58 : decode cX19_contract 58 = .ok (.iload_n 2, 1) := dk_28 (dk_at dksX19_contract_2 11 rfl rfl)
theorem dX19_contract_59 : decode cX19_contract 59 = .ok (.ifCond .ne 24, 3) := dk_154 0 24 (dk_at dksX19_contract_2 12 rfl rfl)
theorem dX19_contract_62 : decode cX19_contract 62 = .ok (.aload_n 0, 1) := dk_42 (dk_at dksX19_contract_2 15 rfl rfl)
theorem dX19_contract_63 : decode cX19_contract 63 = .ok (.getfield 54, 3) := dk_180 0 54 (dk_at dksX19_contract_2 16 rfl rfl)
theorem dX19_contract_66 : decode cX19_contract 66 = .ok (.iconst 4, 1) := dk_7 (dk_at dksX19_contract_2 19 rfl rfl)
theorem dX19_contract_67 : decode cX19_contract 67 = .ok (.aload_n 0, 1) := dk_42 (dk_at dksX19_contract_2 20 rfl rfl)
theorem dX19_contract_68 : decode cX19_contract 68 = .ok (.getfield 54, 3) := dk_180 0 54 (dk_at dksX19_contract_2 21 rfl rfl)
theorem dX19_contract_71 : decode cX19_contract 71 = .ok (.iload 4, 2) := dk_21 4 (dk_at dksX19_contract_3 0 rfl rfl)
theorem dX19_contract_73 : decode cX19_contract 73 = .ok (.iconst 0, 1) := dk_3 (dk_at dksX19_contract_3 2 rfl rfl)
theorem dX19_contract_74 : decode cX19_contract 74 = .ok (.invokevirtual 459, 3) := dk_182 1 203 (dk_at dksX19_contract_3 3 rfl rfl)
theorem dX19_contract_77 : decode cX19_contract 77 = .ok (.invokevirtual 156, 3) := dk_182 0 156 (dk_at dksX19_contract_3 6 rfl rfl)
theorem dX19_contract_80 : decode cX19_contract 80 = .ok (.goto 5, 3) := dk_167 0 5 (dk_at dksX19_contract_3 9 rfl rfl)
theorem dX19_contract_83 : decode cX19_contract 83 = .ok (.bipush 8, 2) := dk_16 8 (dk_at dksX19_contract_3 12 rfl rfl)
theorem dX19_contract_85 : decode cX19_contract 85 = .ok (.ireturn, 1) := dk_172 (dk_at dksX19_contract_3 14 rfl rfl)
theorem dX19_contract_86 : decode cX19_contract 86 = .ok (.iload 5, 2) := dk_21 5 (dk_at dksX19_contract_3 15 rfl rfl)
theorem dX19_contract_88 : decode cX19_contract 88 = .ok (.ifCond .eq 35, 3) := dk_153 0 35 (dk_at dksX19_contract_3 17 rfl rfl)
theorem dX19_contract_91 : decode cX19_contract 91 = .ok (.aload_n 0, 1) := dk_42 (dk_at dksX19_contract_3 20 rfl rfl)
theorem dX19_contract_92 : decode cX19_contract 92 = .ok (.getfield 66, 3) := dk_180 0 66 (dk_at dksX19_contract_3 21 rfl rfl)
theorem dX19_contract_95 : decode cX19_contract 95 = .ok (.aload_n 0, 1) := dk_42 (dk_at dksX19_contract_4 0 rfl rfl)
theorem dX19_contract_96 : decode cX19_contract 96 = .ok (.getfield 82, 3) := dk_180 0 82 (dk_at dksX19_contract_4 1 rfl rfl)
theorem dX19_contract_99 : decode cX19_contract 99 = .ok (.invokevirtual 492, 3) := dk_182 1 236 (dk_at dksX19_contract_4 4 rfl rfl)
theorem dX19_contract_102 : decode cX19_contract 102 = .ok (.aload_n 0, 1) := dk_42 (dk_at dksX19_contract_4 7 rfl rfl)
theorem dX19_contract_103 : decode cX19_contract 103 = .ok (.getfield 82, 3) := dk_180 0 82 (dk_at dksX19_contract_4 8 rfl rfl)
theorem dX19_contract_106 : decode cX19_contract 106 = .ok (.getfield 489, 3) := dk_180 1 233 (dk_at dksX19_contract_4 11 rfl rfl)
theorem dX19_contract_109 : decode cX19_contract 109 = .ok (.aload_n 0, 1) := dk_42 (dk_at dksX19_contract_4 14 rfl rfl)
theorem dX19_contract_110 : decode cX19_contract 110 = .ok (.getfield 54, 3) := dk_180 0 54 (dk_at dksX19_contract_4 15 rfl rfl)
theorem dX19_contract_113 : decode cX19_contract 113 = .ok (.iload_n 1, 1) := dk_27 (dk_at dksX19_contract_4 18 rfl rfl)
theorem dX19_contract_114 : decode cX19_contract 114 = .ok (.invokevirtual 388, 3) := dk_182 1 132 (dk_at dksX19_contract_4 19 rfl rfl)
theorem dX19_contract_117 : decode cX19_contract 117 = .ok (.invokevirtual 496, 3) := dk_182 1 240 (dk_at dksX19_contract_5 0 rfl rfl)
theorem dX19_contract_120 : decode cX19_contract 120 = .ok (.goto 12, 3) := dk_167 0 12 (dk_at dksX19_contract_5 3 rfl rfl)
theorem dX19_contract_123 : decode cX19_contract 123 = .ok (.iload_n 3, 1) := dk_29 (dk_at dksX19_contract_5 6 rfl rfl)
theorem dX19_contract_124 : decode cX19_contract 124 = .ok (.ifCond .ge 7, 3) := dk_156 0 7 (dk_at dksX19_contract_5 7 rfl rfl)
theorem dX19_contract_127 : decode cX19_contract 127 = .ok (.iconst 0, 1) := dk_3 (dk_at dksX19_contract_5 10 rfl rfl)
theorem dX19_contract_128 : decode cX19_contract 128 = .ok (.goto 4, 3) := dk_167 0 4 (dk_at dksX19_contract_5 11 rfl rfl)
theorem dX19_contract_131 : decode cX19_contract 131 = .ok (.iload_n 3, 1) := dk_29 (dk_at dksX19_contract_5 14 rfl rfl)
theorem dX19_contract_132 : decode cX19_contract 132 = .ok (.istore 6, 2) := dk_54 6 (dk_at dksX19_contract_5 15 rfl rfl)
theorem dX19_contract_134 : decode cX19_contract 134 = .ok (.iload 6, 2) := dk_21 6 (dk_at dksX19_contract_5 17 rfl rfl)
theorem dX19_contract_136 : decode cX19_contract 136 = .ok (.ifCond .lt 12, 3) := dk_155 0 12 (dk_at dksX19_contract_5 19 rfl rfl)
theorem dX19_contract_139 : decode cX19_contract 139 = .ok (.iload 5, 2) := dk_21 5 (dk_at dksX19_contract_5 22 rfl rfl)
theorem dX19_contract_141 : decode cX19_contract 141 = .ok (.ifCond .eq 11, 3) := dk_153 0 11 (dk_at dksX19_contract_6 0 rfl rfl)
theorem dX19_contract_144 : decode cX19_contract 144 = .ok (.iload_n 3, 1) := dk_29 (dk_at dksX19_contract_6 3 rfl rfl)
theorem dX19_contract_145 : decode cX19_contract 145 = .ok (.ifCond .lt 7, 3) := dk_155 0 7 (dk_at dksX19_contract_6 4 rfl rfl)
theorem dX19_contract_148 : decode cX19_contract 148 = .ok (.iconst (-1), 1) := dk_2 (dk_at dksX19_contract_6 7 rfl rfl)
theorem dX19_contract_149 : decode cX19_contract 149 = .ok (.goto 22, 3) := dk_167 0 22 (dk_at dksX19_contract_6 8 rfl rfl)
theorem dX19_contract_152 : decode cX19_contract 152 = .ok (.aload_n 0, 1) := dk_42 (dk_at dksX19_contract_6 11 rfl rfl)
theorem dX19_contract_153 : decode cX19_contract 153 = .ok (.getfield 62, 3) := dk_180 0 62 (dk_at dksX19_contract_6 12 rfl rfl)
theorem dX19_contract_156 : decode cX19_contract 156 = .ok (.aload_n 0, 1) := dk_42 (dk_at dksX19_contract_6 15 rfl rfl)
theorem dX19_contract_157 : decode cX19_contract 157 = .ok (.getfield 86, 3) := dk_180 0 86 (dk_at dksX19_contract_6 16 rfl rfl)
theorem dX19_contract_160 : decode cX19_contract 160 = .ok (.getfield 498, 3) := dk_180 1 242 (dk_at dksX19_contract_6 19 rfl rfl)
theorem dX19_contract_163 : decode cX19_contract 163 = .ok (.iload 4, 2) := dk_21 4 (dk_at dksX19_contract_6 22 rfl rfl)
theorem dX19_contract_165 : decode cX19_contract 165 = .ok (.iaload, 1) := dk_46 (dk_at dksX19_contract_7 0 rfl rfl)
theorem dX19_contract_166 : decode cX19_contract 166 = .ok (.iload 6, 2) := dk_21 6 (dk_at dksX19_contract_7 1 rfl rfl)
theorem dX19_contract_168 : decode cX19_contract 168 = .ok (.invokevirtual 500, 3) := dk_182 1 244 (dk_at dksX19_contract_7 3 rfl rfl)
theorem dX19_contract_171 : decode cX19_contract 171 = .ok (.istore 7, 2) := dk_54 7 (dk_at dksX19_contract_7 6 rfl rfl)
theorem dX19_contract_173 : decode cX19_contract 173 = .ok (.iload 7, 2) := dk_21 7 (dk_at dksX19_contract_7 8 rfl rfl)
theorem dX19_contract_175 : decode cX19_contract 175 = .ok (.ifCond .lt 39, 3) := dk_155 0 39 (dk_at dksX19_contract_7 10 rfl rfl)
theorem dX19_contract_178 : decode cX19_contract 178 = .ok (.aload_n 0, 1) := dk_42 (dk_at dksX19_contract_7 13 rfl rfl)
theorem dX19_contract_179 : decode cX19_contract 179 = .ok (.getfield 62, 3) := dk_180 0 62 (dk_at dksX19_contract_7 14 rfl rfl)
theorem dX19_contract_182 : decode cX19_contract 182 = .ok (.getfield 503, 3) := dk_180 1 247 (dk_at dksX19_contract_7 17 rfl rfl)
theorem dX19_contract_185 : decode cX19_contract 185 = .ok (.iload 7, 2) := dk_21 7 (dk_at dksX19_contract_7 20 rfl rfl)
theorem dX19_contract_187 : decode cX19_contract 187 = .ok (.iaload, 1) := dk_46 (dk_at dksX19_contract_7 22 rfl rfl)
theorem dX19_contract_188 : decode cX19_contract 188 = .ok (.iload_n 2, 1) := dk_28 (dk_at dksX19_contract_7 23 rfl rfl)
theorem dX19_contract_189 : decode cX19_contract 189 = .ok (.if_icmp .ne 25, 3) := dk_160 0 25 (dk_at dksX19_contract_8 0 rfl rfl)
theorem dX19_contract_192 : decode cX19_contract 192 = .ok (.aload_n 0, 1) := dk_42 (dk_at dksX19_contract_8 3 rfl rfl)
theorem dX19_contract_193 : decode cX19_contract 193 = .ok (.getfield 54, 3) := dk_180 0 54 (dk_at dksX19_contract_8 4 rfl rfl)
theorem dX19_contract_196 : decode cX19_contract 196 = .ok (.iconst 4, 1) := dk_7 (dk_at dksX19_contract_8 7 rfl rfl)
theorem dX19_contract_197 : decode cX19_contract 197 = .ok (.aload_n 0, 1) := dk_42 (dk_at dksX19_contract_8 8 rfl rfl)
theorem dX19_contract_198 : decode cX19_contract 198 = .ok (.getfield 54, 3) := dk_180 0 54 (dk_at dksX19_contract_8 9 rfl rfl)
theorem dX19_contract_201 : decode cX19_contract 201 = .ok (.iload 4, 2) := dk_21 4 (dk_at dksX19_contract_8 12 rfl rfl)
theorem dX19_contract_203 : decode cX19_contract 203 = .ok (.iload 6, 2) := dk_21 6 (dk_at dksX19_contract_8 14 rfl rfl)
theorem dX19_contract_205 : decode cX19_contract 205 = .ok (.invokevirtual 459, 3) := dk_182 1 203 (dk_at dksX19_contract_8 16 rfl rfl)
theorem dX19_contract_208 : decode cX19_contract 208 = .ok (.invokevirtual 156, 3) := dk_182 0 156 (dk_at dksX19_contract_8 19 rfl rfl)
theorem dX19_contract_211 : decode cX19_contract 211 = .ok (.goto 5, 3) := dk_167 0 5 (dk_at dksX19_contract_9 0 rfl rfl)
theorem dX19_contract_214 : decode cX19_contract 214 = .ok (.bipush 8, 2) := dk_16 8 (dk_at dksX19_contract_9 3 rfl rfl)
theorem dX19_contract_216 : decode cX19_contract 216 = .ok (.ireturn, 1) := dk_172 (dk_at dksX19_contract_9 5 rfl rfl)
theorem q386 : (Jvm.Cond.initialized "ContractLedger$Machine") ∈ lw_all := lw_g (lw_at lw_m1 29 rfl) rfl
theorem q642 : (Jvm.Cond.fieldLink "ContractLedger$Machine" (304 : Nat) "ContractLedger$Whole" "negative" "Z") ∈ lw_all := lw_g (lw_at lw_m2 45 rfl) rfl
theorem q872 : (Jvm.Cond.fieldLink "ContractLedger$Machine" (489 : Nat) "ContractLedger$Addresses" "mark" "I") ∈ lw_all := lw_g (lw_at lw_m3 35 rfl) rfl
theorem q1001 : (Jvm.Cond.fieldLink "ContractLedger$Machine" (470 : Nat) "ContractLedger$Names" "bytes" "[B") ∈ lw_all := lw_g (lw_at lw_m3 164 rfl) rfl
theorem q1003 : (Jvm.Cond.fieldLink "ContractLedger$Machine" (472 : Nat) "ContractLedger$Names" "starts" "[I") ∈ lw_all := lw_g (lw_at lw_m3 166 rfl) rfl
theorem q1045 : (Jvm.Cond.fieldLink "ContractLedger$Machine" (503 : Nat) "ContractLedger$Scripts" "types" "[I") ∈ lw_all := lw_g (lw_at lw_m3 208 rfl) rfl
theorem q1056 : (Jvm.Cond.fieldLink "ContractLedger$Machine" (114 : Nat) "ContractLedger$Scripts" "code" "[I") ∈ lw_all := lw_g (lw_at lw_m3 219 rfl) rfl
theorem q1165 : (Jvm.Cond.fieldLink "ContractLedger$Machine" (485 : Nat) "ContractLedger$World" "exists" "[Z") ∈ lw_all := lw_g (lw_at lw_m4 88 rfl) rfl
theorem q1169 : (Jvm.Cond.fieldLink "ContractLedger$Machine" (498 : Nat) "ContractLedger$World" "scripts" "[I") ∈ lw_all := lw_g (lw_at lw_m4 92 rfl) rfl
theorem q1182 : (Jvm.Cond.fieldLink "ContractLedger$Machine" (467 : Nat) "ContractLedger$World" "next" "I") ∈ lw_all := lw_g (lw_at lw_m4 105 rfl) rfl
theorem q1192 : (Jvm.Cond.fieldLink "ContractLedger$Machine" (451 : Nat) "ContractLedger$World" "time" "J") ∈ lw_all := lw_g (lw_at lw_m4 115 rfl) rfl
theorem q1194 : (Jvm.Cond.fieldLink "ContractLedger$Machine" (456 : Nat) "ContractLedger$World" "level" "I") ∈ lw_all := lw_g (lw_at lw_m4 117 rfl) rfl
theorem q1266 : (Jvm.Cond.instantiable "ContractLedger$Machine" (32 : Nat)) ∈ lw_all := lw_g (lw_at lw_m4 189 rfl) rfl
theorem q1268 : (Jvm.Cond.instanceMethod ({ cls := "ContractLedger$Machine", name := "<init>", desc := "(LContractLedger$Memory;LContractLedger$Types;LContractLedger$Scripts;LContractLedger$Names;LContractLedger$Order;LContractLedger$Trees;LContractLedger$Forms;LContractLedger$Addresses;LContractLedger$World;LContractLedger$Failing;LContractLedger$Gas;)V" } : Jvm.MethodName)) ∈ lw_all := lw_g (lw_at lw_m4 191 rfl) rfl
theorem q1269 : (Jvm.Cond.code ({ cls := "ContractLedger$Machine", name := "<init>", desc := "(LContractLedger$Memory;LContractLedger$Types;LContractLedger$Scripts;LContractLedger$Names;LContractLedger$Order;LContractLedger$Trees;LContractLedger$Forms;LContractLedger$Addresses;LContractLedger$World;LContractLedger$Failing;LContractLedger$Gas;)V" } : Jvm.MethodName) prog_9_method_1_code (12 : Nat) (Option.none : Option Jvm.ClassFile.FieldType)) ∈ lw_all := lw_g (lw_at lw_m4 192 rfl) rfl
theorem q1270 : (Jvm.Cond.methodLink "ContractLedger$Machine" (3 : Nat) ({ cls := "java/lang/Object", name := "<init>", desc := "()V" } : Jvm.MethodName)) ∈ lw_all := lw_g (lw_at lw_m4 193 rfl) rfl
theorem q1271 : (Jvm.Cond.classLink "ContractLedger$Machine" (9 : Nat) "ContractLedger$Reckoner") ∈ lw_all := lw_g (lw_at lw_m4 194 rfl) rfl
theorem q1273 : (Jvm.Cond.methodLinkNest "ContractLedger$Machine" (11 : Nat) ({ cls := "ContractLedger$Reckoner", name := "<init>", desc := "()V" } : Jvm.MethodName) "ContractLedger") ∈ lw_tbl := lw_at lw_m4 196 rfl
theorem q1289 : (Jvm.Cond.classLink "ContractLedger$Machine" (18 : Nat) "ContractLedger$Whole") ∈ lw_all := lw_g (lw_at lw_m4 212 rfl) rfl
theorem q1290 : (Jvm.Cond.methodLink "ContractLedger$Machine" (20 : Nat) ({ cls := "ContractLedger$Whole", name := "<init>", desc := "(I)V" } : Jvm.MethodName)) ∈ lw_all := lw_g (lw_at lw_m4 213 rfl) rfl
theorem q1291 : (Jvm.Cond.constant "ContractLedger$Machine" (43 : Nat) (90000 : Int32)) ∈ lw_all := lw_g (lw_at lw_m4 214 rfl) rfl
theorem q1292 : (Jvm.Cond.fieldLink "ContractLedger$Machine" (54 : Nat) "ContractLedger$Machine" "memory" "LContractLedger$Memory;") ∈ lw_all := lw_g (lw_at lw_m4 215 rfl) rfl
theorem q1293 : (Jvm.Cond.fieldLink "ContractLedger$Machine" (58 : Nat) "ContractLedger$Machine" "types" "LContractLedger$Types;") ∈ lw_all := lw_g (lw_at lw_m4 216 rfl) rfl
theorem q1294 : (Jvm.Cond.fieldLink "ContractLedger$Machine" (62 : Nat) "ContractLedger$Machine" "scripts" "LContractLedger$Scripts;") ∈ lw_all := lw_g (lw_at lw_m4 217 rfl) rfl
theorem q1295 : (Jvm.Cond.fieldLink "ContractLedger$Machine" (66 : Nat) "ContractLedger$Machine" "names" "LContractLedger$Names;") ∈ lw_all := lw_g (lw_at lw_m4 218 rfl) rfl
theorem q1296 : (Jvm.Cond.fieldLink "ContractLedger$Machine" (70 : Nat) "ContractLedger$Machine" "order" "LContractLedger$Order;") ∈ lw_all := lw_g (lw_at lw_m4 219 rfl) rfl
theorem q1297 : (Jvm.Cond.fieldLink "ContractLedger$Machine" (74 : Nat) "ContractLedger$Machine" "trees" "LContractLedger$Trees;") ∈ lw_all := lw_g (lw_at lw_m4 220 rfl) rfl
theorem q1298 : (Jvm.Cond.fieldLink "ContractLedger$Machine" (78 : Nat) "ContractLedger$Machine" "forms" "LContractLedger$Forms;") ∈ lw_all := lw_g (lw_at lw_m4 221 rfl) rfl
theorem q1299 : (Jvm.Cond.fieldLink "ContractLedger$Machine" (82 : Nat) "ContractLedger$Machine" "addresses" "LContractLedger$Addresses;") ∈ lw_all := lw_g (lw_at lw_m4 222 rfl) rfl
theorem q1300 : (Jvm.Cond.fieldLink "ContractLedger$Machine" (86 : Nat) "ContractLedger$Machine" "world" "LContractLedger$World;") ∈ lw_all := lw_g (lw_at lw_m4 223 rfl) rfl
theorem q1301 : (Jvm.Cond.fieldLink "ContractLedger$Machine" (90 : Nat) "ContractLedger$Machine" "failing" "LContractLedger$Failing;") ∈ lw_all := lw_g (lw_at lw_m4 224 rfl) rfl
theorem q1302 : (Jvm.Cond.fieldLink "ContractLedger$Machine" (94 : Nat) "ContractLedger$Machine" "gas" "LContractLedger$Gas;") ∈ lw_all := lw_g (lw_at lw_m4 225 rfl) rfl
theorem q1303 : (Jvm.Cond.fieldLink "ContractLedger$Machine" (12 : Nat) "ContractLedger$Machine" "reckoner" "LContractLedger$Reckoner;") ∈ lw_all := lw_g (lw_at lw_m4 226 rfl) rfl
theorem q1304 : (Jvm.Cond.fieldLink "ContractLedger$Machine" (23 : Nat) "ContractLedger$Machine" "left" "LContractLedger$Whole;") ∈ lw_all := lw_g (lw_at lw_m4 227 rfl) rfl
theorem q1305 : (Jvm.Cond.fieldLink "ContractLedger$Machine" (27 : Nat) "ContractLedger$Machine" "right" "LContractLedger$Whole;") ∈ lw_all := lw_g (lw_at lw_m4 228 rfl) rfl
theorem q1306 : (Jvm.Cond.fieldLink "ContractLedger$Machine" (30 : Nat) "ContractLedger$Machine" "made" "LContractLedger$Whole;") ∈ lw_all := lw_g (lw_at lw_m4 229 rfl) rfl
theorem q1307 : (Jvm.Cond.fieldLink "ContractLedger$Machine" (33 : Nat) "ContractLedger$Machine" "rest" "LContractLedger$Whole;") ∈ lw_all := lw_g (lw_at lw_m4 230 rfl) rfl
theorem q1308 : (Jvm.Cond.fieldLink "ContractLedger$Machine" (36 : Nat) "ContractLedger$Machine" "values" "[I") ∈ lw_all := lw_g (lw_at lw_m4 231 rfl) rfl
theorem q1309 : (Jvm.Cond.fieldLink "ContractLedger$Machine" (98 : Nat) "ContractLedger$Machine" "top" "I") ∈ lw_all := lw_g (lw_at lw_m4 232 rfl) rfl
theorem q1310 : (Jvm.Cond.fieldLink "ContractLedger$Machine" (40 : Nat) "ContractLedger$Machine" "aside" "[I") ∈ lw_all := lw_g (lw_at lw_m4 233 rfl) rfl
theorem q1311 : (Jvm.Cond.fieldLink "ContractLedger$Machine" (119 : Nat) "ContractLedger$Machine" "asideTop" "I") ∈ lw_all := lw_g (lw_at lw_m4 234 rfl) rfl
theorem q1312 : (Jvm.Cond.fieldLink "ContractLedger$Machine" (44 : Nat) "ContractLedger$Machine" "frames" "[I") ∈ lw_all := lw_g (lw_at lw_m4 235 rfl) rfl
theorem q1313 : (Jvm.Cond.fieldLink "ContractLedger$Machine" (111 : Nat) "ContractLedger$Machine" "frameTop" "I") ∈ lw_all := lw_g (lw_at lw_m4 236 rfl) rfl
theorem q1314 : (Jvm.Cond.fieldLink "ContractLedger$Machine" (125 : Nat) "ContractLedger$Machine" "pc" "I") ∈ lw_all := lw_g (lw_at lw_m4 237 rfl) rfl
theorem q1315 : (Jvm.Cond.fieldLink "ContractLedger$Machine" (47 : Nat) "ContractLedger$Machine" "packed" "[B") ∈ lw_all := lw_g (lw_at lw_m4 238 rfl) rfl
theorem q1316 : (Jvm.Cond.fieldLink "ContractLedger$Machine" (51 : Nat) "ContractLedger$Machine" "row" "[I") ∈ lw_all := lw_g (lw_at lw_m4 239 rfl) rfl
theorem q1318 : (Jvm.Cond.fieldLink "ContractLedger$Machine" (448 : Nat) "ContractLedger$Machine" "self" "I") ∈ lw_all := lw_g (lw_at lw_m5 1 rfl) rfl
theorem q1320 : (Jvm.Cond.fieldLink "ContractLedger$Machine" (437 : Nat) "ContractLedger$Machine" "sender" "I") ∈ lw_all := lw_g (lw_at lw_m5 3 rfl) rfl
theorem q1322 : (Jvm.Cond.fieldLink "ContractLedger$Machine" (445 : Nat) "ContractLedger$Machine" "source" "I") ∈ lw_all := lw_g (lw_at lw_m5 5 rfl) rfl
theorem q1324 : (Jvm.Cond.fieldLink "ContractLedger$Machine" (430 : Nat) "ContractLedger$Machine" "amount" "J") ∈ lw_all := lw_g (lw_at lw_m5 7 rfl) rfl
theorem q1326 : (Jvm.Cond.fieldLink "ContractLedger$Machine" (434 : Nat) "ContractLedger$Machine" "balance" "J") ∈ lw_all := lw_g (lw_at lw_m5 9 rfl) rfl
theorem q1328 : (Jvm.Cond.fieldLink "ContractLedger$Machine" (217 : Nat) "ContractLedger$Machine" "failed" "I") ∈ lw_all := lw_g (lw_at lw_m5 11 rfl) rfl
theorem q1330 : (Jvm.Cond.fieldLink "ContractLedger$Machine" (220 : Nat) "ContractLedger$Machine" "failedType" "I") ∈ lw_all := lw_g (lw_at lw_m5 13 rfl) rfl
theorem q1331 : (Jvm.Cond.laysFinal "ContractLedger$Machine" "ContractLedger$Machine" "memory" "LContractLedger$Memory;") ∈ lw_all := lw_g (lw_at lw_m5 14 rfl) rfl
theorem q1332 : (Jvm.Cond.soleField "ContractLedger$Machine" "memory") ∈ lw_all := lw_g (lw_at lw_m5 15 rfl) rfl
theorem q1333 : (Jvm.Cond.laysFinal "ContractLedger$Machine" "ContractLedger$Machine" "types" "LContractLedger$Types;") ∈ lw_all := lw_g (lw_at lw_m5 16 rfl) rfl
theorem q1334 : (Jvm.Cond.soleField "ContractLedger$Machine" "types") ∈ lw_all := lw_g (lw_at lw_m5 17 rfl) rfl
theorem q1335 : (Jvm.Cond.laysFinal "ContractLedger$Machine" "ContractLedger$Machine" "scripts" "LContractLedger$Scripts;") ∈ lw_all := lw_g (lw_at lw_m5 18 rfl) rfl
theorem q1336 : (Jvm.Cond.soleField "ContractLedger$Machine" "scripts") ∈ lw_all := lw_g (lw_at lw_m5 19 rfl) rfl
theorem q1337 : (Jvm.Cond.laysFinal "ContractLedger$Machine" "ContractLedger$Machine" "names" "LContractLedger$Names;") ∈ lw_all := lw_g (lw_at lw_m5 20 rfl) rfl
theorem q1338 : (Jvm.Cond.soleField "ContractLedger$Machine" "names") ∈ lw_all := lw_g (lw_at lw_m5 21 rfl) rfl
theorem q1339 : (Jvm.Cond.laysFinal "ContractLedger$Machine" "ContractLedger$Machine" "order" "LContractLedger$Order;") ∈ lw_all := lw_g (lw_at lw_m5 22 rfl) rfl
theorem q1340 : (Jvm.Cond.soleField "ContractLedger$Machine" "order") ∈ lw_all := lw_g (lw_at lw_m5 23 rfl) rfl
theorem q1341 : (Jvm.Cond.laysFinal "ContractLedger$Machine" "ContractLedger$Machine" "trees" "LContractLedger$Trees;") ∈ lw_all := lw_g (lw_at lw_m5 24 rfl) rfl
theorem q1342 : (Jvm.Cond.soleField "ContractLedger$Machine" "trees") ∈ lw_all := lw_g (lw_at lw_m5 25 rfl) rfl
theorem q1343 : (Jvm.Cond.laysFinal "ContractLedger$Machine" "ContractLedger$Machine" "forms" "LContractLedger$Forms;") ∈ lw_all := lw_g (lw_at lw_m5 26 rfl) rfl
theorem q1344 : (Jvm.Cond.soleField "ContractLedger$Machine" "forms") ∈ lw_all := lw_g (lw_at lw_m5 27 rfl) rfl
theorem q1345 : (Jvm.Cond.laysFinal "ContractLedger$Machine" "ContractLedger$Machine" "addresses" "LContractLedger$Addresses;") ∈ lw_all := lw_g (lw_at lw_m5 28 rfl) rfl
theorem q1346 : (Jvm.Cond.soleField "ContractLedger$Machine" "addresses") ∈ lw_all := lw_g (lw_at lw_m5 29 rfl) rfl
theorem q1347 : (Jvm.Cond.laysFinal "ContractLedger$Machine" "ContractLedger$Machine" "world" "LContractLedger$World;") ∈ lw_all := lw_g (lw_at lw_m5 30 rfl) rfl
theorem q1348 : (Jvm.Cond.soleField "ContractLedger$Machine" "world") ∈ lw_all := lw_g (lw_at lw_m5 31 rfl) rfl
theorem q1349 : (Jvm.Cond.laysFinal "ContractLedger$Machine" "ContractLedger$Machine" "failing" "LContractLedger$Failing;") ∈ lw_all := lw_g (lw_at lw_m5 32 rfl) rfl
theorem q1350 : (Jvm.Cond.soleField "ContractLedger$Machine" "failing") ∈ lw_all := lw_g (lw_at lw_m5 33 rfl) rfl
theorem q1351 : (Jvm.Cond.laysFinal "ContractLedger$Machine" "ContractLedger$Machine" "gas" "LContractLedger$Gas;") ∈ lw_all := lw_g (lw_at lw_m5 34 rfl) rfl
theorem q1352 : (Jvm.Cond.soleField "ContractLedger$Machine" "gas") ∈ lw_all := lw_g (lw_at lw_m5 35 rfl) rfl
theorem q1353 : (Jvm.Cond.laysFinal "ContractLedger$Machine" "ContractLedger$Machine" "reckoner" "LContractLedger$Reckoner;") ∈ lw_all := lw_g (lw_at lw_m5 36 rfl) rfl
theorem q1354 : (Jvm.Cond.soleField "ContractLedger$Machine" "reckoner") ∈ lw_all := lw_g (lw_at lw_m5 37 rfl) rfl
theorem q1355 : (Jvm.Cond.laysFinal "ContractLedger$Machine" "ContractLedger$Machine" "left" "LContractLedger$Whole;") ∈ lw_all := lw_g (lw_at lw_m5 38 rfl) rfl
theorem q1356 : (Jvm.Cond.soleField "ContractLedger$Machine" "left") ∈ lw_all := lw_g (lw_at lw_m5 39 rfl) rfl
theorem q1357 : (Jvm.Cond.laysFinal "ContractLedger$Machine" "ContractLedger$Machine" "right" "LContractLedger$Whole;") ∈ lw_all := lw_g (lw_at lw_m5 40 rfl) rfl
theorem q1358 : (Jvm.Cond.soleField "ContractLedger$Machine" "right") ∈ lw_all := lw_g (lw_at lw_m5 41 rfl) rfl
theorem q1359 : (Jvm.Cond.laysFinal "ContractLedger$Machine" "ContractLedger$Machine" "made" "LContractLedger$Whole;") ∈ lw_all := lw_g (lw_at lw_m5 42 rfl) rfl
theorem q1360 : (Jvm.Cond.soleField "ContractLedger$Machine" "made") ∈ lw_all := lw_g (lw_at lw_m5 43 rfl) rfl
theorem q1361 : (Jvm.Cond.laysFinal "ContractLedger$Machine" "ContractLedger$Machine" "rest" "LContractLedger$Whole;") ∈ lw_all := lw_g (lw_at lw_m5 44 rfl) rfl
theorem q1362 : (Jvm.Cond.soleField "ContractLedger$Machine" "rest") ∈ lw_all := lw_g (lw_at lw_m5 45 rfl) rfl
theorem q1363 : (Jvm.Cond.laysFinal "ContractLedger$Machine" "ContractLedger$Machine" "values" "[I") ∈ lw_all := lw_g (lw_at lw_m5 46 rfl) rfl
theorem q1364 : (Jvm.Cond.soleField "ContractLedger$Machine" "values") ∈ lw_all := lw_g (lw_at lw_m5 47 rfl) rfl
theorem q1365 : (Jvm.Cond.lays "ContractLedger$Machine" "ContractLedger$Machine" "top" "I") ∈ lw_all := lw_g (lw_at lw_m5 48 rfl) rfl
theorem q1366 : (Jvm.Cond.soleField "ContractLedger$Machine" "top") ∈ lw_all := lw_g (lw_at lw_m5 49 rfl) rfl
theorem q1367 : (Jvm.Cond.laysFinal "ContractLedger$Machine" "ContractLedger$Machine" "aside" "[I") ∈ lw_all := lw_g (lw_at lw_m5 50 rfl) rfl
theorem q1368 : (Jvm.Cond.soleField "ContractLedger$Machine" "aside") ∈ lw_all := lw_g (lw_at lw_m5 51 rfl) rfl
theorem q1369 : (Jvm.Cond.lays "ContractLedger$Machine" "ContractLedger$Machine" "asideTop" "I") ∈ lw_all := lw_g (lw_at lw_m5 52 rfl) rfl
theorem q1370 : (Jvm.Cond.soleField "ContractLedger$Machine" "asideTop") ∈ lw_all := lw_g (lw_at lw_m5 53 rfl) rfl
theorem q1371 : (Jvm.Cond.laysFinal "ContractLedger$Machine" "ContractLedger$Machine" "frames" "[I") ∈ lw_all := lw_g (lw_at lw_m5 54 rfl) rfl
theorem q1372 : (Jvm.Cond.soleField "ContractLedger$Machine" "frames") ∈ lw_all := lw_g (lw_at lw_m5 55 rfl) rfl
theorem q1373 : (Jvm.Cond.lays "ContractLedger$Machine" "ContractLedger$Machine" "frameTop" "I") ∈ lw_all := lw_g (lw_at lw_m5 56 rfl) rfl
theorem q1374 : (Jvm.Cond.soleField "ContractLedger$Machine" "frameTop") ∈ lw_all := lw_g (lw_at lw_m5 57 rfl) rfl
theorem q1375 : (Jvm.Cond.lays "ContractLedger$Machine" "ContractLedger$Machine" "pc" "I") ∈ lw_all := lw_g (lw_at lw_m5 58 rfl) rfl
theorem q1376 : (Jvm.Cond.soleField "ContractLedger$Machine" "pc") ∈ lw_all := lw_g (lw_at lw_m5 59 rfl) rfl
theorem q1377 : (Jvm.Cond.laysFinal "ContractLedger$Machine" "ContractLedger$Machine" "packed" "[B") ∈ lw_all := lw_g (lw_at lw_m5 60 rfl) rfl
theorem q1378 : (Jvm.Cond.soleField "ContractLedger$Machine" "packed") ∈ lw_all := lw_g (lw_at lw_m5 61 rfl) rfl
theorem q1379 : (Jvm.Cond.laysFinal "ContractLedger$Machine" "ContractLedger$Machine" "row" "[I") ∈ lw_all := lw_g (lw_at lw_m5 62 rfl) rfl
theorem q1380 : (Jvm.Cond.soleField "ContractLedger$Machine" "row") ∈ lw_all := lw_g (lw_at lw_m5 63 rfl) rfl
theorem q1381 : (Jvm.Cond.lays "ContractLedger$Machine" "ContractLedger$Machine" "self" "I") ∈ lw_all := lw_g (lw_at lw_m5 64 rfl) rfl
theorem q1382 : (Jvm.Cond.soleField "ContractLedger$Machine" "self") ∈ lw_all := lw_g (lw_at lw_m5 65 rfl) rfl
theorem q1383 : (Jvm.Cond.lays "ContractLedger$Machine" "ContractLedger$Machine" "sender" "I") ∈ lw_all := lw_g (lw_at lw_m5 66 rfl) rfl
theorem q1384 : (Jvm.Cond.soleField "ContractLedger$Machine" "sender") ∈ lw_all := lw_g (lw_at lw_m5 67 rfl) rfl
theorem q1385 : (Jvm.Cond.lays "ContractLedger$Machine" "ContractLedger$Machine" "source" "I") ∈ lw_all := lw_g (lw_at lw_m5 68 rfl) rfl
theorem q1386 : (Jvm.Cond.soleField "ContractLedger$Machine" "source") ∈ lw_all := lw_g (lw_at lw_m5 69 rfl) rfl
theorem q1387 : (Jvm.Cond.lays "ContractLedger$Machine" "ContractLedger$Machine" "amount" "J") ∈ lw_all := lw_g (lw_at lw_m5 70 rfl) rfl
theorem q1388 : (Jvm.Cond.soleField "ContractLedger$Machine" "amount") ∈ lw_all := lw_g (lw_at lw_m5 71 rfl) rfl
theorem q1389 : (Jvm.Cond.lays "ContractLedger$Machine" "ContractLedger$Machine" "balance" "J") ∈ lw_all := lw_g (lw_at lw_m5 72 rfl) rfl
theorem q1390 : (Jvm.Cond.soleField "ContractLedger$Machine" "balance") ∈ lw_all := lw_g (lw_at lw_m5 73 rfl) rfl
theorem q1391 : (Jvm.Cond.lays "ContractLedger$Machine" "ContractLedger$Machine" "failed" "I") ∈ lw_all := lw_g (lw_at lw_m5 74 rfl) rfl
theorem q1392 : (Jvm.Cond.soleField "ContractLedger$Machine" "failed") ∈ lw_all := lw_g (lw_at lw_m5 75 rfl) rfl
theorem q1393 : (Jvm.Cond.lays "ContractLedger$Machine" "ContractLedger$Machine" "failedType" "I") ∈ lw_all := lw_g (lw_at lw_m5 76 rfl) rfl
theorem q1394 : (Jvm.Cond.soleField "ContractLedger$Machine" "failedType") ∈ lw_all := lw_g (lw_at lw_m5 77 rfl) rfl
theorem q1395 : (Jvm.Cond.superclass "ContractLedger$Machine" "java/lang/Object") ∈ lw_all := lw_g (lw_at lw_m5 78 rfl) rfl
theorem q2564 : (Jvm.Cond.instanceMethod ({ cls := "ContractLedger$Machine", name := "run", desc := "(II)I" } : Jvm.MethodName)) ∈ lw_all := lw_g (lw_at lw_m10 47 rfl) rfl
theorem q2565 : (Jvm.Cond.selects "ContractLedger$Machine" ({ cls := "ContractLedger$Machine", name := "run", desc := "(II)I" } : Jvm.MethodName) ({ cls := "ContractLedger$Machine", name := "run", desc := "(II)I" } : Jvm.MethodName)) ∈ lw_all := lw_g (lw_at lw_m10 48 rfl) rfl
theorem q2566 : (Jvm.Cond.code ({ cls := "ContractLedger$Machine", name := "run", desc := "(II)I" } : Jvm.MethodName) prog_9_method_8_code (4 : Nat) (Option.some Jvm.ClassFile.FieldType.int)) ∈ lw_all := lw_g (lw_at lw_m10 49 rfl) rfl
theorem q2567 : (Jvm.Cond.methodLink "ContractLedger$Machine" (122 : Nat) ({ cls := "ContractLedger$Machine", name := "push", desc := "(I)V" } : Jvm.MethodName)) ∈ lw_all := lw_g (lw_at lw_m10 50 rfl) rfl
theorem q2568 : (Jvm.Cond.privateMethod ({ cls := "ContractLedger$Machine", name := "push", desc := "(I)V" } : Jvm.MethodName)) ∈ lw_tbl := lw_at lw_m10 51 rfl
theorem q2569 : (Jvm.Cond.instanceMethod ({ cls := "ContractLedger$Machine", name := "push", desc := "(I)V" } : Jvm.MethodName)) ∈ lw_all := lw_g (lw_at lw_m10 52 rfl) rfl
theorem q2570 : (Jvm.Cond.code ({ cls := "ContractLedger$Machine", name := "push", desc := "(I)V" } : Jvm.MethodName) prog_9_method_2_code (2 : Nat) (Option.none : Option Jvm.ClassFile.FieldType)) ∈ lw_all := lw_g (lw_at lw_m10 53 rfl) rfl
theorem q2571 : (Jvm.Cond.methodLink "ContractLedger$Machine" (128 : Nat) ({ cls := "ContractLedger$Machine", name := "goOn", desc := "()V" } : Jvm.MethodName)) ∈ lw_all := lw_g (lw_at lw_m10 54 rfl) rfl
theorem q2572 : (Jvm.Cond.privateMethod ({ cls := "ContractLedger$Machine", name := "goOn", desc := "()V" } : Jvm.MethodName)) ∈ lw_tbl := lw_at lw_m10 55 rfl
theorem q2573 : (Jvm.Cond.instanceMethod ({ cls := "ContractLedger$Machine", name := "goOn", desc := "()V" } : Jvm.MethodName)) ∈ lw_all := lw_g (lw_at lw_m10 56 rfl) rfl
theorem q2574 : (Jvm.Cond.code ({ cls := "ContractLedger$Machine", name := "goOn", desc := "()V" } : Jvm.MethodName) prog_9_method_9_code (5 : Nat) (Option.none : Option Jvm.ClassFile.FieldType)) ∈ lw_all := lw_g (lw_at lw_m10 57 rfl) rfl
theorem q2575 : (Jvm.Cond.methodLink "ContractLedger$Machine" (143 : Nat) ({ cls := "ContractLedger$Machine", name := "loop", desc := "(I)V" } : Jvm.MethodName)) ∈ lw_all := lw_g (lw_at lw_m10 58 rfl) rfl
theorem q2576 : (Jvm.Cond.privateMethod ({ cls := "ContractLedger$Machine", name := "loop", desc := "(I)V" } : Jvm.MethodName)) ∈ lw_tbl := lw_at lw_m10 59 rfl
theorem q2577 : (Jvm.Cond.instanceMethod ({ cls := "ContractLedger$Machine", name := "loop", desc := "(I)V" } : Jvm.MethodName)) ∈ lw_all := lw_g (lw_at lw_m10 60 rfl) rfl
theorem q2578 : (Jvm.Cond.code ({ cls := "ContractLedger$Machine", name := "loop", desc := "(I)V" } : Jvm.MethodName) prog_9_method_19_code (2 : Nat) (Option.none : Option Jvm.ClassFile.FieldType)) ∈ lw_all := lw_g (lw_at lw_m10 61 rfl) rfl
theorem q2579 : (Jvm.Cond.methodLink "ContractLedger$Machine" (131 : Nat) ({ cls := "ContractLedger$Machine", name := "cell", desc := "(II)I" } : Jvm.MethodName)) ∈ lw_all := lw_g (lw_at lw_m10 62 rfl) rfl
theorem q2580 : (Jvm.Cond.privateMethod ({ cls := "ContractLedger$Machine", name := "cell", desc := "(II)I" } : Jvm.MethodName)) ∈ lw_tbl := lw_at lw_m10 63 rfl
theorem q2581 : (Jvm.Cond.instanceMethod ({ cls := "ContractLedger$Machine", name := "cell", desc := "(II)I" } : Jvm.MethodName)) ∈ lw_all := lw_g (lw_at lw_m10 64 rfl) rfl
theorem q2582 : (Jvm.Cond.code ({ cls := "ContractLedger$Machine", name := "cell", desc := "(II)I" } : Jvm.MethodName) prog_9_method_7_code (3 : Nat) (Option.some Jvm.ClassFile.FieldType.int)) ∈ lw_all := lw_g (lw_at lw_m10 65 rfl) rfl
theorem q2583 : (Jvm.Cond.methodLink "ContractLedger$Machine" (139 : Nat) ({ cls := "ContractLedger$Machine", name := "pop", desc := "()I" } : Jvm.MethodName)) ∈ lw_all := lw_g (lw_at lw_m10 66 rfl) rfl
theorem q2584 : (Jvm.Cond.privateMethod ({ cls := "ContractLedger$Machine", name := "pop", desc := "()I" } : Jvm.MethodName)) ∈ lw_tbl := lw_at lw_m10 67 rfl
theorem q2585 : (Jvm.Cond.instanceMethod ({ cls := "ContractLedger$Machine", name := "pop", desc := "()I" } : Jvm.MethodName)) ∈ lw_all := lw_g (lw_at lw_m10 68 rfl) rfl
theorem q2586 : (Jvm.Cond.code ({ cls := "ContractLedger$Machine", name := "pop", desc := "()I" } : Jvm.MethodName) prog_9_method_3_code (1 : Nat) (Option.some Jvm.ClassFile.FieldType.int)) ∈ lw_all := lw_g (lw_at lw_m10 69 rfl) rfl
theorem q2587 : (Jvm.Cond.methodLink "ContractLedger$Machine" (159 : Nat) ({ cls := "ContractLedger$Machine", name := "frame", desc := "(IIII)V" } : Jvm.MethodName)) ∈ lw_all := lw_g (lw_at lw_m10 70 rfl) rfl
theorem q2588 : (Jvm.Cond.privateMethod ({ cls := "ContractLedger$Machine", name := "frame", desc := "(IIII)V" } : Jvm.MethodName)) ∈ lw_tbl := lw_at lw_m10 71 rfl
theorem q2589 : (Jvm.Cond.instanceMethod ({ cls := "ContractLedger$Machine", name := "frame", desc := "(IIII)V" } : Jvm.MethodName)) ∈ lw_all := lw_g (lw_at lw_m10 72 rfl) rfl
theorem q2590 : (Jvm.Cond.code ({ cls := "ContractLedger$Machine", name := "frame", desc := "(IIII)V" } : Jvm.MethodName) prog_9_method_6_code (5 : Nat) (Option.none : Option Jvm.ClassFile.FieldType)) ∈ lw_all := lw_g (lw_at lw_m10 73 rfl) rfl
theorem q2591 : (Jvm.Cond.methodLink "ContractLedger$Machine" (146 : Nat) ({ cls := "ContractLedger$Machine", name := "loopLeft", desc := "(I)V" } : Jvm.MethodName)) ∈ lw_all := lw_g (lw_at lw_m10 74 rfl) rfl
theorem q2592 : (Jvm.Cond.privateMethod ({ cls := "ContractLedger$Machine", name := "loopLeft", desc := "(I)V" } : Jvm.MethodName)) ∈ lw_tbl := lw_at lw_m10 75 rfl
theorem q2593 : (Jvm.Cond.instanceMethod ({ cls := "ContractLedger$Machine", name := "loopLeft", desc := "(I)V" } : Jvm.MethodName)) ∈ lw_all := lw_g (lw_at lw_m10 76 rfl) rfl
theorem q2594 : (Jvm.Cond.code ({ cls := "ContractLedger$Machine", name := "loopLeft", desc := "(I)V" } : Jvm.MethodName) prog_9_method_20_code (3 : Nat) (Option.none : Option Jvm.ClassFile.FieldType)) ∈ lw_all := lw_g (lw_at lw_m10 77 rfl) rfl
theorem q2595 : (Jvm.Cond.methodLink "ContractLedger$Machine" (199 : Nat) ({ cls := "ContractLedger$Memory", name := "cell", desc := "(II)I" } : Jvm.MethodName)) ∈ lw_all := lw_g (lw_at lw_m10 78 rfl) rfl
theorem q2596 : (Jvm.Cond.methodLink "ContractLedger$Machine" (236 : Nat) ({ cls := "ContractLedger$Memory", name := "kind", desc := "(I)I" } : Jvm.MethodName)) ∈ lw_all := lw_g (lw_at lw_m10 79 rfl) rfl
theorem q2597 : (Jvm.Cond.methodLink "ContractLedger$Machine" (149 : Nat) ({ cls := "ContractLedger$Machine", name := "each", desc := "(III)V" } : Jvm.MethodName)) ∈ lw_all := lw_g (lw_at lw_m10 80 rfl) rfl
theorem q2598 : (Jvm.Cond.privateMethod ({ cls := "ContractLedger$Machine", name := "each", desc := "(III)V" } : Jvm.MethodName)) ∈ lw_tbl := lw_at lw_m10 81 rfl
theorem q2599 : (Jvm.Cond.instanceMethod ({ cls := "ContractLedger$Machine", name := "each", desc := "(III)V" } : Jvm.MethodName)) ∈ lw_all := lw_g (lw_at lw_m10 82 rfl) rfl
theorem q2600 : (Jvm.Cond.code ({ cls := "ContractLedger$Machine", name := "each", desc := "(III)V" } : Jvm.MethodName) prog_9_method_23_code (5 : Nat) (Option.none : Option Jvm.ClassFile.FieldType)) ∈ lw_all := lw_g (lw_at lw_m10 83 rfl) rfl
theorem q2601 : (Jvm.Cond.methodLink "ContractLedger$Machine" (248 : Nat) ({ cls := "ContractLedger$Machine", name := "isThrough", desc := "(III)Z" } : Jvm.MethodName)) ∈ lw_all := lw_g (lw_at lw_m10 84 rfl) rfl
theorem q2602 : (Jvm.Cond.privateMethod ({ cls := "ContractLedger$Machine", name := "isThrough", desc := "(III)Z" } : Jvm.MethodName)) ∈ lw_tbl := lw_at lw_m10 85 rfl
theorem q2603 : (Jvm.Cond.instanceMethod ({ cls := "ContractLedger$Machine", name := "isThrough", desc := "(III)Z" } : Jvm.MethodName)) ∈ lw_all := lw_g (lw_at lw_m10 86 rfl) rfl
theorem q2604 : (Jvm.Cond.code ({ cls := "ContractLedger$Machine", name := "isThrough", desc := "(III)Z" } : Jvm.MethodName) prog_9_method_22_code (4 : Nat) (Option.some Jvm.ClassFile.FieldType.boolean)) ∈ lw_all := lw_g (lw_at lw_m10 87 rfl) rfl
theorem q2605 : (Jvm.Cond.methodLink "ContractLedger$Machine" (245 : Nat) ({ cls := "ContractLedger$Memory", name := "many", desc := "(I)I" } : Jvm.MethodName)) ∈ lw_all := lw_g (lw_at lw_m10 88 rfl) rfl
theorem q2606 : (Jvm.Cond.constantLong "ContractLedger$Machine" (206 : Nat) (10 : Int64)) ∈ lw_all := lw_g (lw_at lw_m10 89 rfl) rfl
theorem q2607 : (Jvm.Cond.methodLink "ContractLedger$Machine" (183 : Nat) ({ cls := "ContractLedger$Gas", name := "use", desc := "(J)V" } : Jvm.MethodName)) ∈ lw_all := lw_g (lw_at lw_m10 90 rfl) rfl
theorem q2608 : (Jvm.Cond.methodLink "ContractLedger$Machine" (252 : Nat) ({ cls := "ContractLedger$Machine", name := "element", desc := "(III)I" } : Jvm.MethodName)) ∈ lw_all := lw_g (lw_at lw_m10 91 rfl) rfl
theorem q2609 : (Jvm.Cond.privateMethod ({ cls := "ContractLedger$Machine", name := "element", desc := "(III)I" } : Jvm.MethodName)) ∈ lw_tbl := lw_at lw_m10 92 rfl
theorem q2610 : (Jvm.Cond.instanceMethod ({ cls := "ContractLedger$Machine", name := "element", desc := "(III)I" } : Jvm.MethodName)) ∈ lw_all := lw_g (lw_at lw_m10 93 rfl) rfl
theorem q2611 : (Jvm.Cond.code ({ cls := "ContractLedger$Machine", name := "element", desc := "(III)I" } : Jvm.MethodName) prog_9_method_21_code (6 : Nat) (Option.some Jvm.ClassFile.FieldType.int)) ∈ lw_all := lw_g (lw_at lw_m10 94 rfl) rfl
theorem q2612 : (Jvm.Cond.methodLink "ContractLedger$Machine" (239 : Nat) ({ cls := "ContractLedger$Trees", name := "at", desc := "(II)I" } : Jvm.MethodName)) ∈ lw_all := lw_g (lw_at lw_m10 95 rfl) rfl
theorem q2626 : (Jvm.Cond.methodLink "ContractLedger$Machine" (203 : Nat) ({ cls := "ContractLedger$Memory", name := "pair", desc := "(II)I" } : Jvm.MethodName)) ∈ lw_all := lw_g (lw_at lw_m10 109 rfl) rfl
theorem q2627 : (Jvm.Cond.methodLink "ContractLedger$Machine" (153 : Nat) ({ cls := "ContractLedger$Machine", name := "mapped", desc := "(III)V" } : Jvm.MethodName)) ∈ lw_all := lw_g (lw_at lw_m10 110 rfl) rfl
theorem q2628 : (Jvm.Cond.privateMethod ({ cls := "ContractLedger$Machine", name := "mapped", desc := "(III)V" } : Jvm.MethodName)) ∈ lw_tbl := lw_at lw_m10 111 rfl
theorem q2629 : (Jvm.Cond.instanceMethod ({ cls := "ContractLedger$Machine", name := "mapped", desc := "(III)V" } : Jvm.MethodName)) ∈ lw_all := lw_g (lw_at lw_m10 112 rfl) rfl
theorem q2630 : (Jvm.Cond.code ({ cls := "ContractLedger$Machine", name := "mapped", desc := "(III)V" } : Jvm.MethodName) prog_9_method_25_code (5 : Nat) (Option.none : Option Jvm.ClassFile.FieldType)) ∈ lw_all := lw_g (lw_at lw_m10 113 rfl) rfl
theorem q2631 : (Jvm.Cond.methodLink "ContractLedger$Machine" (255 : Nat) ({ cls := "ContractLedger$Machine", name := "list", desc := "(I)I" } : Jvm.MethodName)) ∈ lw_all := lw_g (lw_at lw_m10 114 rfl) rfl
theorem q2632 : (Jvm.Cond.privateMethod ({ cls := "ContractLedger$Machine", name := "list", desc := "(I)I" } : Jvm.MethodName)) ∈ lw_tbl := lw_at lw_m10 115 rfl
theorem q2633 : (Jvm.Cond.instanceMethod ({ cls := "ContractLedger$Machine", name := "list", desc := "(I)I" } : Jvm.MethodName)) ∈ lw_all := lw_g (lw_at lw_m10 116 rfl) rfl
theorem q2634 : (Jvm.Cond.code ({ cls := "ContractLedger$Machine", name := "list", desc := "(I)I" } : Jvm.MethodName) prog_9_method_26_code (4 : Nat) (Option.some Jvm.ClassFile.FieldType.int)) ∈ lw_all := lw_g (lw_at lw_m10 117 rfl) rfl
theorem q2635 : (Jvm.Cond.methodLink "ContractLedger$Machine" (200 : Nat) ({ cls := "ContractLedger$Memory", name := "cons", desc := "(II)I" } : Jvm.MethodName)) ∈ lw_all := lw_g (lw_at lw_m10 118 rfl) rfl
theorem q2636 : (Jvm.Cond.methodLink "ContractLedger$Machine" (258 : Nat) ({ cls := "ContractLedger$Machine", name := "tree", desc := "(II)I" } : Jvm.MethodName)) ∈ lw_all := lw_g (lw_at lw_m10 119 rfl) rfl
theorem q2637 : (Jvm.Cond.privateMethod ({ cls := "ContractLedger$Machine", name := "tree", desc := "(II)I" } : Jvm.MethodName)) ∈ lw_tbl := lw_at lw_m10 120 rfl
theorem q2638 : (Jvm.Cond.instanceMethod ({ cls := "ContractLedger$Machine", name := "tree", desc := "(II)I" } : Jvm.MethodName)) ∈ lw_all := lw_g (lw_at lw_m10 121 rfl) rfl
theorem q2639 : (Jvm.Cond.code ({ cls := "ContractLedger$Machine", name := "tree", desc := "(II)I" } : Jvm.MethodName) prog_9_method_27_code (4 : Nat) (Option.some Jvm.ClassFile.FieldType.int)) ∈ lw_all := lw_g (lw_at lw_m10 122 rfl) rfl
theorem q2640 : (Jvm.Cond.methodLink "ContractLedger$Machine" (261 : Nat) ({ cls := "ContractLedger$Trees", name := "build", desc := "([IIII)I" } : Jvm.MethodName)) ∈ lw_all := lw_g (lw_at lw_m10 123 rfl) rfl
theorem q2641 : (Jvm.Cond.methodLink "ContractLedger$Machine" (156 : Nat) ({ cls := "ContractLedger$Memory", name := "wrap", desc := "(II)I" } : Jvm.MethodName)) ∈ lw_all := lw_g (lw_at lw_m10 124 rfl) rfl
theorem q2642 : (Jvm.Cond.methodLink "ContractLedger$Machine" (135 : Nat) ({ cls := "ContractLedger$Machine", name := "step", desc := "(II)V" } : Jvm.MethodName)) ∈ lw_all := lw_g (lw_at lw_m10 125 rfl) rfl
theorem q2643 : (Jvm.Cond.privateMethod ({ cls := "ContractLedger$Machine", name := "step", desc := "(II)V" } : Jvm.MethodName)) ∈ lw_tbl := lw_at lw_m10 126 rfl
theorem q2644 : (Jvm.Cond.instanceMethod ({ cls := "ContractLedger$Machine", name := "step", desc := "(II)V" } : Jvm.MethodName)) ∈ lw_all := lw_g (lw_at lw_m10 127 rfl) rfl
theorem q2645 : (Jvm.Cond.code ({ cls := "ContractLedger$Machine", name := "step", desc := "(II)V" } : Jvm.MethodName) prog_9_method_11_code (3 : Nat) (Option.none : Option Jvm.ClassFile.FieldType)) ∈ lw_all := lw_g (lw_at lw_m10 128 rfl) rfl
theorem q2646 : (Jvm.Cond.methodLink "ContractLedger$Machine" (165 : Nat) ({ cls := "ContractLedger$Machine", name := "shuffle", desc := "(II)V" } : Jvm.MethodName)) ∈ lw_all := lw_g (lw_at lw_m10 129 rfl) rfl
theorem q2647 : (Jvm.Cond.privateMethod ({ cls := "ContractLedger$Machine", name := "shuffle", desc := "(II)V" } : Jvm.MethodName)) ∈ lw_tbl := lw_at lw_m10 130 rfl
theorem q2648 : (Jvm.Cond.instanceMethod ({ cls := "ContractLedger$Machine", name := "shuffle", desc := "(II)V" } : Jvm.MethodName)) ∈ lw_all := lw_g (lw_at lw_m10 131 rfl) rfl
theorem q2649 : (Jvm.Cond.code ({ cls := "ContractLedger$Machine", name := "shuffle", desc := "(II)V" } : Jvm.MethodName) prog_9_method_12_code (5 : Nat) (Option.none : Option Jvm.ClassFile.FieldType)) ∈ lw_all := lw_g (lw_at lw_m10 132 rfl) rfl
theorem q2650 : (Jvm.Cond.methodLink "ContractLedger$Machine" (106 : Nat) ({ cls := "ContractLedger$Memory", name := "length", desc := "(I)I" } : Jvm.MethodName)) ∈ lw_all := lw_g (lw_at lw_m10 133 rfl) rfl
theorem q2651 : (Jvm.Cond.methodLink "ContractLedger$Machine" (102 : Nat) ({ cls := "ContractLedger$Machine", name := "at", desc := "(I)I" } : Jvm.MethodName)) ∈ lw_all := lw_g (lw_at lw_m10 134 rfl) rfl
theorem q2652 : (Jvm.Cond.privateMethod ({ cls := "ContractLedger$Machine", name := "at", desc := "(I)I" } : Jvm.MethodName)) ∈ lw_tbl := lw_at lw_m10 135 rfl
theorem q2653 : (Jvm.Cond.instanceMethod ({ cls := "ContractLedger$Machine", name := "at", desc := "(I)I" } : Jvm.MethodName)) ∈ lw_all := lw_g (lw_at lw_m10 136 rfl) rfl
theorem q2654 : (Jvm.Cond.code ({ cls := "ContractLedger$Machine", name := "at", desc := "(I)I" } : Jvm.MethodName) prog_9_method_4_code (2 : Nat) (Option.some Jvm.ClassFile.FieldType.int)) ∈ lw_all := lw_g (lw_at lw_m10 137 rfl) rfl
theorem q2655 : (Jvm.Cond.methodLink "ContractLedger$Machine" (189 : Nat) ({ cls := "ContractLedger$Machine", name := "turn", desc := "(IZ)V" } : Jvm.MethodName)) ∈ lw_all := lw_g (lw_at lw_m10 138 rfl) rfl
theorem q2656 : (Jvm.Cond.privateMethod ({ cls := "ContractLedger$Machine", name := "turn", desc := "(IZ)V" } : Jvm.MethodName)) ∈ lw_tbl := lw_at lw_m10 139 rfl
theorem q2657 : (Jvm.Cond.instanceMethod ({ cls := "ContractLedger$Machine", name := "turn", desc := "(IZ)V" } : Jvm.MethodName)) ∈ lw_all := lw_g (lw_at lw_m10 140 rfl) rfl
theorem q2658 : (Jvm.Cond.code ({ cls := "ContractLedger$Machine", name := "turn", desc := "(IZ)V" } : Jvm.MethodName) prog_9_method_13_code (7 : Nat) (Option.none : Option Jvm.ClassFile.FieldType)) ∈ lw_all := lw_g (lw_at lw_m10 141 rfl) rfl
theorem q2659 : (Jvm.Cond.methodLink "ContractLedger$Machine" (168 : Nat) ({ cls := "ContractLedger$Machine", name := "maker", desc := "(II)V" } : Jvm.MethodName)) ∈ lw_all := lw_g (lw_at lw_m10 142 rfl) rfl
theorem q2660 : (Jvm.Cond.privateMethod ({ cls := "ContractLedger$Machine", name := "maker", desc := "(II)V" } : Jvm.MethodName)) ∈ lw_tbl := lw_at lw_m10 143 rfl
theorem q2661 : (Jvm.Cond.instanceMethod ({ cls := "ContractLedger$Machine", name := "maker", desc := "(II)V" } : Jvm.MethodName)) ∈ lw_all := lw_g (lw_at lw_m10 144 rfl) rfl
theorem q2662 : (Jvm.Cond.code ({ cls := "ContractLedger$Machine", name := "maker", desc := "(II)V" } : Jvm.MethodName) prog_9_method_14_code (5 : Nat) (Option.none : Option Jvm.ClassFile.FieldType)) ∈ lw_all := lw_g (lw_at lw_m10 145 rfl) rfl
theorem q2663 : (Jvm.Cond.methodLink "ContractLedger$Machine" (193 : Nat) ({ cls := "ContractLedger$Machine", name := "comb", desc := "(I)V" } : Jvm.MethodName)) ∈ lw_all := lw_g (lw_at lw_m10 146 rfl) rfl
theorem q2664 : (Jvm.Cond.privateMethod ({ cls := "ContractLedger$Machine", name := "comb", desc := "(I)V" } : Jvm.MethodName)) ∈ lw_tbl := lw_at lw_m10 147 rfl
theorem q2665 : (Jvm.Cond.instanceMethod ({ cls := "ContractLedger$Machine", name := "comb", desc := "(I)V" } : Jvm.MethodName)) ∈ lw_all := lw_g (lw_at lw_m10 148 rfl) rfl
theorem q2666 : (Jvm.Cond.code ({ cls := "ContractLedger$Machine", name := "comb", desc := "(I)V" } : Jvm.MethodName) prog_9_method_15_code (4 : Nat) (Option.none : Option Jvm.ClassFile.FieldType)) ∈ lw_all := lw_g (lw_at lw_m10 149 rfl) rfl
theorem q2667 : (Jvm.Cond.methodLink "ContractLedger$Machine" (196 : Nat) ({ cls := "ContractLedger$Machine", name := "uncomb", desc := "(I)V" } : Jvm.MethodName)) ∈ lw_all := lw_g (lw_at lw_m10 150 rfl) rfl
theorem q2668 : (Jvm.Cond.privateMethod ({ cls := "ContractLedger$Machine", name := "uncomb", desc := "(I)V" } : Jvm.MethodName)) ∈ lw_tbl := lw_at lw_m10 151 rfl
theorem q2669 : (Jvm.Cond.instanceMethod ({ cls := "ContractLedger$Machine", name := "uncomb", desc := "(I)V" } : Jvm.MethodName)) ∈ lw_all := lw_g (lw_at lw_m10 152 rfl) rfl
theorem q2670 : (Jvm.Cond.code ({ cls := "ContractLedger$Machine", name := "uncomb", desc := "(I)V" } : Jvm.MethodName) prog_9_method_16_code (4 : Nat) (Option.none : Option Jvm.ClassFile.FieldType)) ∈ lw_all := lw_g (lw_at lw_m10 153 rfl) rfl
theorem q2671 : (Jvm.Cond.methodLink "ContractLedger$Machine" (171 : Nat) ({ cls := "ContractLedger$Machine", name := "control", desc := "(II)V" } : Jvm.MethodName)) ∈ lw_all := lw_g (lw_at lw_m10 154 rfl) rfl
theorem q2672 : (Jvm.Cond.privateMethod ({ cls := "ContractLedger$Machine", name := "control", desc := "(II)V" } : Jvm.MethodName)) ∈ lw_tbl := lw_at lw_m10 155 rfl
theorem q2673 : (Jvm.Cond.instanceMethod ({ cls := "ContractLedger$Machine", name := "control", desc := "(II)V" } : Jvm.MethodName)) ∈ lw_all := lw_g (lw_at lw_m10 156 rfl) rfl
theorem q2674 : (Jvm.Cond.code ({ cls := "ContractLedger$Machine", name := "control", desc := "(II)V" } : Jvm.MethodName) prog_9_method_17_code (4 : Nat) (Option.none : Option Jvm.ClassFile.FieldType)) ∈ lw_all := lw_g (lw_at lw_m10 157 rfl) rfl
theorem q2675 : (Jvm.Cond.methodLink "ContractLedger$Machine" (208 : Nat) ({ cls := "ContractLedger$Machine", name := "enter", desc := "(I)V" } : Jvm.MethodName)) ∈ lw_all := lw_g (lw_at lw_m10 158 rfl) rfl
theorem q2676 : (Jvm.Cond.privateMethod ({ cls := "ContractLedger$Machine", name := "enter", desc := "(I)V" } : Jvm.MethodName)) ∈ lw_tbl := lw_at lw_m10 159 rfl
theorem q2677 : (Jvm.Cond.instanceMethod ({ cls := "ContractLedger$Machine", name := "enter", desc := "(I)V" } : Jvm.MethodName)) ∈ lw_all := lw_g (lw_at lw_m10 160 rfl) rfl
theorem q2678 : (Jvm.Cond.code ({ cls := "ContractLedger$Machine", name := "enter", desc := "(I)V" } : Jvm.MethodName) prog_9_method_10_code (2 : Nat) (Option.none : Option Jvm.ClassFile.FieldType)) ∈ lw_all := lw_g (lw_at lw_m10 161 rfl) rfl
theorem q2679 : (Jvm.Cond.methodLink "ContractLedger$Machine" (211 : Nat) ({ cls := "ContractLedger$Machine", name := "branch", desc := "(II)V" } : Jvm.MethodName)) ∈ lw_all := lw_g (lw_at lw_m10 162 rfl) rfl
theorem q2680 : (Jvm.Cond.privateMethod ({ cls := "ContractLedger$Machine", name := "branch", desc := "(II)V" } : Jvm.MethodName)) ∈ lw_tbl := lw_at lw_m10 163 rfl
theorem q2681 : (Jvm.Cond.instanceMethod ({ cls := "ContractLedger$Machine", name := "branch", desc := "(II)V" } : Jvm.MethodName)) ∈ lw_all := lw_g (lw_at lw_m10 164 rfl) rfl
theorem q2682 : (Jvm.Cond.code ({ cls := "ContractLedger$Machine", name := "branch", desc := "(II)V" } : Jvm.MethodName) prog_9_method_18_code (5 : Nat) (Option.none : Option Jvm.ClassFile.FieldType)) ∈ lw_all := lw_g (lw_at lw_m10 165 rfl) rfl
theorem q2683 : (Jvm.Cond.methodLink "ContractLedger$Machine" (214 : Nat) ({ cls := "ContractLedger$Machine", name := "map", desc := "(II)V" } : Jvm.MethodName)) ∈ lw_all := lw_g (lw_at lw_m10 166 rfl) rfl
theorem q2684 : (Jvm.Cond.privateMethod ({ cls := "ContractLedger$Machine", name := "map", desc := "(II)V" } : Jvm.MethodName)) ∈ lw_tbl := lw_at lw_m10 167 rfl
theorem q2685 : (Jvm.Cond.instanceMethod ({ cls := "ContractLedger$Machine", name := "map", desc := "(II)V" } : Jvm.MethodName)) ∈ lw_all := lw_g (lw_at lw_m10 168 rfl) rfl
theorem q2686 : (Jvm.Cond.code ({ cls := "ContractLedger$Machine", name := "map", desc := "(II)V" } : Jvm.MethodName) prog_9_method_24_code (3 : Nat) (Option.none : Option Jvm.ClassFile.FieldType)) ∈ lw_all := lw_g (lw_at lw_m10 169 rfl) rfl
theorem q2687 : (Jvm.Cond.methodLink "ContractLedger$Machine" (225 : Nat) ({ cls := "ContractLedger$Failing", name := "fail", desc := "(I)V" } : Jvm.MethodName)) ∈ lw_all := lw_g (lw_at lw_m10 170 rfl) rfl
theorem q2688 : (Jvm.Cond.methodLink "ContractLedger$Machine" (228 : Nat) ({ cls := "ContractLedger$Memory", name := "lambda", desc := "(III)I" } : Jvm.MethodName)) ∈ lw_all := lw_g (lw_at lw_m10 171 rfl) rfl
theorem q2692 : (Jvm.Cond.methodLink "ContractLedger$Machine" (232 : Nat) ({ cls := "ContractLedger$Machine", name := "exec", desc := "()V" } : Jvm.MethodName)) ∈ lw_all := lw_g (lw_at lw_m10 175 rfl) rfl
theorem q2693 : (Jvm.Cond.privateMethod ({ cls := "ContractLedger$Machine", name := "exec", desc := "()V" } : Jvm.MethodName)) ∈ lw_tbl := lw_at lw_m10 176 rfl
theorem q2694 : (Jvm.Cond.instanceMethod ({ cls := "ContractLedger$Machine", name := "exec", desc := "()V" } : Jvm.MethodName)) ∈ lw_all := lw_g (lw_at lw_m10 177 rfl) rfl
theorem q2695 : (Jvm.Cond.code ({ cls := "ContractLedger$Machine", name := "exec", desc := "()V" } : Jvm.MethodName) prog_9_method_28_code (3 : Nat) (Option.none : Option Jvm.ClassFile.FieldType)) ∈ lw_all := lw_g (lw_at lw_m10 178 rfl) rfl
theorem q2696 : (Jvm.Cond.methodLink "ContractLedger$Machine" (235 : Nat) ({ cls := "ContractLedger$Machine", name := "length", desc := "(I)I" } : Jvm.MethodName)) ∈ lw_all := lw_g (lw_at lw_m10 179 rfl) rfl
theorem q2697 : (Jvm.Cond.privateMethod ({ cls := "ContractLedger$Machine", name := "length", desc := "(I)I" } : Jvm.MethodName)) ∈ lw_tbl := lw_at lw_m10 180 rfl
theorem q2698 : (Jvm.Cond.instanceMethod ({ cls := "ContractLedger$Machine", name := "length", desc := "(I)I" } : Jvm.MethodName)) ∈ lw_all := lw_g (lw_at lw_m10 181 rfl) rfl
theorem q2699 : (Jvm.Cond.code ({ cls := "ContractLedger$Machine", name := "length", desc := "(I)I" } : Jvm.MethodName) prog_9_method_5_code (2 : Nat) (Option.some Jvm.ClassFile.FieldType.int)) ∈ lw_all := lw_g (lw_at lw_m10 182 rfl) rfl
theorem q2700 : (Jvm.Cond.methodLink "ContractLedger$Machine" (174 : Nat) ({ cls := "ContractLedger$Machine", name := "plain", desc := "(II)V" } : Jvm.MethodName)) ∈ lw_all := lw_g (lw_at lw_m10 183 rfl) rfl
theorem q2701 : (Jvm.Cond.privateMethod ({ cls := "ContractLedger$Machine", name := "plain", desc := "(II)V" } : Jvm.MethodName)) ∈ lw_tbl := lw_at lw_m10 184 rfl
theorem q2702 : (Jvm.Cond.instanceMethod ({ cls := "ContractLedger$Machine", name := "plain", desc := "(II)V" } : Jvm.MethodName)) ∈ lw_all := lw_g (lw_at lw_m10 185 rfl) rfl
theorem q2703 : (Jvm.Cond.code ({ cls := "ContractLedger$Machine", name := "plain", desc := "(II)V" } : Jvm.MethodName) prog_9_method_31_code (6 : Nat) (Option.none : Option Jvm.ClassFile.FieldType)) ∈ lw_all := lw_g (lw_at lw_m10 186 rfl) rfl
theorem q2704 : (Jvm.Cond.methodLink "ContractLedger$Machine" (269 : Nat) ({ cls := "java/lang/Math", name := "min", desc := "(II)I" } : Jvm.MethodName)) ∈ lw_all := lw_g (lw_at lw_m10 187 rfl) rfl
theorem q2705 : (Jvm.Cond.methodLink "ContractLedger$Machine" (274 : Nat) ({ cls := "ContractLedger$Order", name := "compare", desc := "(III)I" } : Jvm.MethodName)) ∈ lw_all := lw_g (lw_at lw_m10 188 rfl) rfl
theorem q2706 : (Jvm.Cond.methodLink "ContractLedger$Machine" (279 : Nat) ({ cls := "ContractLedger$Memory", name := "small", desc := "(I)I" } : Jvm.MethodName)) ∈ lw_all := lw_g (lw_at lw_m10 189 rfl) rfl
theorem q2707 : (Jvm.Cond.methodLink "ContractLedger$Machine" (282 : Nat) ({ cls := "ContractLedger$Machine", name := "sign", desc := "(II)Z" } : Jvm.MethodName)) ∈ lw_all := lw_g (lw_at lw_m10 190 rfl) rfl
theorem q2708 : (Jvm.Cond.privateMethod ({ cls := "ContractLedger$Machine", name := "sign", desc := "(II)Z" } : Jvm.MethodName)) ∈ lw_tbl := lw_at lw_m10 191 rfl
theorem q2709 : (Jvm.Cond.instanceMethod ({ cls := "ContractLedger$Machine", name := "sign", desc := "(II)Z" } : Jvm.MethodName)) ∈ lw_all := lw_g (lw_at lw_m10 192 rfl) rfl
theorem q2710 : (Jvm.Cond.code ({ cls := "ContractLedger$Machine", name := "sign", desc := "(II)Z" } : Jvm.MethodName) prog_9_method_32_code (5 : Nat) (Option.some Jvm.ClassFile.FieldType.boolean)) ∈ lw_all := lw_g (lw_at lw_m10 193 rfl) rfl
theorem q2711 : (Jvm.Cond.methodLink "ContractLedger$Machine" (297 : Nat) ({ cls := "ContractLedger$Memory", name := "isNegative", desc := "(I)Z" } : Jvm.MethodName)) ∈ lw_all := lw_g (lw_at lw_m10 194 rfl) rfl
theorem q2715 : (Jvm.Cond.methodLink "ContractLedger$Machine" (286 : Nat) ({ cls := "ContractLedger$Machine", name := "isUnary", desc := "(I)Z" } : Jvm.MethodName)) ∈ lw_all := lw_g (lw_at lw_m10 198 rfl) rfl
theorem q2716 : (Jvm.Cond.static ({ cls := "ContractLedger$Machine", name := "isUnary", desc := "(I)Z" } : Jvm.MethodName)) ∈ lw_all := lw_g (lw_at lw_m10 199 rfl) rfl
theorem q2717 : (Jvm.Cond.code ({ cls := "ContractLedger$Machine", name := "isUnary", desc := "(I)Z" } : Jvm.MethodName) prog_9_method_30_code (1 : Nat) (Option.some Jvm.ClassFile.FieldType.boolean)) ∈ lw_all := lw_g (lw_at lw_m10 200 rfl) rfl
theorem q2718 : (Jvm.Cond.methodLink "ContractLedger$Machine" (289 : Nat) ({ cls := "ContractLedger$Machine", name := "unary", desc := "(II)V" } : Jvm.MethodName)) ∈ lw_all := lw_g (lw_at lw_m10 201 rfl) rfl
theorem q2719 : (Jvm.Cond.privateMethod ({ cls := "ContractLedger$Machine", name := "unary", desc := "(II)V" } : Jvm.MethodName)) ∈ lw_tbl := lw_at lw_m10 202 rfl
theorem q2720 : (Jvm.Cond.instanceMethod ({ cls := "ContractLedger$Machine", name := "unary", desc := "(II)V" } : Jvm.MethodName)) ∈ lw_all := lw_g (lw_at lw_m10 203 rfl) rfl
theorem q2721 : (Jvm.Cond.code ({ cls := "ContractLedger$Machine", name := "unary", desc := "(II)V" } : Jvm.MethodName) prog_9_method_33_code (4 : Nat) (Option.none : Option Jvm.ClassFile.FieldType)) ∈ lw_all := lw_g (lw_at lw_m10 204 rfl) rfl
theorem q2722 : (Jvm.Cond.methodLink "ContractLedger$Machine" (300 : Nat) ({ cls := "ContractLedger$Memory", name := "load", desc := "(ILContractLedger$Whole;)V" } : Jvm.MethodName)) ∈ lw_all := lw_g (lw_at lw_m10 205 rfl) rfl
theorem q2723 : (Jvm.Cond.methodLink "ContractLedger$Machine" (308 : Nat) ({ cls := "ContractLedger$Whole", name := "isZero", desc := "()Z" } : Jvm.MethodName)) ∈ lw_all := lw_g (lw_at lw_m10 206 rfl) rfl
theorem q2724 : (Jvm.Cond.methodLink "ContractLedger$Machine" (312 : Nat) ({ cls := "ContractLedger$Memory", name := "ofWhole", desc := "(LContractLedger$Whole;)I" } : Jvm.MethodName)) ∈ lw_all := lw_g (lw_at lw_m10 207 rfl) rfl
theorem q2725 : (Jvm.Cond.methodLink "ContractLedger$Machine" (316 : Nat) ({ cls := "ContractLedger$Whole", name := "set", desc := "(J)V" } : Jvm.MethodName)) ∈ lw_all := lw_g (lw_at lw_m10 208 rfl) rfl
theorem q2726 : (Jvm.Cond.methodLink "ContractLedger$Machine" (319 : Nat) ({ cls := "ContractLedger$Reckoner", name := "add", desc := "(LContractLedger$Whole;LContractLedger$Whole;ZLContractLedger$Whole;)V" } : Jvm.MethodName)) ∈ lw_all := lw_g (lw_at lw_m10 209 rfl) rfl
theorem q2742 : (Jvm.Cond.constantLong "ContractLedger$Machine" (292 : Nat) (64 : Int64)) ∈ lw_all := lw_g (lw_at lw_m10 225 rfl) rfl
theorem q2743 : (Jvm.Cond.methodLink "ContractLedger$Machine" (294 : Nat) ({ cls := "ContractLedger$Machine", name := "binary", desc := "(II)V" } : Jvm.MethodName)) ∈ lw_all := lw_g (lw_at lw_m10 226 rfl) rfl
theorem q2744 : (Jvm.Cond.privateMethod ({ cls := "ContractLedger$Machine", name := "binary", desc := "(II)V" } : Jvm.MethodName)) ∈ lw_tbl := lw_at lw_m10 227 rfl
theorem q2745 : (Jvm.Cond.instanceMethod ({ cls := "ContractLedger$Machine", name := "binary", desc := "(II)V" } : Jvm.MethodName)) ∈ lw_all := lw_g (lw_at lw_m10 228 rfl) rfl
theorem q2746 : (Jvm.Cond.code ({ cls := "ContractLedger$Machine", name := "binary", desc := "(II)V" } : Jvm.MethodName) prog_9_method_34_code (10 : Nat) (Option.none : Option Jvm.ClassFile.FieldType)) ∈ lw_all := lw_g (lw_at lw_m10 229 rfl) rfl
theorem q2747 : (Jvm.Cond.methodLink "ContractLedger$Machine" (323 : Nat) ({ cls := "ContractLedger$Machine", name := "shift", desc := "(I)V" } : Jvm.MethodName)) ∈ lw_all := lw_g (lw_at lw_m10 230 rfl) rfl
theorem q2748 : (Jvm.Cond.privateMethod ({ cls := "ContractLedger$Machine", name := "shift", desc := "(I)V" } : Jvm.MethodName)) ∈ lw_tbl := lw_at lw_m10 231 rfl
theorem q2749 : (Jvm.Cond.instanceMethod ({ cls := "ContractLedger$Machine", name := "shift", desc := "(I)V" } : Jvm.MethodName)) ∈ lw_all := lw_g (lw_at lw_m10 232 rfl) rfl
theorem q2750 : (Jvm.Cond.code ({ cls := "ContractLedger$Machine", name := "shift", desc := "(I)V" } : Jvm.MethodName) prog_9_method_37_code (3 : Nat) (Option.none : Option Jvm.ClassFile.FieldType)) ∈ lw_all := lw_g (lw_at lw_m10 233 rfl) rfl
theorem q2751 : (Jvm.Cond.methodLink "ContractLedger$Machine" (265 : Nat) ({ cls := "ContractLedger$Memory", name := "isSmall", desc := "(I)Z" } : Jvm.MethodName)) ∈ lw_all := lw_g (lw_at lw_m10 234 rfl) rfl
theorem q2752 : (Jvm.Cond.methodLink "ContractLedger$Machine" (351 : Nat) ({ cls := "ContractLedger$Failing", name := "want", desc := "(ZI)V" } : Jvm.MethodName)) ∈ lw_all := lw_g (lw_at lw_m10 235 rfl) rfl
theorem q2753 : (Jvm.Cond.methodLink "ContractLedger$Machine" (358 : Nat) ({ cls := "ContractLedger$Reckoner", name := "up", desc := "(LContractLedger$Whole;ILContractLedger$Whole;)V" } : Jvm.MethodName)) ∈ lw_all := lw_g (lw_at lw_m10 236 rfl) rfl
theorem q2757 : (Jvm.Cond.methodLink "ContractLedger$Machine" (362 : Nat) ({ cls := "ContractLedger$Reckoner", name := "down", desc := "(LContractLedger$Whole;ILContractLedger$Whole;)V" } : Jvm.MethodName)) ∈ lw_all := lw_g (lw_at lw_m11 0 rfl) rfl
theorem q2761 : (Jvm.Cond.methodLink "ContractLedger$Machine" (326 : Nat) ({ cls := "ContractLedger$Machine", name := "areSmall", desc := "()Z" } : Jvm.MethodName)) ∈ lw_all := lw_g (lw_at lw_m11 4 rfl) rfl
theorem q2762 : (Jvm.Cond.privateMethod ({ cls := "ContractLedger$Machine", name := "areSmall", desc := "()Z" } : Jvm.MethodName)) ∈ lw_tbl := lw_at lw_m11 5 rfl
theorem q2763 : (Jvm.Cond.instanceMethod ({ cls := "ContractLedger$Machine", name := "areSmall", desc := "()Z" } : Jvm.MethodName)) ∈ lw_all := lw_g (lw_at lw_m11 6 rfl) rfl
theorem q2764 : (Jvm.Cond.code ({ cls := "ContractLedger$Machine", name := "areSmall", desc := "()Z" } : Jvm.MethodName) prog_9_method_29_code (1 : Nat) (Option.some Jvm.ClassFile.FieldType.boolean)) ∈ lw_all := lw_g (lw_at lw_m11 7 rfl) rfl
theorem q2765 : (Jvm.Cond.methodLink "ContractLedger$Machine" (329 : Nat) ({ cls := "ContractLedger$Memory", name := "ofLong", desc := "(J)I" } : Jvm.MethodName)) ∈ lw_all := lw_g (lw_at lw_m11 8 rfl) rfl
theorem q2772 : (Jvm.Cond.methodLink "ContractLedger$Machine" (333 : Nat) ({ cls := "ContractLedger$Machine", name := "pushNumber", desc := "(Z)V" } : Jvm.MethodName)) ∈ lw_all := lw_g (lw_at lw_m11 15 rfl) rfl
theorem q2773 : (Jvm.Cond.privateMethod ({ cls := "ContractLedger$Machine", name := "pushNumber", desc := "(Z)V" } : Jvm.MethodName)) ∈ lw_tbl := lw_at lw_m11 16 rfl
theorem q2774 : (Jvm.Cond.instanceMethod ({ cls := "ContractLedger$Machine", name := "pushNumber", desc := "(Z)V" } : Jvm.MethodName)) ∈ lw_all := lw_g (lw_at lw_m11 17 rfl) rfl
theorem q2775 : (Jvm.Cond.code ({ cls := "ContractLedger$Machine", name := "pushNumber", desc := "(Z)V" } : Jvm.MethodName) prog_9_method_35_code (2 : Nat) (Option.none : Option Jvm.ClassFile.FieldType)) ∈ lw_all := lw_g (lw_at lw_m11 18 rfl) rfl
theorem q2776 : (Jvm.Cond.methodLink "ContractLedger$Machine" (348 : Nat) ({ cls := "ContractLedger$Whole", name := "bits", desc := "()I" } : Jvm.MethodName)) ∈ lw_all := lw_g (lw_at lw_m11 19 rfl) rfl
theorem q2777 : (Jvm.Cond.methodLink "ContractLedger$Machine" (337 : Nat) ({ cls := "ContractLedger$Reckoner", name := "multiply", desc := "(LContractLedger$Whole;LContractLedger$Whole;LContractLedger$Whole;)V" } : Jvm.MethodName)) ∈ lw_all := lw_g (lw_at lw_m11 20 rfl) rfl
theorem q2785 : (Jvm.Cond.methodLink "ContractLedger$Machine" (341 : Nat) ({ cls := "ContractLedger$Machine", name := "divide", desc := "()V" } : Jvm.MethodName)) ∈ lw_all := lw_g (lw_at lw_m11 28 rfl) rfl
theorem q2786 : (Jvm.Cond.privateMethod ({ cls := "ContractLedger$Machine", name := "divide", desc := "()V" } : Jvm.MethodName)) ∈ lw_tbl := lw_at lw_m11 29 rfl
theorem q2787 : (Jvm.Cond.instanceMethod ({ cls := "ContractLedger$Machine", name := "divide", desc := "()V" } : Jvm.MethodName)) ∈ lw_all := lw_g (lw_at lw_m11 30 rfl) rfl
theorem q2788 : (Jvm.Cond.code ({ cls := "ContractLedger$Machine", name := "divide", desc := "()V" } : Jvm.MethodName) prog_9_method_36_code (3 : Nat) (Option.none : Option Jvm.ClassFile.FieldType)) ∈ lw_all := lw_g (lw_at lw_m11 31 rfl) rfl
theorem q2789 : (Jvm.Cond.methodLink "ContractLedger$Machine" (355 : Nat) ({ cls := "ContractLedger$Reckoner", name := "divide", desc := "(LContractLedger$Whole;LContractLedger$Whole;ZLContractLedger$Whole;LContractLedger$Whole;)V" } : Jvm.MethodName)) ∈ lw_all := lw_g (lw_at lw_m11 32 rfl) rfl
theorem q2820 : (Jvm.Cond.methodLink "ContractLedger$Machine" (344 : Nat) ({ cls := "ContractLedger$Reckoner", name := "combine", desc := "(LContractLedger$Whole;LContractLedger$Whole;ILContractLedger$Whole;)V" } : Jvm.MethodName)) ∈ lw_all := lw_g (lw_at lw_m11 63 rfl) rfl
theorem q2831 : (Jvm.Cond.methodLink "ContractLedger$Machine" (177 : Nat) ({ cls := "ContractLedger$Machine", name := "collection", desc := "(II)V" } : Jvm.MethodName)) ∈ lw_all := lw_g (lw_at lw_m11 74 rfl) rfl
theorem q2832 : (Jvm.Cond.privateMethod ({ cls := "ContractLedger$Machine", name := "collection", desc := "(II)V" } : Jvm.MethodName)) ∈ lw_tbl := lw_at lw_m11 75 rfl
theorem q2833 : (Jvm.Cond.instanceMethod ({ cls := "ContractLedger$Machine", name := "collection", desc := "(II)V" } : Jvm.MethodName)) ∈ lw_all := lw_g (lw_at lw_m11 76 rfl) rfl
theorem q2834 : (Jvm.Cond.code ({ cls := "ContractLedger$Machine", name := "collection", desc := "(II)V" } : Jvm.MethodName) prog_9_method_38_code (5 : Nat) (Option.none : Option Jvm.ClassFile.FieldType)) ∈ lw_all := lw_g (lw_at lw_m11 77 rfl) rfl
theorem q2835 : (Jvm.Cond.methodLink "ContractLedger$Machine" (365 : Nat) ({ cls := "ContractLedger$Machine", name := "concat", desc := "(Z)V" } : Jvm.MethodName)) ∈ lw_all := lw_g (lw_at lw_m11 78 rfl) rfl
theorem q2836 : (Jvm.Cond.privateMethod ({ cls := "ContractLedger$Machine", name := "concat", desc := "(Z)V" } : Jvm.MethodName)) ∈ lw_tbl := lw_at lw_m11 79 rfl
theorem q2837 : (Jvm.Cond.instanceMethod ({ cls := "ContractLedger$Machine", name := "concat", desc := "(Z)V" } : Jvm.MethodName)) ∈ lw_all := lw_g (lw_at lw_m11 80 rfl) rfl
theorem q2838 : (Jvm.Cond.code ({ cls := "ContractLedger$Machine", name := "concat", desc := "(Z)V" } : Jvm.MethodName) prog_9_method_39_code (8 : Nat) (Option.none : Option Jvm.ClassFile.FieldType)) ∈ lw_all := lw_g (lw_at lw_m11 81 rfl) rfl
theorem q2839 : (Jvm.Cond.methodLink "ContractLedger$Machine" (388 : Nat) ({ cls := "ContractLedger$Memory", name := "count", desc := "(I)I" } : Jvm.MethodName)) ∈ lw_all := lw_g (lw_at lw_m11 82 rfl) rfl
theorem q2840 : (Jvm.Cond.methodLink "ContractLedger$Machine" (391 : Nat) ({ cls := "ContractLedger$Memory", name := "listCount", desc := "(I)I" } : Jvm.MethodName)) ∈ lw_all := lw_g (lw_at lw_m11 83 rfl) rfl
theorem q2841 : (Jvm.Cond.methodLink "ContractLedger$Machine" (394 : Nat) ({ cls := "ContractLedger$Memory", name := "bytes", desc := "(I)I" } : Jvm.MethodName)) ∈ lw_all := lw_g (lw_at lw_m11 84 rfl) rfl
theorem q2842 : (Jvm.Cond.methodLink "ContractLedger$Machine" (397 : Nat) ({ cls := "ContractLedger$Machine", name := "copy", desc := "(IIIII)I" } : Jvm.MethodName)) ∈ lw_all := lw_g (lw_at lw_m11 85 rfl) rfl
theorem q2843 : (Jvm.Cond.privateMethod ({ cls := "ContractLedger$Machine", name := "copy", desc := "(IIIII)I" } : Jvm.MethodName)) ∈ lw_tbl := lw_at lw_m11 86 rfl
theorem q2844 : (Jvm.Cond.instanceMethod ({ cls := "ContractLedger$Machine", name := "copy", desc := "(IIIII)I" } : Jvm.MethodName)) ∈ lw_all := lw_g (lw_at lw_m11 87 rfl) rfl
theorem q2845 : (Jvm.Cond.code ({ cls := "ContractLedger$Machine", name := "copy", desc := "(IIIII)I" } : Jvm.MethodName) prog_9_method_40_code (7 : Nat) (Option.some Jvm.ClassFile.FieldType.int)) ∈ lw_all := lw_g (lw_at lw_m11 88 rfl) rfl
theorem q2846 : (Jvm.Cond.methodLink "ContractLedger$Machine" (401 : Nat) ({ cls := "ContractLedger$Memory", name := "byteAt", desc := "(II)I" } : Jvm.MethodName)) ∈ lw_all := lw_g (lw_at lw_m11 89 rfl) rfl
theorem q2847 : (Jvm.Cond.methodLink "ContractLedger$Machine" (404 : Nat) ({ cls := "ContractLedger$Memory", name := "setByte", desc := "(III)V" } : Jvm.MethodName)) ∈ lw_all := lw_g (lw_at lw_m11 90 rfl) rfl
theorem q2848 : (Jvm.Cond.methodLink "ContractLedger$Machine" (368 : Nat) ({ cls := "ContractLedger$Machine", name := "slice", desc := "()V" } : Jvm.MethodName)) ∈ lw_all := lw_g (lw_at lw_m11 91 rfl) rfl
theorem q2849 : (Jvm.Cond.privateMethod ({ cls := "ContractLedger$Machine", name := "slice", desc := "()V" } : Jvm.MethodName)) ∈ lw_tbl := lw_at lw_m11 92 rfl
theorem q2850 : (Jvm.Cond.instanceMethod ({ cls := "ContractLedger$Machine", name := "slice", desc := "()V" } : Jvm.MethodName)) ∈ lw_all := lw_g (lw_at lw_m11 93 rfl) rfl
theorem q2851 : (Jvm.Cond.code ({ cls := "ContractLedger$Machine", name := "slice", desc := "()V" } : Jvm.MethodName) prog_9_method_41_code (7 : Nat) (Option.none : Option Jvm.ClassFile.FieldType)) ∈ lw_all := lw_g (lw_at lw_m11 94 rfl) rfl
theorem q2852 : (Jvm.Cond.methodLink "ContractLedger$Machine" (371 : Nat) ({ cls := "ContractLedger$Machine", name := "size", desc := "(II)I" } : Jvm.MethodName)) ∈ lw_all := lw_g (lw_at lw_m11 95 rfl) rfl
theorem q2853 : (Jvm.Cond.privateMethod ({ cls := "ContractLedger$Machine", name := "size", desc := "(II)I" } : Jvm.MethodName)) ∈ lw_tbl := lw_at lw_m11 96 rfl
theorem q2854 : (Jvm.Cond.instanceMethod ({ cls := "ContractLedger$Machine", name := "size", desc := "(II)I" } : Jvm.MethodName)) ∈ lw_all := lw_g (lw_at lw_m11 97 rfl) rfl
theorem q2855 : (Jvm.Cond.code ({ cls := "ContractLedger$Machine", name := "size", desc := "(II)I" } : Jvm.MethodName) prog_9_method_42_code (3 : Nat) (Option.some Jvm.ClassFile.FieldType.int)) ∈ lw_all := lw_g (lw_at lw_m11 98 rfl) rfl
theorem q2856 : (Jvm.Cond.methodLink "ContractLedger$Machine" (374 : Nat) ({ cls := "ContractLedger$Machine", name := "pack", desc := "(II)I" } : Jvm.MethodName)) ∈ lw_all := lw_g (lw_at lw_m11 99 rfl) rfl
theorem q2857 : (Jvm.Cond.privateMethod ({ cls := "ContractLedger$Machine", name := "pack", desc := "(II)I" } : Jvm.MethodName)) ∈ lw_tbl := lw_at lw_m11 100 rfl
theorem q2858 : (Jvm.Cond.instanceMethod ({ cls := "ContractLedger$Machine", name := "pack", desc := "(II)I" } : Jvm.MethodName)) ∈ lw_all := lw_g (lw_at lw_m11 101 rfl) rfl
theorem q2859 : (Jvm.Cond.code ({ cls := "ContractLedger$Machine", name := "pack", desc := "(II)I" } : Jvm.MethodName) prog_9_method_43_code (4 : Nat) (Option.some Jvm.ClassFile.FieldType.int)) ∈ lw_all := lw_g (lw_at lw_m11 102 rfl) rfl
theorem q2860 : (Jvm.Cond.methodLink "ContractLedger$Machine" (407 : Nat) ({ cls := "ContractLedger$Forms", name := "write", desc := "([BIII)V" } : Jvm.MethodName)) ∈ lw_all := lw_g (lw_at lw_m11 103 rfl) rfl
theorem q2861 : (Jvm.Cond.methodLink "ContractLedger$Machine" (411 : Nat) ({ cls := "ContractLedger$Memory", name := "ofBytes", desc := "([BII)I" } : Jvm.MethodName)) ∈ lw_all := lw_g (lw_at lw_m11 104 rfl) rfl
theorem q2862 : (Jvm.Cond.constantLong "ContractLedger$Machine" (377 : Nat) (2 : Int64)) ∈ lw_all := lw_g (lw_at lw_m11 105 rfl) rfl
theorem q2863 : (Jvm.Cond.methodLink "ContractLedger$Machine" (379 : Nat) ({ cls := "ContractLedger$Forms", name := "read", desc := "(II)I" } : Jvm.MethodName)) ∈ lw_all := lw_g (lw_at lw_m11 106 rfl) rfl
theorem q2931 : (Jvm.Cond.methodLink "ContractLedger$Machine" (384 : Nat) ({ cls := "ContractLedger$Machine", name := "keyed", desc := "(IIZ)V" } : Jvm.MethodName)) ∈ lw_all := lw_g (lw_at lw_m11 174 rfl) rfl
theorem q2932 : (Jvm.Cond.privateMethod ({ cls := "ContractLedger$Machine", name := "keyed", desc := "(IIZ)V" } : Jvm.MethodName)) ∈ lw_tbl := lw_at lw_m11 175 rfl
theorem q2933 : (Jvm.Cond.instanceMethod ({ cls := "ContractLedger$Machine", name := "keyed", desc := "(IIZ)V" } : Jvm.MethodName)) ∈ lw_all := lw_g (lw_at lw_m11 176 rfl) rfl
theorem q2934 : (Jvm.Cond.code ({ cls := "ContractLedger$Machine", name := "keyed", desc := "(IIZ)V" } : Jvm.MethodName) prog_9_method_44_code (14 : Nat) (Option.none : Option Jvm.ClassFile.FieldType)) ∈ lw_all := lw_g (lw_at lw_m11 177 rfl) rfl
theorem q2935 : (Jvm.Cond.methodLink "ContractLedger$Machine" (415 : Nat) ({ cls := "java/lang/Integer", name := "numberOfLeadingZeros", desc := "(I)I" } : Jvm.MethodName)) ∈ lw_all := lw_g (lw_at lw_m11 178 rfl) rfl
theorem q2936 : (Jvm.Cond.methodLink "ContractLedger$Machine" (420 : Nat) ({ cls := "ContractLedger$Trees", name := "find", desc := "(III)I" } : Jvm.MethodName)) ∈ lw_all := lw_g (lw_at lw_m11 179 rfl) rfl
theorem q2941 : (Jvm.Cond.methodLink "ContractLedger$Machine" (423 : Nat) ({ cls := "ContractLedger$Trees", name := "put", desc := "(IIII)I" } : Jvm.MethodName)) ∈ lw_all := lw_g (lw_at lw_m11 184 rfl) rfl
theorem q2955 : (Jvm.Cond.methodLink "ContractLedger$Machine" (427 : Nat) ({ cls := "ContractLedger$Trees", name := "remove", desc := "(III)I" } : Jvm.MethodName)) ∈ lw_all := lw_g (lw_at lw_m11 198 rfl) rfl
theorem q2968 : (Jvm.Cond.methodLink "ContractLedger$Machine" (180 : Nat) ({ cls := "ContractLedger$Machine", name := "ledger", desc := "(II)V" } : Jvm.MethodName)) ∈ lw_all := lw_g (lw_at lw_m11 211 rfl) rfl
theorem q2969 : (Jvm.Cond.privateMethod ({ cls := "ContractLedger$Machine", name := "ledger", desc := "(II)V" } : Jvm.MethodName)) ∈ lw_tbl := lw_at lw_m11 212 rfl
theorem q2970 : (Jvm.Cond.instanceMethod ({ cls := "ContractLedger$Machine", name := "ledger", desc := "(II)V" } : Jvm.MethodName)) ∈ lw_all := lw_g (lw_at lw_m11 213 rfl) rfl
theorem q2971 : (Jvm.Cond.code ({ cls := "ContractLedger$Machine", name := "ledger", desc := "(II)V" } : Jvm.MethodName) prog_9_method_45_code (6 : Nat) (Option.none : Option Jvm.ClassFile.FieldType)) ∈ lw_all := lw_g (lw_at lw_m11 214 rfl) rfl
theorem q2972 : (Jvm.Cond.methodLink "ContractLedger$Machine" (442 : Nat) ({ cls := "ContractLedger$Machine", name := "address", desc := "(II)I" } : Jvm.MethodName)) ∈ lw_all := lw_g (lw_at lw_m11 215 rfl) rfl
theorem q2973 : (Jvm.Cond.privateMethod ({ cls := "ContractLedger$Machine", name := "address", desc := "(II)I" } : Jvm.MethodName)) ∈ lw_tbl := lw_at lw_m11 216 rfl
theorem q2974 : (Jvm.Cond.instanceMethod ({ cls := "ContractLedger$Machine", name := "address", desc := "(II)I" } : Jvm.MethodName)) ∈ lw_all := lw_g (lw_at lw_m11 217 rfl) rfl
theorem q2975 : (Jvm.Cond.code ({ cls := "ContractLedger$Machine", name := "address", desc := "(II)I" } : Jvm.MethodName) prog_9_method_46_code (3 : Nat) (Option.some Jvm.ClassFile.FieldType.int)) ∈ lw_all := lw_g (lw_at lw_m11 218 rfl) rfl
theorem q2976 : (Jvm.Cond.methodLink "ContractLedger$Machine" (475 : Nat) ({ cls := "ContractLedger$Names", name := "length", desc := "(I)I" } : Jvm.MethodName)) ∈ lw_all := lw_g (lw_at lw_m11 219 rfl) rfl
theorem q2977 : (Jvm.Cond.methodLink "ContractLedger$Machine" (476 : Nat) ({ cls := "ContractLedger$Addresses", name := "make", desc := "(LContractLedger$Memory;I[BII)I" } : Jvm.MethodName)) ∈ lw_all := lw_g (lw_at lw_m11 220 rfl) rfl
theorem q2983 : (Jvm.Cond.methodLink "ContractLedger$Machine" (459 : Nat) ({ cls := "ContractLedger$Memory", name := "contract", desc := "(II)I" } : Jvm.MethodName)) ∈ lw_all := lw_g (lw_at lw_m11 226 rfl) rfl
theorem q2987 : (Jvm.Cond.methodLink "ContractLedger$Machine" (462 : Nat) ({ cls := "ContractLedger$Machine", name := "contract", desc := "(III)I" } : Jvm.MethodName)) ∈ lw_all := lw_g (lw_at lw_m11 230 rfl) rfl
theorem q2988 : (Jvm.Cond.privateMethod ({ cls := "ContractLedger$Machine", name := "contract", desc := "(III)I" } : Jvm.MethodName)) ∈ lw_tbl := lw_at lw_m11 231 rfl
theorem q2989 : (Jvm.Cond.instanceMethod ({ cls := "ContractLedger$Machine", name := "contract", desc := "(III)I" } : Jvm.MethodName)) ∈ lw_all := lw_g (lw_at lw_m11 232 rfl) rfl
theorem q2990 : (Jvm.Cond.code ({ cls := "ContractLedger$Machine", name := "contract", desc := "(III)I" } : Jvm.MethodName) prog_9_method_47_code (8 : Nat) (Option.some Jvm.ClassFile.FieldType.int)) ∈ lw_all := lw_g (lw_at lw_m11 233 rfl) rfl
theorem q2991 : (Jvm.Cond.methodLink "ContractLedger$Machine" (482 : Nat) ({ cls := "ContractLedger$Addresses", name := "read", desc := "(LContractLedger$Memory;I)I" } : Jvm.MethodName)) ∈ lw_all := lw_g (lw_at lw_m11 234 rfl) rfl
theorem q2992 : (Jvm.Cond.methodLink "ContractLedger$Machine" (492 : Nat) ({ cls := "ContractLedger$Addresses", name := "text", desc := "()[B" } : Jvm.MethodName)) ∈ lw_all := lw_g (lw_at lw_m11 235 rfl) rfl
theorem q2996 : (Jvm.Cond.methodLink "ContractLedger$Machine" (496 : Nat) ({ cls := "ContractLedger$Names", name := "find", desc := "([BII)I" } : Jvm.MethodName)) ∈ lw_all := lw_g (lw_at lw_m11 239 rfl) rfl
theorem q2997 : (Jvm.Cond.methodLink "ContractLedger$Machine" (500 : Nat) ({ cls := "ContractLedger$Scripts", name := "entry", desc := "(II)I" } : Jvm.MethodName)) ∈ lw_all := lw_g (lw_at lw_m12 0 rfl) rfl
theorem q2998 : (Jvm.Cond.methodLink "ContractLedger$Machine" (464 : Nat) ({ cls := "ContractLedger$Memory", name := "operation", desc := "(IIIII)I" } : Jvm.MethodName)) ∈ lw_all := lw_g (lw_at lw_m12 1 rfl) rfl
set_option maxRecDepth 100000
abbrev cX20_init : ByteArray := prog_14_method_1_code
def yX20_init : MethodName := ⟨RX20, "<init>", "()V"⟩
def dkwX20_init_1 : List UInt8 := [187, 0, 16, 89, 17, 0, 200, 183, 0, 18, 181, 0, 21, 177]
abbrev dktX20_init_1 : List UInt8 := dkwX20_init_1 ++ []
def dkwX20_init_0 : List UInt8 := [42, 183, 0, 1, 42, 17, 0, 204, 188, 10, 181, 0, 7, 42, 17, 0, 204, 188, 10, 181, 0, 13, 42]
abbrev dktX20_init_0 : List UInt8 := dkwX20_init_0 ++ dktX20_init_1
theorem dksX20_init_0 : cX20_init.data.toList.drop 0 = dktX20_init_0 := by decide +kernel
theorem dksX20_init_1 : cX20_init.data.toList.drop 23 = dktX20_init_1 := dk_seg dksX20_init_0 23 rfl rfl
theorem dX20_init_0 : decode cX20_init 0 = .ok (.aload_n 0, 1) := dk_42 (dk_at dksX20_init_0 0 rfl rfl)
theorem dX20_init_1 : decode cX20_init 1 = .ok (.invokespecial 1, 3) := dk_183 0 1 (dk_at dksX20_init_0 1 rfl rfl)
theorem dX20_init_4 : decode cX20_init 4 = .ok (.aload_n 0, 1) := dk_42 (dk_at dksX20_init_0 4 rfl rfl)
theorem dX20_init_5 : decode cX20_init 5 = .ok (.sipush 204, 3) := dk_17 0 204 (dk_at dksX20_init_0 5 rfl rfl)
theorem dX20_init_8 : decode cX20_init 8 = .ok (.newarray .int, 2) := dk_188_10 (dk_at dksX20_init_0 8 rfl rfl)
theorem dX20_init_10 : decode cX20_init 10 = .ok (.putfield 7, 3) := dk_181 0 7 (dk_at dksX20_init_0 10 rfl rfl)
theorem dX20_init_13 : decode cX20_init 13 = .ok (.aload_n 0, 1) := dk_42 (dk_at dksX20_init_0 13 rfl rfl)
theorem dX20_init_14 : decode cX20_init 14 = .ok (.sipush 204, 3) := dk_17 0 204 (dk_at dksX20_init_0 14 rfl rfl)
theorem dX20_init_17 : decode cX20_init 17 = .ok (.newarray .int, 2) := dk_188_10 (dk_at dksX20_init_0 17 rfl rfl)
theorem dX20_init_19 : decode cX20_init 19 = .ok (.putfield 13, 3) := dk_181 0 13 (dk_at dksX20_init_0 19 rfl rfl)
theorem dX20_init_22 : decode cX20_init 22 = .ok (.aload_n 0, 1) := dk_42 (dk_at dksX20_init_0 22 rfl rfl)
theorem dX20_init_23 : decode cX20_init 23 = .ok (.new 16, 3) := dk_187 0 16 (dk_at dksX20_init_1 0 rfl rfl)
theorem dX20_init_26 : decode cX20_init 26 = .ok (.dup, 1) := dk_89 (dk_at dksX20_init_1 3 rfl rfl)
theorem dX20_init_27 : decode cX20_init 27 = .ok (.sipush 200, 3) := dk_17 0 200 (dk_at dksX20_init_1 4 rfl rfl)
theorem dX20_init_30 : decode cX20_init 30 = .ok (.invokespecial 18, 3) := dk_183 0 18 (dk_at dksX20_init_1 7 rfl rfl)
theorem dX20_init_33 : decode cX20_init 33 = .ok (.putfield 21, 3) := dk_181 0 21 (dk_at dksX20_init_1 10 rfl rfl)
theorem dX20_init_36 : decode cX20_init 36 = .ok (.return_, 1) := dk_177 (dk_at dksX20_init_1 13 rfl rfl)
abbrev cX20_add : ByteArray := prog_14_method_4_code
def yX20_add : MethodName := ⟨RX20, "add", "(LContractLedger$Whole;LContractLedger$Whole;ZLContractLedger$Whole;)V"⟩
def dkwX20_add_7 : List UInt8 := [153, 0, 15, 25, 4, 180, 0, 25, 158, 0, 7, 4, 167, 0, 4, 3, 181, 0, 46, 177]
abbrev dktX20_add_7 : List UInt8 := dkwX20_add_7 ++ []
def dkwX20_add_6 : List UInt8 := [25, 4, 184, 0, 62, 25, 4, 21, 7, 153, 0, 11, 21, 5, 153, 0, 23, 167, 0, 8, 21, 6]
abbrev dktX20_add_6 : List UInt8 := dkwX20_add_6 ++ dktX20_add_7
def dkwX20_add_5 : List UInt8 := [181, 0, 46, 167, 0, 61, 21, 7, 153, 0, 13, 43, 44, 25, 4, 184, 0, 62, 167, 0, 10, 44, 43]
abbrev dktX20_add_5 : List UInt8 := dkwX20_add_5 ++ dktX20_add_6
def dkwX20_add_4 : List UInt8 := [184, 0, 58, 25, 4, 21, 8, 153, 0, 15, 25, 4, 180, 0, 25, 158, 0, 7, 4, 167, 0, 4, 3]
abbrev dktX20_add_4 : List UInt8 := dkwX20_add_4 ++ dktX20_add_5
def dkwX20_add_3 : List UInt8 := [153, 0, 52, 43, 182, 0, 50, 153, 0, 8, 21, 6, 167, 0, 5, 21, 5, 54, 8, 43, 44, 25, 4]
abbrev dktX20_add_3 : List UInt8 := dkwX20_add_3 ++ dktX20_add_4
def dkwX20_add_2 : List UInt8 := [167, 0, 4, 3, 54, 7, 21, 5, 21, 6, 159, 0, 17, 43, 182, 0, 50, 154, 0, 10, 44, 182, 0, 50]
abbrev dktX20_add_2 : List UInt8 := dkwX20_add_2 ++ dktX20_add_3
def dkwX20_add_1 : List UInt8 := [167, 0, 4, 3, 159, 0, 7, 4, 167, 0, 4, 3, 54, 6, 43, 44, 182, 0, 54, 155, 0, 7, 4]
abbrev dktX20_add_1 : List UInt8 := dkwX20_add_1 ++ dktX20_add_2
def dkwX20_add_0 : List UInt8 := [43, 180, 0, 46, 54, 5, 44, 180, 0, 46, 29, 153, 0, 14, 44, 182, 0, 50, 154, 0, 7, 4]
abbrev dktX20_add_0 : List UInt8 := dkwX20_add_0 ++ dktX20_add_1
theorem dksX20_add_0 : cX20_add.data.toList.drop 0 = dktX20_add_0 := by decide +kernel
theorem dksX20_add_1 : cX20_add.data.toList.drop 22 = dktX20_add_1 := dk_seg dksX20_add_0 22 rfl rfl
theorem dksX20_add_2 : cX20_add.data.toList.drop 45 = dktX20_add_2 := dk_seg dksX20_add_1 23 rfl rfl
theorem dksX20_add_3 : cX20_add.data.toList.drop 69 = dktX20_add_3 := dk_seg dksX20_add_2 24 rfl rfl
theorem dksX20_add_4 : cX20_add.data.toList.drop 92 = dktX20_add_4 := dk_seg dksX20_add_3 23 rfl rfl
theorem dksX20_add_5 : cX20_add.data.toList.drop 115 = dktX20_add_5 := dk_seg dksX20_add_4 23 rfl rfl
theorem dksX20_add_6 : cX20_add.data.toList.drop 138 = dktX20_add_6 := dk_seg dksX20_add_5 23 rfl rfl
theorem dksX20_add_7 : cX20_add.data.toList.drop 160 = dktX20_add_7 := dk_seg dksX20_add_6 22 rfl rfl
theorem dX20_add_0 : decode cX20_add 0 = .ok (.aload_n 1, 1) := dk_43 (dk_at dksX20_add_0 0 rfl rfl)
theorem dX20_add_1 : decode cX20_add 1 = .ok (.getfield 46, 3) := dk_180 0 46 (dk_at dksX20_add_0 1 rfl rfl)
theorem dX20_add_4 : decode cX20_add 4 = .ok (.istore 5, 2) := dk_54 5 (dk_at dksX20_add_0 4 rfl rfl)
theorem dX20_add_6 : decode cX20_add 6 = .ok (.aload_n 2, 1) := dk_44 (dk_at dksX20_add_0 6 rfl rfl)
theorem dX20_add_7 : decode cX20_add 7 = .ok (.getfield 46, 3) := dk_180 0 46 (dk_at dksX20_add_0 7 rfl rfl)
theorem dX20_add_10 : decode cX20_add 10 = .ok (.iload_n 3, 1) := dk_29 (dk_at dksX20_add_0 10 rfl rfl)
theorem dX20_add_11 : decode cX20_add 11 = .ok (.ifCond .eq 14, 3) := dk_153 0 14 (dk_at dksX20_add_0 11 rfl rfl)
theorem dX20_add_14 : decode cX20_add 14 = .ok (.aload_n 2, 1) := dk_44 (dk_at dksX20_add_0 14 rfl rfl)
theorem dX20_add_15 : decode cX20_add 15 = .ok (.invokevirtual 50, 3) := dk_182 0 50 (dk_at dksX20_add_0 15 rfl rfl)
theorem dX20_add_18 : decode cX20_add 18 = .ok (.ifCond .ne 7, 3) := dk_154 0 7 (dk_at dksX20_add_0 18 rfl rfl)
theorem dX20_add_21 : decode cX20_add 21 = .ok (.iconst 1, 1) := dk_4 (dk_at dksX20_add_0 21 rfl rfl)
theorem dX20_add_22 : decode cX20_add 22 = .ok (.goto 4, 3) := dk_167 0 4 (dk_at dksX20_add_1 0 rfl rfl)
theorem dX20_add_25 : decode cX20_add 25 = .ok (.iconst 0, 1) := dk_3 (dk_at dksX20_add_1 3 rfl rfl)
theorem dX20_add_26 : decode cX20_add 26 = .ok (.if_icmp .eq 7, 3) := dk_159 0 7 (dk_at dksX20_add_1 4 rfl rfl)
theorem dX20_add_29 : decode cX20_add 29 = .ok (.iconst 1, 1) := dk_4 (dk_at dksX20_add_1 7 rfl rfl)
theorem dX20_add_30 : decode cX20_add 30 = .ok (.goto 4, 3) := dk_167 0 4 (dk_at dksX20_add_1 8 rfl rfl)
theorem dX20_add_33 : decode cX20_add 33 = .ok (.iconst 0, 1) := dk_3 (dk_at dksX20_add_1 11 rfl rfl)
theorem dX20_add_34 : decode cX20_add 34 = .ok (.istore 6, 2) := dk_54 6 (dk_at dksX20_add_1 12 rfl rfl)
theorem dX20_add_36 : decode cX20_add 36 = .ok (.aload_n 1, 1) := dk_43 (dk_at dksX20_add_1 14 rfl rfl)
theorem dX20_add_37 : decode cX20_add 37 = .ok (.aload_n 2, 1) := dk_44 (dk_at dksX20_add_1 15 rfl rfl)
theorem dX20_add_38 : decode cX20_add 38 = .ok (.invokevirtual 54, 3) := dk_182 0 54 (dk_at dksX20_add_1 16 rfl rfl)
theorem dX20_add_41 : decode cX20_add 41 = .ok (.ifCond .lt 7, 3) := dk_155 0 7 (dk_at dksX20_add_1 19 rfl rfl)
theorem dX20_add_44 : decode cX20_add 44 = .ok (.iconst 1, 1) := dk_4 (dk_at dksX20_add_1 22 rfl rfl)
theorem dX20_add_45 : decode cX20_add 45 = .ok (.goto 4, 3) := dk_167 0 4 (dk_at dksX20_add_2 0 rfl rfl)
theorem dX20_add_48 : decode cX20_add 48 = .ok (.iconst 0, 1) := dk_3 (dk_at dksX20_add_2 3 rfl rfl)
theorem dX20_add_49 : decode cX20_add 49 = .ok (.istore 7, 2) := dk_54 7 (dk_at dksX20_add_2 4 rfl rfl)
theorem dX20_add_51 : decode cX20_add 51 = .ok (.iload 5, 2) := dk_21 5 (dk_at dksX20_add_2 6 rfl rfl)
theorem dX20_add_53 : decode cX20_add 53 = .ok (.iload 6, 2) := dk_21 6 (dk_at dksX20_add_2 8 rfl rfl)
theorem dX20_add_55 : decode cX20_add 55 = .ok (.if_icmp .eq 17, 3) := dk_159 0 17 (dk_at dksX20_add_2 10 rfl rfl)
theorem dX20_add_58 : decode cX20_add 58 = .ok (.aload_n 1, 1) := dk_43 (dk_at dksX20_add_2 13 rfl rfl)
theorem dX20_add_59 : decode cX20_add 59 = .ok (.invokevirtual 50, 3) := dk_182 0 50 (dk_at dksX20_add_2 14 rfl rfl)
theorem dX20_add_62 : decode cX20_add 62 = .ok (.ifCond .ne 10, 3) := dk_154 0 10 (dk_at dksX20_add_2 17 rfl rfl)
theorem dX20_add_65 : decode cX20_add 65 = .ok (.aload_n 2, 1) := dk_44 (dk_at dksX20_add_2 20 rfl rfl)
theorem dX20_add_66 : decode cX20_add 66 = .ok (.invokevirtual 50, 3) := dk_182 0 50 (dk_at dksX20_add_2 21 rfl rfl)
theorem dX20_add_69 : decode cX20_add 69 = .ok (.ifCond .eq 52, 3) := dk_153 0 52 (dk_at dksX20_add_3 0 rfl rfl)
theorem dX20_add_72 : decode cX20_add 72 = .ok (.aload_n 1, 1) := dk_43 (dk_at dksX20_add_3 3 rfl rfl)
theorem dX20_add_73 : decode cX20_add 73 = .ok (.invokevirtual 50, 3) := dk_182 0 50 (dk_at dksX20_add_3 4 rfl rfl)
theorem dX20_add_76 : decode cX20_add 76 = .ok (.ifCond .eq 8, 3) := dk_153 0 8 (dk_at dksX20_add_3 7 rfl rfl)
theorem dX20_add_79 : decode cX20_add 79 = .ok (.iload 6, 2) := dk_21 6 (dk_at dksX20_add_3 10 rfl rfl)
theorem dX20_add_81 : decode cX20_add 81 = .ok (.goto 5, 3) := dk_167 0 5 (dk_at dksX20_add_3 12 rfl rfl)
theorem dX20_add_84 : decode cX20_add 84 = .ok (.iload 5, 2) := dk_21 5 (dk_at dksX20_add_3 15 rfl rfl)
theorem dX20_add_86 : decode cX20_add 86 = .ok (.istore 8, 2) := dk_54 8 (dk_at dksX20_add_3 17 rfl rfl)
theorem dX20_add_88 : decode cX20_add 88 = .ok (.aload_n 1, 1) := dk_43 (dk_at dksX20_add_3 19 rfl rfl)
theorem dX20_add_89 : decode cX20_add 89 = .ok (.aload_n 2, 1) := dk_44 (dk_at dksX20_add_3 20 rfl rfl)
theorem dX20_add_90 : decode cX20_add 90 = .ok (.aload 4, 2) := dk_25 4 (dk_at dksX20_add_3 21 rfl rfl)
theorem dX20_add_92 : decode cX20_add 92 = .ok (.invokestatic 58, 3) := dk_184 0 58 (dk_at dksX20_add_4 0 rfl rfl)
theorem dX20_add_95 : decode cX20_add 95 = .ok (.aload 4, 2) := dk_25 4 (dk_at dksX20_add_4 3 rfl rfl)
theorem dX20_add_97 : decode cX20_add 97 = .ok (.iload 8, 2) := dk_21 8 (dk_at dksX20_add_4 5 rfl rfl)
theorem dX20_add_99 : decode cX20_add 99 = .ok (.ifCond .eq 15, 3) := dk_153 0 15 (dk_at dksX20_add_4 7 rfl rfl)
theorem dX20_add_102 : decode cX20_add 102 = .ok (.aload 4, 2) := dk_25 4 (dk_at dksX20_add_4 10 rfl rfl)
theorem dX20_add_104 : decode cX20_add 104 = .ok (.getfield 25, 3) := dk_180 0 25 (dk_at dksX20_add_4 12 rfl rfl)
theorem dX20_add_107 : decode cX20_add 107 = .ok (.ifCond .le 7, 3) := dk_158 0 7 (dk_at dksX20_add_4 15 rfl rfl)
theorem dX20_add_110 : decode cX20_add 110 = .ok (.iconst 1, 1) := dk_4 (dk_at dksX20_add_4 18 rfl rfl)
theorem dX20_add_111 : decode cX20_add 111 = .ok (.goto 4, 3) := dk_167 0 4 (dk_at dksX20_add_4 19 rfl rfl)
theorem dX20_add_114 : decode cX20_add 114 = .ok (.iconst 0, 1) := dk_3 (dk_at dksX20_add_4 22 rfl rfl)
theorem dX20_add_115 : decode cX20_add 115 = .ok (.putfield 46, 3) := dk_181 0 46 (dk_at dksX20_add_5 0 rfl rfl)
theorem dX20_add_118 : decode cX20_add 118 = .ok (.goto 61, 3) := dk_167 0 61 (dk_at dksX20_add_5 3 rfl rfl)
theorem dX20_add_121 : decode cX20_add 121 = .ok (.iload 7, 2) := dk_21 7 (dk_at dksX20_add_5 6 rfl rfl)
theorem dX20_add_123 : decode cX20_add 123 = .ok (.ifCond .eq 13, 3) := dk_153 0 13 (dk_at dksX20_add_5 8 rfl rfl)
theorem dX20_add_126 : decode cX20_add 126 = .ok (.aload_n 1, 1) := dk_43 (dk_at dksX20_add_5 11 rfl rfl)
theorem dX20_add_127 : decode cX20_add 127 = .ok (.aload_n 2, 1) := dk_44 (dk_at dksX20_add_5 12 rfl rfl)
theorem dX20_add_128 : decode cX20_add 128 = .ok (.aload 4, 2) := dk_25 4 (dk_at dksX20_add_5 13 rfl rfl)
theorem dX20_add_130 : decode cX20_add 130 = .ok (.invokestatic 62, 3) := dk_184 0 62 (dk_at dksX20_add_5 15 rfl rfl)
theorem dX20_add_133 : decode cX20_add 133 = .ok (.goto 10, 3) := dk_167 0 10 (dk_at dksX20_add_5 18 rfl rfl)
theorem dX20_add_136 : decode cX20_add 136 = .ok (.aload_n 2, 1) := dk_44 (dk_at dksX20_add_5 21 rfl rfl)
theorem dX20_add_137 : decode cX20_add 137 = .ok (.aload_n 1, 1) := dk_43 (dk_at dksX20_add_5 22 rfl rfl)
theorem dX20_add_138 : decode cX20_add 138 = .ok (.aload 4, 2) := dk_25 4 (dk_at dksX20_add_6 0 rfl rfl)
theorem dX20_add_140 : decode cX20_add 140 = .ok (.invokestatic 62, 3) := dk_184 0 62 (dk_at dksX20_add_6 2 rfl rfl)
theorem dX20_add_143 : decode cX20_add 143 = .ok (.aload 4, 2) := dk_25 4 (dk_at dksX20_add_6 5 rfl rfl)
theorem dX20_add_145 : decode cX20_add 145 = .ok (.iload 7, 2) := dk_21 7 (dk_at dksX20_add_6 7 rfl rfl)
theorem dX20_add_147 : decode cX20_add 147 = .ok (.ifCond .eq 11, 3) := dk_153 0 11 (dk_at dksX20_add_6 9 rfl rfl)
theorem dX20_add_150 : decode cX20_add 150 = .ok (.iload 5, 2) := dk_21 5 (dk_at dksX20_add_6 12 rfl rfl)
theorem dX20_add_152 : decode cX20_add 152 = .ok (.ifCond .eq 23, 3) := dk_153 0 23 (dk_at dksX20_add_6 14 rfl rfl)
theorem dX20_add_155 : decode cX20_add 155 = .ok (.goto 8, 3) := dk_167 0 8 (dk_at dksX20_add_6 17 rfl rfl)
theorem dX20_add_158 : decode cX20_add 158 = .ok (.iload 6, 2) := dk_21 6 (dk_at dksX20_add_6 20 rfl rfl)
theorem dX20_add_160 : decode cX20_add 160 = .ok (.ifCond .eq 15, 3) := dk_153 0 15 (dk_at dksX20_add_7 0 rfl rfl)
theorem dX20_add_163 : decode cX20_add 163 = .ok (.aload 4, 2) := dk_25 4 (dk_at dksX20_add_7 3 rfl rfl)
theorem dX20_add_165 : decode cX20_add 165 = .ok (.getfield 25, 3) := dk_180 0 25 (dk_at dksX20_add_7 5 rfl rfl)
theorem dX20_add_168 : decode cX20_add 168 = .ok (.ifCond .le 7, 3) := dk_158 0 7 (dk_at dksX20_add_7 8 rfl rfl)
theorem dX20_add_171 : decode cX20_add 171 = .ok (.iconst 1, 1) := dk_4 (dk_at dksX20_add_7 11 rfl rfl)
theorem dX20_add_172 : decode cX20_add 172 = .ok (.goto 4, 3) := dk_167 0 4 (dk_at dksX20_add_7 12 rfl rfl)
theorem dX20_add_175 : decode cX20_add 175 = .ok (.iconst 0, 1) := dk_3 (dk_at dksX20_add_7 15 rfl rfl)
theorem dX20_add_176 : decode cX20_add 176 = .ok (.putfield 46, 3) := dk_181 0 46 (dk_at dksX20_add_7 16 rfl rfl)
theorem dX20_add_179 : decode cX20_add 179 = .ok (.return_, 1) := dk_177 (dk_at dksX20_add_7 19 rfl rfl)
abbrev cX20_addSizes : ByteArray := prog_14_method_2_code
def yX20_addSizes : MethodName := ⟨RX20, "addSizes", "(LContractLedger$Whole;LContractLedger$Whole;LContractLedger$Whole;)V"⟩
def dkwX20_addSizes_3 : List UInt8 := [21, 4, 79, 44, 29, 4, 96, 182, 0, 43, 177]
abbrev dktX20_addSizes_3 : List UInt8 := dkwX20_addSizes_3 ++ []
def dkwX20_addSizes_2 : List UInt8 := [21, 4, 18, 42, 126, 79, 21, 4, 16, 16, 122, 54, 4, 132, 5, 1, 167, 255, 210, 44, 180, 0, 39, 29]
abbrev dktX20_addSizes_2 : List UInt8 := dkwX20_addSizes_2 ++ dktX20_addSizes_3
def dkwX20_addSizes_1 : List UInt8 := [21, 4, 42, 21, 5, 182, 0, 35, 43, 21, 5, 182, 0, 35, 96, 96, 54, 4, 44, 180, 0, 39, 21, 5]
abbrev dktX20_addSizes_1 : List UInt8 := dkwX20_addSizes_1 ++ dktX20_addSizes_2
def dkwX20_addSizes_0 : List UInt8 := [42, 180, 0, 25, 43, 180, 0, 25, 184, 0, 29, 62, 3, 54, 4, 3, 54, 5, 21, 5, 29, 162, 0, 46]
abbrev dktX20_addSizes_0 : List UInt8 := dkwX20_addSizes_0 ++ dktX20_addSizes_1
theorem dksX20_addSizes_0 : cX20_addSizes.data.toList.drop 0 = dktX20_addSizes_0 := by decide +kernel
theorem dksX20_addSizes_1 : cX20_addSizes.data.toList.drop 24 = dktX20_addSizes_1 := dk_seg dksX20_addSizes_0 24 rfl rfl
theorem dksX20_addSizes_2 : cX20_addSizes.data.toList.drop 48 = dktX20_addSizes_2 := dk_seg dksX20_addSizes_1 24 rfl rfl
theorem dksX20_addSizes_3 : cX20_addSizes.data.toList.drop 72 = dktX20_addSizes_3 := dk_seg dksX20_addSizes_2 24 rfl rfl
theorem dX20_addSizes_0 : decode cX20_addSizes 0 = .ok (.aload_n 0, 1) := dk_42 (dk_at dksX20_addSizes_0 0 rfl rfl)
theorem dX20_addSizes_1 : decode cX20_addSizes 1 = .ok (.getfield 25, 3) := dk_180 0 25 (dk_at dksX20_addSizes_0 1 rfl rfl)
theorem dX20_addSizes_4 : decode cX20_addSizes 4 = .ok (.aload_n 1, 1) := dk_43 (dk_at dksX20_addSizes_0 4 rfl rfl)
theorem dX20_addSizes_5 : decode cX20_addSizes 5 = .ok (.getfield 25, 3) := dk_180 0 25 (dk_at dksX20_addSizes_0 5 rfl rfl)
theorem dX20_addSizes_8 : decode cX20_addSizes 8 = .ok (.invokestatic 29, 3) := dk_184 0 29 (dk_at dksX20_addSizes_0 8 rfl rfl)
theorem dX20_addSizes_11 : decode cX20_addSizes 11 = .ok (.istore_n 3, 1) := dk_62 (dk_at dksX20_addSizes_0 11 rfl rfl)
theorem dX20_addSizes_12 : decode cX20_addSizes 12 = .ok (.iconst 0, 1) := dk_3 (dk_at dksX20_addSizes_0 12 rfl rfl)
theorem dX20_addSizes_13 : decode cX20_addSizes 13 = .ok (.istore 4, 2) := dk_54 4 (dk_at dksX20_addSizes_0 13 rfl rfl)
theorem dX20_addSizes_15 : decode cX20_addSizes 15 = .ok (.iconst 0, 1) := dk_3 (dk_at dksX20_addSizes_0 15 rfl rfl)
theorem dX20_addSizes_16 : decode cX20_addSizes 16 = .ok (.istore 5, 2) := dk_54 5 (dk_at dksX20_addSizes_0 16 rfl rfl)
theorem dX20_addSizes_18 : decode cX20_addSizes 18 = .ok (.iload 5, 2) := dk_21 5 (dk_at dksX20_addSizes_0 18 rfl rfl)
theorem dX20_addSizes_20 : decode cX20_addSizes 20 = .ok (.iload_n 3, 1) := dk_29 (dk_at dksX20_addSizes_0 20 rfl rfl)
theorem dX20_addSizes_21 : decode cX20_addSizes 21 = .ok (.if_icmp .ge 46, 3) := dk_162 0 46 (dk_at dksX20_addSizes_0 21 rfl rfl)
theorem dX20_addSizes_24 : decode cX20_addSizes 24 = .ok (.iload 4, 2) := dk_21 4 (dk_at dksX20_addSizes_1 0 rfl rfl)
theorem dX20_addSizes_26 : decode cX20_addSizes 26 = .ok (.aload_n 0, 1) := dk_42 (dk_at dksX20_addSizes_1 2 rfl rfl)
theorem dX20_addSizes_27 : decode cX20_addSizes 27 = .ok (.iload 5, 2) := dk_21 5 (dk_at dksX20_addSizes_1 3 rfl rfl)
theorem dX20_addSizes_29 : decode cX20_addSizes 29 = .ok (.invokevirtual 35, 3) := dk_182 0 35 (dk_at dksX20_addSizes_1 5 rfl rfl)
theorem dX20_addSizes_32 : decode cX20_addSizes 32 = .ok (.aload_n 1, 1) := dk_43 (dk_at dksX20_addSizes_1 8 rfl rfl)
theorem dX20_addSizes_33 : decode cX20_addSizes 33 = .ok (.iload 5, 2) := dk_21 5 (dk_at dksX20_addSizes_1 9 rfl rfl)
theorem dX20_addSizes_35 : decode cX20_addSizes 35 = .ok (.invokevirtual 35, 3) := dk_182 0 35 (dk_at dksX20_addSizes_1 11 rfl rfl)
theorem dX20_addSizes_38 : decode cX20_addSizes 38 = .ok (.iadd, 1) := dk_96 (dk_at dksX20_addSizes_1 14 rfl rfl)
theorem dX20_addSizes_39 : decode cX20_addSizes 39 = .ok (.iadd, 1) := dk_96 (dk_at dksX20_addSizes_1 15 rfl rfl)
theorem dX20_addSizes_40 : decode cX20_addSizes 40 = .ok (.istore 4, 2) := dk_54 4 (dk_at dksX20_addSizes_1 16 rfl rfl)
theorem dX20_addSizes_42 : decode cX20_addSizes 42 = .ok (.aload_n 2, 1) := dk_44 (dk_at dksX20_addSizes_1 18 rfl rfl)
theorem dX20_addSizes_43 : decode cX20_addSizes 43 = .ok (.getfield 39, 3) := dk_180 0 39 (dk_at dksX20_addSizes_1 19 rfl rfl)
theorem dX20_addSizes_46 : decode cX20_addSizes 46 = .ok (.iload 5, 2) := dk_21 5 (dk_at dksX20_addSizes_1 22 rfl rfl)
theorem dX20_addSizes_48 : decode cX20_addSizes 48 = .ok (.iload 4, 2) := dk_21 4 (dk_at dksX20_addSizes_2 0 rfl rfl)
theorem dX20_addSizes_50 : decode cX20_addSizes 50 = .ok (.ldc 42, 2) := dk_18 42 (dk_at dksX20_addSizes_2 2 rfl rfl)
theorem dX20_addSizes_52 : decode cX20_addSizes 52 = .ok (.iand, 1) := dk_126 (dk_at dksX20_addSizes_2 4 rfl rfl)
theorem dX20_addSizes_53 : decode cX20_addSizes 53 = .ok (.iastore, 1) := dk_79 (dk_at dksX20_addSizes_2 5 rfl rfl)
theorem dX20_addSizes_54 : decode cX20_addSizes 54 = .ok (.iload 4, 2) := dk_21 4 (dk_at dksX20_addSizes_2 6 rfl rfl)
theorem dX20_addSizes_56 : decode cX20_addSizes 56 = .ok (.bipush 16, 2) := dk_16 16 (dk_at dksX20_addSizes_2 8 rfl rfl)
theorem dX20_addSizes_58 : decode cX20_addSizes 58 = .ok (.ishr, 1) := dk_122 (dk_at dksX20_addSizes_2 10 rfl rfl)
theorem dX20_addSizes_59 : decode cX20_addSizes 59 = .ok (.istore 4, 2) := dk_54 4 (dk_at dksX20_addSizes_2 11 rfl rfl)
theorem dX20_addSizes_61 : decode cX20_addSizes 61 = .ok (.iinc 5 1, 3) := dk_132 5 1 (dk_at dksX20_addSizes_2 13 rfl rfl)
theorem dX20_addSizes_64 : decode cX20_addSizes 64 = .ok (.goto (-46), 3) := dk_167 255 210 (dk_at dksX20_addSizes_2 16 rfl rfl)
theorem dX20_addSizes_67 : decode cX20_addSizes 67 = .ok (.aload_n 2, 1) := dk_44 (dk_at dksX20_addSizes_2 19 rfl rfl)
theorem dX20_addSizes_68 : decode cX20_addSizes 68 = .ok (.getfield 39, 3) := dk_180 0 39 (dk_at dksX20_addSizes_2 20 rfl rfl)
theorem dX20_addSizes_71 : decode cX20_addSizes 71 = .ok (.iload_n 3, 1) := dk_29 (dk_at dksX20_addSizes_2 23 rfl rfl)
theorem dX20_addSizes_72 : decode cX20_addSizes 72 = .ok (.iload 4, 2) := dk_21 4 (dk_at dksX20_addSizes_3 0 rfl rfl)
theorem dX20_addSizes_74 : decode cX20_addSizes 74 = .ok (.iastore, 1) := dk_79 (dk_at dksX20_addSizes_3 2 rfl rfl)
theorem dX20_addSizes_75 : decode cX20_addSizes 75 = .ok (.aload_n 2, 1) := dk_44 (dk_at dksX20_addSizes_3 3 rfl rfl)
theorem dX20_addSizes_76 : decode cX20_addSizes 76 = .ok (.iload_n 3, 1) := dk_29 (dk_at dksX20_addSizes_3 4 rfl rfl)
theorem dX20_addSizes_77 : decode cX20_addSizes 77 = .ok (.iconst 1, 1) := dk_4 (dk_at dksX20_addSizes_3 5 rfl rfl)
theorem dX20_addSizes_78 : decode cX20_addSizes 78 = .ok (.iadd, 1) := dk_96 (dk_at dksX20_addSizes_3 6 rfl rfl)
theorem dX20_addSizes_79 : decode cX20_addSizes 79 = .ok (.invokevirtual 43, 3) := dk_182 0 43 (dk_at dksX20_addSizes_3 7 rfl rfl)
theorem dX20_addSizes_82 : decode cX20_addSizes 82 = .ok (.return_, 1) := dk_177 (dk_at dksX20_addSizes_3 10 rfl rfl)
abbrev cX20_lessSizes : ByteArray := prog_14_method_3_code
def yX20_lessSizes : MethodName := ⟨RX20, "lessSizes", "(LContractLedger$Whole;LContractLedger$Whole;LContractLedger$Whole;)V"⟩
def dkwX20_lessSizes_2 : List UInt8 := [79, 21, 4, 16, 16, 122, 54, 4, 132, 5, 1, 167, 255, 210, 44, 29, 182, 0, 43, 177]
abbrev dktX20_lessSizes_2 : List UInt8 := dkwX20_lessSizes_2 ++ []
def dkwX20_lessSizes_1 : List UInt8 := [182, 0, 35, 43, 21, 5, 182, 0, 35, 100, 96, 54, 4, 44, 180, 0, 39, 21, 5, 21, 4, 18, 42, 126]
abbrev dktX20_lessSizes_1 : List UInt8 := dkwX20_lessSizes_1 ++ dktX20_lessSizes_2
def dkwX20_lessSizes_0 : List UInt8 := [42, 180, 0, 25, 62, 3, 54, 4, 3, 54, 5, 21, 5, 29, 162, 0, 46, 21, 4, 42, 21, 5]
abbrev dktX20_lessSizes_0 : List UInt8 := dkwX20_lessSizes_0 ++ dktX20_lessSizes_1
theorem dksX20_lessSizes_0 : cX20_lessSizes.data.toList.drop 0 = dktX20_lessSizes_0 := by decide +kernel
theorem dksX20_lessSizes_1 : cX20_lessSizes.data.toList.drop 22 = dktX20_lessSizes_1 := dk_seg dksX20_lessSizes_0 22 rfl rfl
theorem dksX20_lessSizes_2 : cX20_lessSizes.data.toList.drop 46 = dktX20_lessSizes_2 := dk_seg dksX20_lessSizes_1 24 rfl rfl
theorem dX20_lessSizes_0 : decode cX20_lessSizes 0 = .ok (.aload_n 0, 1) := dk_42 (dk_at dksX20_lessSizes_0 0 rfl rfl)
theorem dX20_lessSizes_1 : decode cX20_lessSizes 1 = .ok (.getfield 25, 3) := dk_180 0 25 (dk_at dksX20_lessSizes_0 1 rfl rfl)
theorem dX20_lessSizes_4 : decode cX20_lessSizes 4 = .ok (.istore_n 3, 1) := dk_62 (dk_at dksX20_lessSizes_0 4 rfl rfl)
theorem dX20_lessSizes_5 : decode cX20_lessSizes 5 = .ok (.iconst 0, 1) := dk_3 (dk_at dksX20_lessSizes_0 5 rfl rfl)
theorem dX20_lessSizes_6 : decode cX20_lessSizes 6 = .ok (.istore 4, 2) := dk_54 4 (dk_at dksX20_lessSizes_0 6 rfl rfl)
theorem dX20_lessSizes_8 : decode cX20_lessSizes 8 = .ok (.iconst 0, 1) := dk_3 (dk_at dksX20_lessSizes_0 8 rfl rfl)
theorem dX20_lessSizes_9 : decode cX20_lessSizes 9 = .ok (.istore 5, 2) := dk_54 5 (dk_at dksX20_lessSizes_0 9 rfl rfl)
theorem dX20_lessSizes_11 : decode cX20_lessSizes 11 = .ok (.iload 5, 2) := dk_21 5 (dk_at dksX20_lessSizes_0 11 rfl rfl)
theorem dX20_lessSizes_13 : decode cX20_lessSizes 13 = .ok (.iload_n 3, 1) := dk_29 (dk_at dksX20_lessSizes_0 13 rfl rfl)
theorem dX20_lessSizes_14 : decode cX20_lessSizes 14 = .ok (.if_icmp .ge 46, 3) := dk_162 0 46 (dk_at dksX20_lessSizes_0 14 rfl rfl)
theorem dX20_lessSizes_17 : decode cX20_lessSizes 17 = .ok (.iload 4, 2) := dk_21 4 (dk_at dksX20_lessSizes_0 17 rfl rfl)
theorem dX20_lessSizes_19 : decode cX20_lessSizes 19 = .ok (.aload_n 0, 1) := dk_42 (dk_at dksX20_lessSizes_0 19 rfl rfl)
theorem dX20_lessSizes_20 : decode cX20_lessSizes 20 = .ok (.iload 5, 2) := dk_21 5 (dk_at dksX20_lessSizes_0 20 rfl rfl)
theorem dX20_lessSizes_22 : decode cX20_lessSizes 22 = .ok (.invokevirtual 35, 3) := dk_182 0 35 (dk_at dksX20_lessSizes_1 0 rfl rfl)
theorem dX20_lessSizes_25 : decode cX20_lessSizes 25 = .ok (.aload_n 1, 1) := dk_43 (dk_at dksX20_lessSizes_1 3 rfl rfl)
theorem dX20_lessSizes_26 : decode cX20_lessSizes 26 = .ok (.iload 5, 2) := dk_21 5 (dk_at dksX20_lessSizes_1 4 rfl rfl)
theorem dX20_lessSizes_28 : decode cX20_lessSizes 28 = .ok (.invokevirtual 35, 3) := dk_182 0 35 (dk_at dksX20_lessSizes_1 6 rfl rfl)
theorem dX20_lessSizes_31 : decode cX20_lessSizes 31 = .ok (.isub, 1) := dk_100 (dk_at dksX20_lessSizes_1 9 rfl rfl)
theorem dX20_lessSizes_32 : decode cX20_lessSizes 32 = .ok (.iadd, 1) := dk_96 (dk_at dksX20_lessSizes_1 10 rfl rfl)
theorem dX20_lessSizes_33 : decode cX20_lessSizes 33 = .ok (.istore 4, 2) := dk_54 4 (dk_at dksX20_lessSizes_1 11 rfl rfl)
theorem dX20_lessSizes_35 : decode cX20_lessSizes 35 = .ok (.aload_n 2, 1) := dk_44 (dk_at dksX20_lessSizes_1 13 rfl rfl)
theorem dX20_lessSizes_36 : decode cX20_lessSizes 36 = .ok (.getfield 39, 3) := dk_180 0 39 (dk_at dksX20_lessSizes_1 14 rfl rfl)
theorem dX20_lessSizes_39 : decode cX20_lessSizes 39 = .ok (.iload 5, 2) := dk_21 5 (dk_at dksX20_lessSizes_1 17 rfl rfl)
theorem dX20_lessSizes_41 : decode cX20_lessSizes 41 = .ok (.iload 4, 2) := dk_21 4 (dk_at dksX20_lessSizes_1 19 rfl rfl)
theorem dX20_lessSizes_43 : decode cX20_lessSizes 43 = .ok (.ldc 42, 2) := dk_18 42 (dk_at dksX20_lessSizes_1 21 rfl rfl)
theorem dX20_lessSizes_45 : decode cX20_lessSizes 45 = .ok (.iand, 1) := dk_126 (dk_at dksX20_lessSizes_1 23 rfl rfl)
theorem dX20_lessSizes_46 : decode cX20_lessSizes 46 = .ok (.iastore, 1) := dk_79 (dk_at dksX20_lessSizes_2 0 rfl rfl)
theorem dX20_lessSizes_47 : decode cX20_lessSizes 47 = .ok (.iload 4, 2) := dk_21 4 (dk_at dksX20_lessSizes_2 1 rfl rfl)
theorem dX20_lessSizes_49 : decode cX20_lessSizes 49 = .ok (.bipush 16, 2) := dk_16 16 (dk_at dksX20_lessSizes_2 3 rfl rfl)
theorem dX20_lessSizes_51 : decode cX20_lessSizes 51 = .ok (.ishr, 1) := dk_122 (dk_at dksX20_lessSizes_2 5 rfl rfl)
theorem dX20_lessSizes_52 : decode cX20_lessSizes 52 = .ok (.istore 4, 2) := dk_54 4 (dk_at dksX20_lessSizes_2 6 rfl rfl)
theorem dX20_lessSizes_54 : decode cX20_lessSizes 54 = .ok (.iinc 5 1, 3) := dk_132 5 1 (dk_at dksX20_lessSizes_2 8 rfl rfl)
theorem dX20_lessSizes_57 : decode cX20_lessSizes 57 = .ok (.goto (-46), 3) := dk_167 255 210 (dk_at dksX20_lessSizes_2 11 rfl rfl)
theorem dX20_lessSizes_60 : decode cX20_lessSizes 60 = .ok (.aload_n 2, 1) := dk_44 (dk_at dksX20_lessSizes_2 14 rfl rfl)
theorem dX20_lessSizes_61 : decode cX20_lessSizes 61 = .ok (.iload_n 3, 1) := dk_29 (dk_at dksX20_lessSizes_2 15 rfl rfl)
theorem dX20_lessSizes_62 : decode cX20_lessSizes 62 = .ok (.invokevirtual 43, 3) := dk_182 0 43 (dk_at dksX20_lessSizes_2 16 rfl rfl)
theorem dX20_lessSizes_65 : decode cX20_lessSizes 65 = .ok (.return_, 1) := dk_177 (dk_at dksX20_lessSizes_2 19 rfl rfl)
abbrev cX20_up : ByteArray := prog_14_method_13_code
def yX20_up : MethodName := ⟨RX20, "up", "(LContractLedger$Whole;ILContractLedger$Whole;)V"⟩
def dkwX20_up_4 : List UInt8 := [180, 0, 46, 181, 0, 46, 45, 21, 4, 43, 180, 0, 25, 96, 4, 96, 182, 0, 43, 177]
abbrev dktX20_up_4 : List UInt8 := dkwX20_up_4 ++ []
def dkwX20_up_3 : List UInt8 := [21, 7, 96, 21, 6, 18, 42, 126, 79, 21, 6, 16, 16, 124, 54, 6, 132, 7, 1, 167, 255, 208, 45, 43]
abbrev dktX20_up_3 : List UInt8 := dkwX20_up_3 ++ dktX20_up_4
def dkwX20_up_2 : List UInt8 := [163, 0, 45, 21, 6, 43, 21, 7, 182, 0, 35, 21, 5, 120, 128, 54, 6, 45, 180, 0, 39, 21, 4]
abbrev dktX20_up_2 : List UInt8 := dkwX20_up_2 ++ dktX20_up_3
def dkwX20_up_1 : List UInt8 := [45, 180, 0, 39, 21, 7, 3, 79, 132, 7, 1, 167, 255, 238, 3, 54, 7, 21, 7, 43, 180, 0, 25]
abbrev dktX20_up_1 : List UInt8 := dkwX20_up_1 ++ dktX20_up_2
def dkwX20_up_0 : List UInt8 := [28, 7, 122, 54, 4, 28, 16, 15, 126, 54, 5, 3, 54, 6, 3, 54, 7, 21, 7, 21, 4, 162, 0, 17]
abbrev dktX20_up_0 : List UInt8 := dkwX20_up_0 ++ dktX20_up_1
theorem dksX20_up_0 : cX20_up.data.toList.drop 0 = dktX20_up_0 := by decide +kernel
theorem dksX20_up_1 : cX20_up.data.toList.drop 24 = dktX20_up_1 := dk_seg dksX20_up_0 24 rfl rfl
theorem dksX20_up_2 : cX20_up.data.toList.drop 47 = dktX20_up_2 := dk_seg dksX20_up_1 23 rfl rfl
theorem dksX20_up_3 : cX20_up.data.toList.drop 70 = dktX20_up_3 := dk_seg dksX20_up_2 23 rfl rfl
theorem dksX20_up_4 : cX20_up.data.toList.drop 94 = dktX20_up_4 := dk_seg dksX20_up_3 24 rfl rfl
theorem dX20_up_0 : decode cX20_up 0 = .ok (.iload_n 2, 1) := dk_28 (dk_at dksX20_up_0 0 rfl rfl)
theorem dX20_up_1 : decode cX20_up 1 = .ok (.iconst 4, 1) := dk_7 (dk_at dksX20_up_0 1 rfl rfl)
theorem dX20_up_2 : decode cX20_up 2 = .ok (.ishr, 1) := dk_122 (dk_at dksX20_up_0 2 rfl rfl)
theorem dX20_up_3 : decode cX20_up 3 = .ok (.istore 4, 2) := dk_54 4 (dk_at dksX20_up_0 3 rfl rfl)
theorem dX20_up_5 : decode cX20_up 5 = .ok (.iload_n 2, 1) := dk_28 (dk_at dksX20_up_0 5 rfl rfl)
theorem dX20_up_6 : decode cX20_up 6 = .ok (.bipush 15, 2) := dk_16 15 (dk_at dksX20_up_0 6 rfl rfl)
theorem dX20_up_8 : decode cX20_up 8 = .ok (.iand, 1) := dk_126 (dk_at dksX20_up_0 8 rfl rfl)
theorem dX20_up_9 : decode cX20_up 9 = .ok (.istore 5, 2) := dk_54 5 (dk_at dksX20_up_0 9 rfl rfl)
theorem dX20_up_11 : decode cX20_up 11 = .ok (.iconst 0, 1) := dk_3 (dk_at dksX20_up_0 11 rfl rfl)
theorem dX20_up_12 : decode cX20_up 12 = .ok (.istore 6, 2) := dk_54 6 (dk_at dksX20_up_0 12 rfl rfl)
theorem dX20_up_14 : decode cX20_up 14 = .ok (.iconst 0, 1) := dk_3 (dk_at dksX20_up_0 14 rfl rfl)
theorem dX20_up_15 : decode cX20_up 15 = .ok (.istore 7, 2) := dk_54 7 (dk_at dksX20_up_0 15 rfl rfl)
theorem dX20_up_17 : decode cX20_up 17 = .ok (.iload 7, 2) := dk_21 7 (dk_at dksX20_up_0 17 rfl rfl)
theorem dX20_up_19 : decode cX20_up 19 = .ok (.iload 4, 2) := dk_21 4 (dk_at dksX20_up_0 19 rfl rfl)
theorem dX20_up_21 : decode cX20_up 21 = .ok (.if_icmp .ge 17, 3) := dk_162 0 17 (dk_at dksX20_up_0 21 rfl rfl)
theorem dX20_up_24 : decode cX20_up 24 = .ok (.aload_n 3, 1) := dk_45 (dk_at dksX20_up_1 0 rfl rfl)
theorem dX20_up_25 : decode cX20_up 25 = .ok (.getfield 39, 3) := dk_180 0 39 (dk_at dksX20_up_1 1 rfl rfl)
theorem dX20_up_28 : decode cX20_up 28 = .ok (.iload 7, 2) := dk_21 7 (dk_at dksX20_up_1 4 rfl rfl)
theorem dX20_up_30 : decode cX20_up 30 = .ok (.iconst 0, 1) := dk_3 (dk_at dksX20_up_1 6 rfl rfl)
theorem dX20_up_31 : decode cX20_up 31 = .ok (.iastore, 1) := dk_79 (dk_at dksX20_up_1 7 rfl rfl)
theorem dX20_up_32 : decode cX20_up 32 = .ok (.iinc 7 1, 3) := dk_132 7 1 (dk_at dksX20_up_1 8 rfl rfl)
theorem dX20_up_35 : decode cX20_up 35 = .ok (.goto (-18), 3) := dk_167 255 238 (dk_at dksX20_up_1 11 rfl rfl)
theorem dX20_up_38 : decode cX20_up 38 = .ok (.iconst 0, 1) := dk_3 (dk_at dksX20_up_1 14 rfl rfl)
theorem dX20_up_39 : decode cX20_up 39 = .ok (.istore 7, 2) := dk_54 7 (dk_at dksX20_up_1 15 rfl rfl)
theorem dX20_up_41 : decode cX20_up 41 = .ok (.iload 7, 2) := dk_21 7 (dk_at dksX20_up_1 17 rfl rfl)
theorem dX20_up_43 : decode cX20_up 43 = .ok (.aload_n 1, 1) := dk_43 (dk_at dksX20_up_1 19 rfl rfl)
theorem dX20_up_44 : decode cX20_up 44 = .ok (.getfield 25, 3) := dk_180 0 25 (dk_at dksX20_up_1 20 rfl rfl)
theorem dX20_up_47 : decode cX20_up 47 = .ok (.if_icmp .gt 45, 3) := dk_163 0 45 (dk_at dksX20_up_2 0 rfl rfl)
theorem dX20_up_50 : decode cX20_up 50 = .ok (.iload 6, 2) := dk_21 6 (dk_at dksX20_up_2 3 rfl rfl)
theorem dX20_up_52 : decode cX20_up 52 = .ok (.aload_n 1, 1) := dk_43 (dk_at dksX20_up_2 5 rfl rfl)
theorem dX20_up_53 : decode cX20_up 53 = .ok (.iload 7, 2) := dk_21 7 (dk_at dksX20_up_2 6 rfl rfl)
theorem dX20_up_55 : decode cX20_up 55 = .ok (.invokevirtual 35, 3) := dk_182 0 35 (dk_at dksX20_up_2 8 rfl rfl)
theorem dX20_up_58 : decode cX20_up 58 = .ok (.iload 5, 2) := dk_21 5 (dk_at dksX20_up_2 11 rfl rfl)
theorem dX20_up_60 : decode cX20_up 60 = .ok (.ishl, 1) := dk_120 (dk_at dksX20_up_2 13 rfl rfl)
theorem dX20_up_61 : decode cX20_up 61 = .ok (.ior, 1) := dk_128 (dk_at dksX20_up_2 14 rfl rfl)
theorem dX20_up_62 : decode cX20_up 62 = .ok (.istore 6, 2) := dk_54 6 (dk_at dksX20_up_2 15 rfl rfl)
theorem dX20_up_64 : decode cX20_up 64 = .ok (.aload_n 3, 1) := dk_45 (dk_at dksX20_up_2 17 rfl rfl)
theorem dX20_up_65 : decode cX20_up 65 = .ok (.getfield 39, 3) := dk_180 0 39 (dk_at dksX20_up_2 18 rfl rfl)
theorem dX20_up_68 : decode cX20_up 68 = .ok (.iload 4, 2) := dk_21 4 (dk_at dksX20_up_2 21 rfl rfl)
theorem dX20_up_70 : decode cX20_up 70 = .ok (.iload 7, 2) := dk_21 7 (dk_at dksX20_up_3 0 rfl rfl)
theorem dX20_up_72 : decode cX20_up 72 = .ok (.iadd, 1) := dk_96 (dk_at dksX20_up_3 2 rfl rfl)
theorem dX20_up_73 : decode cX20_up 73 = .ok (.iload 6, 2) := dk_21 6 (dk_at dksX20_up_3 3 rfl rfl)
theorem dX20_up_75 : decode cX20_up 75 = .ok (.ldc 42, 2) := dk_18 42 (dk_at dksX20_up_3 5 rfl rfl)
theorem dX20_up_77 : decode cX20_up 77 = .ok (.iand, 1) := dk_126 (dk_at dksX20_up_3 7 rfl rfl)
theorem dX20_up_78 : decode cX20_up 78 = .ok (.iastore, 1) := dk_79 (dk_at dksX20_up_3 8 rfl rfl)
theorem dX20_up_79 : decode cX20_up 79 = .ok (.iload 6, 2) := dk_21 6 (dk_at dksX20_up_3 9 rfl rfl)
theorem dX20_up_81 : decode cX20_up 81 = .ok (.bipush 16, 2) := dk_16 16 (dk_at dksX20_up_3 11 rfl rfl)
theorem dX20_up_83 : decode cX20_up 83 = .ok (.iushr, 1) := dk_124 (dk_at dksX20_up_3 13 rfl rfl)
theorem dX20_up_84 : decode cX20_up 84 = .ok (.istore 6, 2) := dk_54 6 (dk_at dksX20_up_3 14 rfl rfl)
theorem dX20_up_86 : decode cX20_up 86 = .ok (.iinc 7 1, 3) := dk_132 7 1 (dk_at dksX20_up_3 16 rfl rfl)
theorem dX20_up_89 : decode cX20_up 89 = .ok (.goto (-48), 3) := dk_167 255 208 (dk_at dksX20_up_3 19 rfl rfl)
theorem dX20_up_92 : decode cX20_up 92 = .ok (.aload_n 3, 1) := dk_45 (dk_at dksX20_up_3 22 rfl rfl)
theorem dX20_up_93 : decode cX20_up 93 = .ok (.aload_n 1, 1) := dk_43 (dk_at dksX20_up_3 23 rfl rfl)
theorem dX20_up_94 : decode cX20_up 94 = .ok (.getfield 46, 3) := dk_180 0 46 (dk_at dksX20_up_4 0 rfl rfl)
theorem dX20_up_97 : decode cX20_up 97 = .ok (.putfield 46, 3) := dk_181 0 46 (dk_at dksX20_up_4 3 rfl rfl)
theorem dX20_up_100 : decode cX20_up 100 = .ok (.aload_n 3, 1) := dk_45 (dk_at dksX20_up_4 6 rfl rfl)
theorem dX20_up_101 : decode cX20_up 101 = .ok (.iload 4, 2) := dk_21 4 (dk_at dksX20_up_4 7 rfl rfl)
theorem dX20_up_103 : decode cX20_up 103 = .ok (.aload_n 1, 1) := dk_43 (dk_at dksX20_up_4 9 rfl rfl)
theorem dX20_up_104 : decode cX20_up 104 = .ok (.getfield 25, 3) := dk_180 0 25 (dk_at dksX20_up_4 10 rfl rfl)
theorem dX20_up_107 : decode cX20_up 107 = .ok (.iadd, 1) := dk_96 (dk_at dksX20_up_4 13 rfl rfl)
theorem dX20_up_108 : decode cX20_up 108 = .ok (.iconst 1, 1) := dk_4 (dk_at dksX20_up_4 14 rfl rfl)
theorem dX20_up_109 : decode cX20_up 109 = .ok (.iadd, 1) := dk_96 (dk_at dksX20_up_4 15 rfl rfl)
theorem dX20_up_110 : decode cX20_up 110 = .ok (.invokevirtual 43, 3) := dk_182 0 43 (dk_at dksX20_up_4 16 rfl rfl)
theorem dX20_up_113 : decode cX20_up 113 = .ok (.return_, 1) := dk_177 (dk_at dksX20_up_4 19 rfl rfl)
abbrev cX20_down : ByteArray := prog_14_method_14_code
def yX20_down : MethodName := ⟨RX20, "down", "(LContractLedger$Whole;ILContractLedger$Whole;)V"⟩
def dkwX20_down_3 : List UInt8 := [79, 132, 7, 1, 167, 255, 209, 45, 3, 181, 0, 46, 45, 21, 6, 182, 0, 43, 177]
abbrev dktX20_down_3 : List UInt8 := dkwX20_down_3 ++ []
def dkwX20_down_2 : List UInt8 := [182, 0, 35, 43, 21, 4, 21, 7, 96, 4, 96, 182, 0, 35, 16, 16, 120, 128, 21, 5, 124, 18, 42, 126]
abbrev dktX20_down_2 : List UInt8 := dkwX20_down_2 ++ dktX20_down_3
def dkwX20_down_1 : List UInt8 := [3, 54, 7, 21, 7, 21, 6, 162, 0, 46, 45, 180, 0, 39, 21, 7, 43, 21, 4, 21, 7, 96]
abbrev dktX20_down_1 : List UInt8 := dkwX20_down_1 ++ dktX20_down_2
def dkwX20_down_0 : List UInt8 := [28, 7, 122, 54, 4, 28, 16, 15, 126, 54, 5, 3, 43, 180, 0, 25, 21, 4, 100, 184, 0, 29, 54, 6]
abbrev dktX20_down_0 : List UInt8 := dkwX20_down_0 ++ dktX20_down_1
theorem dksX20_down_0 : cX20_down.data.toList.drop 0 = dktX20_down_0 := by decide +kernel
theorem dksX20_down_1 : cX20_down.data.toList.drop 24 = dktX20_down_1 := dk_seg dksX20_down_0 24 rfl rfl
theorem dksX20_down_2 : cX20_down.data.toList.drop 46 = dktX20_down_2 := dk_seg dksX20_down_1 22 rfl rfl
theorem dksX20_down_3 : cX20_down.data.toList.drop 70 = dktX20_down_3 := dk_seg dksX20_down_2 24 rfl rfl
theorem dX20_down_0 : decode cX20_down 0 = .ok (.iload_n 2, 1) := dk_28 (dk_at dksX20_down_0 0 rfl rfl)
theorem dX20_down_1 : decode cX20_down 1 = .ok (.iconst 4, 1) := dk_7 (dk_at dksX20_down_0 1 rfl rfl)
theorem dX20_down_2 : decode cX20_down 2 = .ok (.ishr, 1) := dk_122 (dk_at dksX20_down_0 2 rfl rfl)
theorem dX20_down_3 : decode cX20_down 3 = .ok (.istore 4, 2) := dk_54 4 (dk_at dksX20_down_0 3 rfl rfl)
theorem dX20_down_5 : decode cX20_down 5 = .ok (.iload_n 2, 1) := dk_28 (dk_at dksX20_down_0 5 rfl rfl)
theorem dX20_down_6 : decode cX20_down 6 = .ok (.bipush 15, 2) := dk_16 15 (dk_at dksX20_down_0 6 rfl rfl)
theorem dX20_down_8 : decode cX20_down 8 = .ok (.iand, 1) := dk_126 (dk_at dksX20_down_0 8 rfl rfl)
theorem dX20_down_9 : decode cX20_down 9 = .ok (.istore 5, 2) := dk_54 5 (dk_at dksX20_down_0 9 rfl rfl)
theorem dX20_down_11 : decode cX20_down 11 = .ok (.iconst 0, 1) := dk_3 (dk_at dksX20_down_0 11 rfl rfl)
theorem dX20_down_12 : decode cX20_down 12 = .ok (.aload_n 1, 1) := dk_43 (dk_at dksX20_down_0 12 rfl rfl)
theorem dX20_down_13 : decode cX20_down 13 = .ok (.getfield 25, 3) := dk_180 0 25 (dk_at dksX20_down_0 13 rfl rfl)
theorem dX20_down_16 : decode cX20_down 16 = .ok (.iload 4, 2) := dk_21 4 (dk_at dksX20_down_0 16 rfl rfl)
theorem dX20_down_18 : decode cX20_down 18 = .ok (.isub, 1) := dk_100 (dk_at dksX20_down_0 18 rfl rfl)
theorem dX20_down_19 : decode cX20_down 19 = .ok (.invokestatic 29, 3) := dk_184 0 29 (dk_at dksX20_down_0 19 rfl rfl)
theorem dX20_down_22 : decode cX20_down 22 = .ok (.istore 6, 2) := dk_54 6 (dk_at dksX20_down_0 22 rfl rfl)
theorem dX20_down_24 : decode cX20_down 24 = .ok (.iconst 0, 1) := dk_3 (dk_at dksX20_down_1 0 rfl rfl)
theorem dX20_down_25 : decode cX20_down 25 = .ok (.istore 7, 2) := dk_54 7 (dk_at dksX20_down_1 1 rfl rfl)
theorem dX20_down_27 : decode cX20_down 27 = .ok (.iload 7, 2) := dk_21 7 (dk_at dksX20_down_1 3 rfl rfl)
theorem dX20_down_29 : decode cX20_down 29 = .ok (.iload 6, 2) := dk_21 6 (dk_at dksX20_down_1 5 rfl rfl)
theorem dX20_down_31 : decode cX20_down 31 = .ok (.if_icmp .ge 46, 3) := dk_162 0 46 (dk_at dksX20_down_1 7 rfl rfl)
theorem dX20_down_34 : decode cX20_down 34 = .ok (.aload_n 3, 1) := dk_45 (dk_at dksX20_down_1 10 rfl rfl)
theorem dX20_down_35 : decode cX20_down 35 = .ok (.getfield 39, 3) := dk_180 0 39 (dk_at dksX20_down_1 11 rfl rfl)
theorem dX20_down_38 : decode cX20_down 38 = .ok (.iload 7, 2) := dk_21 7 (dk_at dksX20_down_1 14 rfl rfl)
theorem dX20_down_40 : decode cX20_down 40 = .ok (.aload_n 1, 1) := dk_43 (dk_at dksX20_down_1 16 rfl rfl)
theorem dX20_down_41 : decode cX20_down 41 = .ok (.iload 4, 2) := dk_21 4 (dk_at dksX20_down_1 17 rfl rfl)
theorem dX20_down_43 : decode cX20_down 43 = .ok (.iload 7, 2) := dk_21 7 (dk_at dksX20_down_1 19 rfl rfl)
theorem dX20_down_45 : decode cX20_down 45 = .ok (.iadd, 1) := dk_96 (dk_at dksX20_down_1 21 rfl rfl)
theorem dX20_down_46 : decode cX20_down 46 = .ok (.invokevirtual 35, 3) := dk_182 0 35 (dk_at dksX20_down_2 0 rfl rfl)
theorem dX20_down_49 : decode cX20_down 49 = .ok (.aload_n 1, 1) := dk_43 (dk_at dksX20_down_2 3 rfl rfl)
theorem dX20_down_50 : decode cX20_down 50 = .ok (.iload 4, 2) := dk_21 4 (dk_at dksX20_down_2 4 rfl rfl)
theorem dX20_down_52 : decode cX20_down 52 = .ok (.iload 7, 2) := dk_21 7 (dk_at dksX20_down_2 6 rfl rfl)
theorem dX20_down_54 : decode cX20_down 54 = .ok (.iadd, 1) := dk_96 (dk_at dksX20_down_2 8 rfl rfl)
theorem dX20_down_55 : decode cX20_down 55 = .ok (.iconst 1, 1) := dk_4 (dk_at dksX20_down_2 9 rfl rfl)
theorem dX20_down_56 : decode cX20_down 56 = .ok (.iadd, 1) := dk_96 (dk_at dksX20_down_2 10 rfl rfl)
theorem dX20_down_57 : decode cX20_down 57 = .ok (.invokevirtual 35, 3) := dk_182 0 35 (dk_at dksX20_down_2 11 rfl rfl)
theorem dX20_down_60 : decode cX20_down 60 = .ok (.bipush 16, 2) := dk_16 16 (dk_at dksX20_down_2 14 rfl rfl)
theorem dX20_down_62 : decode cX20_down 62 = .ok (.ishl, 1) := dk_120 (dk_at dksX20_down_2 16 rfl rfl)
theorem dX20_down_63 : decode cX20_down 63 = .ok (.ior, 1) := dk_128 (dk_at dksX20_down_2 17 rfl rfl)
theorem dX20_down_64 : decode cX20_down 64 = .ok (.iload 5, 2) := dk_21 5 (dk_at dksX20_down_2 18 rfl rfl)
theorem dX20_down_66 : decode cX20_down 66 = .ok (.iushr, 1) := dk_124 (dk_at dksX20_down_2 20 rfl rfl)
theorem dX20_down_67 : decode cX20_down 67 = .ok (.ldc 42, 2) := dk_18 42 (dk_at dksX20_down_2 21 rfl rfl)
theorem dX20_down_69 : decode cX20_down 69 = .ok (.iand, 1) := dk_126 (dk_at dksX20_down_2 23 rfl rfl)
theorem dX20_down_70 : decode cX20_down 70 = .ok (.iastore, 1) := dk_79 (dk_at dksX20_down_3 0 rfl rfl)
theorem dX20_down_71 : decode cX20_down 71 = .ok (.iinc 7 1, 3) := dk_132 7 1 (dk_at dksX20_down_3 1 rfl rfl)
theorem dX20_down_74 : decode cX20_down 74 = .ok (.goto (-47), 3) := dk_167 255 209 (dk_at dksX20_down_3 4 rfl rfl)
theorem dX20_down_77 : decode cX20_down 77 = .ok (.aload_n 3, 1) := dk_45 (dk_at dksX20_down_3 7 rfl rfl)
theorem dX20_down_78 : decode cX20_down 78 = .ok (.iconst 0, 1) := dk_3 (dk_at dksX20_down_3 8 rfl rfl)
theorem dX20_down_79 : decode cX20_down 79 = .ok (.putfield 46, 3) := dk_181 0 46 (dk_at dksX20_down_3 9 rfl rfl)
theorem dX20_down_82 : decode cX20_down 82 = .ok (.aload_n 3, 1) := dk_45 (dk_at dksX20_down_3 12 rfl rfl)
theorem dX20_down_83 : decode cX20_down 83 = .ok (.iload 6, 2) := dk_21 6 (dk_at dksX20_down_3 13 rfl rfl)
theorem dX20_down_85 : decode cX20_down 85 = .ok (.invokevirtual 43, 3) := dk_182 0 43 (dk_at dksX20_down_3 15 rfl rfl)
theorem dX20_down_88 : decode cX20_down 88 = .ok (.return_, 1) := dk_177 (dk_at dksX20_down_3 18 rfl rfl)
abbrev cX20_multiply : ByteArray := prog_14_method_6_code
def yX20_multiply : MethodName := ⟨RX20, "multiply", "(LContractLedger$Whole;LContractLedger$Whole;LContractLedger$Whole;)V"⟩
def dkwX20_multiply_2 : List UInt8 := [44, 180, 0, 25, 96, 182, 0, 43, 177]
abbrev dktX20_multiply_2 : List UInt8 := dkwX20_multiply_2 ++ []
def dkwX20_multiply_1 : List UInt8 := [43, 180, 0, 46, 44, 180, 0, 46, 159, 0, 7, 4, 167, 0, 4, 3, 181, 0, 46, 45, 43, 180, 0, 25]
abbrev dktX20_multiply_1 : List UInt8 := dkwX20_multiply_1 ++ dktX20_multiply_2
def dkwX20_multiply_0 : List UInt8 := [43, 180, 0, 39, 43, 180, 0, 25, 44, 180, 0, 39, 44, 180, 0, 25, 45, 180, 0, 39, 184, 0, 67, 45]
abbrev dktX20_multiply_0 : List UInt8 := dkwX20_multiply_0 ++ dktX20_multiply_1
theorem dksX20_multiply_0 : cX20_multiply.data.toList.drop 0 = dktX20_multiply_0 := by decide +kernel
theorem dksX20_multiply_1 : cX20_multiply.data.toList.drop 24 = dktX20_multiply_1 := dk_seg dksX20_multiply_0 24 rfl rfl
theorem dksX20_multiply_2 : cX20_multiply.data.toList.drop 48 = dktX20_multiply_2 := dk_seg dksX20_multiply_1 24 rfl rfl
theorem dX20_multiply_0 : decode cX20_multiply 0 = .ok (.aload_n 1, 1) := dk_43 (dk_at dksX20_multiply_0 0 rfl rfl)
theorem dX20_multiply_1 : decode cX20_multiply 1 = .ok (.getfield 39, 3) := dk_180 0 39 (dk_at dksX20_multiply_0 1 rfl rfl)
theorem dX20_multiply_4 : decode cX20_multiply 4 = .ok (.aload_n 1, 1) := dk_43 (dk_at dksX20_multiply_0 4 rfl rfl)
theorem dX20_multiply_5 : decode cX20_multiply 5 = .ok (.getfield 25, 3) := dk_180 0 25 (dk_at dksX20_multiply_0 5 rfl rfl)
theorem dX20_multiply_8 : decode cX20_multiply 8 = .ok (.aload_n 2, 1) := dk_44 (dk_at dksX20_multiply_0 8 rfl rfl)
theorem dX20_multiply_9 : decode cX20_multiply 9 = .ok (.getfield 39, 3) := dk_180 0 39 (dk_at dksX20_multiply_0 9 rfl rfl)
theorem dX20_multiply_12 : decode cX20_multiply 12 = .ok (.aload_n 2, 1) := dk_44 (dk_at dksX20_multiply_0 12 rfl rfl)
theorem dX20_multiply_13 : decode cX20_multiply 13 = .ok (.getfield 25, 3) := dk_180 0 25 (dk_at dksX20_multiply_0 13 rfl rfl)
theorem dX20_multiply_16 : decode cX20_multiply 16 = .ok (.aload_n 3, 1) := dk_45 (dk_at dksX20_multiply_0 16 rfl rfl)
theorem dX20_multiply_17 : decode cX20_multiply 17 = .ok (.getfield 39, 3) := dk_180 0 39 (dk_at dksX20_multiply_0 17 rfl rfl)
theorem dX20_multiply_20 : decode cX20_multiply 20 = .ok (.invokestatic 67, 3) := dk_184 0 67 (dk_at dksX20_multiply_0 20 rfl rfl)
theorem dX20_multiply_23 : decode cX20_multiply 23 = .ok (.aload_n 3, 1) := dk_45 (dk_at dksX20_multiply_0 23 rfl rfl)
theorem dX20_multiply_24 : decode cX20_multiply 24 = .ok (.aload_n 1, 1) := dk_43 (dk_at dksX20_multiply_1 0 rfl rfl)
theorem dX20_multiply_25 : decode cX20_multiply 25 = .ok (.getfield 46, 3) := dk_180 0 46 (dk_at dksX20_multiply_1 1 rfl rfl)
theorem dX20_multiply_28 : decode cX20_multiply 28 = .ok (.aload_n 2, 1) := dk_44 (dk_at dksX20_multiply_1 4 rfl rfl)
theorem dX20_multiply_29 : decode cX20_multiply 29 = .ok (.getfield 46, 3) := dk_180 0 46 (dk_at dksX20_multiply_1 5 rfl rfl)
theorem dX20_multiply_32 : decode cX20_multiply 32 = .ok (.if_icmp .eq 7, 3) := dk_159 0 7 (dk_at dksX20_multiply_1 8 rfl rfl)
theorem dX20_multiply_35 : decode cX20_multiply 35 = .ok (.iconst 1, 1) := dk_4 (dk_at dksX20_multiply_1 11 rfl rfl)
theorem dX20_multiply_36 : decode cX20_multiply 36 = .ok (.goto 4, 3) := dk_167 0 4 (dk_at dksX20_multiply_1 12 rfl rfl)
theorem dX20_multiply_39 : decode cX20_multiply 39 = .ok (.iconst 0, 1) := dk_3 (dk_at dksX20_multiply_1 15 rfl rfl)
theorem dX20_multiply_40 : decode cX20_multiply 40 = .ok (.putfield 46, 3) := dk_181 0 46 (dk_at dksX20_multiply_1 16 rfl rfl)
theorem dX20_multiply_43 : decode cX20_multiply 43 = .ok (.aload_n 3, 1) := dk_45 (dk_at dksX20_multiply_1 19 rfl rfl)
theorem dX20_multiply_44 : decode cX20_multiply 44 = .ok (.aload_n 1, 1) := dk_43 (dk_at dksX20_multiply_1 20 rfl rfl)
theorem dX20_multiply_45 : decode cX20_multiply 45 = .ok (.getfield 25, 3) := dk_180 0 25 (dk_at dksX20_multiply_1 21 rfl rfl)
theorem dX20_multiply_48 : decode cX20_multiply 48 = .ok (.aload_n 2, 1) := dk_44 (dk_at dksX20_multiply_2 0 rfl rfl)
theorem dX20_multiply_49 : decode cX20_multiply 49 = .ok (.getfield 25, 3) := dk_180 0 25 (dk_at dksX20_multiply_2 1 rfl rfl)
theorem dX20_multiply_52 : decode cX20_multiply 52 = .ok (.iadd, 1) := dk_96 (dk_at dksX20_multiply_2 4 rfl rfl)
theorem dX20_multiply_53 : decode cX20_multiply 53 = .ok (.invokevirtual 43, 3) := dk_182 0 43 (dk_at dksX20_multiply_2 5 rfl rfl)
theorem dX20_multiply_56 : decode cX20_multiply 56 = .ok (.return_, 1) := dk_177 (dk_at dksX20_multiply_2 8 rfl rfl)
abbrev cX20_plain : ByteArray := prog_14_method_5_code
def yX20_plain : MethodName := ⟨RX20, "plain", "([II[II[I)V"⟩
def dkwX20_plain_4 : List UInt8 := [132, 8, 1, 167, 255, 199, 25, 4, 21, 5, 29, 96, 22, 6, 136, 79, 132, 5, 1, 167, 255, 171, 177]
abbrev dktX20_plain_4 : List UInt8 := dkwX20_plain_4 ++ []
def dkwX20_plain_3 : List UInt8 := [25, 4, 21, 5, 21, 8, 96, 22, 6, 20, 0, 65, 127, 136, 79, 22, 6, 16, 16, 123, 55, 6]
abbrev dktX20_plain_3 : List UInt8 := dkwX20_plain_3 ++ dktX20_plain_4
def dkwX20_plain_2 : List UInt8 := [21, 5, 46, 133, 44, 21, 8, 46, 133, 105, 25, 4, 21, 5, 21, 8, 96, 46, 133, 97, 97, 55, 6]
abbrev dktX20_plain_2 : List UInt8 := dkwX20_plain_2 ++ dktX20_plain_3
def dkwX20_plain_1 : List UInt8 := [54, 5, 21, 5, 27, 162, 0, 85, 9, 55, 6, 3, 54, 8, 21, 8, 29, 162, 0, 57, 22, 6, 42]
abbrev dktX20_plain_1 : List UInt8 := dkwX20_plain_1 ++ dktX20_plain_2
def dkwX20_plain_0 : List UInt8 := [3, 54, 5, 21, 5, 27, 29, 96, 162, 0, 15, 25, 4, 21, 5, 3, 79, 132, 5, 1, 167, 255, 239, 3]
abbrev dktX20_plain_0 : List UInt8 := dkwX20_plain_0 ++ dktX20_plain_1
theorem dksX20_plain_0 : cX20_plain.data.toList.drop 0 = dktX20_plain_0 := by decide +kernel
theorem dksX20_plain_1 : cX20_plain.data.toList.drop 24 = dktX20_plain_1 := dk_seg dksX20_plain_0 24 rfl rfl
theorem dksX20_plain_2 : cX20_plain.data.toList.drop 47 = dktX20_plain_2 := dk_seg dksX20_plain_1 23 rfl rfl
theorem dksX20_plain_3 : cX20_plain.data.toList.drop 70 = dktX20_plain_3 := dk_seg dksX20_plain_2 23 rfl rfl
theorem dksX20_plain_4 : cX20_plain.data.toList.drop 92 = dktX20_plain_4 := dk_seg dksX20_plain_3 22 rfl rfl
theorem dX20_plain_0 : decode cX20_plain 0 = .ok (.iconst 0, 1) := dk_3 (dk_at dksX20_plain_0 0 rfl rfl)
theorem dX20_plain_1 : decode cX20_plain 1 = .ok (.istore 5, 2) := dk_54 5 (dk_at dksX20_plain_0 1 rfl rfl)
theorem dX20_plain_3 : decode cX20_plain 3 = .ok (.iload 5, 2) := dk_21 5 (dk_at dksX20_plain_0 3 rfl rfl)
theorem dX20_plain_5 : decode cX20_plain 5 = .ok (.iload_n 1, 1) := dk_27 (dk_at dksX20_plain_0 5 rfl rfl)
theorem dX20_plain_6 : decode cX20_plain 6 = .ok (.iload_n 3, 1) := dk_29 (dk_at dksX20_plain_0 6 rfl rfl)
theorem dX20_plain_7 : decode cX20_plain 7 = .ok (.iadd, 1) := dk_96 (dk_at dksX20_plain_0 7 rfl rfl)
theorem dX20_plain_8 : decode cX20_plain 8 = .ok (.if_icmp .ge 15, 3) := dk_162 0 15 (dk_at dksX20_plain_0 8 rfl rfl)
theorem dX20_plain_11 : decode cX20_plain 11 = .ok (.aload 4, 2) := dk_25 4 (dk_at dksX20_plain_0 11 rfl rfl)
theorem dX20_plain_13 : decode cX20_plain 13 = .ok (.iload 5, 2) := dk_21 5 (dk_at dksX20_plain_0 13 rfl rfl)
theorem dX20_plain_15 : decode cX20_plain 15 = .ok (.iconst 0, 1) := dk_3 (dk_at dksX20_plain_0 15 rfl rfl)
theorem dX20_plain_16 : decode cX20_plain 16 = .ok (.iastore, 1) := dk_79 (dk_at dksX20_plain_0 16 rfl rfl)
theorem dX20_plain_17 : decode cX20_plain 17 = .ok (.iinc 5 1, 3) := dk_132 5 1 (dk_at dksX20_plain_0 17 rfl rfl)
theorem dX20_plain_20 : decode cX20_plain 20 = .ok (.goto (-17), 3) := dk_167 255 239 (dk_at dksX20_plain_0 20 rfl rfl)
theorem dX20_plain_23 : decode cX20_plain 23 = .ok (.iconst 0, 1) := dk_3 (dk_at dksX20_plain_0 23 rfl rfl)
theorem dX20_plain_24 : decode cX20_plain 24 = .ok (.istore 5, 2) := dk_54 5 (dk_at dksX20_plain_1 0 rfl rfl)
theorem dX20_plain_26 : decode cX20_plain 26 = .ok (.iload 5, 2) := dk_21 5 (dk_at dksX20_plain_1 2 rfl rfl)
theorem dX20_plain_28 : decode cX20_plain 28 = .ok (.iload_n 1, 1) := dk_27 (dk_at dksX20_plain_1 4 rfl rfl)
theorem dX20_plain_29 : decode cX20_plain 29 = .ok (.if_icmp .ge 85, 3) := dk_162 0 85 (dk_at dksX20_plain_1 5 rfl rfl)
theorem dX20_plain_32 : decode cX20_plain 32 = .ok (.lconst 0, 1) := dk_9 (dk_at dksX20_plain_1 8 rfl rfl)
theorem dX20_plain_33 : decode cX20_plain 33 = .ok (.lstore 6, 2) := dk_55 6 (dk_at dksX20_plain_1 9 rfl rfl)
theorem dX20_plain_35 : decode cX20_plain 35 = .ok (.iconst 0, 1) := dk_3 (dk_at dksX20_plain_1 11 rfl rfl)
theorem dX20_plain_36 : decode cX20_plain 36 = .ok (.istore 8, 2) := dk_54 8 (dk_at dksX20_plain_1 12 rfl rfl)
theorem dX20_plain_38 : decode cX20_plain 38 = .ok (.iload 8, 2) := dk_21 8 (dk_at dksX20_plain_1 14 rfl rfl)
theorem dX20_plain_40 : decode cX20_plain 40 = .ok (.iload_n 3, 1) := dk_29 (dk_at dksX20_plain_1 16 rfl rfl)
theorem dX20_plain_41 : decode cX20_plain 41 = .ok (.if_icmp .ge 57, 3) := dk_162 0 57 (dk_at dksX20_plain_1 17 rfl rfl)
theorem dX20_plain_44 : decode cX20_plain 44 = .ok (.lload 6, 2) := dk_22 6 (dk_at dksX20_plain_1 20 rfl rfl)
theorem dX20_plain_46 : decode cX20_plain 46 = .ok (.aload_n 0, 1) := dk_42 (dk_at dksX20_plain_1 22 rfl rfl)
theorem dX20_plain_47 : decode cX20_plain 47 = .ok (.iload 5, 2) := dk_21 5 (dk_at dksX20_plain_2 0 rfl rfl)
theorem dX20_plain_49 : decode cX20_plain 49 = .ok (.iaload, 1) := dk_46 (dk_at dksX20_plain_2 2 rfl rfl)
theorem dX20_plain_50 : decode cX20_plain 50 = .ok (.i2l, 1) := dk_133 (dk_at dksX20_plain_2 3 rfl rfl)
theorem dX20_plain_51 : decode cX20_plain 51 = .ok (.aload_n 2, 1) := dk_44 (dk_at dksX20_plain_2 4 rfl rfl)
theorem dX20_plain_52 : decode cX20_plain 52 = .ok (.iload 8, 2) := dk_21 8 (dk_at dksX20_plain_2 5 rfl rfl)
theorem dX20_plain_54 : decode cX20_plain 54 = .ok (.iaload, 1) := dk_46 (dk_at dksX20_plain_2 7 rfl rfl)
theorem dX20_plain_55 : decode cX20_plain 55 = .ok (.i2l, 1) := dk_133 (dk_at dksX20_plain_2 8 rfl rfl)
theorem dX20_plain_56 : decode cX20_plain 56 = .ok (.lmul, 1) := dk_105 (dk_at dksX20_plain_2 9 rfl rfl)
theorem dX20_plain_57 : decode cX20_plain 57 = .ok (.aload 4, 2) := dk_25 4 (dk_at dksX20_plain_2 10 rfl rfl)
theorem dX20_plain_59 : decode cX20_plain 59 = .ok (.iload 5, 2) := dk_21 5 (dk_at dksX20_plain_2 12 rfl rfl)
theorem dX20_plain_61 : decode cX20_plain 61 = .ok (.iload 8, 2) := dk_21 8 (dk_at dksX20_plain_2 14 rfl rfl)
theorem dX20_plain_63 : decode cX20_plain 63 = .ok (.iadd, 1) := dk_96 (dk_at dksX20_plain_2 16 rfl rfl)
theorem dX20_plain_64 : decode cX20_plain 64 = .ok (.iaload, 1) := dk_46 (dk_at dksX20_plain_2 17 rfl rfl)
theorem dX20_plain_65 : decode cX20_plain 65 = .ok (.i2l, 1) := dk_133 (dk_at dksX20_plain_2 18 rfl rfl)
theorem dX20_plain_66 : decode cX20_plain 66 = .ok (.ladd, 1) := dk_97 (dk_at dksX20_plain_2 19 rfl rfl)
theorem dX20_plain_67 : decode cX20_plain 67 = .ok (.ladd, 1) := dk_97 (dk_at dksX20_plain_2 20 rfl rfl)
theorem dX20_plain_68 : decode cX20_plain 68 = .ok (.lstore 6, 2) := dk_55 6 (dk_at dksX20_plain_2 21 rfl rfl)
theorem dX20_plain_70 : decode cX20_plain 70 = .ok (.aload 4, 2) := dk_25 4 (dk_at dksX20_plain_3 0 rfl rfl)
theorem dX20_plain_72 : decode cX20_plain 72 = .ok (.iload 5, 2) := dk_21 5 (dk_at dksX20_plain_3 2 rfl rfl)
theorem dX20_plain_74 : decode cX20_plain 74 = .ok (.iload 8, 2) := dk_21 8 (dk_at dksX20_plain_3 4 rfl rfl)
theorem dX20_plain_76 : decode cX20_plain 76 = .ok (.iadd, 1) := dk_96 (dk_at dksX20_plain_3 6 rfl rfl)
theorem dX20_plain_77 : decode cX20_plain 77 = .ok (.lload 6, 2) := dk_22 6 (dk_at dksX20_plain_3 7 rfl rfl)
theorem dX20_plain_79 : decode cX20_plain 79 = .ok (.ldc2_w 65, 3) := dk_20 0 65 (dk_at dksX20_plain_3 9 rfl rfl)
theorem dX20_plain_82 : decode cX20_plain 82 = .ok (.land, 1) := dk_127 (dk_at dksX20_plain_3 12 rfl rfl)
theorem dX20_plain_83 : decode cX20_plain 83 = .ok (.l2i, 1) := dk_136 (dk_at dksX20_plain_3 13 rfl rfl)
theorem dX20_plain_84 : decode cX20_plain 84 = .ok (.iastore, 1) := dk_79 (dk_at dksX20_plain_3 14 rfl rfl)
theorem dX20_plain_85 : decode cX20_plain 85 = .ok (.lload 6, 2) := dk_22 6 (dk_at dksX20_plain_3 15 rfl rfl)
theorem dX20_plain_87 : decode cX20_plain 87 = .ok (.bipush 16, 2) := dk_16 16 (dk_at dksX20_plain_3 17 rfl rfl)
theorem dX20_plain_89 : decode cX20_plain 89 = .ok (.lshr, 1) := dk_123 (dk_at dksX20_plain_3 19 rfl rfl)
theorem dX20_plain_90 : decode cX20_plain 90 = .ok (.lstore 6, 2) := dk_55 6 (dk_at dksX20_plain_3 20 rfl rfl)
theorem dX20_plain_92 : decode cX20_plain 92 = .ok (.iinc 8 1, 3) := dk_132 8 1 (dk_at dksX20_plain_4 0 rfl rfl)
theorem dX20_plain_95 : decode cX20_plain 95 = .ok (.goto (-57), 3) := dk_167 255 199 (dk_at dksX20_plain_4 3 rfl rfl)
theorem dX20_plain_98 : decode cX20_plain 98 = .ok (.aload 4, 2) := dk_25 4 (dk_at dksX20_plain_4 6 rfl rfl)
theorem dX20_plain_100 : decode cX20_plain 100 = .ok (.iload 5, 2) := dk_21 5 (dk_at dksX20_plain_4 8 rfl rfl)
theorem dX20_plain_102 : decode cX20_plain 102 = .ok (.iload_n 3, 1) := dk_29 (dk_at dksX20_plain_4 10 rfl rfl)
theorem dX20_plain_103 : decode cX20_plain 103 = .ok (.iadd, 1) := dk_96 (dk_at dksX20_plain_4 11 rfl rfl)
theorem dX20_plain_104 : decode cX20_plain 104 = .ok (.lload 6, 2) := dk_22 6 (dk_at dksX20_plain_4 12 rfl rfl)
theorem dX20_plain_106 : decode cX20_plain 106 = .ok (.l2i, 1) := dk_136 (dk_at dksX20_plain_4 14 rfl rfl)
theorem dX20_plain_107 : decode cX20_plain 107 = .ok (.iastore, 1) := dk_79 (dk_at dksX20_plain_4 15 rfl rfl)
theorem dX20_plain_108 : decode cX20_plain 108 = .ok (.iinc 5 1, 3) := dk_132 5 1 (dk_at dksX20_plain_4 16 rfl rfl)
theorem dX20_plain_111 : decode cX20_plain 111 = .ok (.goto (-85), 3) := dk_167 255 171 (dk_at dksX20_plain_4 19 rfl rfl)
theorem dX20_plain_114 : decode cX20_plain 114 = .ok (.return_, 1) := dk_177 (dk_at dksX20_plain_4 22 rfl rfl)
abbrev cX20_divide : ByteArray := prog_14_method_11_code
def yX20_divide : MethodName := ⟨RX20, "divide", "(LContractLedger$Whole;LContractLedger$Whole;ZLContractLedger$Whole;LContractLedger$Whole;)V"⟩
def dkwX20_divide_5 : List UInt8 := [42, 25, 5, 44, 3, 25, 5, 182, 0, 108, 177]
abbrev dktX20_divide_5 : List UInt8 := dkwX20_divide_5 ++ []
def dkwX20_divide_4 : List UInt8 := [154, 0, 34, 42, 180, 0, 21, 10, 182, 0, 82, 42, 25, 4, 42, 180, 0, 21, 4, 25, 4, 182, 0, 108]
abbrev dktX20_divide_4 : List UInt8 := dkwX20_divide_4 ++ dktX20_divide_5
def dkwX20_divide_3 : List UInt8 := [4, 167, 0, 4, 3, 181, 0, 46, 29, 153, 0, 47, 21, 6, 153, 0, 42, 25, 5, 182, 0, 50]
abbrev dktX20_divide_3 : List UInt8 := dkwX20_divide_3 ++ dktX20_divide_4
def dkwX20_divide_2 : List UInt8 := [167, 0, 4, 3, 181, 0, 46, 25, 5, 43, 180, 0, 46, 153, 0, 15, 25, 5, 180, 0, 25, 158, 0, 7]
abbrev dktX20_divide_2 : List UInt8 := dkwX20_divide_2 ++ dktX20_divide_3
def dkwX20_divide_1 : List UInt8 := [167, 0, 4, 3, 54, 6, 25, 4, 21, 6, 153, 0, 15, 25, 4, 180, 0, 25, 158, 0, 7, 4]
abbrev dktX20_divide_1 : List UInt8 := dkwX20_divide_1 ++ dktX20_divide_2
def dkwX20_divide_0 : List UInt8 := [42, 43, 44, 25, 4, 25, 5, 182, 0, 104, 43, 180, 0, 46, 44, 180, 0, 46, 159, 0, 7, 4]
abbrev dktX20_divide_0 : List UInt8 := dkwX20_divide_0 ++ dktX20_divide_1
theorem dksX20_divide_0 : cX20_divide.data.toList.drop 0 = dktX20_divide_0 := by decide +kernel
theorem dksX20_divide_1 : cX20_divide.data.toList.drop 22 = dktX20_divide_1 := dk_seg dksX20_divide_0 22 rfl rfl
theorem dksX20_divide_2 : cX20_divide.data.toList.drop 44 = dktX20_divide_2 := dk_seg dksX20_divide_1 22 rfl rfl
theorem dksX20_divide_3 : cX20_divide.data.toList.drop 68 = dktX20_divide_3 := dk_seg dksX20_divide_2 24 rfl rfl
theorem dksX20_divide_4 : cX20_divide.data.toList.drop 90 = dktX20_divide_4 := dk_seg dksX20_divide_3 22 rfl rfl
theorem dksX20_divide_5 : cX20_divide.data.toList.drop 114 = dktX20_divide_5 := dk_seg dksX20_divide_4 24 rfl rfl
theorem dX20_divide_0 : decode cX20_divide 0 = .ok (.aload_n 0, 1) := dk_42 (dk_at dksX20_divide_0 0 rfl rfl)
theorem dX20_divide_1 : decode cX20_divide 1 = .ok (.aload_n 1, 1) := dk_43 (dk_at dksX20_divide_0 1 rfl rfl)
theorem dX20_divide_2 : decode cX20_divide 2 = .ok (.aload_n 2, 1) := dk_44 (dk_at dksX20_divide_0 2 rfl rfl)
theorem dX20_divide_3 : decode cX20_divide 3 = .ok (.aload 4, 2) := dk_25 4 (dk_at dksX20_divide_0 3 rfl rfl)
theorem dX20_divide_5 : decode cX20_divide 5 = .ok (.aload 5, 2) := dk_25 5 (dk_at dksX20_divide_0 5 rfl rfl)
theorem dX20_divide_7 : decode cX20_divide 7 = .ok (.invokevirtual 104, 3) := dk_182 0 104 (dk_at dksX20_divide_0 7 rfl rfl)
theorem dX20_divide_10 : decode cX20_divide 10 = .ok (.aload_n 1, 1) := dk_43 (dk_at dksX20_divide_0 10 rfl rfl)
theorem dX20_divide_11 : decode cX20_divide 11 = .ok (.getfield 46, 3) := dk_180 0 46 (dk_at dksX20_divide_0 11 rfl rfl)
theorem dX20_divide_14 : decode cX20_divide 14 = .ok (.aload_n 2, 1) := dk_44 (dk_at dksX20_divide_0 14 rfl rfl)
theorem dX20_divide_15 : decode cX20_divide 15 = .ok (.getfield 46, 3) := dk_180 0 46 (dk_at dksX20_divide_0 15 rfl rfl)
theorem dX20_divide_18 : decode cX20_divide 18 = .ok (.if_icmp .eq 7, 3) := dk_159 0 7 (dk_at dksX20_divide_0 18 rfl rfl)
theorem dX20_divide_21 : decode cX20_divide 21 = .ok (.iconst 1, 1) := dk_4 (dk_at dksX20_divide_0 21 rfl rfl)
theorem dX20_divide_22 : decode cX20_divide 22 = .ok (.goto 4, 3) := dk_167 0 4 (dk_at dksX20_divide_1 0 rfl rfl)
theorem dX20_divide_25 : decode cX20_divide 25 = .ok (.iconst 0, 1) := dk_3 (dk_at dksX20_divide_1 3 rfl rfl)
theorem dX20_divide_26 : decode cX20_divide 26 = .ok (.istore 6, 2) := dk_54 6 (dk_at dksX20_divide_1 4 rfl rfl)
theorem dX20_divide_28 : decode cX20_divide 28 = .ok (.aload 4, 2) := dk_25 4 (dk_at dksX20_divide_1 6 rfl rfl)
theorem dX20_divide_30 : decode cX20_divide 30 = .ok (.iload 6, 2) := dk_21 6 (dk_at dksX20_divide_1 8 rfl rfl)
theorem dX20_divide_32 : decode cX20_divide 32 = .ok (.ifCond .eq 15, 3) := dk_153 0 15 (dk_at dksX20_divide_1 10 rfl rfl)
theorem dX20_divide_35 : decode cX20_divide 35 = .ok (.aload 4, 2) := dk_25 4 (dk_at dksX20_divide_1 13 rfl rfl)
theorem dX20_divide_37 : decode cX20_divide 37 = .ok (.getfield 25, 3) := dk_180 0 25 (dk_at dksX20_divide_1 15 rfl rfl)
theorem dX20_divide_40 : decode cX20_divide 40 = .ok (.ifCond .le 7, 3) := dk_158 0 7 (dk_at dksX20_divide_1 18 rfl rfl)
theorem dX20_divide_43 : decode cX20_divide 43 = .ok (.iconst 1, 1) := dk_4 (dk_at dksX20_divide_1 21 rfl rfl)
theorem dX20_divide_44 : decode cX20_divide 44 = .ok (.goto 4, 3) := dk_167 0 4 (dk_at dksX20_divide_2 0 rfl rfl)
theorem dX20_divide_47 : decode cX20_divide 47 = .ok (.iconst 0, 1) := dk_3 (dk_at dksX20_divide_2 3 rfl rfl)
theorem dX20_divide_48 : decode cX20_divide 48 = .ok (.putfield 46, 3) := dk_181 0 46 (dk_at dksX20_divide_2 4 rfl rfl)
theorem dX20_divide_51 : decode cX20_divide 51 = .ok (.aload 5, 2) := dk_25 5 (dk_at dksX20_divide_2 7 rfl rfl)
theorem dX20_divide_53 : decode cX20_divide 53 = .ok (.aload_n 1, 1) := dk_43 (dk_at dksX20_divide_2 9 rfl rfl)
theorem dX20_divide_54 : decode cX20_divide 54 = .ok (.getfield 46, 3) := dk_180 0 46 (dk_at dksX20_divide_2 10 rfl rfl)
theorem dX20_divide_57 : decode cX20_divide 57 = .ok (.ifCond .eq 15, 3) := dk_153 0 15 (dk_at dksX20_divide_2 13 rfl rfl)
theorem dX20_divide_60 : decode cX20_divide 60 = .ok (.aload 5, 2) := dk_25 5 (dk_at dksX20_divide_2 16 rfl rfl)
theorem dX20_divide_62 : decode cX20_divide 62 = .ok (.getfield 25, 3) := dk_180 0 25 (dk_at dksX20_divide_2 18 rfl rfl)
theorem dX20_divide_65 : decode cX20_divide 65 = .ok (.ifCond .le 7, 3) := dk_158 0 7 (dk_at dksX20_divide_2 21 rfl rfl)
theorem dX20_divide_68 : decode cX20_divide 68 = .ok (.iconst 1, 1) := dk_4 (dk_at dksX20_divide_3 0 rfl rfl)
theorem dX20_divide_69 : decode cX20_divide 69 = .ok (.goto 4, 3) := dk_167 0 4 (dk_at dksX20_divide_3 1 rfl rfl)
theorem dX20_divide_72 : decode cX20_divide 72 = .ok (.iconst 0, 1) := dk_3 (dk_at dksX20_divide_3 4 rfl rfl)
theorem dX20_divide_73 : decode cX20_divide 73 = .ok (.putfield 46, 3) := dk_181 0 46 (dk_at dksX20_divide_3 5 rfl rfl)
theorem dX20_divide_76 : decode cX20_divide 76 = .ok (.iload_n 3, 1) := dk_29 (dk_at dksX20_divide_3 8 rfl rfl)
theorem dX20_divide_77 : decode cX20_divide 77 = .ok (.ifCond .eq 47, 3) := dk_153 0 47 (dk_at dksX20_divide_3 9 rfl rfl)
theorem dX20_divide_80 : decode cX20_divide 80 = .ok (.iload 6, 2) := dk_21 6 (dk_at dksX20_divide_3 12 rfl rfl)
theorem dX20_divide_82 : decode cX20_divide 82 = .ok (.ifCond .eq 42, 3) := dk_153 0 42 (dk_at dksX20_divide_3 14 rfl rfl)
theorem dX20_divide_85 : decode cX20_divide 85 = .ok (.aload 5, 2) := dk_25 5 (dk_at dksX20_divide_3 17 rfl rfl)
theorem dX20_divide_87 : decode cX20_divide 87 = .ok (.invokevirtual 50, 3) := dk_182 0 50 (dk_at dksX20_divide_3 19 rfl rfl)
theorem dX20_divide_90 : decode cX20_divide 90 = .ok (.ifCond .ne 34, 3) := dk_154 0 34 (dk_at dksX20_divide_4 0 rfl rfl)
theorem dX20_divide_93 : decode cX20_divide 93 = .ok (.aload_n 0, 1) := dk_42 (dk_at dksX20_divide_4 3 rfl rfl)
theorem dX20_divide_94 : decode cX20_divide 94 = .ok (.getfield 21, 3) := dk_180 0 21 (dk_at dksX20_divide_4 4 rfl rfl)
theorem dX20_divide_97 : decode cX20_divide 97 = .ok (.lconst 1, 1) := dk_10 (dk_at dksX20_divide_4 7 rfl rfl)
theorem dX20_divide_98 : decode cX20_divide 98 = .ok (.invokevirtual 82, 3) := dk_182 0 82 (dk_at dksX20_divide_4 8 rfl rfl)
theorem dX20_divide_101 : decode cX20_divide 101 = .ok (.aload_n 0, 1) := dk_42 (dk_at dksX20_divide_4 11 rfl rfl)
theorem dX20_divide_102 : decode cX20_divide 102 = .ok (.aload 4, 2) := dk_25 4 (dk_at dksX20_divide_4 12 rfl rfl)
theorem dX20_divide_104 : decode cX20_divide 104 = .ok (.aload_n 0, 1) := dk_42 (dk_at dksX20_divide_4 14 rfl rfl)
theorem dX20_divide_105 : decode cX20_divide 105 = .ok (.getfield 21, 3) := dk_180 0 21 (dk_at dksX20_divide_4 15 rfl rfl)
theorem dX20_divide_108 : decode cX20_divide 108 = .ok (.iconst 1, 1) := dk_4 (dk_at dksX20_divide_4 18 rfl rfl)
theorem dX20_divide_109 : decode cX20_divide 109 = .ok (.aload 4, 2) := dk_25 4 (dk_at dksX20_divide_4 19 rfl rfl)
theorem dX20_divide_111 : decode cX20_divide 111 = .ok (.invokevirtual 108, 3) := dk_182 0 108 (dk_at dksX20_divide_4 21 rfl rfl)
theorem dX20_divide_114 : decode cX20_divide 114 = .ok (.aload_n 0, 1) := dk_42 (dk_at dksX20_divide_5 0 rfl rfl)
theorem dX20_divide_115 : decode cX20_divide 115 = .ok (.aload 5, 2) := dk_25 5 (dk_at dksX20_divide_5 1 rfl rfl)
theorem dX20_divide_117 : decode cX20_divide 117 = .ok (.aload_n 2, 1) := dk_44 (dk_at dksX20_divide_5 3 rfl rfl)
theorem dX20_divide_118 : decode cX20_divide 118 = .ok (.iconst 0, 1) := dk_3 (dk_at dksX20_divide_5 4 rfl rfl)
theorem dX20_divide_119 : decode cX20_divide 119 = .ok (.aload 5, 2) := dk_25 5 (dk_at dksX20_divide_5 5 rfl rfl)
theorem dX20_divide_121 : decode cX20_divide 121 = .ok (.invokevirtual 108, 3) := dk_182 0 108 (dk_at dksX20_divide_5 7 rfl rfl)
theorem dX20_divide_124 : decode cX20_divide 124 = .ok (.return_, 1) := dk_177 (dk_at dksX20_divide_5 10 rfl rfl)
abbrev cX20_divideSizes : ByteArray := prog_14_method_9_code
def yX20_divideSizes : MethodName := ⟨RX20, "divideSizes", "(LContractLedger$Whole;LContractLedger$Whole;LContractLedger$Whole;LContractLedger$Whole;)V"⟩
def dkwX20_divideSizes_9 : List UInt8 := [167, 255, 212, 25, 4, 21, 5, 182, 0, 43, 177]
abbrev dktX20_divideSizes_9 : List UInt8 := dkwX20_divideSizes_9 ++ []
def dkwX20_divideSizes_8 : List UInt8 := [180, 0, 7, 21, 8, 4, 96, 46, 16, 16, 120, 128, 21, 6, 124, 18, 42, 126, 79, 132, 8, 1]
abbrev dktX20_divideSizes_8 : List UInt8 := dkwX20_divideSizes_8 ++ dktX20_divideSizes_9
def dkwX20_divideSizes_7 : List UInt8 := [54, 8, 21, 8, 21, 5, 162, 0, 43, 25, 4, 180, 0, 39, 21, 8, 42, 180, 0, 7, 21, 8, 46, 42]
abbrev dktX20_divideSizes_7 : List UInt8 := dkwX20_divideSizes_7 ++ dktX20_divideSizes_8
def dkwX20_divideSizes_6 : List UInt8 := [21, 5, 182, 0, 95, 79, 132, 8, 255, 167, 255, 233, 45, 21, 7, 21, 5, 100, 4, 96, 182, 0, 43, 3]
abbrev dktX20_divideSizes_6 : List UInt8 := dkwX20_divideSizes_6 ++ dktX20_divideSizes_7
def dkwX20_divideSizes_5 : List UInt8 := [184, 0, 91, 21, 7, 21, 5, 100, 54, 8, 21, 8, 155, 0, 24, 45, 180, 0, 39, 21, 8, 42, 21, 8]
abbrev dktX20_divideSizes_5 : List UInt8 := dkwX20_divideSizes_5 ++ dktX20_divideSizes_6
def dkwX20_divideSizes_4 : List UInt8 := [21, 6, 42, 180, 0, 7, 21, 7, 4, 96, 184, 0, 91, 44, 21, 6, 42, 180, 0, 13, 21, 5]
abbrev dktX20_divideSizes_4 : List UInt8 := dkwX20_divideSizes_4 ++ dktX20_divideSizes_5
def dkwX20_divideSizes_3 : List UInt8 := [180, 0, 39, 21, 5, 4, 100, 46, 184, 0, 86, 16, 16, 100, 54, 6, 43, 180, 0, 25, 54, 7, 43]
abbrev dktX20_divideSizes_3 : List UInt8 := dkwX20_divideSizes_3 ++ dktX20_divideSizes_4
def dkwX20_divideSizes_2 : List UInt8 := [43, 44, 180, 0, 39, 3, 46, 45, 184, 0, 78, 54, 6, 25, 4, 21, 6, 133, 182, 0, 82, 177, 44]
abbrev dktX20_divideSizes_2 : List UInt8 := dkwX20_divideSizes_2 ++ dktX20_divideSizes_3
def dkwX20_divideSizes_1 : List UInt8 := [177, 45, 3, 181, 0, 46, 25, 4, 3, 181, 0, 46, 44, 180, 0, 25, 54, 5, 21, 5, 4, 160, 0, 25]
abbrev dktX20_divideSizes_1 : List UInt8 := dkwX20_divideSizes_1 ++ dktX20_divideSizes_2
def dkwX20_divideSizes_0 : List UInt8 := [43, 44, 182, 0, 54, 156, 0, 20, 25, 4, 43, 182, 0, 71, 25, 4, 3, 181, 0, 46, 45, 182, 0, 75]
abbrev dktX20_divideSizes_0 : List UInt8 := dkwX20_divideSizes_0 ++ dktX20_divideSizes_1
theorem dksX20_divideSizes_0 : cX20_divideSizes.data.toList.drop 0 = dktX20_divideSizes_0 := by decide +kernel
theorem dksX20_divideSizes_1 : cX20_divideSizes.data.toList.drop 24 = dktX20_divideSizes_1 := dk_seg dksX20_divideSizes_0 24 rfl rfl
theorem dksX20_divideSizes_2 : cX20_divideSizes.data.toList.drop 48 = dktX20_divideSizes_2 := dk_seg dksX20_divideSizes_1 24 rfl rfl
theorem dksX20_divideSizes_3 : cX20_divideSizes.data.toList.drop 71 = dktX20_divideSizes_3 := dk_seg dksX20_divideSizes_2 23 rfl rfl
theorem dksX20_divideSizes_4 : cX20_divideSizes.data.toList.drop 94 = dktX20_divideSizes_4 := dk_seg dksX20_divideSizes_3 23 rfl rfl
theorem dksX20_divideSizes_5 : cX20_divideSizes.data.toList.drop 116 = dktX20_divideSizes_5 := dk_seg dksX20_divideSizes_4 22 rfl rfl
theorem dksX20_divideSizes_6 : cX20_divideSizes.data.toList.drop 140 = dktX20_divideSizes_6 := dk_seg dksX20_divideSizes_5 24 rfl rfl
theorem dksX20_divideSizes_7 : cX20_divideSizes.data.toList.drop 164 = dktX20_divideSizes_7 := dk_seg dksX20_divideSizes_6 24 rfl rfl
theorem dksX20_divideSizes_8 : cX20_divideSizes.data.toList.drop 188 = dktX20_divideSizes_8 := dk_seg dksX20_divideSizes_7 24 rfl rfl
theorem dksX20_divideSizes_9 : cX20_divideSizes.data.toList.drop 210 = dktX20_divideSizes_9 := dk_seg dksX20_divideSizes_8 22 rfl rfl
theorem dX20_divideSizes_0 : decode cX20_divideSizes 0 = .ok (.aload_n 1, 1) := dk_43 (dk_at dksX20_divideSizes_0 0 rfl rfl)
theorem dX20_divideSizes_1 : decode cX20_divideSizes 1 = .ok (.aload_n 2, 1) := dk_44 (dk_at dksX20_divideSizes_0 1 rfl rfl)
theorem dX20_divideSizes_2 : decode cX20_divideSizes 2 = .ok (.invokevirtual 54, 3) := dk_182 0 54 (dk_at dksX20_divideSizes_0 2 rfl rfl)
theorem dX20_divideSizes_5 : decode cX20_divideSizes 5 = .ok (.ifCond .ge 20, 3) := dk_156 0 20 (dk_at dksX20_divideSizes_0 5 rfl rfl)
theorem dX20_divideSizes_8 : decode cX20_divideSizes 8 = .ok (.aload 4, 2) := dk_25 4 (dk_at dksX20_divideSizes_0 8 rfl rfl)
theorem dX20_divideSizes_10 : decode cX20_divideSizes 10 = .ok (.aload_n 1, 1) := dk_43 (dk_at dksX20_divideSizes_0 10 rfl rfl)
theorem dX20_divideSizes_11 : decode cX20_divideSizes 11 = .ok (.invokevirtual 71, 3) := dk_182 0 71 (dk_at dksX20_divideSizes_0 11 rfl rfl)
theorem dX20_divideSizes_14 : decode cX20_divideSizes 14 = .ok (.aload 4, 2) := dk_25 4 (dk_at dksX20_divideSizes_0 14 rfl rfl)
theorem dX20_divideSizes_16 : decode cX20_divideSizes 16 = .ok (.iconst 0, 1) := dk_3 (dk_at dksX20_divideSizes_0 16 rfl rfl)
theorem dX20_divideSizes_17 : decode cX20_divideSizes 17 = .ok (.putfield 46, 3) := dk_181 0 46 (dk_at dksX20_divideSizes_0 17 rfl rfl)
theorem dX20_divideSizes_20 : decode cX20_divideSizes 20 = .ok (.aload_n 3, 1) := dk_45 (dk_at dksX20_divideSizes_0 20 rfl rfl)
theorem dX20_divideSizes_21 : decode cX20_divideSizes 21 = .ok (.invokevirtual 75, 3) := dk_182 0 75 (dk_at dksX20_divideSizes_0 21 rfl rfl)
theorem dX20_divideSizes_24 : decode cX20_divideSizes 24 = .ok (.return_, 1) := dk_177 (dk_at dksX20_divideSizes_1 0 rfl rfl)
theorem dX20_divideSizes_25 : decode cX20_divideSizes 25 = .ok (.aload_n 3, 1) := dk_45 (dk_at dksX20_divideSizes_1 1 rfl rfl)
theorem dX20_divideSizes_26 : decode cX20_divideSizes 26 = .ok (.iconst 0, 1) := dk_3 (dk_at dksX20_divideSizes_1 2 rfl rfl)
theorem dX20_divideSizes_27 : decode cX20_divideSizes 27 = .ok (.putfield 46, 3) := dk_181 0 46 (dk_at dksX20_divideSizes_1 3 rfl rfl)
theorem dX20_divideSizes_30 : decode cX20_divideSizes 30 = .ok (.aload 4, 2) := dk_25 4 (dk_at dksX20_divideSizes_1 6 rfl rfl)
theorem dX20_divideSizes_32 : decode cX20_divideSizes 32 = .ok (.iconst 0, 1) := dk_3 (dk_at dksX20_divideSizes_1 8 rfl rfl)
theorem dX20_divideSizes_33 : decode cX20_divideSizes 33 = .ok (.putfield 46, 3) := dk_181 0 46 (dk_at dksX20_divideSizes_1 9 rfl rfl)
theorem dX20_divideSizes_36 : decode cX20_divideSizes 36 = .ok (.aload_n 2, 1) := dk_44 (dk_at dksX20_divideSizes_1 12 rfl rfl)
theorem dX20_divideSizes_37 : decode cX20_divideSizes 37 = .ok (.getfield 25, 3) := dk_180 0 25 (dk_at dksX20_divideSizes_1 13 rfl rfl)
theorem dX20_divideSizes_40 : decode cX20_divideSizes 40 = .ok (.istore 5, 2) := dk_54 5 (dk_at dksX20_divideSizes_1 16 rfl rfl)
theorem dX20_divideSizes_42 : decode cX20_divideSizes 42 = .ok (.iload 5, 2) := dk_21 5 (dk_at dksX20_divideSizes_1 18 rfl rfl)
theorem dX20_divideSizes_44 : decode cX20_divideSizes 44 = .ok (.iconst 1, 1) := dk_4 (dk_at dksX20_divideSizes_1 20 rfl rfl)
theorem dX20_divideSizes_45 : decode cX20_divideSizes 45 = .ok (.if_icmp .ne 25, 3) := dk_160 0 25 (dk_at dksX20_divideSizes_1 21 rfl rfl)
theorem dX20_divideSizes_48 : decode cX20_divideSizes 48 = .ok (.aload_n 1, 1) := dk_43 (dk_at dksX20_divideSizes_2 0 rfl rfl)
theorem dX20_divideSizes_49 : decode cX20_divideSizes 49 = .ok (.aload_n 2, 1) := dk_44 (dk_at dksX20_divideSizes_2 1 rfl rfl)
theorem dX20_divideSizes_50 : decode cX20_divideSizes 50 = .ok (.getfield 39, 3) := dk_180 0 39 (dk_at dksX20_divideSizes_2 2 rfl rfl)
theorem dX20_divideSizes_53 : decode cX20_divideSizes 53 = .ok (.iconst 0, 1) := dk_3 (dk_at dksX20_divideSizes_2 5 rfl rfl)
theorem dX20_divideSizes_54 : decode cX20_divideSizes 54 = .ok (.iaload, 1) := dk_46 (dk_at dksX20_divideSizes_2 6 rfl rfl)
theorem dX20_divideSizes_55 : decode cX20_divideSizes 55 = .ok (.aload_n 3, 1) := dk_45 (dk_at dksX20_divideSizes_2 7 rfl rfl)
theorem dX20_divideSizes_56 : decode cX20_divideSizes 56 = .ok (.invokestatic 78, 3) := dk_184 0 78 (dk_at dksX20_divideSizes_2 8 rfl rfl)
theorem dX20_divideSizes_59 : decode cX20_divideSizes 59 = .ok (.istore 6, 2) := dk_54 6 (dk_at dksX20_divideSizes_2 11 rfl rfl)
theorem dX20_divideSizes_61 : decode cX20_divideSizes 61 = .ok (.aload 4, 2) := dk_25 4 (dk_at dksX20_divideSizes_2 13 rfl rfl)
theorem dX20_divideSizes_63 : decode cX20_divideSizes 63 = .ok (.iload 6, 2) := dk_21 6 (dk_at dksX20_divideSizes_2 15 rfl rfl)
theorem dX20_divideSizes_65 : decode cX20_divideSizes 65 = .ok (.i2l, 1) := dk_133 (dk_at dksX20_divideSizes_2 17 rfl rfl)
theorem dX20_divideSizes_66 : decode cX20_divideSizes 66 = .ok (.invokevirtual 82, 3) := dk_182 0 82 (dk_at dksX20_divideSizes_2 18 rfl rfl)
theorem dX20_divideSizes_69 : decode cX20_divideSizes 69 = .ok (.return_, 1) := dk_177 (dk_at dksX20_divideSizes_2 21 rfl rfl)
theorem dX20_divideSizes_70 : decode cX20_divideSizes 70 = .ok (.aload_n 2, 1) := dk_44 (dk_at dksX20_divideSizes_2 22 rfl rfl)
theorem dX20_divideSizes_71 : decode cX20_divideSizes 71 = .ok (.getfield 39, 3) := dk_180 0 39 (dk_at dksX20_divideSizes_3 0 rfl rfl)
theorem dX20_divideSizes_74 : decode cX20_divideSizes 74 = .ok (.iload 5, 2) := dk_21 5 (dk_at dksX20_divideSizes_3 3 rfl rfl)
theorem dX20_divideSizes_76 : decode cX20_divideSizes 76 = .ok (.iconst 1, 1) := dk_4 (dk_at dksX20_divideSizes_3 5 rfl rfl)
theorem dX20_divideSizes_77 : decode cX20_divideSizes 77 = .ok (.isub, 1) := dk_100 (dk_at dksX20_divideSizes_3 6 rfl rfl)
theorem dX20_divideSizes_78 : decode cX20_divideSizes 78 = .ok (.iaload, 1) := dk_46 (dk_at dksX20_divideSizes_3 7 rfl rfl)
theorem dX20_divideSizes_79 : decode cX20_divideSizes 79 = .ok (.invokestatic 86, 3) := dk_184 0 86 (dk_at dksX20_divideSizes_3 8 rfl rfl)
theorem dX20_divideSizes_82 : decode cX20_divideSizes 82 = .ok (.bipush 16, 2) := dk_16 16 (dk_at dksX20_divideSizes_3 11 rfl rfl)
theorem dX20_divideSizes_84 : decode cX20_divideSizes 84 = .ok (.isub, 1) := dk_100 (dk_at dksX20_divideSizes_3 13 rfl rfl)
theorem dX20_divideSizes_85 : decode cX20_divideSizes 85 = .ok (.istore 6, 2) := dk_54 6 (dk_at dksX20_divideSizes_3 14 rfl rfl)
theorem dX20_divideSizes_87 : decode cX20_divideSizes 87 = .ok (.aload_n 1, 1) := dk_43 (dk_at dksX20_divideSizes_3 16 rfl rfl)
theorem dX20_divideSizes_88 : decode cX20_divideSizes 88 = .ok (.getfield 25, 3) := dk_180 0 25 (dk_at dksX20_divideSizes_3 17 rfl rfl)
theorem dX20_divideSizes_91 : decode cX20_divideSizes 91 = .ok (.istore 7, 2) := dk_54 7 (dk_at dksX20_divideSizes_3 20 rfl rfl)
theorem dX20_divideSizes_93 : decode cX20_divideSizes 93 = .ok (.aload_n 1, 1) := dk_43 (dk_at dksX20_divideSizes_3 22 rfl rfl)
theorem dX20_divideSizes_94 : decode cX20_divideSizes 94 = .ok (.iload 6, 2) := dk_21 6 (dk_at dksX20_divideSizes_4 0 rfl rfl)
theorem dX20_divideSizes_96 : decode cX20_divideSizes 96 = .ok (.aload_n 0, 1) := dk_42 (dk_at dksX20_divideSizes_4 2 rfl rfl)
theorem dX20_divideSizes_97 : decode cX20_divideSizes 97 = .ok (.getfield 7, 3) := dk_180 0 7 (dk_at dksX20_divideSizes_4 3 rfl rfl)
theorem dX20_divideSizes_100 : decode cX20_divideSizes 100 = .ok (.iload 7, 2) := dk_21 7 (dk_at dksX20_divideSizes_4 6 rfl rfl)
theorem dX20_divideSizes_102 : decode cX20_divideSizes 102 = .ok (.iconst 1, 1) := dk_4 (dk_at dksX20_divideSizes_4 8 rfl rfl)
theorem dX20_divideSizes_103 : decode cX20_divideSizes 103 = .ok (.iadd, 1) := dk_96 (dk_at dksX20_divideSizes_4 9 rfl rfl)
theorem dX20_divideSizes_104 : decode cX20_divideSizes 104 = .ok (.invokestatic 91, 3) := dk_184 0 91 (dk_at dksX20_divideSizes_4 10 rfl rfl)
theorem dX20_divideSizes_107 : decode cX20_divideSizes 107 = .ok (.aload_n 2, 1) := dk_44 (dk_at dksX20_divideSizes_4 13 rfl rfl)
theorem dX20_divideSizes_108 : decode cX20_divideSizes 108 = .ok (.iload 6, 2) := dk_21 6 (dk_at dksX20_divideSizes_4 14 rfl rfl)
theorem dX20_divideSizes_110 : decode cX20_divideSizes 110 = .ok (.aload_n 0, 1) := dk_42 (dk_at dksX20_divideSizes_4 16 rfl rfl)
theorem dX20_divideSizes_111 : decode cX20_divideSizes 111 = .ok (.getfield 13, 3) := dk_180 0 13 (dk_at dksX20_divideSizes_4 17 rfl rfl)
theorem dX20_divideSizes_114 : decode cX20_divideSizes 114 = .ok (.iload 5, 2) := dk_21 5 (dk_at dksX20_divideSizes_4 20 rfl rfl)
theorem dX20_divideSizes_116 : decode cX20_divideSizes 116 = .ok (.invokestatic 91, 3) := dk_184 0 91 (dk_at dksX20_divideSizes_5 0 rfl rfl)
theorem dX20_divideSizes_119 : decode cX20_divideSizes 119 = .ok (.iload 7, 2) := dk_21 7 (dk_at dksX20_divideSizes_5 3 rfl rfl)
theorem dX20_divideSizes_121 : decode cX20_divideSizes 121 = .ok (.iload 5, 2) := dk_21 5 (dk_at dksX20_divideSizes_5 5 rfl rfl)
theorem dX20_divideSizes_123 : decode cX20_divideSizes 123 = .ok (.isub, 1) := dk_100 (dk_at dksX20_divideSizes_5 7 rfl rfl)
theorem dX20_divideSizes_124 : decode cX20_divideSizes 124 = .ok (.istore 8, 2) := dk_54 8 (dk_at dksX20_divideSizes_5 8 rfl rfl)
theorem dX20_divideSizes_126 : decode cX20_divideSizes 126 = .ok (.iload 8, 2) := dk_21 8 (dk_at dksX20_divideSizes_5 10 rfl rfl)
theorem dX20_divideSizes_128 : decode cX20_divideSizes 128 = .ok (.ifCond .lt 24, 3) := dk_155 0 24 (dk_at dksX20_divideSizes_5 12 rfl rfl)
theorem dX20_divideSizes_131 : decode cX20_divideSizes 131 = .ok (.aload_n 3, 1) := dk_45 (dk_at dksX20_divideSizes_5 15 rfl rfl)
theorem dX20_divideSizes_132 : decode cX20_divideSizes 132 = .ok (.getfield 39, 3) := dk_180 0 39 (dk_at dksX20_divideSizes_5 16 rfl rfl)
theorem dX20_divideSizes_135 : decode cX20_divideSizes 135 = .ok (.iload 8, 2) := dk_21 8 (dk_at dksX20_divideSizes_5 19 rfl rfl)
theorem dX20_divideSizes_137 : decode cX20_divideSizes 137 = .ok (.aload_n 0, 1) := dk_42 (dk_at dksX20_divideSizes_5 21 rfl rfl)
theorem dX20_divideSizes_138 : decode cX20_divideSizes 138 = .ok (.iload 8, 2) := dk_21 8 (dk_at dksX20_divideSizes_5 22 rfl rfl)
theorem dX20_divideSizes_140 : decode cX20_divideSizes 140 = .ok (.iload 5, 2) := dk_21 5 (dk_at dksX20_divideSizes_6 0 rfl rfl)
theorem dX20_divideSizes_142 : decode cX20_divideSizes 142 = .ok (.invokevirtual 95, 3) := dk_182 0 95 (dk_at dksX20_divideSizes_6 2 rfl rfl)
theorem dX20_divideSizes_145 : decode cX20_divideSizes 145 = .ok (.iastore, 1) := dk_79 (dk_at dksX20_divideSizes_6 5 rfl rfl)
theorem dX20_divideSizes_146 : decode cX20_divideSizes 146 = .ok (.iinc 8 (-1), 3) := dk_132 8 255 (dk_at dksX20_divideSizes_6 6 rfl rfl)
theorem dX20_divideSizes_149 : decode cX20_divideSizes 149 = .ok (.goto (-23), 3) := dk_167 255 233 (dk_at dksX20_divideSizes_6 9 rfl rfl)
theorem dX20_divideSizes_152 : decode cX20_divideSizes 152 = .ok (.aload_n 3, 1) := dk_45 (dk_at dksX20_divideSizes_6 12 rfl rfl)
theorem dX20_divideSizes_153 : decode cX20_divideSizes 153 = .ok (.iload 7, 2) := dk_21 7 (dk_at dksX20_divideSizes_6 13 rfl rfl)
theorem dX20_divideSizes_155 : decode cX20_divideSizes 155 = .ok (.iload 5, 2) := dk_21 5 (dk_at dksX20_divideSizes_6 15 rfl rfl)
theorem dX20_divideSizes_157 : decode cX20_divideSizes 157 = .ok (.isub, 1) := dk_100 (dk_at dksX20_divideSizes_6 17 rfl rfl)
theorem dX20_divideSizes_158 : decode cX20_divideSizes 158 = .ok (.iconst 1, 1) := dk_4 (dk_at dksX20_divideSizes_6 18 rfl rfl)
theorem dX20_divideSizes_159 : decode cX20_divideSizes 159 = .ok (.iadd, 1) := dk_96 (dk_at dksX20_divideSizes_6 19 rfl rfl)
theorem dX20_divideSizes_160 : decode cX20_divideSizes 160 = .ok (.invokevirtual 43, 3) := dk_182 0 43 (dk_at dksX20_divideSizes_6 20 rfl rfl)
theorem dX20_divideSizes_163 : decode cX20_divideSizes 163 = .ok (.iconst 0, 1) := dk_3 (dk_at dksX20_divideSizes_6 23 rfl rfl)
theorem dX20_divideSizes_164 : decode cX20_divideSizes 164 = .ok (.istore 8, 2) := dk_54 8 (dk_at dksX20_divideSizes_7 0 rfl rfl)
theorem dX20_divideSizes_166 : decode cX20_divideSizes 166 = .ok (.iload 8, 2) := dk_21 8 (dk_at dksX20_divideSizes_7 2 rfl rfl)
theorem dX20_divideSizes_168 : decode cX20_divideSizes 168 = .ok (.iload 5, 2) := dk_21 5 (dk_at dksX20_divideSizes_7 4 rfl rfl)
theorem dX20_divideSizes_170 : decode cX20_divideSizes 170 = .ok (.if_icmp .ge 43, 3) := dk_162 0 43 (dk_at dksX20_divideSizes_7 6 rfl rfl)
theorem dX20_divideSizes_173 : decode cX20_divideSizes 173 = .ok (.aload 4, 2) := dk_25 4 (dk_at dksX20_divideSizes_7 9 rfl rfl)
theorem dX20_divideSizes_175 : decode cX20_divideSizes 175 = .ok (.getfield 39, 3) := dk_180 0 39 (dk_at dksX20_divideSizes_7 11 rfl rfl)
theorem dX20_divideSizes_178 : decode cX20_divideSizes 178 = .ok (.iload 8, 2) := dk_21 8 (dk_at dksX20_divideSizes_7 14 rfl rfl)
theorem dX20_divideSizes_180 : decode cX20_divideSizes 180 = .ok (.aload_n 0, 1) := dk_42 (dk_at dksX20_divideSizes_7 16 rfl rfl)
theorem dX20_divideSizes_181 : decode cX20_divideSizes 181 = .ok (.getfield 7, 3) := dk_180 0 7 (dk_at dksX20_divideSizes_7 17 rfl rfl)
theorem dX20_divideSizes_184 : decode cX20_divideSizes 184 = .ok (.iload 8, 2) := dk_21 8 (dk_at dksX20_divideSizes_7 20 rfl rfl)
theorem dX20_divideSizes_186 : decode cX20_divideSizes 186 = .ok (.iaload, 1) := dk_46 (dk_at dksX20_divideSizes_7 22 rfl rfl)
theorem dX20_divideSizes_187 : decode cX20_divideSizes 187 = .ok (.aload_n 0, 1) := dk_42 (dk_at dksX20_divideSizes_7 23 rfl rfl)
theorem dX20_divideSizes_188 : decode cX20_divideSizes 188 = .ok (.getfield 7, 3) := dk_180 0 7 (dk_at dksX20_divideSizes_8 0 rfl rfl)
theorem dX20_divideSizes_191 : decode cX20_divideSizes 191 = .ok (.iload 8, 2) := dk_21 8 (dk_at dksX20_divideSizes_8 3 rfl rfl)
theorem dX20_divideSizes_193 : decode cX20_divideSizes 193 = .ok (.iconst 1, 1) := dk_4 (dk_at dksX20_divideSizes_8 5 rfl rfl)
theorem dX20_divideSizes_194 : decode cX20_divideSizes 194 = .ok (.iadd, 1) := dk_96 (dk_at dksX20_divideSizes_8 6 rfl rfl)
theorem dX20_divideSizes_195 : decode cX20_divideSizes 195 = .ok (.iaload, 1) := dk_46 (dk_at dksX20_divideSizes_8 7 rfl rfl)
theorem dX20_divideSizes_196 : decode cX20_divideSizes 196 = .ok (.bipush 16, 2) := dk_16 16 (dk_at dksX20_divideSizes_8 8 rfl rfl)
theorem dX20_divideSizes_198 : decode cX20_divideSizes 198 = .ok (.ishl, 1) := dk_120 (dk_at dksX20_divideSizes_8 10 rfl rfl)
theorem dX20_divideSizes_199 : decode cX20_divideSizes 199 = .ok (.ior, 1) := dk_128 (dk_at dksX20_divideSizes_8 11 rfl rfl)
theorem dX20_divideSizes_200 : decode cX20_divideSizes 200 = .ok (.iload 6, 2) := dk_21 6 (dk_at dksX20_divideSizes_8 12 rfl rfl)
theorem dX20_divideSizes_202 : decode cX20_divideSizes 202 = .ok (.iushr, 1) := dk_124 (dk_at dksX20_divideSizes_8 14 rfl rfl)
theorem dX20_divideSizes_203 : decode cX20_divideSizes 203 = .ok (.ldc 42, 2) := dk_18 42 (dk_at dksX20_divideSizes_8 15 rfl rfl)
theorem dX20_divideSizes_205 : decode cX20_divideSizes 205 = .ok (.iand, 1) := dk_126 (dk_at dksX20_divideSizes_8 17 rfl rfl)
theorem dX20_divideSizes_206 : decode cX20_divideSizes 206 = .ok (.iastore, 1) := dk_79 (dk_at dksX20_divideSizes_8 18 rfl rfl)
theorem dX20_divideSizes_207 : decode cX20_divideSizes 207 = .ok (.iinc 8 1, 3) := dk_132 8 1 (dk_at dksX20_divideSizes_8 19 rfl rfl)
theorem dX20_divideSizes_210 : decode cX20_divideSizes 210 = .ok (.goto (-44), 3) := dk_167 255 212 (dk_at dksX20_divideSizes_9 0 rfl rfl)
theorem dX20_divideSizes_213 : decode cX20_divideSizes 213 = .ok (.aload 4, 2) := dk_25 4 (dk_at dksX20_divideSizes_9 3 rfl rfl)
theorem dX20_divideSizes_215 : decode cX20_divideSizes 215 = .ok (.iload 5, 2) := dk_21 5 (dk_at dksX20_divideSizes_9 5 rfl rfl)
theorem dX20_divideSizes_217 : decode cX20_divideSizes 217 = .ok (.invokevirtual 43, 3) := dk_182 0 43 (dk_at dksX20_divideSizes_9 7 rfl rfl)
theorem dX20_divideSizes_220 : decode cX20_divideSizes 220 = .ok (.return_, 1) := dk_177 (dk_at dksX20_divideSizes_9 10 rfl rfl)
abbrev cX20_divideBy : ByteArray := prog_14_method_7_code
def yX20_divideBy : MethodName := ⟨RX20, "divideBy", "(LContractLedger$Whole;ILContractLedger$Whole;)I"⟩
def dkwX20_divideBy_2 : List UInt8 := [22, 6, 27, 133, 113, 136, 62, 132, 5, 255, 167, 255, 212, 44, 21, 4, 182, 0, 43, 29, 172]
abbrev dktX20_divideBy_2 : List UInt8 := dkwX20_divideBy_2 ++ []
def dkwX20_divideBy_1 : List UInt8 := [42, 180, 0, 39, 21, 5, 46, 133, 129, 55, 6, 44, 180, 0, 39, 21, 5, 22, 6, 27, 133, 109, 136, 79]
abbrev dktX20_divideBy_1 : List UInt8 := dkwX20_divideBy_1 ++ dktX20_divideBy_2
def dkwX20_divideBy_0 : List UInt8 := [3, 62, 42, 180, 0, 25, 54, 4, 21, 4, 4, 100, 54, 5, 21, 5, 155, 0, 45, 29, 133, 16, 16, 121]
abbrev dktX20_divideBy_0 : List UInt8 := dkwX20_divideBy_0 ++ dktX20_divideBy_1
theorem dksX20_divideBy_0 : cX20_divideBy.data.toList.drop 0 = dktX20_divideBy_0 := by decide +kernel
theorem dksX20_divideBy_1 : cX20_divideBy.data.toList.drop 24 = dktX20_divideBy_1 := dk_seg dksX20_divideBy_0 24 rfl rfl
theorem dksX20_divideBy_2 : cX20_divideBy.data.toList.drop 48 = dktX20_divideBy_2 := dk_seg dksX20_divideBy_1 24 rfl rfl
theorem dX20_divideBy_0 : decode cX20_divideBy 0 = .ok (.iconst 0, 1) := dk_3 (dk_at dksX20_divideBy_0 0 rfl rfl)
theorem dX20_divideBy_1 : decode cX20_divideBy 1 = .ok (.istore_n 3, 1) := dk_62 (dk_at dksX20_divideBy_0 1 rfl rfl)
theorem dX20_divideBy_2 : decode cX20_divideBy 2 = .ok (.aload_n 0, 1) := dk_42 (dk_at dksX20_divideBy_0 2 rfl rfl)
theorem dX20_divideBy_3 : decode cX20_divideBy 3 = .ok (.getfield 25, 3) := dk_180 0 25 (dk_at dksX20_divideBy_0 3 rfl rfl)
theorem dX20_divideBy_6 : decode cX20_divideBy 6 = .ok (.istore 4, 2) := dk_54 4 (dk_at dksX20_divideBy_0 6 rfl rfl)
theorem dX20_divideBy_8 : decode cX20_divideBy 8 = .ok (.iload 4, 2) := dk_21 4 (dk_at dksX20_divideBy_0 8 rfl rfl)
theorem dX20_divideBy_10 : decode cX20_divideBy 10 = .ok (.iconst 1, 1) := dk_4 (dk_at dksX20_divideBy_0 10 rfl rfl)
theorem dX20_divideBy_11 : decode cX20_divideBy 11 = .ok (.isub, 1) := dk_100 (dk_at dksX20_divideBy_0 11 rfl rfl)
theorem dX20_divideBy_12 : decode cX20_divideBy 12 = .ok (.istore 5, 2) := dk_54 5 (dk_at dksX20_divideBy_0 12 rfl rfl)
theorem dX20_divideBy_14 : decode cX20_divideBy 14 = .ok (.iload 5, 2) := dk_21 5 (dk_at dksX20_divideBy_0 14 rfl rfl)
theorem dX20_divideBy_16 : decode cX20_divideBy 16 = .ok (.ifCond .lt 45, 3) := dk_155 0 45 (dk_at dksX20_divideBy_0 16 rfl rfl)
theorem dX20_divideBy_19 : decode cX20_divideBy 19 = .ok (.iload_n 3, 1) := dk_29 (dk_at dksX20_divideBy_0 19 rfl rfl)
theorem dX20_divideBy_20 : decode cX20_divideBy 20 = .ok (.i2l, 1) := dk_133 (dk_at dksX20_divideBy_0 20 rfl rfl)
theorem dX20_divideBy_21 : decode cX20_divideBy 21 = .ok (.bipush 16, 2) := dk_16 16 (dk_at dksX20_divideBy_0 21 rfl rfl)
theorem dX20_divideBy_23 : decode cX20_divideBy 23 = .ok (.lshl, 1) := dk_121 (dk_at dksX20_divideBy_0 23 rfl rfl)
theorem dX20_divideBy_24 : decode cX20_divideBy 24 = .ok (.aload_n 0, 1) := dk_42 (dk_at dksX20_divideBy_1 0 rfl rfl)
theorem dX20_divideBy_25 : decode cX20_divideBy 25 = .ok (.getfield 39, 3) := dk_180 0 39 (dk_at dksX20_divideBy_1 1 rfl rfl)
theorem dX20_divideBy_28 : decode cX20_divideBy 28 = .ok (.iload 5, 2) := dk_21 5 (dk_at dksX20_divideBy_1 4 rfl rfl)
theorem dX20_divideBy_30 : decode cX20_divideBy 30 = .ok (.iaload, 1) := dk_46 (dk_at dksX20_divideBy_1 6 rfl rfl)
theorem dX20_divideBy_31 : decode cX20_divideBy 31 = .ok (.i2l, 1) := dk_133 (dk_at dksX20_divideBy_1 7 rfl rfl)
theorem dX20_divideBy_32 : decode cX20_divideBy 32 = .ok (.lor, 1) := dk_129 (dk_at dksX20_divideBy_1 8 rfl rfl)
theorem dX20_divideBy_33 : decode cX20_divideBy 33 = .ok (.lstore 6, 2) := dk_55 6 (dk_at dksX20_divideBy_1 9 rfl rfl)
theorem dX20_divideBy_35 : decode cX20_divideBy 35 = .ok (.aload_n 2, 1) := dk_44 (dk_at dksX20_divideBy_1 11 rfl rfl)
theorem dX20_divideBy_36 : decode cX20_divideBy 36 = .ok (.getfield 39, 3) := dk_180 0 39 (dk_at dksX20_divideBy_1 12 rfl rfl)
theorem dX20_divideBy_39 : decode cX20_divideBy 39 = .ok (.iload 5, 2) := dk_21 5 (dk_at dksX20_divideBy_1 15 rfl rfl)
theorem dX20_divideBy_41 : decode cX20_divideBy 41 = .ok (.lload 6, 2) := dk_22 6 (dk_at dksX20_divideBy_1 17 rfl rfl)
theorem dX20_divideBy_43 : decode cX20_divideBy 43 = .ok (.iload_n 1, 1) := dk_27 (dk_at dksX20_divideBy_1 19 rfl rfl)
theorem dX20_divideBy_44 : decode cX20_divideBy 44 = .ok (.i2l, 1) := dk_133 (dk_at dksX20_divideBy_1 20 rfl rfl)
theorem dX20_divideBy_45 : decode cX20_divideBy 45 = .ok (.ldiv, 1) := dk_109 (dk_at dksX20_divideBy_1 21 rfl rfl)
theorem dX20_divideBy_46 : decode cX20_divideBy 46 = .ok (.l2i, 1) := dk_136 (dk_at dksX20_divideBy_1 22 rfl rfl)
theorem dX20_divideBy_47 : decode cX20_divideBy 47 = .ok (.iastore, 1) := dk_79 (dk_at dksX20_divideBy_1 23 rfl rfl)
theorem dX20_divideBy_48 : decode cX20_divideBy 48 = .ok (.lload 6, 2) := dk_22 6 (dk_at dksX20_divideBy_2 0 rfl rfl)
theorem dX20_divideBy_50 : decode cX20_divideBy 50 = .ok (.iload_n 1, 1) := dk_27 (dk_at dksX20_divideBy_2 2 rfl rfl)
theorem dX20_divideBy_51 : decode cX20_divideBy 51 = .ok (.i2l, 1) := dk_133 (dk_at dksX20_divideBy_2 3 rfl rfl)
theorem dX20_divideBy_52 : decode cX20_divideBy 52 = .ok (.lrem, 1) := dk_113 (dk_at dksX20_divideBy_2 4 rfl rfl)
theorem dX20_divideBy_53 : decode cX20_divideBy 53 = .ok (.l2i, 1) := dk_136 (dk_at dksX20_divideBy_2 5 rfl rfl)
theorem dX20_divideBy_54 : decode cX20_divideBy 54 = .ok (.istore_n 3, 1) := dk_62 (dk_at dksX20_divideBy_2 6 rfl rfl)
theorem dX20_divideBy_55 : decode cX20_divideBy 55 = .ok (.iinc 5 (-1), 3) := dk_132 5 255 (dk_at dksX20_divideBy_2 7 rfl rfl)
theorem dX20_divideBy_58 : decode cX20_divideBy 58 = .ok (.goto (-44), 3) := dk_167 255 212 (dk_at dksX20_divideBy_2 10 rfl rfl)
theorem dX20_divideBy_61 : decode cX20_divideBy 61 = .ok (.aload_n 2, 1) := dk_44 (dk_at dksX20_divideBy_2 13 rfl rfl)
theorem dX20_divideBy_62 : decode cX20_divideBy 62 = .ok (.iload 4, 2) := dk_21 4 (dk_at dksX20_divideBy_2 14 rfl rfl)
theorem dX20_divideBy_64 : decode cX20_divideBy 64 = .ok (.invokevirtual 43, 3) := dk_182 0 43 (dk_at dksX20_divideBy_2 16 rfl rfl)
theorem dX20_divideBy_67 : decode cX20_divideBy 67 = .ok (.iload_n 3, 1) := dk_29 (dk_at dksX20_divideBy_2 19 rfl rfl)
theorem dX20_divideBy_68 : decode cX20_divideBy 68 = .ok (.ireturn, 1) := dk_172 (dk_at dksX20_divideBy_2 20 rfl rfl)
abbrev cX20_shiftRow : ByteArray := prog_14_method_8_code
def yX20_shiftRow : MethodName := ⟨RX20, "shiftRow", "(LContractLedger$Whole;I[II)V"⟩
def dkwX20_shiftRow_2 : List UInt8 := [177]
abbrev dktX20_shiftRow_2 : List UInt8 := dkwX20_shiftRow_2 ++ []
def dkwX20_shiftRow_1 : List UInt8 := [54, 4, 44, 21, 5, 21, 4, 18, 42, 126, 79, 21, 4, 16, 16, 124, 54, 4, 132, 5, 1, 167, 255, 218]
abbrev dktX20_shiftRow_1 : List UInt8 := dkwX20_shiftRow_1 ++ dktX20_shiftRow_2
def dkwX20_shiftRow_0 : List UInt8 := [3, 54, 4, 3, 54, 5, 21, 5, 29, 162, 0, 38, 21, 4, 42, 21, 5, 182, 0, 35, 27, 120, 128]
abbrev dktX20_shiftRow_0 : List UInt8 := dkwX20_shiftRow_0 ++ dktX20_shiftRow_1
theorem dksX20_shiftRow_0 : cX20_shiftRow.data.toList.drop 0 = dktX20_shiftRow_0 := by decide +kernel
theorem dksX20_shiftRow_1 : cX20_shiftRow.data.toList.drop 23 = dktX20_shiftRow_1 := dk_seg dksX20_shiftRow_0 23 rfl rfl
theorem dksX20_shiftRow_2 : cX20_shiftRow.data.toList.drop 47 = dktX20_shiftRow_2 := dk_seg dksX20_shiftRow_1 24 rfl rfl
theorem dX20_shiftRow_0 : decode cX20_shiftRow 0 = .ok (.iconst 0, 1) := dk_3 (dk_at dksX20_shiftRow_0 0 rfl rfl)
theorem dX20_shiftRow_1 : decode cX20_shiftRow 1 = .ok (.istore 4, 2) := dk_54 4 (dk_at dksX20_shiftRow_0 1 rfl rfl)
theorem dX20_shiftRow_3 : decode cX20_shiftRow 3 = .ok (.iconst 0, 1) := dk_3 (dk_at dksX20_shiftRow_0 3 rfl rfl)
theorem dX20_shiftRow_4 : decode cX20_shiftRow 4 = .ok (.istore 5, 2) := dk_54 5 (dk_at dksX20_shiftRow_0 4 rfl rfl)
theorem dX20_shiftRow_6 : decode cX20_shiftRow 6 = .ok (.iload 5, 2) := dk_21 5 (dk_at dksX20_shiftRow_0 6 rfl rfl)
theorem dX20_shiftRow_8 : decode cX20_shiftRow 8 = .ok (.iload_n 3, 1) := dk_29 (dk_at dksX20_shiftRow_0 8 rfl rfl)
theorem dX20_shiftRow_9 : decode cX20_shiftRow 9 = .ok (.if_icmp .ge 38, 3) := dk_162 0 38 (dk_at dksX20_shiftRow_0 9 rfl rfl)
theorem dX20_shiftRow_12 : decode cX20_shiftRow 12 = .ok (.iload 4, 2) := dk_21 4 (dk_at dksX20_shiftRow_0 12 rfl rfl)
theorem dX20_shiftRow_14 : decode cX20_shiftRow 14 = .ok (.aload_n 0, 1) := dk_42 (dk_at dksX20_shiftRow_0 14 rfl rfl)
theorem dX20_shiftRow_15 : decode cX20_shiftRow 15 = .ok (.iload 5, 2) := dk_21 5 (dk_at dksX20_shiftRow_0 15 rfl rfl)
theorem dX20_shiftRow_17 : decode cX20_shiftRow 17 = .ok (.invokevirtual 35, 3) := dk_182 0 35 (dk_at dksX20_shiftRow_0 17 rfl rfl)
theorem dX20_shiftRow_20 : decode cX20_shiftRow 20 = .ok (.iload_n 1, 1) := dk_27 (dk_at dksX20_shiftRow_0 20 rfl rfl)
theorem dX20_shiftRow_21 : decode cX20_shiftRow 21 = .ok (.ishl, 1) := dk_120 (dk_at dksX20_shiftRow_0 21 rfl rfl)
theorem dX20_shiftRow_22 : decode cX20_shiftRow 22 = .ok (.ior, 1) := dk_128 (dk_at dksX20_shiftRow_0 22 rfl rfl)
theorem dX20_shiftRow_23 : decode cX20_shiftRow 23 = .ok (.istore 4, 2) := dk_54 4 (dk_at dksX20_shiftRow_1 0 rfl rfl)
theorem dX20_shiftRow_25 : decode cX20_shiftRow 25 = .ok (.aload_n 2, 1) := dk_44 (dk_at dksX20_shiftRow_1 2 rfl rfl)
theorem dX20_shiftRow_26 : decode cX20_shiftRow 26 = .ok (.iload 5, 2) := dk_21 5 (dk_at dksX20_shiftRow_1 3 rfl rfl)
theorem dX20_shiftRow_28 : decode cX20_shiftRow 28 = .ok (.iload 4, 2) := dk_21 4 (dk_at dksX20_shiftRow_1 5 rfl rfl)
theorem dX20_shiftRow_30 : decode cX20_shiftRow 30 = .ok (.ldc 42, 2) := dk_18 42 (dk_at dksX20_shiftRow_1 7 rfl rfl)
theorem dX20_shiftRow_32 : decode cX20_shiftRow 32 = .ok (.iand, 1) := dk_126 (dk_at dksX20_shiftRow_1 9 rfl rfl)
theorem dX20_shiftRow_33 : decode cX20_shiftRow 33 = .ok (.iastore, 1) := dk_79 (dk_at dksX20_shiftRow_1 10 rfl rfl)
theorem dX20_shiftRow_34 : decode cX20_shiftRow 34 = .ok (.iload 4, 2) := dk_21 4 (dk_at dksX20_shiftRow_1 11 rfl rfl)
theorem dX20_shiftRow_36 : decode cX20_shiftRow 36 = .ok (.bipush 16, 2) := dk_16 16 (dk_at dksX20_shiftRow_1 13 rfl rfl)
theorem dX20_shiftRow_38 : decode cX20_shiftRow 38 = .ok (.iushr, 1) := dk_124 (dk_at dksX20_shiftRow_1 15 rfl rfl)
theorem dX20_shiftRow_39 : decode cX20_shiftRow 39 = .ok (.istore 4, 2) := dk_54 4 (dk_at dksX20_shiftRow_1 16 rfl rfl)
theorem dX20_shiftRow_41 : decode cX20_shiftRow 41 = .ok (.iinc 5 1, 3) := dk_132 5 1 (dk_at dksX20_shiftRow_1 18 rfl rfl)
theorem dX20_shiftRow_44 : decode cX20_shiftRow 44 = .ok (.goto (-38), 3) := dk_167 255 218 (dk_at dksX20_shiftRow_1 21 rfl rfl)
theorem dX20_shiftRow_47 : decode cX20_shiftRow 47 = .ok (.return_, 1) := dk_177 (dk_at dksX20_shiftRow_2 0 rfl rfl)
abbrev cX20_digit : ByteArray := prog_14_method_10_code
def yX20_digit : MethodName := ⟨RX20, "digit", "(II)I"⟩
def dkwX20_digit_13 : List UInt8 := [96, 46, 21, 9, 96, 18, 42, 126, 79, 22, 5, 136, 172]
abbrev dktX20_digit_13 : List UInt8 := dkwX20_digit_13 ++ []
def dkwX20_digit_12 : List UInt8 := [16, 16, 122, 54, 9, 132, 10, 1, 167, 255, 204, 42, 180, 0, 7, 27, 28, 96, 42, 180, 0, 7, 27, 28]
abbrev dktX20_digit_12 : List UInt8 := dkwX20_digit_12 ++ dktX20_digit_13
def dkwX20_digit_11 : List UInt8 := [21, 10, 46, 96, 96, 54, 9, 42, 180, 0, 7, 27, 21, 10, 96, 21, 9, 18, 42, 126, 79, 21, 9]
abbrev dktX20_digit_11 : List UInt8 := dkwX20_digit_11 ++ dktX20_digit_12
def dkwX20_digit_10 : List UInt8 := [54, 10, 21, 10, 28, 162, 0, 52, 21, 9, 42, 180, 0, 7, 27, 21, 10, 96, 46, 42, 180, 0, 13]
abbrev dktX20_digit_10 : List UInt8 := dkwX20_digit_10 ++ dktX20_digit_11
def dkwX20_digit_9 : List UInt8 := [20, 0, 65, 127, 136, 79, 22, 7, 9, 148, 156, 0, 92, 22, 5, 10, 101, 55, 5, 3, 54, 9, 3]
abbrev dktX20_digit_9 : List UInt8 := dkwX20_digit_9 ++ dktX20_digit_10
def dkwX20_digit_8 : List UInt8 := [22, 7, 42, 180, 0, 7, 27, 28, 96, 46, 133, 97, 55, 7, 42, 180, 0, 7, 27, 28, 96, 22, 7]
abbrev dktX20_digit_8 : List UInt8 := dkwX20_digit_8 ++ dktX20_digit_9
def dkwX20_digit_7 : List UInt8 := [21, 9, 96, 22, 7, 20, 0, 65, 127, 136, 79, 22, 7, 16, 16, 123, 55, 7, 132, 9, 1, 167, 255, 197]
abbrev dktX20_digit_7 : List UInt8 := dkwX20_digit_7 ++ dktX20_digit_8
def dkwX20_digit_6 : List UInt8 := [96, 46, 133, 22, 5, 42, 180, 0, 13, 21, 9, 46, 133, 105, 101, 97, 55, 7, 42, 180, 0, 7, 27]
abbrev dktX20_digit_6 : List UInt8 := dkwX20_digit_6 ++ dktX20_digit_7
def dkwX20_digit_5 : List UInt8 := [167, 255, 184, 9, 55, 7, 3, 54, 9, 21, 9, 28, 162, 0, 59, 22, 7, 42, 180, 0, 7, 27, 21, 9]
abbrev dktX20_digit_5 : List UInt8 := dkwX20_digit_5 ++ dktX20_digit_6
def dkwX20_digit_4 : List UInt8 := [180, 0, 13, 28, 4, 100, 46, 133, 105, 101, 20, 0, 102, 148, 156, 0, 12, 22, 5, 10, 101, 55, 5]
abbrev dktX20_digit_4 : List UInt8 := dkwX20_digit_4 ++ dktX20_digit_5
def dkwX20_digit_3 : List UInt8 := [16, 16, 121, 42, 180, 0, 7, 27, 28, 96, 5, 100, 46, 133, 129, 148, 158, 0, 33, 33, 22, 5, 42]
abbrev dktX20_digit_3 : List UInt8 := dkwX20_digit_3 ++ dktX20_digit_4
def dkwX20_digit_2 : List UInt8 := [180, 0, 13, 28, 5, 100, 46, 133, 105, 33, 22, 5, 42, 180, 0, 13, 28, 4, 100, 46, 133, 105, 101]
abbrev dktX20_digit_2 : List UInt8 := dkwX20_digit_2 ++ dktX20_digit_3
def dkwX20_digit_1 : List UInt8 := [66, 33, 42, 180, 0, 13, 28, 4, 100, 46, 133, 109, 20, 0, 65, 184, 0, 98, 55, 5, 22, 5, 42]
abbrev dktX20_digit_1 : List UInt8 := dkwX20_digit_1 ++ dktX20_digit_2
def dkwX20_digit_0 : List UInt8 := [42, 180, 0, 7, 27, 28, 96, 46, 133, 16, 16, 121, 42, 180, 0, 7, 27, 28, 96, 4, 100, 46, 133, 129]
abbrev dktX20_digit_0 : List UInt8 := dkwX20_digit_0 ++ dktX20_digit_1
theorem dksX20_digit_0 : cX20_digit.data.toList.drop 0 = dktX20_digit_0 := by decide +kernel
theorem dksX20_digit_1 : cX20_digit.data.toList.drop 24 = dktX20_digit_1 := dk_seg dksX20_digit_0 24 rfl rfl
theorem dksX20_digit_2 : cX20_digit.data.toList.drop 47 = dktX20_digit_2 := dk_seg dksX20_digit_1 23 rfl rfl
theorem dksX20_digit_3 : cX20_digit.data.toList.drop 70 = dktX20_digit_3 := dk_seg dksX20_digit_2 23 rfl rfl
theorem dksX20_digit_4 : cX20_digit.data.toList.drop 93 = dktX20_digit_4 := dk_seg dksX20_digit_3 23 rfl rfl
theorem dksX20_digit_5 : cX20_digit.data.toList.drop 116 = dktX20_digit_5 := dk_seg dksX20_digit_4 23 rfl rfl
theorem dksX20_digit_6 : cX20_digit.data.toList.drop 140 = dktX20_digit_6 := dk_seg dksX20_digit_5 24 rfl rfl
theorem dksX20_digit_7 : cX20_digit.data.toList.drop 163 = dktX20_digit_7 := dk_seg dksX20_digit_6 23 rfl rfl
theorem dksX20_digit_8 : cX20_digit.data.toList.drop 187 = dktX20_digit_8 := dk_seg dksX20_digit_7 24 rfl rfl
theorem dksX20_digit_9 : cX20_digit.data.toList.drop 210 = dktX20_digit_9 := dk_seg dksX20_digit_8 23 rfl rfl
theorem dksX20_digit_10 : cX20_digit.data.toList.drop 233 = dktX20_digit_10 := dk_seg dksX20_digit_9 23 rfl rfl
theorem dksX20_digit_11 : cX20_digit.data.toList.drop 256 = dktX20_digit_11 := dk_seg dksX20_digit_10 23 rfl rfl
theorem dksX20_digit_12 : cX20_digit.data.toList.drop 279 = dktX20_digit_12 := dk_seg dksX20_digit_11 23 rfl rfl
theorem dksX20_digit_13 : cX20_digit.data.toList.drop 303 = dktX20_digit_13 := dk_seg dksX20_digit_12 24 rfl rfl
theorem dX20_digit_0 : decode cX20_digit 0 = .ok (.aload_n 0, 1) := dk_42 (dk_at dksX20_digit_0 0 rfl rfl)
theorem dX20_digit_1 : decode cX20_digit 1 = .ok (.getfield 7, 3) := dk_180 0 7 (dk_at dksX20_digit_0 1 rfl rfl)
theorem dX20_digit_4 : decode cX20_digit 4 = .ok (.iload_n 1, 1) := dk_27 (dk_at dksX20_digit_0 4 rfl rfl)
theorem dX20_digit_5 : decode cX20_digit 5 = .ok (.iload_n 2, 1) := dk_28 (dk_at dksX20_digit_0 5 rfl rfl)
theorem dX20_digit_6 : decode cX20_digit 6 = .ok (.iadd, 1) := dk_96 (dk_at dksX20_digit_0 6 rfl rfl)
theorem dX20_digit_7 : decode cX20_digit 7 = .ok (.iaload, 1) := dk_46 (dk_at dksX20_digit_0 7 rfl rfl)
theorem dX20_digit_8 : decode cX20_digit 8 = .ok (.i2l, 1) := dk_133 (dk_at dksX20_digit_0 8 rfl rfl)
theorem dX20_digit_9 : decode cX20_digit 9 = .ok (.bipush 16, 2) := dk_16 16 (dk_at dksX20_digit_0 9 rfl rfl)
theorem dX20_digit_11 : decode cX20_digit 11 = .ok (.lshl, 1) := dk_121 (dk_at dksX20_digit_0 11 rfl rfl)
theorem dX20_digit_12 : decode cX20_digit 12 = .ok (.aload_n 0, 1) := dk_42 (dk_at dksX20_digit_0 12 rfl rfl)
theorem dX20_digit_13 : decode cX20_digit 13 = .ok (.getfield 7, 3) := dk_180 0 7 (dk_at dksX20_digit_0 13 rfl rfl)
theorem dX20_digit_16 : decode cX20_digit 16 = .ok (.iload_n 1, 1) := dk_27 (dk_at dksX20_digit_0 16 rfl rfl)
theorem dX20_digit_17 : decode cX20_digit 17 = .ok (.iload_n 2, 1) := dk_28 (dk_at dksX20_digit_0 17 rfl rfl)
theorem dX20_digit_18 : decode cX20_digit 18 = .ok (.iadd, 1) := dk_96 (dk_at dksX20_digit_0 18 rfl rfl)
theorem dX20_digit_19 : decode cX20_digit 19 = .ok (.iconst 1, 1) := dk_4 (dk_at dksX20_digit_0 19 rfl rfl)
theorem dX20_digit_20 : decode cX20_digit 20 = .ok (.isub, 1) := dk_100 (dk_at dksX20_digit_0 20 rfl rfl)
theorem dX20_digit_21 : decode cX20_digit 21 = .ok (.iaload, 1) := dk_46 (dk_at dksX20_digit_0 21 rfl rfl)
theorem dX20_digit_22 : decode cX20_digit 22 = .ok (.i2l, 1) := dk_133 (dk_at dksX20_digit_0 22 rfl rfl)
theorem dX20_digit_23 : decode cX20_digit 23 = .ok (.lor, 1) := dk_129 (dk_at dksX20_digit_0 23 rfl rfl)
theorem dX20_digit_24 : decode cX20_digit 24 = .ok (.lstore_n 3, 1) := dk_66 (dk_at dksX20_digit_1 0 rfl rfl)
theorem dX20_digit_25 : decode cX20_digit 25 = .ok (.lload_n 3, 1) := dk_33 (dk_at dksX20_digit_1 1 rfl rfl)
theorem dX20_digit_26 : decode cX20_digit 26 = .ok (.aload_n 0, 1) := dk_42 (dk_at dksX20_digit_1 2 rfl rfl)
theorem dX20_digit_27 : decode cX20_digit 27 = .ok (.getfield 13, 3) := dk_180 0 13 (dk_at dksX20_digit_1 3 rfl rfl)
theorem dX20_digit_30 : decode cX20_digit 30 = .ok (.iload_n 2, 1) := dk_28 (dk_at dksX20_digit_1 6 rfl rfl)
theorem dX20_digit_31 : decode cX20_digit 31 = .ok (.iconst 1, 1) := dk_4 (dk_at dksX20_digit_1 7 rfl rfl)
theorem dX20_digit_32 : decode cX20_digit 32 = .ok (.isub, 1) := dk_100 (dk_at dksX20_digit_1 8 rfl rfl)
theorem dX20_digit_33 : decode cX20_digit 33 = .ok (.iaload, 1) := dk_46 (dk_at dksX20_digit_1 9 rfl rfl)
theorem dX20_digit_34 : decode cX20_digit 34 = .ok (.i2l, 1) := dk_133 (dk_at dksX20_digit_1 10 rfl rfl)
theorem dX20_digit_35 : decode cX20_digit 35 = .ok (.ldiv, 1) := dk_109 (dk_at dksX20_digit_1 11 rfl rfl)
theorem dX20_digit_36 : decode cX20_digit 36 = .ok (.ldc2_w 65, 3) := dk_20 0 65 (dk_at dksX20_digit_1 12 rfl rfl)
theorem dX20_digit_39 : decode cX20_digit 39 = .ok (.invokestatic 98, 3) := dk_184 0 98 (dk_at dksX20_digit_1 15 rfl rfl)
theorem dX20_digit_42 : decode cX20_digit 42 = .ok (.lstore 5, 2) := dk_55 5 (dk_at dksX20_digit_1 18 rfl rfl)
theorem dX20_digit_44 : decode cX20_digit 44 = .ok (.lload 5, 2) := dk_22 5 (dk_at dksX20_digit_1 20 rfl rfl)
theorem dX20_digit_46 : decode cX20_digit 46 = .ok (.aload_n 0, 1) := dk_42 (dk_at dksX20_digit_1 22 rfl rfl)
theorem dX20_digit_47 : decode cX20_digit 47 = .ok (.getfield 13, 3) := dk_180 0 13 (dk_at dksX20_digit_2 0 rfl rfl)
theorem dX20_digit_50 : decode cX20_digit 50 = .ok (.iload_n 2, 1) := dk_28 (dk_at dksX20_digit_2 3 rfl rfl)
theorem dX20_digit_51 : decode cX20_digit 51 = .ok (.iconst 2, 1) := dk_5 (dk_at dksX20_digit_2 4 rfl rfl)
theorem dX20_digit_52 : decode cX20_digit 52 = .ok (.isub, 1) := dk_100 (dk_at dksX20_digit_2 5 rfl rfl)
theorem dX20_digit_53 : decode cX20_digit 53 = .ok (.iaload, 1) := dk_46 (dk_at dksX20_digit_2 6 rfl rfl)
theorem dX20_digit_54 : decode cX20_digit 54 = .ok (.i2l, 1) := dk_133 (dk_at dksX20_digit_2 7 rfl rfl)
theorem dX20_digit_55 : decode cX20_digit 55 = .ok (.lmul, 1) := dk_105 (dk_at dksX20_digit_2 8 rfl rfl)
theorem dX20_digit_56 : decode cX20_digit 56 = .ok (.lload_n 3, 1) := dk_33 (dk_at dksX20_digit_2 9 rfl rfl)
theorem dX20_digit_57 : decode cX20_digit 57 = .ok (.lload 5, 2) := dk_22 5 (dk_at dksX20_digit_2 10 rfl rfl)
theorem dX20_digit_59 : decode cX20_digit 59 = .ok (.aload_n 0, 1) := dk_42 (dk_at dksX20_digit_2 12 rfl rfl)
theorem dX20_digit_60 : decode cX20_digit 60 = .ok (.getfield 13, 3) := dk_180 0 13 (dk_at dksX20_digit_2 13 rfl rfl)
theorem dX20_digit_63 : decode cX20_digit 63 = .ok (.iload_n 2, 1) := dk_28 (dk_at dksX20_digit_2 16 rfl rfl)
theorem dX20_digit_64 : decode cX20_digit 64 = .ok (.iconst 1, 1) := dk_4 (dk_at dksX20_digit_2 17 rfl rfl)
theorem dX20_digit_65 : decode cX20_digit 65 = .ok (.isub, 1) := dk_100 (dk_at dksX20_digit_2 18 rfl rfl)
theorem dX20_digit_66 : decode cX20_digit 66 = .ok (.iaload, 1) := dk_46 (dk_at dksX20_digit_2 19 rfl rfl)
theorem dX20_digit_67 : decode cX20_digit 67 = .ok (.i2l, 1) := dk_133 (dk_at dksX20_digit_2 20 rfl rfl)
theorem dX20_digit_68 : decode cX20_digit 68 = .ok (.lmul, 1) := dk_105 (dk_at dksX20_digit_2 21 rfl rfl)
theorem dX20_digit_69 : decode cX20_digit 69 = .ok (.lsub, 1) := dk_101 (dk_at dksX20_digit_2 22 rfl rfl)
theorem dX20_digit_70 : decode cX20_digit 70 = .ok (.bipush 16, 2) := dk_16 16 (dk_at dksX20_digit_3 0 rfl rfl)
theorem dX20_digit_72 : decode cX20_digit 72 = .ok (.lshl, 1) := dk_121 (dk_at dksX20_digit_3 2 rfl rfl)
theorem dX20_digit_73 : decode cX20_digit 73 = .ok (.aload_n 0, 1) := dk_42 (dk_at dksX20_digit_3 3 rfl rfl)
theorem dX20_digit_74 : decode cX20_digit 74 = .ok (.getfield 7, 3) := dk_180 0 7 (dk_at dksX20_digit_3 4 rfl rfl)
theorem dX20_digit_77 : decode cX20_digit 77 = .ok (.iload_n 1, 1) := dk_27 (dk_at dksX20_digit_3 7 rfl rfl)
theorem dX20_digit_78 : decode cX20_digit 78 = .ok (.iload_n 2, 1) := dk_28 (dk_at dksX20_digit_3 8 rfl rfl)
theorem dX20_digit_79 : decode cX20_digit 79 = .ok (.iadd, 1) := dk_96 (dk_at dksX20_digit_3 9 rfl rfl)
theorem dX20_digit_80 : decode cX20_digit 80 = .ok (.iconst 2, 1) := dk_5 (dk_at dksX20_digit_3 10 rfl rfl)
theorem dX20_digit_81 : decode cX20_digit 81 = .ok (.isub, 1) := dk_100 (dk_at dksX20_digit_3 11 rfl rfl)
theorem dX20_digit_82 : decode cX20_digit 82 = .ok (.iaload, 1) := dk_46 (dk_at dksX20_digit_3 12 rfl rfl)
theorem dX20_digit_83 : decode cX20_digit 83 = .ok (.i2l, 1) := dk_133 (dk_at dksX20_digit_3 13 rfl rfl)
theorem dX20_digit_84 : decode cX20_digit 84 = .ok (.lor, 1) := dk_129 (dk_at dksX20_digit_3 14 rfl rfl)
theorem dX20_digit_85 : decode cX20_digit 85 = .ok (.lcmp, 1) := dk_148 (dk_at dksX20_digit_3 15 rfl rfl)
theorem dX20_digit_86 : decode cX20_digit 86 = .ok (.ifCond .le 33, 3) := dk_158 0 33 (dk_at dksX20_digit_3 16 rfl rfl)
theorem dX20_digit_89 : decode cX20_digit 89 = .ok (.lload_n 3, 1) := dk_33 (dk_at dksX20_digit_3 19 rfl rfl)
theorem dX20_digit_90 : decode cX20_digit 90 = .ok (.lload 5, 2) := dk_22 5 (dk_at dksX20_digit_3 20 rfl rfl)
theorem dX20_digit_92 : decode cX20_digit 92 = .ok (.aload_n 0, 1) := dk_42 (dk_at dksX20_digit_3 22 rfl rfl)
theorem dX20_digit_93 : decode cX20_digit 93 = .ok (.getfield 13, 3) := dk_180 0 13 (dk_at dksX20_digit_4 0 rfl rfl)
theorem dX20_digit_96 : decode cX20_digit 96 = .ok (.iload_n 2, 1) := dk_28 (dk_at dksX20_digit_4 3 rfl rfl)
theorem dX20_digit_97 : decode cX20_digit 97 = .ok (.iconst 1, 1) := dk_4 (dk_at dksX20_digit_4 4 rfl rfl)
theorem dX20_digit_98 : decode cX20_digit 98 = .ok (.isub, 1) := dk_100 (dk_at dksX20_digit_4 5 rfl rfl)
theorem dX20_digit_99 : decode cX20_digit 99 = .ok (.iaload, 1) := dk_46 (dk_at dksX20_digit_4 6 rfl rfl)
theorem dX20_digit_100 : decode cX20_digit 100 = .ok (.i2l, 1) := dk_133 (dk_at dksX20_digit_4 7 rfl rfl)
theorem dX20_digit_101 : decode cX20_digit 101 = .ok (.lmul, 1) := dk_105 (dk_at dksX20_digit_4 8 rfl rfl)
theorem dX20_digit_102 : decode cX20_digit 102 = .ok (.lsub, 1) := dk_101 (dk_at dksX20_digit_4 9 rfl rfl)
theorem dX20_digit_103 : decode cX20_digit 103 = .ok (.ldc2_w 102, 3) := dk_20 0 102 (dk_at dksX20_digit_4 10 rfl rfl)
theorem dX20_digit_106 : decode cX20_digit 106 = .ok (.lcmp, 1) := dk_148 (dk_at dksX20_digit_4 13 rfl rfl)
theorem dX20_digit_107 : decode cX20_digit 107 = .ok (.ifCond .ge 12, 3) := dk_156 0 12 (dk_at dksX20_digit_4 14 rfl rfl)
theorem dX20_digit_110 : decode cX20_digit 110 = .ok (.lload 5, 2) := dk_22 5 (dk_at dksX20_digit_4 17 rfl rfl)
theorem dX20_digit_112 : decode cX20_digit 112 = .ok (.lconst 1, 1) := dk_10 (dk_at dksX20_digit_4 19 rfl rfl)
theorem dX20_digit_113 : decode cX20_digit 113 = .ok (.lsub, 1) := dk_101 (dk_at dksX20_digit_4 20 rfl rfl)
theorem dX20_digit_114 : decode cX20_digit 114 = .ok (.lstore 5, 2) := dk_55 5 (dk_at dksX20_digit_4 21 rfl rfl)
theorem dX20_digit_116 : decode cX20_digit 116 = .ok (.goto (-72), 3) := dk_167 255 184 (dk_at dksX20_digit_5 0 rfl rfl)
theorem dX20_digit_119 : decode cX20_digit 119 = .ok (.lconst 0, 1) := dk_9 (dk_at dksX20_digit_5 3 rfl rfl)
theorem dX20_digit_120 : decode cX20_digit 120 = .ok (.lstore 7, 2) := dk_55 7 (dk_at dksX20_digit_5 4 rfl rfl)
theorem dX20_digit_122 : decode cX20_digit 122 = .ok (.iconst 0, 1) := dk_3 (dk_at dksX20_digit_5 6 rfl rfl)
theorem dX20_digit_123 : decode cX20_digit 123 = .ok (.istore 9, 2) := dk_54 9 (dk_at dksX20_digit_5 7 rfl rfl)
theorem dX20_digit_125 : decode cX20_digit 125 = .ok (.iload 9, 2) := dk_21 9 (dk_at dksX20_digit_5 9 rfl rfl)
theorem dX20_digit_127 : decode cX20_digit 127 = .ok (.iload_n 2, 1) := dk_28 (dk_at dksX20_digit_5 11 rfl rfl)
theorem dX20_digit_128 : decode cX20_digit 128 = .ok (.if_icmp .ge 59, 3) := dk_162 0 59 (dk_at dksX20_digit_5 12 rfl rfl)
theorem dX20_digit_131 : decode cX20_digit 131 = .ok (.lload 7, 2) := dk_22 7 (dk_at dksX20_digit_5 15 rfl rfl)
theorem dX20_digit_133 : decode cX20_digit 133 = .ok (.aload_n 0, 1) := dk_42 (dk_at dksX20_digit_5 17 rfl rfl)
theorem dX20_digit_134 : decode cX20_digit 134 = .ok (.getfield 7, 3) := dk_180 0 7 (dk_at dksX20_digit_5 18 rfl rfl)
theorem dX20_digit_137 : decode cX20_digit 137 = .ok (.iload_n 1, 1) := dk_27 (dk_at dksX20_digit_5 21 rfl rfl)
theorem dX20_digit_138 : decode cX20_digit 138 = .ok (.iload 9, 2) := dk_21 9 (dk_at dksX20_digit_5 22 rfl rfl)
theorem dX20_digit_140 : decode cX20_digit 140 = .ok (.iadd, 1) := dk_96 (dk_at dksX20_digit_6 0 rfl rfl)
theorem dX20_digit_141 : decode cX20_digit 141 = .ok (.iaload, 1) := dk_46 (dk_at dksX20_digit_6 1 rfl rfl)
theorem dX20_digit_142 : decode cX20_digit 142 = .ok (.i2l, 1) := dk_133 (dk_at dksX20_digit_6 2 rfl rfl)
theorem dX20_digit_143 : decode cX20_digit 143 = .ok (.lload 5, 2) := dk_22 5 (dk_at dksX20_digit_6 3 rfl rfl)
theorem dX20_digit_145 : decode cX20_digit 145 = .ok (.aload_n 0, 1) := dk_42 (dk_at dksX20_digit_6 5 rfl rfl)
theorem dX20_digit_146 : decode cX20_digit 146 = .ok (.getfield 13, 3) := dk_180 0 13 (dk_at dksX20_digit_6 6 rfl rfl)
theorem dX20_digit_149 : decode cX20_digit 149 = .ok (.iload 9, 2) := dk_21 9 (dk_at dksX20_digit_6 9 rfl rfl)
theorem dX20_digit_151 : decode cX20_digit 151 = .ok (.iaload, 1) := dk_46 (dk_at dksX20_digit_6 11 rfl rfl)
theorem dX20_digit_152 : decode cX20_digit 152 = .ok (.i2l, 1) := dk_133 (dk_at dksX20_digit_6 12 rfl rfl)
theorem dX20_digit_153 : decode cX20_digit 153 = .ok (.lmul, 1) := dk_105 (dk_at dksX20_digit_6 13 rfl rfl)
theorem dX20_digit_154 : decode cX20_digit 154 = .ok (.lsub, 1) := dk_101 (dk_at dksX20_digit_6 14 rfl rfl)
theorem dX20_digit_155 : decode cX20_digit 155 = .ok (.ladd, 1) := dk_97 (dk_at dksX20_digit_6 15 rfl rfl)
theorem dX20_digit_156 : decode cX20_digit 156 = .ok (.lstore 7, 2) := dk_55 7 (dk_at dksX20_digit_6 16 rfl rfl)
theorem dX20_digit_158 : decode cX20_digit 158 = .ok (.aload_n 0, 1) := dk_42 (dk_at dksX20_digit_6 18 rfl rfl)
theorem dX20_digit_159 : decode cX20_digit 159 = .ok (.getfield 7, 3) := dk_180 0 7 (dk_at dksX20_digit_6 19 rfl rfl)
theorem dX20_digit_162 : decode cX20_digit 162 = .ok (.iload_n 1, 1) := dk_27 (dk_at dksX20_digit_6 22 rfl rfl)
theorem dX20_digit_163 : decode cX20_digit 163 = .ok (.iload 9, 2) := dk_21 9 (dk_at dksX20_digit_7 0 rfl rfl)
theorem dX20_digit_165 : decode cX20_digit 165 = .ok (.iadd, 1) := dk_96 (dk_at dksX20_digit_7 2 rfl rfl)
theorem dX20_digit_166 : decode cX20_digit 166 = .ok (.lload 7, 2) := dk_22 7 (dk_at dksX20_digit_7 3 rfl rfl)
theorem dX20_digit_168 : decode cX20_digit 168 = .ok (.ldc2_w 65, 3) := dk_20 0 65 (dk_at dksX20_digit_7 5 rfl rfl)
theorem dX20_digit_171 : decode cX20_digit 171 = .ok (.land, 1) := dk_127 (dk_at dksX20_digit_7 8 rfl rfl)
theorem dX20_digit_172 : decode cX20_digit 172 = .ok (.l2i, 1) := dk_136 (dk_at dksX20_digit_7 9 rfl rfl)
theorem dX20_digit_173 : decode cX20_digit 173 = .ok (.iastore, 1) := dk_79 (dk_at dksX20_digit_7 10 rfl rfl)
theorem dX20_digit_174 : decode cX20_digit 174 = .ok (.lload 7, 2) := dk_22 7 (dk_at dksX20_digit_7 11 rfl rfl)
theorem dX20_digit_176 : decode cX20_digit 176 = .ok (.bipush 16, 2) := dk_16 16 (dk_at dksX20_digit_7 13 rfl rfl)
theorem dX20_digit_178 : decode cX20_digit 178 = .ok (.lshr, 1) := dk_123 (dk_at dksX20_digit_7 15 rfl rfl)
theorem dX20_digit_179 : decode cX20_digit 179 = .ok (.lstore 7, 2) := dk_55 7 (dk_at dksX20_digit_7 16 rfl rfl)
theorem dX20_digit_181 : decode cX20_digit 181 = .ok (.iinc 9 1, 3) := dk_132 9 1 (dk_at dksX20_digit_7 18 rfl rfl)
theorem dX20_digit_184 : decode cX20_digit 184 = .ok (.goto (-59), 3) := dk_167 255 197 (dk_at dksX20_digit_7 21 rfl rfl)
theorem dX20_digit_187 : decode cX20_digit 187 = .ok (.lload 7, 2) := dk_22 7 (dk_at dksX20_digit_8 0 rfl rfl)
theorem dX20_digit_189 : decode cX20_digit 189 = .ok (.aload_n 0, 1) := dk_42 (dk_at dksX20_digit_8 2 rfl rfl)
theorem dX20_digit_190 : decode cX20_digit 190 = .ok (.getfield 7, 3) := dk_180 0 7 (dk_at dksX20_digit_8 3 rfl rfl)
theorem dX20_digit_193 : decode cX20_digit 193 = .ok (.iload_n 1, 1) := dk_27 (dk_at dksX20_digit_8 6 rfl rfl)
theorem dX20_digit_194 : decode cX20_digit 194 = .ok (.iload_n 2, 1) := dk_28 (dk_at dksX20_digit_8 7 rfl rfl)
theorem dX20_digit_195 : decode cX20_digit 195 = .ok (.iadd, 1) := dk_96 (dk_at dksX20_digit_8 8 rfl rfl)
theorem dX20_digit_196 : decode cX20_digit 196 = .ok (.iaload, 1) := dk_46 (dk_at dksX20_digit_8 9 rfl rfl)
theorem dX20_digit_197 : decode cX20_digit 197 = .ok (.i2l, 1) := dk_133 (dk_at dksX20_digit_8 10 rfl rfl)
theorem dX20_digit_198 : decode cX20_digit 198 = .ok (.ladd, 1) := dk_97 (dk_at dksX20_digit_8 11 rfl rfl)
theorem dX20_digit_199 : decode cX20_digit 199 = .ok (.lstore 7, 2) := dk_55 7 (dk_at dksX20_digit_8 12 rfl rfl)
theorem dX20_digit_201 : decode cX20_digit 201 = .ok (.aload_n 0, 1) := dk_42 (dk_at dksX20_digit_8 14 rfl rfl)
theorem dX20_digit_202 : decode cX20_digit 202 = .ok (.getfield 7, 3) := dk_180 0 7 (dk_at dksX20_digit_8 15 rfl rfl)
theorem dX20_digit_205 : decode cX20_digit 205 = .ok (.iload_n 1, 1) := dk_27 (dk_at dksX20_digit_8 18 rfl rfl)
theorem dX20_digit_206 : decode cX20_digit 206 = .ok (.iload_n 2, 1) := dk_28 (dk_at dksX20_digit_8 19 rfl rfl)
theorem dX20_digit_207 : decode cX20_digit 207 = .ok (.iadd, 1) := dk_96 (dk_at dksX20_digit_8 20 rfl rfl)
theorem dX20_digit_208 : decode cX20_digit 208 = .ok (.lload 7, 2) := dk_22 7 (dk_at dksX20_digit_8 21 rfl rfl)
theorem dX20_digit_210 : decode cX20_digit 210 = .ok (.ldc2_w 65, 3) := dk_20 0 65 (dk_at dksX20_digit_9 0 rfl rfl)
theorem dX20_digit_213 : decode cX20_digit 213 = .ok (.land, 1) := dk_127 (dk_at dksX20_digit_9 3 rfl rfl)
theorem dX20_digit_214 : decode cX20_digit 214 = .ok (.l2i, 1) := dk_136 (dk_at dksX20_digit_9 4 rfl rfl)
theorem dX20_digit_215 : decode cX20_digit 215 = .ok (.iastore, 1) := dk_79 (dk_at dksX20_digit_9 5 rfl rfl)
theorem dX20_digit_216 : decode cX20_digit 216 = .ok (.lload 7, 2) := dk_22 7 (dk_at dksX20_digit_9 6 rfl rfl)
theorem dX20_digit_218 : decode cX20_digit 218 = .ok (.lconst 0, 1) := dk_9 (dk_at dksX20_digit_9 8 rfl rfl)
theorem dX20_digit_219 : decode cX20_digit 219 = .ok (.lcmp, 1) := dk_148 (dk_at dksX20_digit_9 9 rfl rfl)
theorem dX20_digit_220 : decode cX20_digit 220 = .ok (.ifCond .ge 92, 3) := dk_156 0 92 (dk_at dksX20_digit_9 10 rfl rfl)
theorem dX20_digit_223 : decode cX20_digit 223 = .ok (.lload 5, 2) := dk_22 5 (dk_at dksX20_digit_9 13 rfl rfl)
theorem dX20_digit_225 : decode cX20_digit 225 = .ok (.lconst 1, 1) := dk_10 (dk_at dksX20_digit_9 15 rfl rfl)
theorem dX20_digit_226 : decode cX20_digit 226 = .ok (.lsub, 1) := dk_101 (dk_at dksX20_digit_9 16 rfl rfl)
theorem dX20_digit_227 : decode cX20_digit 227 = .ok (.lstore 5, 2) := dk_55 5 (dk_at dksX20_digit_9 17 rfl rfl)
theorem dX20_digit_229 : decode cX20_digit 229 = .ok (.iconst 0, 1) := dk_3 (dk_at dksX20_digit_9 19 rfl rfl)
theorem dX20_digit_230 : decode cX20_digit 230 = .ok (.istore 9, 2) := dk_54 9 (dk_at dksX20_digit_9 20 rfl rfl)
theorem dX20_digit_232 : decode cX20_digit 232 = .ok (.iconst 0, 1) := dk_3 (dk_at dksX20_digit_9 22 rfl rfl)
theorem dX20_digit_233 : decode cX20_digit 233 = .ok (.istore 10, 2) := dk_54 10 (dk_at dksX20_digit_10 0 rfl rfl)
theorem dX20_digit_235 : decode cX20_digit 235 = .ok (.iload 10, 2) := dk_21 10 (dk_at dksX20_digit_10 2 rfl rfl)
theorem dX20_digit_237 : decode cX20_digit 237 = .ok (.iload_n 2, 1) := dk_28 (dk_at dksX20_digit_10 4 rfl rfl)
theorem dX20_digit_238 : decode cX20_digit 238 = .ok (.if_icmp .ge 52, 3) := dk_162 0 52 (dk_at dksX20_digit_10 5 rfl rfl)
theorem dX20_digit_241 : decode cX20_digit 241 = .ok (.iload 9, 2) := dk_21 9 (dk_at dksX20_digit_10 8 rfl rfl)
theorem dX20_digit_243 : decode cX20_digit 243 = .ok (.aload_n 0, 1) := dk_42 (dk_at dksX20_digit_10 10 rfl rfl)
theorem dX20_digit_244 : decode cX20_digit 244 = .ok (.getfield 7, 3) := dk_180 0 7 (dk_at dksX20_digit_10 11 rfl rfl)
theorem dX20_digit_247 : decode cX20_digit 247 = .ok (.iload_n 1, 1) := dk_27 (dk_at dksX20_digit_10 14 rfl rfl)
theorem dX20_digit_248 : decode cX20_digit 248 = .ok (.iload 10, 2) := dk_21 10 (dk_at dksX20_digit_10 15 rfl rfl)
theorem dX20_digit_250 : decode cX20_digit 250 = .ok (.iadd, 1) := dk_96 (dk_at dksX20_digit_10 17 rfl rfl)
theorem dX20_digit_251 : decode cX20_digit 251 = .ok (.iaload, 1) := dk_46 (dk_at dksX20_digit_10 18 rfl rfl)
theorem dX20_digit_252 : decode cX20_digit 252 = .ok (.aload_n 0, 1) := dk_42 (dk_at dksX20_digit_10 19 rfl rfl)
theorem dX20_digit_253 : decode cX20_digit 253 = .ok (.getfield 13, 3) := dk_180 0 13 (dk_at dksX20_digit_10 20 rfl rfl)
theorem dX20_digit_256 : decode cX20_digit 256 = .ok (.iload 10, 2) := dk_21 10 (dk_at dksX20_digit_11 0 rfl rfl)
theorem dX20_digit_258 : decode cX20_digit 258 = .ok (.iaload, 1) := dk_46 (dk_at dksX20_digit_11 2 rfl rfl)
theorem dX20_digit_259 : decode cX20_digit 259 = .ok (.iadd, 1) := dk_96 (dk_at dksX20_digit_11 3 rfl rfl)
theorem dX20_digit_260 : decode cX20_digit 260 = .ok (.iadd, 1) := dk_96 (dk_at dksX20_digit_11 4 rfl rfl)
theorem dX20_digit_261 : decode cX20_digit 261 = .ok (.istore 9, 2) := dk_54 9 (dk_at dksX20_digit_11 5 rfl rfl)
theorem dX20_digit_263 : decode cX20_digit 263 = .ok (.aload_n 0, 1) := dk_42 (dk_at dksX20_digit_11 7 rfl rfl)
theorem dX20_digit_264 : decode cX20_digit 264 = .ok (.getfield 7, 3) := dk_180 0 7 (dk_at dksX20_digit_11 8 rfl rfl)
theorem dX20_digit_267 : decode cX20_digit 267 = .ok (.iload_n 1, 1) := dk_27 (dk_at dksX20_digit_11 11 rfl rfl)
theorem dX20_digit_268 : decode cX20_digit 268 = .ok (.iload 10, 2) := dk_21 10 (dk_at dksX20_digit_11 12 rfl rfl)
theorem dX20_digit_270 : decode cX20_digit 270 = .ok (.iadd, 1) := dk_96 (dk_at dksX20_digit_11 14 rfl rfl)
theorem dX20_digit_271 : decode cX20_digit 271 = .ok (.iload 9, 2) := dk_21 9 (dk_at dksX20_digit_11 15 rfl rfl)
theorem dX20_digit_273 : decode cX20_digit 273 = .ok (.ldc 42, 2) := dk_18 42 (dk_at dksX20_digit_11 17 rfl rfl)
theorem dX20_digit_275 : decode cX20_digit 275 = .ok (.iand, 1) := dk_126 (dk_at dksX20_digit_11 19 rfl rfl)
theorem dX20_digit_276 : decode cX20_digit 276 = .ok (.iastore, 1) := dk_79 (dk_at dksX20_digit_11 20 rfl rfl)
theorem dX20_digit_277 : decode cX20_digit 277 = .ok (.iload 9, 2) := dk_21 9 (dk_at dksX20_digit_11 21 rfl rfl)
theorem dX20_digit_279 : decode cX20_digit 279 = .ok (.bipush 16, 2) := dk_16 16 (dk_at dksX20_digit_12 0 rfl rfl)
theorem dX20_digit_281 : decode cX20_digit 281 = .ok (.ishr, 1) := dk_122 (dk_at dksX20_digit_12 2 rfl rfl)
theorem dX20_digit_282 : decode cX20_digit 282 = .ok (.istore 9, 2) := dk_54 9 (dk_at dksX20_digit_12 3 rfl rfl)
theorem dX20_digit_284 : decode cX20_digit 284 = .ok (.iinc 10 1, 3) := dk_132 10 1 (dk_at dksX20_digit_12 5 rfl rfl)
theorem dX20_digit_287 : decode cX20_digit 287 = .ok (.goto (-52), 3) := dk_167 255 204 (dk_at dksX20_digit_12 8 rfl rfl)
theorem dX20_digit_290 : decode cX20_digit 290 = .ok (.aload_n 0, 1) := dk_42 (dk_at dksX20_digit_12 11 rfl rfl)
theorem dX20_digit_291 : decode cX20_digit 291 = .ok (.getfield 7, 3) := dk_180 0 7 (dk_at dksX20_digit_12 12 rfl rfl)
theorem dX20_digit_294 : decode cX20_digit 294 = .ok (.iload_n 1, 1) := dk_27 (dk_at dksX20_digit_12 15 rfl rfl)
theorem dX20_digit_295 : decode cX20_digit 295 = .ok (.iload_n 2, 1) := dk_28 (dk_at dksX20_digit_12 16 rfl rfl)
theorem dX20_digit_296 : decode cX20_digit 296 = .ok (.iadd, 1) := dk_96 (dk_at dksX20_digit_12 17 rfl rfl)
theorem dX20_digit_297 : decode cX20_digit 297 = .ok (.aload_n 0, 1) := dk_42 (dk_at dksX20_digit_12 18 rfl rfl)
theorem dX20_digit_298 : decode cX20_digit 298 = .ok (.getfield 7, 3) := dk_180 0 7 (dk_at dksX20_digit_12 19 rfl rfl)
theorem dX20_digit_301 : decode cX20_digit 301 = .ok (.iload_n 1, 1) := dk_27 (dk_at dksX20_digit_12 22 rfl rfl)
theorem dX20_digit_302 : decode cX20_digit 302 = .ok (.iload_n 2, 1) := dk_28 (dk_at dksX20_digit_12 23 rfl rfl)
theorem dX20_digit_303 : decode cX20_digit 303 = .ok (.iadd, 1) := dk_96 (dk_at dksX20_digit_13 0 rfl rfl)
theorem dX20_digit_304 : decode cX20_digit 304 = .ok (.iaload, 1) := dk_46 (dk_at dksX20_digit_13 1 rfl rfl)
theorem dX20_digit_305 : decode cX20_digit 305 = .ok (.iload 9, 2) := dk_21 9 (dk_at dksX20_digit_13 2 rfl rfl)
theorem dX20_digit_307 : decode cX20_digit 307 = .ok (.iadd, 1) := dk_96 (dk_at dksX20_digit_13 4 rfl rfl)
theorem dX20_digit_308 : decode cX20_digit 308 = .ok (.ldc 42, 2) := dk_18 42 (dk_at dksX20_digit_13 5 rfl rfl)
theorem dX20_digit_310 : decode cX20_digit 310 = .ok (.iand, 1) := dk_126 (dk_at dksX20_digit_13 7 rfl rfl)
theorem dX20_digit_311 : decode cX20_digit 311 = .ok (.iastore, 1) := dk_79 (dk_at dksX20_digit_13 8 rfl rfl)
theorem dX20_digit_312 : decode cX20_digit 312 = .ok (.lload 5, 2) := dk_22 5 (dk_at dksX20_digit_13 9 rfl rfl)
theorem dX20_digit_314 : decode cX20_digit 314 = .ok (.l2i, 1) := dk_136 (dk_at dksX20_digit_13 11 rfl rfl)
theorem dX20_digit_315 : decode cX20_digit 315 = .ok (.ireturn, 1) := dk_172 (dk_at dksX20_digit_13 12 rfl rfl)
abbrev cX20_combine : ByteArray := prog_14_method_12_code
def yX20_combine : MethodName := ⟨RX20, "combine", "(LContractLedger$Whole;LContractLedger$Whole;ILContractLedger$Whole;)V"⟩
def dkwX20_combine_10 : List UInt8 := [167, 255, 187, 25, 4, 21, 5, 182, 0, 43, 177]
abbrev dktX20_combine_10 : List UInt8 := dkwX20_combine_10 ++ []
def dkwX20_combine_9 : List UInt8 := [18, 42, 126, 79, 21, 8, 21, 10, 154, 0, 7, 4, 167, 0, 4, 3, 126, 54, 8, 132, 9, 1]
abbrev dktX20_combine_9 : List UInt8 := dkwX20_combine_9 ++ dktX20_combine_10
def dkwX20_combine_8 : List UInt8 := [54, 10, 25, 4, 180, 0, 39, 21, 9, 21, 8, 153, 0, 9, 21, 10, 116, 167, 0, 7, 21, 10, 2, 130]
abbrev dktX20_combine_8 : List UInt8 := dkwX20_combine_8 ++ dktX20_combine_9
def dkwX20_combine_7 : List UInt8 := [21, 9, 21, 5, 162, 0, 68, 25, 4, 180, 0, 46, 153, 0, 60, 25, 4, 180, 0, 39, 21, 9, 46]
abbrev dktX20_combine_7 : List UInt8 := dkwX20_combine_7 ++ dktX20_combine_8
def dkwX20_combine_6 : List UInt8 := [4, 100, 46, 18, 116, 126, 153, 0, 7, 4, 167, 0, 4, 3, 181, 0, 46, 4, 54, 8, 3, 54, 9]
abbrev dktX20_combine_6 : List UInt8 := dkwX20_combine_6 ++ dktX20_combine_7
def dkwX20_combine_5 : List UInt8 := [167, 0, 8, 21, 9, 21, 10, 130, 79, 132, 8, 1, 167, 255, 150, 25, 4, 25, 4, 180, 0, 39, 21, 5]
abbrev dktX20_combine_5 : List UInt8 := dkwX20_combine_5 ++ dktX20_combine_6
def dkwX20_combine_4 : List UInt8 := [21, 8, 29, 154, 0, 11, 21, 9, 21, 10, 126, 167, 0, 21, 29, 4, 160, 0, 11, 21, 9, 21, 10, 128]
abbrev dktX20_combine_4 : List UInt8 := dkwX20_combine_4 ++ dktX20_combine_5
def dkwX20_combine_3 : List UInt8 := [21, 7, 44, 21, 8, 182, 0, 35, 154, 0, 7, 4, 167, 0, 4, 3, 126, 54, 7, 25, 4, 180, 0, 39]
abbrev dktX20_combine_3 : List UInt8 := dkwX20_combine_3 ++ dktX20_combine_4
def dkwX20_combine_2 : List UInt8 := [182, 0, 112, 54, 10, 21, 6, 43, 21, 8, 182, 0, 35, 154, 0, 7, 4, 167, 0, 4, 3, 126, 54, 6]
abbrev dktX20_combine_2 : List UInt8 := dkwX20_combine_2 ++ dktX20_combine_3
def dkwX20_combine_1 : List UInt8 := [21, 8, 21, 5, 162, 0, 105, 43, 21, 8, 21, 6, 182, 0, 112, 54, 9, 44, 21, 8, 21, 7]
abbrev dktX20_combine_1 : List UInt8 := dkwX20_combine_1 ++ dktX20_combine_2
def dkwX20_combine_0 : List UInt8 := [43, 180, 0, 25, 44, 180, 0, 25, 184, 0, 29, 4, 96, 54, 5, 4, 54, 6, 4, 54, 7, 3, 54, 8]
abbrev dktX20_combine_0 : List UInt8 := dkwX20_combine_0 ++ dktX20_combine_1
theorem dksX20_combine_0 : cX20_combine.data.toList.drop 0 = dktX20_combine_0 := by decide +kernel
theorem dksX20_combine_1 : cX20_combine.data.toList.drop 24 = dktX20_combine_1 := dk_seg dksX20_combine_0 24 rfl rfl
theorem dksX20_combine_2 : cX20_combine.data.toList.drop 46 = dktX20_combine_2 := dk_seg dksX20_combine_1 22 rfl rfl
theorem dksX20_combine_3 : cX20_combine.data.toList.drop 70 = dktX20_combine_3 := dk_seg dksX20_combine_2 24 rfl rfl
theorem dksX20_combine_4 : cX20_combine.data.toList.drop 94 = dktX20_combine_4 := dk_seg dksX20_combine_3 24 rfl rfl
theorem dksX20_combine_5 : cX20_combine.data.toList.drop 118 = dktX20_combine_5 := dk_seg dksX20_combine_4 24 rfl rfl
theorem dksX20_combine_6 : cX20_combine.data.toList.drop 142 = dktX20_combine_6 := dk_seg dksX20_combine_5 24 rfl rfl
theorem dksX20_combine_7 : cX20_combine.data.toList.drop 165 = dktX20_combine_7 := dk_seg dksX20_combine_6 23 rfl rfl
theorem dksX20_combine_8 : cX20_combine.data.toList.drop 188 = dktX20_combine_8 := dk_seg dksX20_combine_7 23 rfl rfl
theorem dksX20_combine_9 : cX20_combine.data.toList.drop 212 = dktX20_combine_9 := dk_seg dksX20_combine_8 24 rfl rfl
theorem dksX20_combine_10 : cX20_combine.data.toList.drop 234 = dktX20_combine_10 := dk_seg dksX20_combine_9 22 rfl rfl
theorem dX20_combine_0 : decode cX20_combine 0 = .ok (.aload_n 1, 1) := dk_43 (dk_at dksX20_combine_0 0 rfl rfl)
theorem dX20_combine_1 : decode cX20_combine 1 = .ok (.getfield 25, 3) := dk_180 0 25 (dk_at dksX20_combine_0 1 rfl rfl)
theorem dX20_combine_4 : decode cX20_combine 4 = .ok (.aload_n 2, 1) := dk_44 (dk_at dksX20_combine_0 4 rfl rfl)
theorem dX20_combine_5 : decode cX20_combine 5 = .ok (.getfield 25, 3) := dk_180 0 25 (dk_at dksX20_combine_0 5 rfl rfl)
theorem dX20_combine_8 : decode cX20_combine 8 = .ok (.invokestatic 29, 3) := dk_184 0 29 (dk_at dksX20_combine_0 8 rfl rfl)
theorem dX20_combine_11 : decode cX20_combine 11 = .ok (.iconst 1, 1) := dk_4 (dk_at dksX20_combine_0 11 rfl rfl)
theorem dX20_combine_12 : decode cX20_combine 12 = .ok (.iadd, 1) := dk_96 (dk_at dksX20_combine_0 12 rfl rfl)
theorem dX20_combine_13 : decode cX20_combine 13 = .ok (.istore 5, 2) := dk_54 5 (dk_at dksX20_combine_0 13 rfl rfl)
theorem dX20_combine_15 : decode cX20_combine 15 = .ok (.iconst 1, 1) := dk_4 (dk_at dksX20_combine_0 15 rfl rfl)
theorem dX20_combine_16 : decode cX20_combine 16 = .ok (.istore 6, 2) := dk_54 6 (dk_at dksX20_combine_0 16 rfl rfl)
theorem dX20_combine_18 : decode cX20_combine 18 = .ok (.iconst 1, 1) := dk_4 (dk_at dksX20_combine_0 18 rfl rfl)
theorem dX20_combine_19 : decode cX20_combine 19 = .ok (.istore 7, 2) := dk_54 7 (dk_at dksX20_combine_0 19 rfl rfl)
theorem dX20_combine_21 : decode cX20_combine 21 = .ok (.iconst 0, 1) := dk_3 (dk_at dksX20_combine_0 21 rfl rfl)
theorem dX20_combine_22 : decode cX20_combine 22 = .ok (.istore 8, 2) := dk_54 8 (dk_at dksX20_combine_0 22 rfl rfl)
theorem dX20_combine_24 : decode cX20_combine 24 = .ok (.iload 8, 2) := dk_21 8 (dk_at dksX20_combine_1 0 rfl rfl)
theorem dX20_combine_26 : decode cX20_combine 26 = .ok (.iload 5, 2) := dk_21 5 (dk_at dksX20_combine_1 2 rfl rfl)
theorem dX20_combine_28 : decode cX20_combine 28 = .ok (.if_icmp .ge 105, 3) := dk_162 0 105 (dk_at dksX20_combine_1 4 rfl rfl)
theorem dX20_combine_31 : decode cX20_combine 31 = .ok (.aload_n 1, 1) := dk_43 (dk_at dksX20_combine_1 7 rfl rfl)
theorem dX20_combine_32 : decode cX20_combine 32 = .ok (.iload 8, 2) := dk_21 8 (dk_at dksX20_combine_1 8 rfl rfl)
theorem dX20_combine_34 : decode cX20_combine 34 = .ok (.iload 6, 2) := dk_21 6 (dk_at dksX20_combine_1 10 rfl rfl)
theorem dX20_combine_36 : decode cX20_combine 36 = .ok (.invokevirtual 112, 3) := dk_182 0 112 (dk_at dksX20_combine_1 12 rfl rfl)
theorem dX20_combine_39 : decode cX20_combine 39 = .ok (.istore 9, 2) := dk_54 9 (dk_at dksX20_combine_1 15 rfl rfl)
theorem dX20_combine_41 : decode cX20_combine 41 = .ok (.aload_n 2, 1) := dk_44 (dk_at dksX20_combine_1 17 rfl rfl)
theorem dX20_combine_42 : decode cX20_combine 42 = .ok (.iload 8, 2) := dk_21 8 (dk_at dksX20_combine_1 18 rfl rfl)
theorem dX20_combine_44 : decode cX20_combine 44 = .ok (.iload 7, 2) := dk_21 7 (dk_at dksX20_combine_1 20 rfl rfl)
theorem dX20_combine_46 : decode cX20_combine 46 = .ok (.invokevirtual 112, 3) := dk_182 0 112 (dk_at dksX20_combine_2 0 rfl rfl)
theorem dX20_combine_49 : decode cX20_combine 49 = .ok (.istore 10, 2) := dk_54 10 (dk_at dksX20_combine_2 3 rfl rfl)
theorem dX20_combine_51 : decode cX20_combine 51 = .ok (.iload 6, 2) := dk_21 6 (dk_at dksX20_combine_2 5 rfl rfl)
theorem dX20_combine_53 : decode cX20_combine 53 = .ok (.aload_n 1, 1) := dk_43 (dk_at dksX20_combine_2 7 rfl rfl)
theorem dX20_combine_54 : decode cX20_combine 54 = .ok (.iload 8, 2) := dk_21 8 (dk_at dksX20_combine_2 8 rfl rfl)
theorem dX20_combine_56 : decode cX20_combine 56 = .ok (.invokevirtual 35, 3) := dk_182 0 35 (dk_at dksX20_combine_2 10 rfl rfl)
theorem dX20_combine_59 : decode cX20_combine 59 = .ok (.ifCond .ne 7, 3) := dk_154 0 7 (dk_at dksX20_combine_2 13 rfl rfl)
theorem dX20_combine_62 : decode cX20_combine 62 = .ok (.iconst 1, 1) := dk_4 (dk_at dksX20_combine_2 16 rfl rfl)
theorem dX20_combine_63 : decode cX20_combine 63 = .ok (.goto 4, 3) := dk_167 0 4 (dk_at dksX20_combine_2 17 rfl rfl)
theorem dX20_combine_66 : decode cX20_combine 66 = .ok (.iconst 0, 1) := dk_3 (dk_at dksX20_combine_2 20 rfl rfl)
theorem dX20_combine_67 : decode cX20_combine 67 = .ok (.iand, 1) := dk_126 (dk_at dksX20_combine_2 21 rfl rfl)
theorem dX20_combine_68 : decode cX20_combine 68 = .ok (.istore 6, 2) := dk_54 6 (dk_at dksX20_combine_2 22 rfl rfl)
theorem dX20_combine_70 : decode cX20_combine 70 = .ok (.iload 7, 2) := dk_21 7 (dk_at dksX20_combine_3 0 rfl rfl)
theorem dX20_combine_72 : decode cX20_combine 72 = .ok (.aload_n 2, 1) := dk_44 (dk_at dksX20_combine_3 2 rfl rfl)
theorem dX20_combine_73 : decode cX20_combine 73 = .ok (.iload 8, 2) := dk_21 8 (dk_at dksX20_combine_3 3 rfl rfl)
theorem dX20_combine_75 : decode cX20_combine 75 = .ok (.invokevirtual 35, 3) := dk_182 0 35 (dk_at dksX20_combine_3 5 rfl rfl)
theorem dX20_combine_78 : decode cX20_combine 78 = .ok (.ifCond .ne 7, 3) := dk_154 0 7 (dk_at dksX20_combine_3 8 rfl rfl)
theorem dX20_combine_81 : decode cX20_combine 81 = .ok (.iconst 1, 1) := dk_4 (dk_at dksX20_combine_3 11 rfl rfl)
theorem dX20_combine_82 : decode cX20_combine 82 = .ok (.goto 4, 3) := dk_167 0 4 (dk_at dksX20_combine_3 12 rfl rfl)
theorem dX20_combine_85 : decode cX20_combine 85 = .ok (.iconst 0, 1) := dk_3 (dk_at dksX20_combine_3 15 rfl rfl)
theorem dX20_combine_86 : decode cX20_combine 86 = .ok (.iand, 1) := dk_126 (dk_at dksX20_combine_3 16 rfl rfl)
theorem dX20_combine_87 : decode cX20_combine 87 = .ok (.istore 7, 2) := dk_54 7 (dk_at dksX20_combine_3 17 rfl rfl)
theorem dX20_combine_89 : decode cX20_combine 89 = .ok (.aload 4, 2) := dk_25 4 (dk_at dksX20_combine_3 19 rfl rfl)
theorem dX20_combine_91 : decode cX20_combine 91 = .ok (.getfield 39, 3) := dk_180 0 39 (dk_at dksX20_combine_3 21 rfl rfl)
theorem dX20_combine_94 : decode cX20_combine 94 = .ok (.iload 8, 2) := dk_21 8 (dk_at dksX20_combine_4 0 rfl rfl)
theorem dX20_combine_96 : decode cX20_combine 96 = .ok (.iload_n 3, 1) := dk_29 (dk_at dksX20_combine_4 2 rfl rfl)
theorem dX20_combine_97 : decode cX20_combine 97 = .ok (.ifCond .ne 11, 3) := dk_154 0 11 (dk_at dksX20_combine_4 3 rfl rfl)
theorem dX20_combine_100 : decode cX20_combine 100 = .ok (.iload 9, 2) := dk_21 9 (dk_at dksX20_combine_4 6 rfl rfl)
theorem dX20_combine_102 : decode cX20_combine 102 = .ok (.iload 10, 2) := dk_21 10 (dk_at dksX20_combine_4 8 rfl rfl)
theorem dX20_combine_104 : decode cX20_combine 104 = .ok (.iand, 1) := dk_126 (dk_at dksX20_combine_4 10 rfl rfl)
theorem dX20_combine_105 : decode cX20_combine 105 = .ok (.goto 21, 3) := dk_167 0 21 (dk_at dksX20_combine_4 11 rfl rfl)
theorem dX20_combine_108 : decode cX20_combine 108 = .ok (.iload_n 3, 1) := dk_29 (dk_at dksX20_combine_4 14 rfl rfl)
theorem dX20_combine_109 : decode cX20_combine 109 = .ok (.iconst 1, 1) := dk_4 (dk_at dksX20_combine_4 15 rfl rfl)
theorem dX20_combine_110 : decode cX20_combine 110 = .ok (.if_icmp .ne 11, 3) := dk_160 0 11 (dk_at dksX20_combine_4 16 rfl rfl)
theorem dX20_combine_113 : decode cX20_combine 113 = .ok (.iload 9, 2) := dk_21 9 (dk_at dksX20_combine_4 19 rfl rfl)
theorem dX20_combine_115 : decode cX20_combine 115 = .ok (.iload 10, 2) := dk_21 10 (dk_at dksX20_combine_4 21 rfl rfl)
theorem dX20_combine_117 : decode cX20_combine 117 = .ok (.ior, 1) := dk_128 (dk_at dksX20_combine_4 23 rfl rfl)
theorem dX20_combine_118 : decode cX20_combine 118 = .ok (.goto 8, 3) := dk_167 0 8 (dk_at dksX20_combine_5 0 rfl rfl)
theorem dX20_combine_121 : decode cX20_combine 121 = .ok (.iload 9, 2) := dk_21 9 (dk_at dksX20_combine_5 3 rfl rfl)
theorem dX20_combine_123 : decode cX20_combine 123 = .ok (.iload 10, 2) := dk_21 10 (dk_at dksX20_combine_5 5 rfl rfl)
theorem dX20_combine_125 : decode cX20_combine 125 = .ok (.ixor, 1) := dk_130 (dk_at dksX20_combine_5 7 rfl rfl)
theorem dX20_combine_126 : decode cX20_combine 126 = .ok (.iastore, 1) := dk_79 (dk_at dksX20_combine_5 8 rfl rfl)
theorem dX20_combine_127 : decode cX20_combine 127 = .ok (.iinc 8 1, 3) := dk_132 8 1 (dk_at dksX20_combine_5 9 rfl rfl)
theorem dX20_combine_130 : decode cX20_combine 130 = .ok (.goto (-106), 3) := dk_167 255 150 (dk_at dksX20_combine_5 12 rfl rfl)
theorem dX20_combine_133 : decode cX20_combine 133 = .ok (.aload 4, 2) := dk_25 4 (dk_at dksX20_combine_5 15 rfl rfl)
theorem dX20_combine_135 : decode cX20_combine 135 = .ok (.aload 4, 2) := dk_25 4 (dk_at dksX20_combine_5 17 rfl rfl)
theorem dX20_combine_137 : decode cX20_combine 137 = .ok (.getfield 39, 3) := dk_180 0 39 (dk_at dksX20_combine_5 19 rfl rfl)
theorem dX20_combine_140 : decode cX20_combine 140 = .ok (.iload 5, 2) := dk_21 5 (dk_at dksX20_combine_5 22 rfl rfl)
theorem dX20_combine_142 : decode cX20_combine 142 = .ok (.iconst 1, 1) := dk_4 (dk_at dksX20_combine_6 0 rfl rfl)
theorem dX20_combine_143 : decode cX20_combine 143 = .ok (.isub, 1) := dk_100 (dk_at dksX20_combine_6 1 rfl rfl)
theorem dX20_combine_144 : decode cX20_combine 144 = .ok (.iaload, 1) := dk_46 (dk_at dksX20_combine_6 2 rfl rfl)
theorem dX20_combine_145 : decode cX20_combine 145 = .ok (.ldc 116, 2) := dk_18 116 (dk_at dksX20_combine_6 3 rfl rfl)
theorem dX20_combine_147 : decode cX20_combine 147 = .ok (.iand, 1) := dk_126 (dk_at dksX20_combine_6 5 rfl rfl)
theorem dX20_combine_148 : decode cX20_combine 148 = .ok (.ifCond .eq 7, 3) := dk_153 0 7 (dk_at dksX20_combine_6 6 rfl rfl)
theorem dX20_combine_151 : decode cX20_combine 151 = .ok (.iconst 1, 1) := dk_4 (dk_at dksX20_combine_6 9 rfl rfl)
theorem dX20_combine_152 : decode cX20_combine 152 = .ok (.goto 4, 3) := dk_167 0 4 (dk_at dksX20_combine_6 10 rfl rfl)
theorem dX20_combine_155 : decode cX20_combine 155 = .ok (.iconst 0, 1) := dk_3 (dk_at dksX20_combine_6 13 rfl rfl)
theorem dX20_combine_156 : decode cX20_combine 156 = .ok (.putfield 46, 3) := dk_181 0 46 (dk_at dksX20_combine_6 14 rfl rfl)
theorem dX20_combine_159 : decode cX20_combine 159 = .ok (.iconst 1, 1) := dk_4 (dk_at dksX20_combine_6 17 rfl rfl)
theorem dX20_combine_160 : decode cX20_combine 160 = .ok (.istore 8, 2) := dk_54 8 (dk_at dksX20_combine_6 18 rfl rfl)
theorem dX20_combine_162 : decode cX20_combine 162 = .ok (.iconst 0, 1) := dk_3 (dk_at dksX20_combine_6 20 rfl rfl)
theorem dX20_combine_163 : decode cX20_combine 163 = .ok (.istore 9, 2) := dk_54 9 (dk_at dksX20_combine_6 21 rfl rfl)
theorem dX20_combine_165 : decode cX20_combine 165 = .ok (.iload 9, 2) := dk_21 9 (dk_at dksX20_combine_7 0 rfl rfl)
theorem dX20_combine_167 : decode cX20_combine 167 = .ok (.iload 5, 2) := dk_21 5 (dk_at dksX20_combine_7 2 rfl rfl)
theorem dX20_combine_169 : decode cX20_combine 169 = .ok (.if_icmp .ge 68, 3) := dk_162 0 68 (dk_at dksX20_combine_7 4 rfl rfl)
theorem dX20_combine_172 : decode cX20_combine 172 = .ok (.aload 4, 2) := dk_25 4 (dk_at dksX20_combine_7 7 rfl rfl)
theorem dX20_combine_174 : decode cX20_combine 174 = .ok (.getfield 46, 3) := dk_180 0 46 (dk_at dksX20_combine_7 9 rfl rfl)
theorem dX20_combine_177 : decode cX20_combine 177 = .ok (.ifCond .eq 60, 3) := dk_153 0 60 (dk_at dksX20_combine_7 12 rfl rfl)
theorem dX20_combine_180 : decode cX20_combine 180 = .ok (.aload 4, 2) := dk_25 4 (dk_at dksX20_combine_7 15 rfl rfl)
theorem dX20_combine_182 : decode cX20_combine 182 = .ok (.getfield 39, 3) := dk_180 0 39 (dk_at dksX20_combine_7 17 rfl rfl)
theorem dX20_combine_185 : decode cX20_combine 185 = .ok (.iload 9, 2) := dk_21 9 (dk_at dksX20_combine_7 20 rfl rfl)
theorem dX20_combine_187 : decode cX20_combine 187 = .ok (.iaload, 1) := dk_46 (dk_at dksX20_combine_7 22 rfl rfl)
theorem dX20_combine_188 : decode cX20_combine 188 = .ok (.istore 10, 2) := dk_54 10 (dk_at dksX20_combine_8 0 rfl rfl)
theorem dX20_combine_190 : decode cX20_combine 190 = .ok (.aload 4, 2) := dk_25 4 (dk_at dksX20_combine_8 2 rfl rfl)
theorem dX20_combine_192 : decode cX20_combine 192 = .ok (.getfield 39, 3) := dk_180 0 39 (dk_at dksX20_combine_8 4 rfl rfl)
theorem dX20_combine_195 : decode cX20_combine 195 = .ok (.iload 9, 2) := dk_21 9 (dk_at dksX20_combine_8 7 rfl rfl)
theorem dX20_combine_197 : decode cX20_combine 197 = .ok (.iload 8, 2) := dk_21 8 (dk_at dksX20_combine_8 9 rfl rfl)
theorem dX20_combine_199 : decode cX20_combine 199 = .ok (.ifCond .eq 9, 3) := dk_153 0 9 (dk_at dksX20_combine_8 11 rfl rfl)
theorem dX20_combine_202 : decode cX20_combine 202 = .ok (.iload 10, 2) := dk_21 10 (dk_at dksX20_combine_8 14 rfl rfl)
theorem dX20_combine_204 : decode cX20_combine 204 = .ok (.ineg, 1) := dk_116 (dk_at dksX20_combine_8 16 rfl rfl)
theorem dX20_combine_205 : decode cX20_combine 205 = .ok (.goto 7, 3) := dk_167 0 7 (dk_at dksX20_combine_8 17 rfl rfl)
theorem dX20_combine_208 : decode cX20_combine 208 = .ok (.iload 10, 2) := dk_21 10 (dk_at dksX20_combine_8 20 rfl rfl)
theorem dX20_combine_210 : decode cX20_combine 210 = .ok (.iconst (-1), 1) := dk_2 (dk_at dksX20_combine_8 22 rfl rfl)
theorem dX20_combine_211 : decode cX20_combine 211 = .ok (.ixor, 1) := dk_130 (dk_at dksX20_combine_8 23 rfl rfl)
theorem dX20_combine_212 : decode cX20_combine 212 = .ok (.ldc 42, 2) := dk_18 42 (dk_at dksX20_combine_9 0 rfl rfl)
theorem dX20_combine_214 : decode cX20_combine 214 = .ok (.iand, 1) := dk_126 (dk_at dksX20_combine_9 2 rfl rfl)
theorem dX20_combine_215 : decode cX20_combine 215 = .ok (.iastore, 1) := dk_79 (dk_at dksX20_combine_9 3 rfl rfl)
theorem dX20_combine_216 : decode cX20_combine 216 = .ok (.iload 8, 2) := dk_21 8 (dk_at dksX20_combine_9 4 rfl rfl)
theorem dX20_combine_218 : decode cX20_combine 218 = .ok (.iload 10, 2) := dk_21 10 (dk_at dksX20_combine_9 6 rfl rfl)
theorem dX20_combine_220 : decode cX20_combine 220 = .ok (.ifCond .ne 7, 3) := dk_154 0 7 (dk_at dksX20_combine_9 8 rfl rfl)
theorem dX20_combine_223 : decode cX20_combine 223 = .ok (.iconst 1, 1) := dk_4 (dk_at dksX20_combine_9 11 rfl rfl)
theorem dX20_combine_224 : decode cX20_combine 224 = .ok (.goto 4, 3) := dk_167 0 4 (dk_at dksX20_combine_9 12 rfl rfl)
theorem dX20_combine_227 : decode cX20_combine 227 = .ok (.iconst 0, 1) := dk_3 (dk_at dksX20_combine_9 15 rfl rfl)
theorem dX20_combine_228 : decode cX20_combine 228 = .ok (.iand, 1) := dk_126 (dk_at dksX20_combine_9 16 rfl rfl)
theorem dX20_combine_229 : decode cX20_combine 229 = .ok (.istore 8, 2) := dk_54 8 (dk_at dksX20_combine_9 17 rfl rfl)
theorem dX20_combine_231 : decode cX20_combine 231 = .ok (.iinc 9 1, 3) := dk_132 9 1 (dk_at dksX20_combine_9 19 rfl rfl)
theorem dX20_combine_234 : decode cX20_combine 234 = .ok (.goto (-69), 3) := dk_167 255 187 (dk_at dksX20_combine_10 0 rfl rfl)
theorem dX20_combine_237 : decode cX20_combine 237 = .ok (.aload 4, 2) := dk_25 4 (dk_at dksX20_combine_10 3 rfl rfl)
theorem dX20_combine_239 : decode cX20_combine 239 = .ok (.iload 5, 2) := dk_21 5 (dk_at dksX20_combine_10 5 rfl rfl)
theorem dX20_combine_241 : decode cX20_combine 241 = .ok (.invokevirtual 43, 3) := dk_182 0 43 (dk_at dksX20_combine_10 7 rfl rfl)
theorem dX20_combine_244 : decode cX20_combine 244 = .ok (.return_, 1) := dk_177 (dk_at dksX20_combine_10 10 rfl rfl)
theorem q387 : (Jvm.Cond.initialized "ContractLedger$Reckoner") ∈ lw_all := lw_g (lw_at lw_m1 30 rfl) rfl
theorem q627 : (Jvm.Cond.fieldLink "ContractLedger$Reckoner" (39 : Nat) "ContractLedger$Whole" "digits" "[I") ∈ lw_all := lw_g (lw_at lw_m2 30 rfl) rfl
theorem q632 : (Jvm.Cond.fieldLink "ContractLedger$Reckoner" (25 : Nat) "ContractLedger$Whole" "count" "I") ∈ lw_all := lw_g (lw_at lw_m2 35 rfl) rfl
theorem q636 : (Jvm.Cond.fieldLink "ContractLedger$Reckoner" (46 : Nat) "ContractLedger$Whole" "negative" "Z") ∈ lw_all := lw_g (lw_at lw_m2 39 rfl) rfl
theorem q1272 : (Jvm.Cond.instantiable "ContractLedger$Reckoner" (3 : Nat)) ∈ lw_all := lw_g (lw_at lw_m4 195 rfl) rfl
theorem q1274 : (Jvm.Cond.instanceMethod ({ cls := "ContractLedger$Reckoner", name := "<init>", desc := "()V" } : Jvm.MethodName)) ∈ lw_all := lw_g (lw_at lw_m4 197 rfl) rfl
theorem q1275 : (Jvm.Cond.code ({ cls := "ContractLedger$Reckoner", name := "<init>", desc := "()V" } : Jvm.MethodName) prog_14_method_1_code (1 : Nat) (Option.none : Option Jvm.ClassFile.FieldType)) ∈ lw_all := lw_g (lw_at lw_m4 198 rfl) rfl
theorem q1276 : (Jvm.Cond.methodLink "ContractLedger$Reckoner" (1 : Nat) ({ cls := "java/lang/Object", name := "<init>", desc := "()V" } : Jvm.MethodName)) ∈ lw_all := lw_g (lw_at lw_m4 199 rfl) rfl
theorem q1277 : (Jvm.Cond.classLink "ContractLedger$Reckoner" (16 : Nat) "ContractLedger$Whole") ∈ lw_all := lw_g (lw_at lw_m4 200 rfl) rfl
theorem q1278 : (Jvm.Cond.methodLink "ContractLedger$Reckoner" (18 : Nat) ({ cls := "ContractLedger$Whole", name := "<init>", desc := "(I)V" } : Jvm.MethodName)) ∈ lw_all := lw_g (lw_at lw_m4 201 rfl) rfl
theorem q1279 : (Jvm.Cond.fieldLink "ContractLedger$Reckoner" (7 : Nat) "ContractLedger$Reckoner" "rest" "[I") ∈ lw_all := lw_g (lw_at lw_m4 202 rfl) rfl
theorem q1280 : (Jvm.Cond.fieldLink "ContractLedger$Reckoner" (13 : Nat) "ContractLedger$Reckoner" "by" "[I") ∈ lw_all := lw_g (lw_at lw_m4 203 rfl) rfl
theorem q1281 : (Jvm.Cond.fieldLink "ContractLedger$Reckoner" (21 : Nat) "ContractLedger$Reckoner" "three" "LContractLedger$Whole;") ∈ lw_all := lw_g (lw_at lw_m4 204 rfl) rfl
theorem q1282 : (Jvm.Cond.laysFinal "ContractLedger$Reckoner" "ContractLedger$Reckoner" "rest" "[I") ∈ lw_all := lw_g (lw_at lw_m4 205 rfl) rfl
theorem q1283 : (Jvm.Cond.soleField "ContractLedger$Reckoner" "rest") ∈ lw_all := lw_g (lw_at lw_m4 206 rfl) rfl
theorem q1284 : (Jvm.Cond.laysFinal "ContractLedger$Reckoner" "ContractLedger$Reckoner" "by" "[I") ∈ lw_all := lw_g (lw_at lw_m4 207 rfl) rfl
theorem q1285 : (Jvm.Cond.soleField "ContractLedger$Reckoner" "by") ∈ lw_all := lw_g (lw_at lw_m4 208 rfl) rfl
theorem q1286 : (Jvm.Cond.laysFinal "ContractLedger$Reckoner" "ContractLedger$Reckoner" "three" "LContractLedger$Whole;") ∈ lw_all := lw_g (lw_at lw_m4 209 rfl) rfl
theorem q1287 : (Jvm.Cond.soleField "ContractLedger$Reckoner" "three") ∈ lw_all := lw_g (lw_at lw_m4 210 rfl) rfl
theorem q1288 : (Jvm.Cond.superclass "ContractLedger$Reckoner" "java/lang/Object") ∈ lw_all := lw_g (lw_at lw_m4 211 rfl) rfl
theorem q2727 : (Jvm.Cond.instanceMethod ({ cls := "ContractLedger$Reckoner", name := "add", desc := "(LContractLedger$Whole;LContractLedger$Whole;ZLContractLedger$Whole;)V" } : Jvm.MethodName)) ∈ lw_all := lw_g (lw_at lw_m10 210 rfl) rfl
theorem q2728 : (Jvm.Cond.selects "ContractLedger$Reckoner" ({ cls := "ContractLedger$Reckoner", name := "add", desc := "(LContractLedger$Whole;LContractLedger$Whole;ZLContractLedger$Whole;)V" } : Jvm.MethodName) ({ cls := "ContractLedger$Reckoner", name := "add", desc := "(LContractLedger$Whole;LContractLedger$Whole;ZLContractLedger$Whole;)V" } : Jvm.MethodName)) ∈ lw_all := lw_g (lw_at lw_m10 211 rfl) rfl
theorem q2729 : (Jvm.Cond.code ({ cls := "ContractLedger$Reckoner", name := "add", desc := "(LContractLedger$Whole;LContractLedger$Whole;ZLContractLedger$Whole;)V" } : Jvm.MethodName) prog_14_method_4_code (9 : Nat) (Option.none : Option Jvm.ClassFile.FieldType)) ∈ lw_all := lw_g (lw_at lw_m10 212 rfl) rfl
theorem q2730 : (Jvm.Cond.methodLink "ContractLedger$Reckoner" (50 : Nat) ({ cls := "ContractLedger$Whole", name := "isZero", desc := "()Z" } : Jvm.MethodName)) ∈ lw_all := lw_g (lw_at lw_m10 213 rfl) rfl
theorem q2731 : (Jvm.Cond.methodLink "ContractLedger$Reckoner" (54 : Nat) ({ cls := "ContractLedger$Whole", name := "compareSize", desc := "(LContractLedger$Whole;)I" } : Jvm.MethodName)) ∈ lw_all := lw_g (lw_at lw_m10 214 rfl) rfl
theorem q2732 : (Jvm.Cond.methodLink "ContractLedger$Reckoner" (58 : Nat) ({ cls := "ContractLedger$Reckoner", name := "addSizes", desc := "(LContractLedger$Whole;LContractLedger$Whole;LContractLedger$Whole;)V" } : Jvm.MethodName)) ∈ lw_all := lw_g (lw_at lw_m10 215 rfl) rfl
theorem q2733 : (Jvm.Cond.static ({ cls := "ContractLedger$Reckoner", name := "addSizes", desc := "(LContractLedger$Whole;LContractLedger$Whole;LContractLedger$Whole;)V" } : Jvm.MethodName)) ∈ lw_all := lw_g (lw_at lw_m10 216 rfl) rfl
theorem q2734 : (Jvm.Cond.code ({ cls := "ContractLedger$Reckoner", name := "addSizes", desc := "(LContractLedger$Whole;LContractLedger$Whole;LContractLedger$Whole;)V" } : Jvm.MethodName) prog_14_method_2_code (6 : Nat) (Option.none : Option Jvm.ClassFile.FieldType)) ∈ lw_all := lw_g (lw_at lw_m10 217 rfl) rfl
theorem q2735 : (Jvm.Cond.methodLink "ContractLedger$Reckoner" (29 : Nat) ({ cls := "java/lang/Math", name := "max", desc := "(II)I" } : Jvm.MethodName)) ∈ lw_all := lw_g (lw_at lw_m10 218 rfl) rfl
theorem q2736 : (Jvm.Cond.methodLink "ContractLedger$Reckoner" (35 : Nat) ({ cls := "ContractLedger$Whole", name := "at", desc := "(I)I" } : Jvm.MethodName)) ∈ lw_all := lw_g (lw_at lw_m10 219 rfl) rfl
theorem q2737 : (Jvm.Cond.constant "ContractLedger$Reckoner" (42 : Nat) (65535 : Int32)) ∈ lw_all := lw_g (lw_at lw_m10 220 rfl) rfl
theorem q2738 : (Jvm.Cond.methodLink "ContractLedger$Reckoner" (43 : Nat) ({ cls := "ContractLedger$Whole", name := "trim", desc := "(I)V" } : Jvm.MethodName)) ∈ lw_all := lw_g (lw_at lw_m10 221 rfl) rfl
theorem q2739 : (Jvm.Cond.methodLink "ContractLedger$Reckoner" (62 : Nat) ({ cls := "ContractLedger$Reckoner", name := "lessSizes", desc := "(LContractLedger$Whole;LContractLedger$Whole;LContractLedger$Whole;)V" } : Jvm.MethodName)) ∈ lw_all := lw_g (lw_at lw_m10 222 rfl) rfl
theorem q2740 : (Jvm.Cond.static ({ cls := "ContractLedger$Reckoner", name := "lessSizes", desc := "(LContractLedger$Whole;LContractLedger$Whole;LContractLedger$Whole;)V" } : Jvm.MethodName)) ∈ lw_all := lw_g (lw_at lw_m10 223 rfl) rfl
theorem q2741 : (Jvm.Cond.code ({ cls := "ContractLedger$Reckoner", name := "lessSizes", desc := "(LContractLedger$Whole;LContractLedger$Whole;LContractLedger$Whole;)V" } : Jvm.MethodName) prog_14_method_3_code (6 : Nat) (Option.none : Option Jvm.ClassFile.FieldType)) ∈ lw_all := lw_g (lw_at lw_m10 224 rfl) rfl
theorem q2754 : (Jvm.Cond.instanceMethod ({ cls := "ContractLedger$Reckoner", name := "up", desc := "(LContractLedger$Whole;ILContractLedger$Whole;)V" } : Jvm.MethodName)) ∈ lw_all := lw_g (lw_at lw_m10 237 rfl) rfl
theorem q2755 : (Jvm.Cond.selects "ContractLedger$Reckoner" ({ cls := "ContractLedger$Reckoner", name := "up", desc := "(LContractLedger$Whole;ILContractLedger$Whole;)V" } : Jvm.MethodName) ({ cls := "ContractLedger$Reckoner", name := "up", desc := "(LContractLedger$Whole;ILContractLedger$Whole;)V" } : Jvm.MethodName)) ∈ lw_all := lw_g (lw_at lw_m10 238 rfl) rfl
theorem q2756 : (Jvm.Cond.code ({ cls := "ContractLedger$Reckoner", name := "up", desc := "(LContractLedger$Whole;ILContractLedger$Whole;)V" } : Jvm.MethodName) prog_14_method_13_code (8 : Nat) (Option.none : Option Jvm.ClassFile.FieldType)) ∈ lw_all := lw_g (lw_at lw_m10 239 rfl) rfl
theorem q2758 : (Jvm.Cond.instanceMethod ({ cls := "ContractLedger$Reckoner", name := "down", desc := "(LContractLedger$Whole;ILContractLedger$Whole;)V" } : Jvm.MethodName)) ∈ lw_all := lw_g (lw_at lw_m11 1 rfl) rfl
theorem q2759 : (Jvm.Cond.selects "ContractLedger$Reckoner" ({ cls := "ContractLedger$Reckoner", name := "down", desc := "(LContractLedger$Whole;ILContractLedger$Whole;)V" } : Jvm.MethodName) ({ cls := "ContractLedger$Reckoner", name := "down", desc := "(LContractLedger$Whole;ILContractLedger$Whole;)V" } : Jvm.MethodName)) ∈ lw_all := lw_g (lw_at lw_m11 2 rfl) rfl
theorem q2760 : (Jvm.Cond.code ({ cls := "ContractLedger$Reckoner", name := "down", desc := "(LContractLedger$Whole;ILContractLedger$Whole;)V" } : Jvm.MethodName) prog_14_method_14_code (8 : Nat) (Option.none : Option Jvm.ClassFile.FieldType)) ∈ lw_all := lw_g (lw_at lw_m11 3 rfl) rfl
theorem q2778 : (Jvm.Cond.instanceMethod ({ cls := "ContractLedger$Reckoner", name := "multiply", desc := "(LContractLedger$Whole;LContractLedger$Whole;LContractLedger$Whole;)V" } : Jvm.MethodName)) ∈ lw_all := lw_g (lw_at lw_m11 21 rfl) rfl
theorem q2779 : (Jvm.Cond.selects "ContractLedger$Reckoner" ({ cls := "ContractLedger$Reckoner", name := "multiply", desc := "(LContractLedger$Whole;LContractLedger$Whole;LContractLedger$Whole;)V" } : Jvm.MethodName) ({ cls := "ContractLedger$Reckoner", name := "multiply", desc := "(LContractLedger$Whole;LContractLedger$Whole;LContractLedger$Whole;)V" } : Jvm.MethodName)) ∈ lw_all := lw_g (lw_at lw_m11 22 rfl) rfl
theorem q2780 : (Jvm.Cond.code ({ cls := "ContractLedger$Reckoner", name := "multiply", desc := "(LContractLedger$Whole;LContractLedger$Whole;LContractLedger$Whole;)V" } : Jvm.MethodName) prog_14_method_6_code (4 : Nat) (Option.none : Option Jvm.ClassFile.FieldType)) ∈ lw_all := lw_g (lw_at lw_m11 23 rfl) rfl
theorem q2781 : (Jvm.Cond.methodLink "ContractLedger$Reckoner" (67 : Nat) ({ cls := "ContractLedger$Reckoner", name := "plain", desc := "([II[II[I)V" } : Jvm.MethodName)) ∈ lw_all := lw_g (lw_at lw_m11 24 rfl) rfl
theorem q2782 : (Jvm.Cond.static ({ cls := "ContractLedger$Reckoner", name := "plain", desc := "([II[II[I)V" } : Jvm.MethodName)) ∈ lw_all := lw_g (lw_at lw_m11 25 rfl) rfl
theorem q2783 : (Jvm.Cond.code ({ cls := "ContractLedger$Reckoner", name := "plain", desc := "([II[II[I)V" } : Jvm.MethodName) prog_14_method_5_code (9 : Nat) (Option.none : Option Jvm.ClassFile.FieldType)) ∈ lw_all := lw_g (lw_at lw_m11 26 rfl) rfl
theorem q2784 : (Jvm.Cond.constantLong "ContractLedger$Reckoner" (65 : Nat) (65535 : Int64)) ∈ lw_all := lw_g (lw_at lw_m11 27 rfl) rfl
theorem q2790 : (Jvm.Cond.instanceMethod ({ cls := "ContractLedger$Reckoner", name := "divide", desc := "(LContractLedger$Whole;LContractLedger$Whole;ZLContractLedger$Whole;LContractLedger$Whole;)V" } : Jvm.MethodName)) ∈ lw_all := lw_g (lw_at lw_m11 33 rfl) rfl
theorem q2791 : (Jvm.Cond.selects "ContractLedger$Reckoner" ({ cls := "ContractLedger$Reckoner", name := "divide", desc := "(LContractLedger$Whole;LContractLedger$Whole;ZLContractLedger$Whole;LContractLedger$Whole;)V" } : Jvm.MethodName) ({ cls := "ContractLedger$Reckoner", name := "divide", desc := "(LContractLedger$Whole;LContractLedger$Whole;ZLContractLedger$Whole;LContractLedger$Whole;)V" } : Jvm.MethodName)) ∈ lw_all := lw_g (lw_at lw_m11 34 rfl) rfl
theorem q2792 : (Jvm.Cond.code ({ cls := "ContractLedger$Reckoner", name := "divide", desc := "(LContractLedger$Whole;LContractLedger$Whole;ZLContractLedger$Whole;LContractLedger$Whole;)V" } : Jvm.MethodName) prog_14_method_11_code (7 : Nat) (Option.none : Option Jvm.ClassFile.FieldType)) ∈ lw_all := lw_g (lw_at lw_m11 35 rfl) rfl
theorem q2793 : (Jvm.Cond.methodLink "ContractLedger$Reckoner" (104 : Nat) ({ cls := "ContractLedger$Reckoner", name := "divideSizes", desc := "(LContractLedger$Whole;LContractLedger$Whole;LContractLedger$Whole;LContractLedger$Whole;)V" } : Jvm.MethodName)) ∈ lw_all := lw_g (lw_at lw_m11 36 rfl) rfl
theorem q2794 : (Jvm.Cond.privateMethod ({ cls := "ContractLedger$Reckoner", name := "divideSizes", desc := "(LContractLedger$Whole;LContractLedger$Whole;LContractLedger$Whole;LContractLedger$Whole;)V" } : Jvm.MethodName)) ∈ lw_tbl := lw_at lw_m11 37 rfl
theorem q2795 : (Jvm.Cond.instanceMethod ({ cls := "ContractLedger$Reckoner", name := "divideSizes", desc := "(LContractLedger$Whole;LContractLedger$Whole;LContractLedger$Whole;LContractLedger$Whole;)V" } : Jvm.MethodName)) ∈ lw_all := lw_g (lw_at lw_m11 38 rfl) rfl
theorem q2796 : (Jvm.Cond.code ({ cls := "ContractLedger$Reckoner", name := "divideSizes", desc := "(LContractLedger$Whole;LContractLedger$Whole;LContractLedger$Whole;LContractLedger$Whole;)V" } : Jvm.MethodName) prog_14_method_9_code (9 : Nat) (Option.none : Option Jvm.ClassFile.FieldType)) ∈ lw_all := lw_g (lw_at lw_m11 39 rfl) rfl
theorem q2797 : (Jvm.Cond.methodLink "ContractLedger$Reckoner" (71 : Nat) ({ cls := "ContractLedger$Whole", name := "copy", desc := "(LContractLedger$Whole;)V" } : Jvm.MethodName)) ∈ lw_all := lw_g (lw_at lw_m11 40 rfl) rfl
theorem q2802 : (Jvm.Cond.methodLink "ContractLedger$Reckoner" (75 : Nat) ({ cls := "ContractLedger$Whole", name := "clear", desc := "()V" } : Jvm.MethodName)) ∈ lw_all := lw_g (lw_at lw_m11 45 rfl) rfl
theorem q2803 : (Jvm.Cond.methodLink "ContractLedger$Reckoner" (78 : Nat) ({ cls := "ContractLedger$Reckoner", name := "divideBy", desc := "(LContractLedger$Whole;ILContractLedger$Whole;)I" } : Jvm.MethodName)) ∈ lw_all := lw_g (lw_at lw_m11 46 rfl) rfl
theorem q2804 : (Jvm.Cond.static ({ cls := "ContractLedger$Reckoner", name := "divideBy", desc := "(LContractLedger$Whole;ILContractLedger$Whole;)I" } : Jvm.MethodName)) ∈ lw_all := lw_g (lw_at lw_m11 47 rfl) rfl
theorem q2805 : (Jvm.Cond.code ({ cls := "ContractLedger$Reckoner", name := "divideBy", desc := "(LContractLedger$Whole;ILContractLedger$Whole;)I" } : Jvm.MethodName) prog_14_method_7_code (8 : Nat) (Option.some Jvm.ClassFile.FieldType.int)) ∈ lw_all := lw_g (lw_at lw_m11 48 rfl) rfl
theorem q2806 : (Jvm.Cond.methodLink "ContractLedger$Reckoner" (82 : Nat) ({ cls := "ContractLedger$Whole", name := "set", desc := "(J)V" } : Jvm.MethodName)) ∈ lw_all := lw_g (lw_at lw_m11 49 rfl) rfl
theorem q2807 : (Jvm.Cond.methodLink "ContractLedger$Reckoner" (86 : Nat) ({ cls := "java/lang/Integer", name := "numberOfLeadingZeros", desc := "(I)I" } : Jvm.MethodName)) ∈ lw_all := lw_g (lw_at lw_m11 50 rfl) rfl
theorem q2808 : (Jvm.Cond.methodLink "ContractLedger$Reckoner" (91 : Nat) ({ cls := "ContractLedger$Reckoner", name := "shiftRow", desc := "(LContractLedger$Whole;I[II)V" } : Jvm.MethodName)) ∈ lw_all := lw_g (lw_at lw_m11 51 rfl) rfl
theorem q2809 : (Jvm.Cond.static ({ cls := "ContractLedger$Reckoner", name := "shiftRow", desc := "(LContractLedger$Whole;I[II)V" } : Jvm.MethodName)) ∈ lw_all := lw_g (lw_at lw_m11 52 rfl) rfl
theorem q2810 : (Jvm.Cond.code ({ cls := "ContractLedger$Reckoner", name := "shiftRow", desc := "(LContractLedger$Whole;I[II)V" } : Jvm.MethodName) prog_14_method_8_code (6 : Nat) (Option.none : Option Jvm.ClassFile.FieldType)) ∈ lw_all := lw_g (lw_at lw_m11 53 rfl) rfl
theorem q2811 : (Jvm.Cond.methodLink "ContractLedger$Reckoner" (95 : Nat) ({ cls := "ContractLedger$Reckoner", name := "digit", desc := "(II)I" } : Jvm.MethodName)) ∈ lw_all := lw_g (lw_at lw_m11 54 rfl) rfl
theorem q2812 : (Jvm.Cond.privateMethod ({ cls := "ContractLedger$Reckoner", name := "digit", desc := "(II)I" } : Jvm.MethodName)) ∈ lw_tbl := lw_at lw_m11 55 rfl
theorem q2813 : (Jvm.Cond.instanceMethod ({ cls := "ContractLedger$Reckoner", name := "digit", desc := "(II)I" } : Jvm.MethodName)) ∈ lw_all := lw_g (lw_at lw_m11 56 rfl) rfl
theorem q2814 : (Jvm.Cond.code ({ cls := "ContractLedger$Reckoner", name := "digit", desc := "(II)I" } : Jvm.MethodName) prog_14_method_10_code (11 : Nat) (Option.some Jvm.ClassFile.FieldType.int)) ∈ lw_all := lw_g (lw_at lw_m11 57 rfl) rfl
theorem q2815 : (Jvm.Cond.methodLink "ContractLedger$Reckoner" (98 : Nat) ({ cls := "java/lang/Math", name := "min", desc := "(JJ)J" } : Jvm.MethodName)) ∈ lw_all := lw_g (lw_at lw_m11 58 rfl) rfl
theorem q2818 : (Jvm.Cond.constantLong "ContractLedger$Reckoner" (102 : Nat) (65536 : Int64)) ∈ lw_all := lw_g (lw_at lw_m11 61 rfl) rfl
theorem q2819 : (Jvm.Cond.methodLink "ContractLedger$Reckoner" (108 : Nat) ({ cls := "ContractLedger$Reckoner", name := "add", desc := "(LContractLedger$Whole;LContractLedger$Whole;ZLContractLedger$Whole;)V" } : Jvm.MethodName)) ∈ lw_all := lw_g (lw_at lw_m11 62 rfl) rfl
theorem q2821 : (Jvm.Cond.instanceMethod ({ cls := "ContractLedger$Reckoner", name := "combine", desc := "(LContractLedger$Whole;LContractLedger$Whole;ILContractLedger$Whole;)V" } : Jvm.MethodName)) ∈ lw_all := lw_g (lw_at lw_m11 64 rfl) rfl
theorem q2822 : (Jvm.Cond.selects "ContractLedger$Reckoner" ({ cls := "ContractLedger$Reckoner", name := "combine", desc := "(LContractLedger$Whole;LContractLedger$Whole;ILContractLedger$Whole;)V" } : Jvm.MethodName) ({ cls := "ContractLedger$Reckoner", name := "combine", desc := "(LContractLedger$Whole;LContractLedger$Whole;ILContractLedger$Whole;)V" } : Jvm.MethodName)) ∈ lw_all := lw_g (lw_at lw_m11 65 rfl) rfl
theorem q2823 : (Jvm.Cond.code ({ cls := "ContractLedger$Reckoner", name := "combine", desc := "(LContractLedger$Whole;LContractLedger$Whole;ILContractLedger$Whole;)V" } : Jvm.MethodName) prog_14_method_12_code (11 : Nat) (Option.none : Option Jvm.ClassFile.FieldType)) ∈ lw_all := lw_g (lw_at lw_m11 66 rfl) rfl
theorem q2824 : (Jvm.Cond.methodLink "ContractLedger$Reckoner" (112 : Nat) ({ cls := "ContractLedger$Whole", name := "endless", desc := "(IZ)I" } : Jvm.MethodName)) ∈ lw_all := lw_g (lw_at lw_m11 67 rfl) rfl
theorem q2830 : (Jvm.Cond.constant "ContractLedger$Reckoner" (116 : Nat) (32768 : Int32)) ∈ lw_all := lw_g (lw_at lw_m11 73 rfl) rfl
set_option maxRecDepth 100000
abbrev cX21_init : ByteArray := prog_15_method_1_code
def yX21_init : MethodName := ⟨RX21, "<init>", "()V"⟩
theorem dX21_init_0 : decode cX21_init 0 = .ok (.aload_n 0, 1) := by decide +kernel
theorem dX21_init_1 : decode cX21_init 1 = .ok (.invokespecial 1, 3) := by decide +kernel
theorem dX21_init_4 : decode cX21_init 4 = .ok (.return_, 1) := by decide +kernel
theorem q388 : (Jvm.Cond.initialized "ContractLedger$Roots") ∈ lw_all := lw_g (lw_at lw_m1 31 rfl) rfl
theorem q1402 : (Jvm.Cond.instanceMethod ({ cls := "ContractLedger$Roots", name := "<init>", desc := "()V" } : Jvm.MethodName)) ∈ lw_all := lw_g (lw_at lw_m5 85 rfl) rfl
theorem q1403 : (Jvm.Cond.code ({ cls := "ContractLedger$Roots", name := "<init>", desc := "()V" } : Jvm.MethodName) prog_15_method_1_code (1 : Nat) (Option.none : Option Jvm.ClassFile.FieldType)) ∈ lw_all := lw_g (lw_at lw_m5 86 rfl) rfl
theorem q1404 : (Jvm.Cond.methodLink "ContractLedger$Roots" (1 : Nat) ({ cls := "java/lang/Object", name := "<init>", desc := "()V" } : Jvm.MethodName)) ∈ lw_all := lw_g (lw_at lw_m5 87 rfl) rfl
theorem q2345 : (Jvm.Cond.declares ({ cls := "ContractLedger$Roots", name := "keep", desc := "(LContractLedger$Memory;)V" } : Jvm.MethodName)) ∈ lw_tbl := lw_at lw_m9 68 rfl
theorem q2346 : (Jvm.Cond.sameMethod "ContractLedger$Roots" "ContractLedger$Roots" "keep" "(LContractLedger$Memory;)V") ∈ lw_all := lw_g (lw_at lw_m9 69 rfl) rfl

set_option maxRecDepth 100000
set_option maxRecDepth 100000 in
set_option maxRecDepth 100000 in
abbrev cX22_init : ByteArray := prog_5_method_1_code
def yX22_init : MethodName := ⟨RX22, "<init>", "(LContractLedger$Terms;LContractLedger$Types;LContractLedger$Names;LContractLedger$Scripts;LContractLedger$Typer;LContractLedger$Data;LContractLedger$Memory;LContractLedger$Forms;LContractLedger$World;LContractLedger$Failing;LContractLedger$Gas;LContractLedger$Machine;)V"⟩
def dkwX22_init_4 : List UInt8 := [181, 0, 64, 42, 25, 10, 181, 0, 68, 42, 25, 11, 181, 0, 72, 42, 25, 12, 181, 0, 76, 177]
abbrev dktX22_init_4 : List UInt8 := dkwX22_init_4 ++ []
def dkwX22_init_3 : List UInt8 := [181, 0, 48, 42, 25, 6, 181, 0, 52, 42, 25, 7, 181, 0, 56, 42, 25, 8, 181, 0, 60, 42, 25, 9]
abbrev dktX22_init_3 : List UInt8 := dkwX22_init_3 ++ dktX22_init_4
def dkwX22_init_2 : List UInt8 := [42, 43, 181, 0, 32, 42, 44, 181, 0, 36, 42, 45, 181, 0, 40, 42, 25, 4, 181, 0, 44, 42, 25, 5]
abbrev dktX22_init_2 : List UInt8 := dkwX22_init_2 ++ dktX22_init_3
def dkwX22_init_1 : List UInt8 := [181, 0, 18, 42, 2, 181, 0, 22, 42, 16, 80, 188, 10, 181, 0, 25, 42, 16, 80, 188, 10, 181, 0, 29]
abbrev dktX22_init_1 : List UInt8 := dkwX22_init_1 ++ dktX22_init_2
def dkwX22_init_0 : List UInt8 := [42, 183, 0, 3, 42, 17, 64, 0, 188, 8, 181, 0, 9, 42, 17, 64, 16, 188, 8, 181, 0, 15, 42, 2]
abbrev dktX22_init_0 : List UInt8 := dkwX22_init_0 ++ dktX22_init_1
theorem dksX22_init_0 : cX22_init.data.toList.drop 0 = dktX22_init_0 := by decide +kernel
theorem dksX22_init_1 : cX22_init.data.toList.drop 24 = dktX22_init_1 := dk_seg dksX22_init_0 24 rfl rfl
theorem dksX22_init_2 : cX22_init.data.toList.drop 48 = dktX22_init_2 := dk_seg dksX22_init_1 24 rfl rfl
theorem dksX22_init_3 : cX22_init.data.toList.drop 72 = dktX22_init_3 := dk_seg dksX22_init_2 24 rfl rfl
theorem dksX22_init_4 : cX22_init.data.toList.drop 96 = dktX22_init_4 := dk_seg dksX22_init_3 24 rfl rfl
theorem dX22_init_0 : decode cX22_init 0 = .ok (.aload_n 0, 1) := dk_42 (dk_at dksX22_init_0 0 rfl rfl)
theorem dX22_init_1 : decode cX22_init 1 = .ok (.invokespecial 3, 3) := dk_183 0 3 (dk_at dksX22_init_0 1 rfl rfl)
theorem dX22_init_4 : decode cX22_init 4 = .ok (.aload_n 0, 1) := dk_42 (dk_at dksX22_init_0 4 rfl rfl)
theorem dX22_init_5 : decode cX22_init 5 = .ok (.sipush 16384, 3) := dk_17 64 0 (dk_at dksX22_init_0 5 rfl rfl)
theorem dX22_init_8 : decode cX22_init 8 = .ok (.newarray .byte, 2) := dk_188_8 (dk_at dksX22_init_0 8 rfl rfl)
theorem dX22_init_10 : decode cX22_init 10 = .ok (.putfield 9, 3) := dk_181 0 9 (dk_at dksX22_init_0 10 rfl rfl)
theorem dX22_init_13 : decode cX22_init 13 = .ok (.aload_n 0, 1) := dk_42 (dk_at dksX22_init_0 13 rfl rfl)
theorem dX22_init_14 : decode cX22_init 14 = .ok (.sipush 16400, 3) := dk_17 64 16 (dk_at dksX22_init_0 14 rfl rfl)
theorem dX22_init_17 : decode cX22_init 17 = .ok (.newarray .byte, 2) := dk_188_8 (dk_at dksX22_init_0 17 rfl rfl)
theorem dX22_init_19 : decode cX22_init 19 = .ok (.putfield 15, 3) := dk_181 0 15 (dk_at dksX22_init_0 19 rfl rfl)
theorem dX22_init_22 : decode cX22_init 22 = .ok (.aload_n 0, 1) := dk_42 (dk_at dksX22_init_0 22 rfl rfl)
theorem dX22_init_23 : decode cX22_init 23 = .ok (.iconst (-1), 1) := dk_2 (dk_at dksX22_init_0 23 rfl rfl)
theorem dX22_init_24 : decode cX22_init 24 = .ok (.putfield 18, 3) := dk_181 0 18 (dk_at dksX22_init_1 0 rfl rfl)
theorem dX22_init_27 : decode cX22_init 27 = .ok (.aload_n 0, 1) := dk_42 (dk_at dksX22_init_1 3 rfl rfl)
theorem dX22_init_28 : decode cX22_init 28 = .ok (.iconst (-1), 1) := dk_2 (dk_at dksX22_init_1 4 rfl rfl)
theorem dX22_init_29 : decode cX22_init 29 = .ok (.putfield 22, 3) := dk_181 0 22 (dk_at dksX22_init_1 5 rfl rfl)
theorem dX22_init_32 : decode cX22_init 32 = .ok (.aload_n 0, 1) := dk_42 (dk_at dksX22_init_1 8 rfl rfl)
theorem dX22_init_33 : decode cX22_init 33 = .ok (.bipush 80, 2) := dk_16 80 (dk_at dksX22_init_1 9 rfl rfl)
theorem dX22_init_35 : decode cX22_init 35 = .ok (.newarray .int, 2) := dk_188_10 (dk_at dksX22_init_1 11 rfl rfl)
theorem dX22_init_37 : decode cX22_init 37 = .ok (.putfield 25, 3) := dk_181 0 25 (dk_at dksX22_init_1 13 rfl rfl)
theorem dX22_init_40 : decode cX22_init 40 = .ok (.aload_n 0, 1) := dk_42 (dk_at dksX22_init_1 16 rfl rfl)
theorem dX22_init_41 : decode cX22_init 41 = .ok (.bipush 80, 2) := dk_16 80 (dk_at dksX22_init_1 17 rfl rfl)
theorem dX22_init_43 : decode cX22_init 43 = .ok (.newarray .int, 2) := dk_188_10 (dk_at dksX22_init_1 19 rfl rfl)
theorem dX22_init_45 : decode cX22_init 45 = .ok (.putfield 29, 3) := dk_181 0 29 (dk_at dksX22_init_1 21 rfl rfl)
theorem dX22_init_48 : decode cX22_init 48 = .ok (.aload_n 0, 1) := dk_42 (dk_at dksX22_init_2 0 rfl rfl)
theorem dX22_init_49 : decode cX22_init 49 = .ok (.aload_n 1, 1) := dk_43 (dk_at dksX22_init_2 1 rfl rfl)
theorem dX22_init_50 : decode cX22_init 50 = .ok (.putfield 32, 3) := dk_181 0 32 (dk_at dksX22_init_2 2 rfl rfl)
theorem dX22_init_53 : decode cX22_init 53 = .ok (.aload_n 0, 1) := dk_42 (dk_at dksX22_init_2 5 rfl rfl)
theorem dX22_init_54 : decode cX22_init 54 = .ok (.aload_n 2, 1) := dk_44 (dk_at dksX22_init_2 6 rfl rfl)
theorem dX22_init_55 : decode cX22_init 55 = .ok (.putfield 36, 3) := dk_181 0 36 (dk_at dksX22_init_2 7 rfl rfl)
theorem dX22_init_58 : decode cX22_init 58 = .ok (.aload_n 0, 1) := dk_42 (dk_at dksX22_init_2 10 rfl rfl)
theorem dX22_init_59 : decode cX22_init 59 = .ok (.aload_n 3, 1) := dk_45 (dk_at dksX22_init_2 11 rfl rfl)
theorem dX22_init_60 : decode cX22_init 60 = .ok (.putfield 40, 3) := dk_181 0 40 (dk_at dksX22_init_2 12 rfl rfl)
theorem dX22_init_63 : decode cX22_init 63 = .ok (.aload_n 0, 1) := dk_42 (dk_at dksX22_init_2 15 rfl rfl)
theorem dX22_init_64 : decode cX22_init 64 = .ok (.aload 4, 2) := dk_25 4 (dk_at dksX22_init_2 16 rfl rfl)
theorem dX22_init_66 : decode cX22_init 66 = .ok (.putfield 44, 3) := dk_181 0 44 (dk_at dksX22_init_2 18 rfl rfl)
theorem dX22_init_69 : decode cX22_init 69 = .ok (.aload_n 0, 1) := dk_42 (dk_at dksX22_init_2 21 rfl rfl)
theorem dX22_init_70 : decode cX22_init 70 = .ok (.aload 5, 2) := dk_25 5 (dk_at dksX22_init_2 22 rfl rfl)
theorem dX22_init_72 : decode cX22_init 72 = .ok (.putfield 48, 3) := dk_181 0 48 (dk_at dksX22_init_3 0 rfl rfl)
theorem dX22_init_75 : decode cX22_init 75 = .ok (.aload_n 0, 1) := dk_42 (dk_at dksX22_init_3 3 rfl rfl)
theorem dX22_init_76 : decode cX22_init 76 = .ok (.aload 6, 2) := dk_25 6 (dk_at dksX22_init_3 4 rfl rfl)
theorem dX22_init_78 : decode cX22_init 78 = .ok (.putfield 52, 3) := dk_181 0 52 (dk_at dksX22_init_3 6 rfl rfl)
theorem dX22_init_81 : decode cX22_init 81 = .ok (.aload_n 0, 1) := dk_42 (dk_at dksX22_init_3 9 rfl rfl)
theorem dX22_init_82 : decode cX22_init 82 = .ok (.aload 7, 2) := dk_25 7 (dk_at dksX22_init_3 10 rfl rfl)
theorem dX22_init_84 : decode cX22_init 84 = .ok (.putfield 56, 3) := dk_181 0 56 (dk_at dksX22_init_3 12 rfl rfl)
theorem dX22_init_87 : decode cX22_init 87 = .ok (.aload_n 0, 1) := dk_42 (dk_at dksX22_init_3 15 rfl rfl)
theorem dX22_init_88 : decode cX22_init 88 = .ok (.aload 8, 2) := dk_25 8 (dk_at dksX22_init_3 16 rfl rfl)
theorem dX22_init_90 : decode cX22_init 90 = .ok (.putfield 60, 3) := dk_181 0 60 (dk_at dksX22_init_3 18 rfl rfl)
theorem dX22_init_93 : decode cX22_init 93 = .ok (.aload_n 0, 1) := dk_42 (dk_at dksX22_init_3 21 rfl rfl)
theorem dX22_init_94 : decode cX22_init 94 = .ok (.aload 9, 2) := dk_25 9 (dk_at dksX22_init_3 22 rfl rfl)
theorem dX22_init_96 : decode cX22_init 96 = .ok (.putfield 64, 3) := dk_181 0 64 (dk_at dksX22_init_4 0 rfl rfl)
theorem dX22_init_99 : decode cX22_init 99 = .ok (.aload_n 0, 1) := dk_42 (dk_at dksX22_init_4 3 rfl rfl)
theorem dX22_init_100 : decode cX22_init 100 = .ok (.aload 10, 2) := dk_25 10 (dk_at dksX22_init_4 4 rfl rfl)
theorem dX22_init_102 : decode cX22_init 102 = .ok (.putfield 68, 3) := dk_181 0 68 (dk_at dksX22_init_4 6 rfl rfl)
theorem dX22_init_105 : decode cX22_init 105 = .ok (.aload_n 0, 1) := dk_42 (dk_at dksX22_init_4 9 rfl rfl)
theorem dX22_init_106 : decode cX22_init 106 = .ok (.aload 11, 2) := dk_25 11 (dk_at dksX22_init_4 10 rfl rfl)
theorem dX22_init_108 : decode cX22_init 108 = .ok (.putfield 72, 3) := dk_181 0 72 (dk_at dksX22_init_4 12 rfl rfl)
theorem dX22_init_111 : decode cX22_init 111 = .ok (.aload_n 0, 1) := dk_42 (dk_at dksX22_init_4 15 rfl rfl)
theorem dX22_init_112 : decode cX22_init 112 = .ok (.aload 12, 2) := dk_25 12 (dk_at dksX22_init_4 16 rfl rfl)
theorem dX22_init_114 : decode cX22_init 114 = .ok (.putfield 76, 3) := dk_181 0 76 (dk_at dksX22_init_4 18 rfl rfl)
theorem dX22_init_117 : decode cX22_init 117 = .ok (.return_, 1) := dk_177 (dk_at dksX22_init_4 21 rfl rfl)
abbrev cX22_mark : ByteArray := prog_5_method_3_code
def yX22_mark : MethodName := ⟨RX22, "mark", "()V"⟩
def dkwX22_mark_2 : List UInt8 := [180, 0, 44, 180, 0, 112, 181, 0, 115, 42, 42, 180, 0, 56, 182, 0, 118, 181, 0, 124, 177]
abbrev dktX22_mark_2 : List UInt8 := dkwX22_mark_2 ++ []
def dkwX22_mark_1 : List UInt8 := [180, 0, 44, 180, 0, 100, 181, 0, 103, 42, 42, 180, 0, 44, 180, 0, 106, 181, 0, 109, 42, 42]
abbrev dktX22_mark_1 : List UInt8 := dkwX22_mark_1 ++ dktX22_mark_2
def dkwX22_mark_0 : List UInt8 := [42, 42, 180, 0, 36, 180, 0, 86, 181, 0, 91, 42, 42, 180, 0, 40, 180, 0, 94, 181, 0, 97, 42, 42]
abbrev dktX22_mark_0 : List UInt8 := dkwX22_mark_0 ++ dktX22_mark_1
theorem dksX22_mark_0 : cX22_mark.data.toList.drop 0 = dktX22_mark_0 := by decide +kernel
theorem dksX22_mark_1 : cX22_mark.data.toList.drop 24 = dktX22_mark_1 := dk_seg dksX22_mark_0 24 rfl rfl
theorem dksX22_mark_2 : cX22_mark.data.toList.drop 46 = dktX22_mark_2 := dk_seg dksX22_mark_1 22 rfl rfl
theorem dX22_mark_0 : decode cX22_mark 0 = .ok (.aload_n 0, 1) := dk_42 (dk_at dksX22_mark_0 0 rfl rfl)
theorem dX22_mark_1 : decode cX22_mark 1 = .ok (.aload_n 0, 1) := dk_42 (dk_at dksX22_mark_0 1 rfl rfl)
theorem dX22_mark_2 : decode cX22_mark 2 = .ok (.getfield 36, 3) := dk_180 0 36 (dk_at dksX22_mark_0 2 rfl rfl)
theorem dX22_mark_5 : decode cX22_mark 5 = .ok (.getfield 86, 3) := dk_180 0 86 (dk_at dksX22_mark_0 5 rfl rfl)
theorem dX22_mark_8 : decode cX22_mark 8 = .ok (.putfield 91, 3) := dk_181 0 91 (dk_at dksX22_mark_0 8 rfl rfl)
theorem dX22_mark_11 : decode cX22_mark 11 = .ok (.aload_n 0, 1) := dk_42 (dk_at dksX22_mark_0 11 rfl rfl)
theorem dX22_mark_12 : decode cX22_mark 12 = .ok (.aload_n 0, 1) := dk_42 (dk_at dksX22_mark_0 12 rfl rfl)
theorem dX22_mark_13 : decode cX22_mark 13 = .ok (.getfield 40, 3) := dk_180 0 40 (dk_at dksX22_mark_0 13 rfl rfl)
theorem dX22_mark_16 : decode cX22_mark 16 = .ok (.getfield 94, 3) := dk_180 0 94 (dk_at dksX22_mark_0 16 rfl rfl)
theorem dX22_mark_19 : decode cX22_mark 19 = .ok (.putfield 97, 3) := dk_181 0 97 (dk_at dksX22_mark_0 19 rfl rfl)
theorem dX22_mark_22 : decode cX22_mark 22 = .ok (.aload_n 0, 1) := dk_42 (dk_at dksX22_mark_0 22 rfl rfl)
theorem dX22_mark_23 : decode cX22_mark 23 = .ok (.aload_n 0, 1) := dk_42 (dk_at dksX22_mark_0 23 rfl rfl)
theorem dX22_mark_24 : decode cX22_mark 24 = .ok (.getfield 44, 3) := dk_180 0 44 (dk_at dksX22_mark_1 0 rfl rfl)
theorem dX22_mark_27 : decode cX22_mark 27 = .ok (.getfield 100, 3) := dk_180 0 100 (dk_at dksX22_mark_1 3 rfl rfl)
theorem dX22_mark_30 : decode cX22_mark 30 = .ok (.putfield 103, 3) := dk_181 0 103 (dk_at dksX22_mark_1 6 rfl rfl)
theorem dX22_mark_33 : decode cX22_mark 33 = .ok (.aload_n 0, 1) := dk_42 (dk_at dksX22_mark_1 9 rfl rfl)
theorem dX22_mark_34 : decode cX22_mark 34 = .ok (.aload_n 0, 1) := dk_42 (dk_at dksX22_mark_1 10 rfl rfl)
theorem dX22_mark_35 : decode cX22_mark 35 = .ok (.getfield 44, 3) := dk_180 0 44 (dk_at dksX22_mark_1 11 rfl rfl)
theorem dX22_mark_38 : decode cX22_mark 38 = .ok (.getfield 106, 3) := dk_180 0 106 (dk_at dksX22_mark_1 14 rfl rfl)
theorem dX22_mark_41 : decode cX22_mark 41 = .ok (.putfield 109, 3) := dk_181 0 109 (dk_at dksX22_mark_1 17 rfl rfl)
theorem dX22_mark_44 : decode cX22_mark 44 = .ok (.aload_n 0, 1) := dk_42 (dk_at dksX22_mark_1 20 rfl rfl)
theorem dX22_mark_45 : decode cX22_mark 45 = .ok (.aload_n 0, 1) := dk_42 (dk_at dksX22_mark_1 21 rfl rfl)
theorem dX22_mark_46 : decode cX22_mark 46 = .ok (.getfield 44, 3) := dk_180 0 44 (dk_at dksX22_mark_2 0 rfl rfl)
theorem dX22_mark_49 : decode cX22_mark 49 = .ok (.getfield 112, 3) := dk_180 0 112 (dk_at dksX22_mark_2 3 rfl rfl)
theorem dX22_mark_52 : decode cX22_mark 52 = .ok (.putfield 115, 3) := dk_181 0 115 (dk_at dksX22_mark_2 6 rfl rfl)
theorem dX22_mark_55 : decode cX22_mark 55 = .ok (.aload_n 0, 1) := dk_42 (dk_at dksX22_mark_2 9 rfl rfl)
theorem dX22_mark_56 : decode cX22_mark 56 = .ok (.aload_n 0, 1) := dk_42 (dk_at dksX22_mark_2 10 rfl rfl)
theorem dX22_mark_57 : decode cX22_mark 57 = .ok (.getfield 56, 3) := dk_180 0 56 (dk_at dksX22_mark_2 11 rfl rfl)
theorem dX22_mark_60 : decode cX22_mark 60 = .ok (.invokevirtual 118, 3) := dk_182 0 118 (dk_at dksX22_mark_2 14 rfl rfl)
theorem dX22_mark_63 : decode cX22_mark 63 = .ok (.putfield 124, 3) := dk_181 0 124 (dk_at dksX22_mark_2 17 rfl rfl)
theorem dX22_mark_66 : decode cX22_mark 66 = .ok (.return_, 1) := dk_177 (dk_at dksX22_mark_2 20 rfl rfl)
abbrev cX22_drop : ByteArray := prog_5_method_4_code
def yX22_drop : MethodName := ⟨RX22, "drop", "()V"⟩
def dkwX22_drop_2 : List UInt8 := [180, 0, 124, 182, 0, 134, 42, 180, 0, 56, 3, 181, 0, 137, 177]
abbrev dktX22_drop_2 : List UInt8 := dkwX22_drop_2 ++ []
def dkwX22_drop_1 : List UInt8 := [180, 0, 44, 42, 180, 0, 103, 42, 180, 0, 109, 42, 180, 0, 115, 182, 0, 131, 42, 180, 0, 56, 42]
abbrev dktX22_drop_1 : List UInt8 := dkwX22_drop_1 ++ dktX22_drop_2
def dkwX22_drop_0 : List UInt8 := [42, 180, 0, 36, 42, 180, 0, 91, 182, 0, 127, 42, 180, 0, 40, 42, 180, 0, 97, 181, 0, 94, 42]
abbrev dktX22_drop_0 : List UInt8 := dkwX22_drop_0 ++ dktX22_drop_1
theorem dksX22_drop_0 : cX22_drop.data.toList.drop 0 = dktX22_drop_0 := by decide +kernel
theorem dksX22_drop_1 : cX22_drop.data.toList.drop 23 = dktX22_drop_1 := dk_seg dksX22_drop_0 23 rfl rfl
theorem dksX22_drop_2 : cX22_drop.data.toList.drop 46 = dktX22_drop_2 := dk_seg dksX22_drop_1 23 rfl rfl
theorem dX22_drop_0 : decode cX22_drop 0 = .ok (.aload_n 0, 1) := dk_42 (dk_at dksX22_drop_0 0 rfl rfl)
theorem dX22_drop_1 : decode cX22_drop 1 = .ok (.getfield 36, 3) := dk_180 0 36 (dk_at dksX22_drop_0 1 rfl rfl)
theorem dX22_drop_4 : decode cX22_drop 4 = .ok (.aload_n 0, 1) := dk_42 (dk_at dksX22_drop_0 4 rfl rfl)
theorem dX22_drop_5 : decode cX22_drop 5 = .ok (.getfield 91, 3) := dk_180 0 91 (dk_at dksX22_drop_0 5 rfl rfl)
theorem dX22_drop_8 : decode cX22_drop 8 = .ok (.invokevirtual 127, 3) := dk_182 0 127 (dk_at dksX22_drop_0 8 rfl rfl)
theorem dX22_drop_11 : decode cX22_drop 11 = .ok (.aload_n 0, 1) := dk_42 (dk_at dksX22_drop_0 11 rfl rfl)
theorem dX22_drop_12 : decode cX22_drop 12 = .ok (.getfield 40, 3) := dk_180 0 40 (dk_at dksX22_drop_0 12 rfl rfl)
theorem dX22_drop_15 : decode cX22_drop 15 = .ok (.aload_n 0, 1) := dk_42 (dk_at dksX22_drop_0 15 rfl rfl)
theorem dX22_drop_16 : decode cX22_drop 16 = .ok (.getfield 97, 3) := dk_180 0 97 (dk_at dksX22_drop_0 16 rfl rfl)
theorem dX22_drop_19 : decode cX22_drop 19 = .ok (.putfield 94, 3) := dk_181 0 94 (dk_at dksX22_drop_0 19 rfl rfl)
theorem dX22_drop_22 : decode cX22_drop 22 = .ok (.aload_n 0, 1) := dk_42 (dk_at dksX22_drop_0 22 rfl rfl)
theorem dX22_drop_23 : decode cX22_drop 23 = .ok (.getfield 44, 3) := dk_180 0 44 (dk_at dksX22_drop_1 0 rfl rfl)
theorem dX22_drop_26 : decode cX22_drop 26 = .ok (.aload_n 0, 1) := dk_42 (dk_at dksX22_drop_1 3 rfl rfl)
theorem dX22_drop_27 : decode cX22_drop 27 = .ok (.getfield 103, 3) := dk_180 0 103 (dk_at dksX22_drop_1 4 rfl rfl)
theorem dX22_drop_30 : decode cX22_drop 30 = .ok (.aload_n 0, 1) := dk_42 (dk_at dksX22_drop_1 7 rfl rfl)
theorem dX22_drop_31 : decode cX22_drop 31 = .ok (.getfield 109, 3) := dk_180 0 109 (dk_at dksX22_drop_1 8 rfl rfl)
theorem dX22_drop_34 : decode cX22_drop 34 = .ok (.aload_n 0, 1) := dk_42 (dk_at dksX22_drop_1 11 rfl rfl)
theorem dX22_drop_35 : decode cX22_drop 35 = .ok (.getfield 115, 3) := dk_180 0 115 (dk_at dksX22_drop_1 12 rfl rfl)
theorem dX22_drop_38 : decode cX22_drop 38 = .ok (.invokevirtual 131, 3) := dk_182 0 131 (dk_at dksX22_drop_1 15 rfl rfl)
theorem dX22_drop_41 : decode cX22_drop 41 = .ok (.aload_n 0, 1) := dk_42 (dk_at dksX22_drop_1 18 rfl rfl)
theorem dX22_drop_42 : decode cX22_drop 42 = .ok (.getfield 56, 3) := dk_180 0 56 (dk_at dksX22_drop_1 19 rfl rfl)
theorem dX22_drop_45 : decode cX22_drop 45 = .ok (.aload_n 0, 1) := dk_42 (dk_at dksX22_drop_1 22 rfl rfl)
theorem dX22_drop_46 : decode cX22_drop 46 = .ok (.getfield 124, 3) := dk_180 0 124 (dk_at dksX22_drop_2 0 rfl rfl)
theorem dX22_drop_49 : decode cX22_drop 49 = .ok (.invokevirtual 134, 3) := dk_182 0 134 (dk_at dksX22_drop_2 3 rfl rfl)
theorem dX22_drop_52 : decode cX22_drop 52 = .ok (.aload_n 0, 1) := dk_42 (dk_at dksX22_drop_2 6 rfl rfl)
theorem dX22_drop_53 : decode cX22_drop 53 = .ok (.getfield 56, 3) := dk_180 0 56 (dk_at dksX22_drop_2 7 rfl rfl)
theorem dX22_drop_56 : decode cX22_drop 56 = .ok (.iconst 0, 1) := dk_3 (dk_at dksX22_drop_2 10 rfl rfl)
theorem dX22_drop_57 : decode cX22_drop 57 = .ok (.putfield 137, 3) := dk_181 0 137 (dk_at dksX22_drop_2 11 rfl rfl)
theorem dX22_drop_60 : decode cX22_drop 60 = .ok (.return_, 1) := dk_177 (dk_at dksX22_drop_2 14 rfl rfl)
abbrev cX22_tidy : ByteArray := prog_5_method_5_code
def yX22_tidy : MethodName := ⟨RX22, "tidy", "()V"⟩
def dkwX22_tidy_0 : List UInt8 := [42, 180, 0, 56, 18, 141, 42, 182, 0, 142, 177]
abbrev dktX22_tidy_0 : List UInt8 := dkwX22_tidy_0 ++ []
theorem dksX22_tidy_0 : cX22_tidy.data.toList.drop 0 = dktX22_tidy_0 := by decide +kernel
theorem dX22_tidy_0 : decode cX22_tidy 0 = .ok (.aload_n 0, 1) := dk_42 (dk_at dksX22_tidy_0 0 rfl rfl)
theorem dX22_tidy_1 : decode cX22_tidy 1 = .ok (.getfield 56, 3) := dk_180 0 56 (dk_at dksX22_tidy_0 1 rfl rfl)
theorem dX22_tidy_4 : decode cX22_tidy 4 = .ok (.ldc 141, 2) := dk_18 141 (dk_at dksX22_tidy_0 4 rfl rfl)
theorem dX22_tidy_6 : decode cX22_tidy 6 = .ok (.aload_n 0, 1) := dk_42 (dk_at dksX22_tidy_0 6 rfl rfl)
theorem dX22_tidy_7 : decode cX22_tidy 7 = .ok (.invokevirtual 142, 3) := dk_182 0 142 (dk_at dksX22_tidy_0 7 rfl rfl)
theorem dX22_tidy_10 : decode cX22_tidy 10 = .ok (.return_, 1) := dk_177 (dk_at dksX22_tidy_0 10 rfl rfl)
abbrev cX22_keep : ByteArray := prog_5_method_2_code
def yX22_keep : MethodName := ⟨RX22, "keep", "(LContractLedger$Memory;)V"⟩
def dkwX22_keep_0 : List UInt8 := [42, 180, 0, 64, 43, 182, 0, 80, 177]
abbrev dktX22_keep_0 : List UInt8 := dkwX22_keep_0 ++ []
theorem dksX22_keep_0 : cX22_keep.data.toList.drop 0 = dktX22_keep_0 := by decide +kernel
theorem dX22_keep_0 : decode cX22_keep 0 = .ok (.aload_n 0, 1) := dk_42 (dk_at dksX22_keep_0 0 rfl rfl)
theorem dX22_keep_1 : decode cX22_keep 1 = .ok (.getfield 64, 3) := dk_180 0 64 (dk_at dksX22_keep_0 1 rfl rfl)
theorem dX22_keep_4 : decode cX22_keep 4 = .ok (.aload_n 1, 1) := dk_43 (dk_at dksX22_keep_0 4 rfl rfl)
theorem dX22_keep_5 : decode cX22_keep 5 = .ok (.invokevirtual 80, 3) := dk_182 0 80 (dk_at dksX22_keep_0 5 rfl rfl)
theorem dX22_keep_8 : decode cX22_keep 8 = .ok (.return_, 1) := dk_177 (dk_at dksX22_keep_0 8 rfl rfl)
abbrev cX22_run : ByteArray := prog_5_method_6_code
def yX22_run : MethodName := ⟨RX22, "run", "(ILContractLedger$Content;[BLContractLedger$Receipt;)V"⟩
def dkwX22_run_6 : List UInt8 := [182, 0, 206, 181, 0, 209, 177]
abbrev dktX22_run_6 : List UInt8 := dkwX22_run_6 ++ []
def dkwX22_run_5 : List UInt8 := [25, 4, 42, 180, 0, 68, 180, 0, 180, 181, 0, 202, 42, 182, 0, 203, 25, 4, 42, 180, 0, 72]
abbrev dktX22_run_5 : List UInt8 := dkwX22_run_5 ++ dktX22_run_6
def dkwX22_run_4 : List UInt8 := [180, 0, 185, 158, 0, 10, 42, 182, 0, 197, 167, 255, 245, 167, 0, 27, 58, 5, 25, 4, 4, 181, 0, 193]
abbrev dktX22_run_4 : List UInt8 := dkwX22_run_4 ++ dktX22_run_5
def dkwX22_run_3 : List UInt8 := [182, 0, 188, 25, 4, 3, 181, 0, 193, 42, 44, 180, 0, 162, 44, 180, 0, 157, 100, 182, 0, 196, 42]
abbrev dktX22_run_3 : List UInt8 := dkwX22_run_3 ++ dktX22_run_4
def dkwX22_run_2 : List UInt8 := [44, 180, 0, 173, 182, 0, 175, 42, 180, 0, 68, 3, 181, 0, 180, 42, 3, 181, 0, 185, 25, 4]
abbrev dktX22_run_2 : List UInt8 := dkwX22_run_2 ++ dktX22_run_3
def dkwX22_run_1 : List UInt8 := [180, 0, 9, 3, 44, 180, 0, 162, 44, 180, 0, 157, 100, 184, 0, 165, 42, 182, 0, 171, 42, 180, 0, 72]
abbrev dktX22_run_1 : List UInt8 := dkwX22_run_1 ++ dktX22_run_2
def dkwX22_run_0 : List UInt8 := [42, 27, 181, 0, 146, 42, 44, 181, 0, 149, 42, 25, 4, 181, 0, 153, 45, 44, 180, 0, 157, 42]
abbrev dktX22_run_0 : List UInt8 := dkwX22_run_0 ++ dktX22_run_1
theorem dksX22_run_0 : cX22_run.data.toList.drop 0 = dktX22_run_0 := by decide +kernel
theorem dksX22_run_1 : cX22_run.data.toList.drop 22 = dktX22_run_1 := dk_seg dksX22_run_0 22 rfl rfl
theorem dksX22_run_2 : cX22_run.data.toList.drop 46 = dktX22_run_2 := dk_seg dksX22_run_1 24 rfl rfl
theorem dksX22_run_3 : cX22_run.data.toList.drop 68 = dktX22_run_3 := dk_seg dksX22_run_2 22 rfl rfl
theorem dksX22_run_4 : cX22_run.data.toList.drop 91 = dktX22_run_4 := dk_seg dksX22_run_3 23 rfl rfl
theorem dksX22_run_5 : cX22_run.data.toList.drop 115 = dktX22_run_5 := dk_seg dksX22_run_4 24 rfl rfl
theorem dksX22_run_6 : cX22_run.data.toList.drop 137 = dktX22_run_6 := dk_seg dksX22_run_5 22 rfl rfl
theorem dX22_run_0 : decode cX22_run 0 = .ok (.aload_n 0, 1) := dk_42 (dk_at dksX22_run_0 0 rfl rfl)
theorem dX22_run_1 : decode cX22_run 1 = .ok (.iload_n 1, 1) := dk_27 (dk_at dksX22_run_0 1 rfl rfl)
theorem dX22_run_2 : decode cX22_run 2 = .ok (.putfield 146, 3) := dk_181 0 146 (dk_at dksX22_run_0 2 rfl rfl)
theorem dX22_run_5 : decode cX22_run 5 = .ok (.aload_n 0, 1) := dk_42 (dk_at dksX22_run_0 5 rfl rfl)
theorem dX22_run_6 : decode cX22_run 6 = .ok (.aload_n 2, 1) := dk_44 (dk_at dksX22_run_0 6 rfl rfl)
theorem dX22_run_7 : decode cX22_run 7 = .ok (.putfield 149, 3) := dk_181 0 149 (dk_at dksX22_run_0 7 rfl rfl)
theorem dX22_run_10 : decode cX22_run 10 = .ok (.aload_n 0, 1) := dk_42 (dk_at dksX22_run_0 10 rfl rfl)
theorem dX22_run_11 : decode cX22_run 11 = .ok (.aload 4, 2) := dk_25 4 (dk_at dksX22_run_0 11 rfl rfl)
theorem dX22_run_13 : decode cX22_run 13 = .ok (.putfield 153, 3) := dk_181 0 153 (dk_at dksX22_run_0 13 rfl rfl)
theorem dX22_run_16 : decode cX22_run 16 = .ok (.aload_n 3, 1) := dk_45 (dk_at dksX22_run_0 16 rfl rfl)
theorem dX22_run_17 : decode cX22_run 17 = .ok (.aload_n 2, 1) := dk_44 (dk_at dksX22_run_0 17 rfl rfl)
theorem dX22_run_18 : decode cX22_run 18 = .ok (.getfield 157, 3) := dk_180 0 157 (dk_at dksX22_run_0 18 rfl rfl)
theorem dX22_run_21 : decode cX22_run 21 = .ok (.aload_n 0, 1) := dk_42 (dk_at dksX22_run_0 21 rfl rfl)
theorem dX22_run_22 : decode cX22_run 22 = .ok (.getfield 9, 3) := dk_180 0 9 (dk_at dksX22_run_1 0 rfl rfl)
theorem dX22_run_25 : decode cX22_run 25 = .ok (.iconst 0, 1) := dk_3 (dk_at dksX22_run_1 3 rfl rfl)
theorem dX22_run_26 : decode cX22_run 26 = .ok (.aload_n 2, 1) := dk_44 (dk_at dksX22_run_1 4 rfl rfl)
theorem dX22_run_27 : decode cX22_run 27 = .ok (.getfield 162, 3) := dk_180 0 162 (dk_at dksX22_run_1 5 rfl rfl)
theorem dX22_run_30 : decode cX22_run 30 = .ok (.aload_n 2, 1) := dk_44 (dk_at dksX22_run_1 8 rfl rfl)
theorem dX22_run_31 : decode cX22_run 31 = .ok (.getfield 157, 3) := dk_180 0 157 (dk_at dksX22_run_1 9 rfl rfl)
theorem dX22_run_34 : decode cX22_run 34 = .ok (.isub, 1) := dk_100 (dk_at dksX22_run_1 12 rfl rfl)
theorem dX22_run_35 : decode cX22_run 35 = .ok (.invokestatic 165, 3) := dk_184 0 165 (dk_at dksX22_run_1 13 rfl rfl)
theorem dX22_run_38 : decode cX22_run 38 = .ok (.aload_n 0, 1) := dk_42 (dk_at dksX22_run_1 16 rfl rfl)
theorem dX22_run_39 : decode cX22_run 39 = .ok (.invokevirtual 171, 3) := dk_182 0 171 (dk_at dksX22_run_1 17 rfl rfl)
theorem dX22_run_42 : decode cX22_run 42 = .ok (.aload_n 0, 1) := dk_42 (dk_at dksX22_run_1 20 rfl rfl)
theorem dX22_run_43 : decode cX22_run 43 = .ok (.getfield 72, 3) := dk_180 0 72 (dk_at dksX22_run_1 21 rfl rfl)
theorem dX22_run_46 : decode cX22_run 46 = .ok (.aload_n 2, 1) := dk_44 (dk_at dksX22_run_2 0 rfl rfl)
theorem dX22_run_47 : decode cX22_run 47 = .ok (.getfield 173, 3) := dk_180 0 173 (dk_at dksX22_run_2 1 rfl rfl)
theorem dX22_run_50 : decode cX22_run 50 = .ok (.invokevirtual 175, 3) := dk_182 0 175 (dk_at dksX22_run_2 4 rfl rfl)
theorem dX22_run_53 : decode cX22_run 53 = .ok (.aload_n 0, 1) := dk_42 (dk_at dksX22_run_2 7 rfl rfl)
theorem dX22_run_54 : decode cX22_run 54 = .ok (.getfield 68, 3) := dk_180 0 68 (dk_at dksX22_run_2 8 rfl rfl)
theorem dX22_run_57 : decode cX22_run 57 = .ok (.iconst 0, 1) := dk_3 (dk_at dksX22_run_2 11 rfl rfl)
theorem dX22_run_58 : decode cX22_run 58 = .ok (.putfield 180, 3) := dk_181 0 180 (dk_at dksX22_run_2 12 rfl rfl)
theorem dX22_run_61 : decode cX22_run 61 = .ok (.aload_n 0, 1) := dk_42 (dk_at dksX22_run_2 15 rfl rfl)
theorem dX22_run_62 : decode cX22_run 62 = .ok (.iconst 0, 1) := dk_3 (dk_at dksX22_run_2 16 rfl rfl)
theorem dX22_run_63 : decode cX22_run 63 = .ok (.putfield 185, 3) := dk_181 0 185 (dk_at dksX22_run_2 17 rfl rfl)
theorem dX22_run_66 : decode cX22_run 66 = .ok (.aload 4, 2) := dk_25 4 (dk_at dksX22_run_2 20 rfl rfl)
theorem dX22_run_68 : decode cX22_run 68 = .ok (.invokevirtual 188, 3) := dk_182 0 188 (dk_at dksX22_run_3 0 rfl rfl)
theorem dX22_run_71 : decode cX22_run 71 = .ok (.aload 4, 2) := dk_25 4 (dk_at dksX22_run_3 3 rfl rfl)
theorem dX22_run_73 : decode cX22_run 73 = .ok (.iconst 0, 1) := dk_3 (dk_at dksX22_run_3 5 rfl rfl)
theorem dX22_run_74 : decode cX22_run 74 = .ok (.putfield 193, 3) := dk_181 0 193 (dk_at dksX22_run_3 6 rfl rfl)
theorem dX22_run_77 : decode cX22_run 77 = .ok (.aload_n 0, 1) := dk_42 (dk_at dksX22_run_3 9 rfl rfl)
theorem dX22_run_78 : decode cX22_run 78 = .ok (.aload_n 2, 1) := dk_44 (dk_at dksX22_run_3 10 rfl rfl)
theorem dX22_run_79 : decode cX22_run 79 = .ok (.getfield 162, 3) := dk_180 0 162 (dk_at dksX22_run_3 11 rfl rfl)
theorem dX22_run_82 : decode cX22_run 82 = .ok (.aload_n 2, 1) := dk_44 (dk_at dksX22_run_3 14 rfl rfl)
theorem dX22_run_83 : decode cX22_run 83 = .ok (.getfield 157, 3) := dk_180 0 157 (dk_at dksX22_run_3 15 rfl rfl)
theorem dX22_run_86 : decode cX22_run 86 = .ok (.isub, 1) := dk_100 (dk_at dksX22_run_3 18 rfl rfl)
theorem dX22_run_87 : decode cX22_run 87 = .ok (.invokevirtual 196, 3) := dk_182 0 196 (dk_at dksX22_run_3 19 rfl rfl)
theorem dX22_run_90 : decode cX22_run 90 = .ok (.aload_n 0, 1) := dk_42 (dk_at dksX22_run_3 22 rfl rfl)
theorem dX22_run_91 : decode cX22_run 91 = .ok (.getfield 185, 3) := dk_180 0 185 (dk_at dksX22_run_4 0 rfl rfl)
theorem dX22_run_94 : decode cX22_run 94 = .ok (.ifCond .le 10, 3) := dk_158 0 10 (dk_at dksX22_run_4 3 rfl rfl)
theorem dX22_run_97 : decode cX22_run 97 = .ok (.aload_n 0, 1) := dk_42 (dk_at dksX22_run_4 6 rfl rfl)
theorem dX22_run_98 : decode cX22_run 98 = .ok (.invokevirtual 197, 3) := dk_182 0 197 (dk_at dksX22_run_4 7 rfl rfl)
theorem dX22_run_101 : decode cX22_run 101 = .ok (.goto (-11), 3) := dk_167 255 245 (dk_at dksX22_run_4 10 rfl rfl)
theorem dX22_run_104 : decode cX22_run 104 = .ok (.goto 27, 3) := dk_167 0 27 (dk_at dksX22_run_4 13 rfl rfl)
theorem dX22_run_107 : decode cX22_run 107 = .ok (.astore 5, 2) := dk_58 5 (dk_at dksX22_run_4 16 rfl rfl)
theorem dX22_run_109 : decode cX22_run 109 = .ok (.aload 4, 2) := dk_25 4 (dk_at dksX22_run_4 18 rfl rfl)
theorem dX22_run_111 : decode cX22_run 111 = .ok (.iconst 1, 1) := dk_4 (dk_at dksX22_run_4 20 rfl rfl)
theorem dX22_run_112 : decode cX22_run 112 = .ok (.putfield 193, 3) := dk_181 0 193 (dk_at dksX22_run_4 21 rfl rfl)
theorem dX22_run_115 : decode cX22_run 115 = .ok (.aload 4, 2) := dk_25 4 (dk_at dksX22_run_5 0 rfl rfl)
theorem dX22_run_117 : decode cX22_run 117 = .ok (.aload_n 0, 1) := dk_42 (dk_at dksX22_run_5 2 rfl rfl)
theorem dX22_run_118 : decode cX22_run 118 = .ok (.getfield 68, 3) := dk_180 0 68 (dk_at dksX22_run_5 3 rfl rfl)
theorem dX22_run_121 : decode cX22_run 121 = .ok (.getfield 180, 3) := dk_180 0 180 (dk_at dksX22_run_5 6 rfl rfl)
theorem dX22_run_124 : decode cX22_run 124 = .ok (.putfield 202, 3) := dk_181 0 202 (dk_at dksX22_run_5 9 rfl rfl)
theorem dX22_run_127 : decode cX22_run 127 = .ok (.aload_n 0, 1) := dk_42 (dk_at dksX22_run_5 12 rfl rfl)
theorem dX22_run_128 : decode cX22_run 128 = .ok (.invokevirtual 203, 3) := dk_182 0 203 (dk_at dksX22_run_5 13 rfl rfl)
theorem dX22_run_131 : decode cX22_run 131 = .ok (.aload 4, 2) := dk_25 4 (dk_at dksX22_run_5 16 rfl rfl)
theorem dX22_run_133 : decode cX22_run 133 = .ok (.aload_n 0, 1) := dk_42 (dk_at dksX22_run_5 18 rfl rfl)
theorem dX22_run_134 : decode cX22_run 134 = .ok (.getfield 72, 3) := dk_180 0 72 (dk_at dksX22_run_5 19 rfl rfl)
theorem dX22_run_137 : decode cX22_run 137 = .ok (.invokevirtual 206, 3) := dk_182 0 206 (dk_at dksX22_run_6 0 rfl rfl)
theorem dX22_run_140 : decode cX22_run 140 = .ok (.putfield 209, 3) := dk_181 0 209 (dk_at dksX22_run_6 3 rfl rfl)
theorem dX22_run_143 : decode cX22_run 143 = .ok (.return_, 1) := dk_177 (dk_at dksX22_run_6 6 rfl rfl)
abbrev cX22_begin : ByteArray := prog_5_method_8_code
def yX22_begin : MethodName := ⟨RX22, "begin", "(I)V"⟩
def dkwX22_begin_13 : List UInt8 := [180, 0, 149, 180, 1, 28, 21, 7, 182, 1, 41, 177]
abbrev dktX22_begin_13 : List UInt8 := dkwX22_begin_13 ++ []
def dkwX22_begin_12 : List UInt8 := [153, 0, 7, 4, 167, 0, 4, 3, 16, 7, 182, 1, 0, 42, 42, 180, 0, 146, 21, 4, 21, 6, 42]
abbrev dktX22_begin_12 : List UInt8 := dkwX22_begin_12 ++ dktX22_begin_13
def dkwX22_begin_11 : List UInt8 := [167, 0, 13, 42, 180, 0, 44, 180, 1, 37, 21, 6, 46, 182, 1, 39, 54, 7, 42, 180, 0, 68, 21, 7]
abbrev dktX22_begin_11 : List UInt8 := dkwX22_begin_11 ++ dktX22_begin_12
def dkwX22_begin_10 : List UInt8 := [42, 21, 4, 21, 5, 182, 1, 32, 54, 6, 42, 180, 0, 52, 29, 21, 4, 16, 100, 162, 0, 7, 3]
abbrev dktX22_begin_10 : List UInt8 := dkwX22_begin_10 ++ dktX22_begin_11
def dkwX22_begin_9 : List UInt8 := [180, 0, 146, 47, 42, 180, 0, 149, 180, 1, 28, 148, 155, 0, 7, 4, 167, 0, 4, 3, 8, 182, 1, 0]
abbrev dktX22_begin_9 : List UInt8 := dkwX22_begin_9 ++ dktX22_begin_10
def dkwX22_begin_8 : List UInt8 := [180, 0, 52, 42, 180, 0, 40, 182, 1, 20, 54, 5, 42, 180, 0, 68, 42, 180, 0, 64, 180, 1, 24, 42]
abbrev dktX22_begin_8 : List UInt8 := dkwX22_begin_8 ++ dktX22_begin_9
def dkwX22_begin_7 : List UInt8 := [54, 4, 42, 180, 0, 68, 21, 4, 155, 0, 7, 4, 167, 0, 4, 3, 16, 7, 182, 1, 0, 42]
abbrev dktX22_begin_7 : List UInt8 := dkwX22_begin_7 ++ dktX22_begin_8
def dkwX22_begin_6 : List UInt8 := [182, 0, 249, 16, 7, 182, 1, 0, 42, 28, 29, 182, 1, 11, 177, 42, 180, 0, 52, 28, 182, 1, 15]
abbrev dktX22_begin_6 : List UInt8 := dkwX22_begin_6 ++ dktX22_begin_7
def dkwX22_begin_5 : List UInt8 := [182, 1, 4, 62, 42, 180, 0, 149, 180, 1, 8, 153, 0, 27, 42, 180, 0, 68, 42, 180, 0, 32, 28]
abbrev dktX22_begin_5 : List UInt8 := dkwX22_begin_5 ++ dktX22_begin_6
def dkwX22_begin_4 : List UInt8 := [3, 16, 7, 182, 1, 0, 42, 180, 0, 32, 3, 3, 182, 1, 4, 61, 42, 180, 0, 32, 3, 4]
abbrev dktX22_begin_4 : List UInt8 := dkwX22_begin_4 ++ dktX22_begin_5
def dkwX22_begin_3 : List UInt8 := [3, 182, 0, 249, 153, 0, 20, 42, 180, 0, 32, 180, 0, 253, 3, 46, 5, 160, 0, 7, 4, 167, 0, 4]
abbrev dktX22_begin_3 : List UInt8 := dkwX22_begin_3 ++ dktX22_begin_4
def dkwX22_begin_2 : List UInt8 := [180, 0, 72, 5, 42, 180, 0, 32, 180, 0, 248, 104, 133, 182, 0, 232, 42, 180, 0, 68, 42, 180, 0, 32]
abbrev dktX22_begin_2 : List UInt8 := dkwX22_begin_2 ++ dktX22_begin_3
def dkwX22_begin_1 : List UInt8 := [154, 0, 23, 42, 42, 180, 0, 32, 180, 0, 242, 181, 0, 22, 42, 180, 0, 68, 16, 7, 182, 0, 245, 42]
abbrev dktX22_begin_1 : List UInt8 := dkwX22_begin_1 ++ dktX22_begin_2
def dkwX22_begin_0 : List UInt8 := [42, 180, 0, 72, 20, 0, 230, 182, 0, 232, 42, 180, 0, 32, 42, 180, 0, 9, 27, 182, 0, 236]
abbrev dktX22_begin_0 : List UInt8 := dkwX22_begin_0 ++ dktX22_begin_1
theorem dksX22_begin_0 : cX22_begin.data.toList.drop 0 = dktX22_begin_0 := by decide +kernel
theorem dksX22_begin_1 : cX22_begin.data.toList.drop 22 = dktX22_begin_1 := dk_seg dksX22_begin_0 22 rfl rfl
theorem dksX22_begin_2 : cX22_begin.data.toList.drop 46 = dktX22_begin_2 := dk_seg dksX22_begin_1 24 rfl rfl
theorem dksX22_begin_3 : cX22_begin.data.toList.drop 70 = dktX22_begin_3 := dk_seg dksX22_begin_2 24 rfl rfl
theorem dksX22_begin_4 : cX22_begin.data.toList.drop 94 = dktX22_begin_4 := dk_seg dksX22_begin_3 24 rfl rfl
theorem dksX22_begin_5 : cX22_begin.data.toList.drop 116 = dktX22_begin_5 := dk_seg dksX22_begin_4 22 rfl rfl
theorem dksX22_begin_6 : cX22_begin.data.toList.drop 139 = dktX22_begin_6 := dk_seg dksX22_begin_5 23 rfl rfl
theorem dksX22_begin_7 : cX22_begin.data.toList.drop 162 = dktX22_begin_7 := dk_seg dksX22_begin_6 23 rfl rfl
theorem dksX22_begin_8 : cX22_begin.data.toList.drop 184 = dktX22_begin_8 := dk_seg dksX22_begin_7 22 rfl rfl
theorem dksX22_begin_9 : cX22_begin.data.toList.drop 208 = dktX22_begin_9 := dk_seg dksX22_begin_8 24 rfl rfl
theorem dksX22_begin_10 : cX22_begin.data.toList.drop 232 = dktX22_begin_10 := dk_seg dksX22_begin_9 24 rfl rfl
theorem dksX22_begin_11 : cX22_begin.data.toList.drop 255 = dktX22_begin_11 := dk_seg dksX22_begin_10 23 rfl rfl
theorem dksX22_begin_12 : cX22_begin.data.toList.drop 279 = dktX22_begin_12 := dk_seg dksX22_begin_11 24 rfl rfl
theorem dksX22_begin_13 : cX22_begin.data.toList.drop 302 = dktX22_begin_13 := dk_seg dksX22_begin_12 23 rfl rfl
theorem dX22_begin_0 : decode cX22_begin 0 = .ok (.aload_n 0, 1) := dk_42 (dk_at dksX22_begin_0 0 rfl rfl)
theorem dX22_begin_1 : decode cX22_begin 1 = .ok (.getfield 72, 3) := dk_180 0 72 (dk_at dksX22_begin_0 1 rfl rfl)
theorem dX22_begin_4 : decode cX22_begin 4 = .ok (.ldc2_w 230, 3) := dk_20 0 230 (dk_at dksX22_begin_0 4 rfl rfl)
theorem dX22_begin_7 : decode cX22_begin 7 = .ok (.invokevirtual 232, 3) := dk_182 0 232 (dk_at dksX22_begin_0 7 rfl rfl)
theorem dX22_begin_10 : decode cX22_begin 10 = .ok (.aload_n 0, 1) := dk_42 (dk_at dksX22_begin_0 10 rfl rfl)
theorem dX22_begin_11 : decode cX22_begin 11 = .ok (.getfield 32, 3) := dk_180 0 32 (dk_at dksX22_begin_0 11 rfl rfl)
theorem dX22_begin_14 : decode cX22_begin 14 = .ok (.aload_n 0, 1) := dk_42 (dk_at dksX22_begin_0 14 rfl rfl)
theorem dX22_begin_15 : decode cX22_begin 15 = .ok (.getfield 9, 3) := dk_180 0 9 (dk_at dksX22_begin_0 15 rfl rfl)
theorem dX22_begin_18 : decode cX22_begin 18 = .ok (.iload_n 1, 1) := dk_27 (dk_at dksX22_begin_0 18 rfl rfl)
theorem dX22_begin_19 : decode cX22_begin 19 = .ok (.invokevirtual 236, 3) := dk_182 0 236 (dk_at dksX22_begin_0 19 rfl rfl)
theorem dX22_begin_22 : decode cX22_begin 22 = .ok (.ifCond .ne 23, 3) := dk_154 0 23 (dk_at dksX22_begin_1 0 rfl rfl)
theorem dX22_begin_25 : decode cX22_begin 25 = .ok (.aload_n 0, 1) := dk_42 (dk_at dksX22_begin_1 3 rfl rfl)
theorem dX22_begin_26 : decode cX22_begin 26 = .ok (.aload_n 0, 1) := dk_42 (dk_at dksX22_begin_1 4 rfl rfl)
theorem dX22_begin_27 : decode cX22_begin 27 = .ok (.getfield 32, 3) := dk_180 0 32 (dk_at dksX22_begin_1 5 rfl rfl)
theorem dX22_begin_30 : decode cX22_begin 30 = .ok (.getfield 242, 3) := dk_180 0 242 (dk_at dksX22_begin_1 8 rfl rfl)
theorem dX22_begin_33 : decode cX22_begin 33 = .ok (.putfield 22, 3) := dk_181 0 22 (dk_at dksX22_begin_1 11 rfl rfl)
theorem dX22_begin_36 : decode cX22_begin 36 = .ok (.aload_n 0, 1) := dk_42 (dk_at dksX22_begin_1 14 rfl rfl)
theorem dX22_begin_37 : decode cX22_begin 37 = .ok (.getfield 68, 3) := dk_180 0 68 (dk_at dksX22_begin_1 15 rfl rfl)
theorem dX22_begin_40 : decode cX22_begin 40 = .ok (.bipush 7, 2) := dk_16 7 (dk_at dksX22_begin_1 18 rfl rfl)
theorem dX22_begin_42 : decode cX22_begin 42 = .ok (.invokevirtual 245, 3) := dk_182 0 245 (dk_at dksX22_begin_1 20 rfl rfl)
theorem dX22_begin_45 : decode cX22_begin 45 = .ok (.aload_n 0, 1) := dk_42 (dk_at dksX22_begin_1 23 rfl rfl)
theorem dX22_begin_46 : decode cX22_begin 46 = .ok (.getfield 72, 3) := dk_180 0 72 (dk_at dksX22_begin_2 0 rfl rfl)
theorem dX22_begin_49 : decode cX22_begin 49 = .ok (.iconst 2, 1) := dk_5 (dk_at dksX22_begin_2 3 rfl rfl)
theorem dX22_begin_50 : decode cX22_begin 50 = .ok (.aload_n 0, 1) := dk_42 (dk_at dksX22_begin_2 4 rfl rfl)
theorem dX22_begin_51 : decode cX22_begin 51 = .ok (.getfield 32, 3) := dk_180 0 32 (dk_at dksX22_begin_2 5 rfl rfl)
theorem dX22_begin_54 : decode cX22_begin 54 = .ok (.getfield 248, 3) := dk_180 0 248 (dk_at dksX22_begin_2 8 rfl rfl)
theorem dX22_begin_57 : decode cX22_begin 57 = .ok (.imul, 1) := dk_104 (dk_at dksX22_begin_2 11 rfl rfl)
theorem dX22_begin_58 : decode cX22_begin 58 = .ok (.i2l, 1) := dk_133 (dk_at dksX22_begin_2 12 rfl rfl)
theorem dX22_begin_59 : decode cX22_begin 59 = .ok (.invokevirtual 232, 3) := dk_182 0 232 (dk_at dksX22_begin_2 13 rfl rfl)
theorem dX22_begin_62 : decode cX22_begin 62 = .ok (.aload_n 0, 1) := dk_42 (dk_at dksX22_begin_2 16 rfl rfl)
theorem dX22_begin_63 : decode cX22_begin 63 = .ok (.getfield 68, 3) := dk_180 0 68 (dk_at dksX22_begin_2 17 rfl rfl)
theorem dX22_begin_66 : decode cX22_begin 66 = .ok (.aload_n 0, 1) := dk_42 (dk_at dksX22_begin_2 20 rfl rfl)
theorem dX22_begin_67 : decode cX22_begin 67 = .ok (.getfield 32, 3) := dk_180 0 32 (dk_at dksX22_begin_2 21 rfl rfl)
theorem dX22_begin_70 : decode cX22_begin 70 = .ok (.iconst 0, 1) := dk_3 (dk_at dksX22_begin_3 0 rfl rfl)
theorem dX22_begin_71 : decode cX22_begin 71 = .ok (.invokevirtual 249, 3) := dk_182 0 249 (dk_at dksX22_begin_3 1 rfl rfl)
theorem dX22_begin_74 : decode cX22_begin 74 = .ok (.ifCond .eq 20, 3) := dk_153 0 20 (dk_at dksX22_begin_3 4 rfl rfl)
theorem dX22_begin_77 : decode cX22_begin 77 = .ok (.aload_n 0, 1) := dk_42 (dk_at dksX22_begin_3 7 rfl rfl)
theorem dX22_begin_78 : decode cX22_begin 78 = .ok (.getfield 32, 3) := dk_180 0 32 (dk_at dksX22_begin_3 8 rfl rfl)
theorem dX22_begin_81 : decode cX22_begin 81 = .ok (.getfield 253, 3) := dk_180 0 253 (dk_at dksX22_begin_3 11 rfl rfl)
theorem dX22_begin_84 : decode cX22_begin 84 = .ok (.iconst 0, 1) := dk_3 (dk_at dksX22_begin_3 14 rfl rfl)
theorem dX22_begin_85 : decode cX22_begin 85 = .ok (.iaload, 1) := dk_46 (dk_at dksX22_begin_3 15 rfl rfl)
theorem dX22_begin_86 : decode cX22_begin 86 = .ok (.iconst 2, 1) := dk_5 (dk_at dksX22_begin_3 16 rfl rfl)
theorem dX22_begin_87 : decode cX22_begin 87 = .ok (.if_icmp .ne 7, 3) := dk_160 0 7 (dk_at dksX22_begin_3 17 rfl rfl)
theorem dX22_begin_90 : decode cX22_begin 90 = .ok (.iconst 1, 1) := dk_4 (dk_at dksX22_begin_3 20 rfl rfl)
theorem dX22_begin_91 : decode cX22_begin 91 = .ok (.goto 4, 3) := dk_167 0 4 (dk_at dksX22_begin_3 21 rfl rfl)
theorem dX22_begin_94 : decode cX22_begin 94 = .ok (.iconst 0, 1) := dk_3 (dk_at dksX22_begin_4 0 rfl rfl)
theorem dX22_begin_95 : decode cX22_begin 95 = .ok (.bipush 7, 2) := dk_16 7 (dk_at dksX22_begin_4 1 rfl rfl)
theorem dX22_begin_97 : decode cX22_begin 97 = .ok (.invokevirtual 256, 3) := dk_182 1 0 (dk_at dksX22_begin_4 3 rfl rfl)
theorem dX22_begin_100 : decode cX22_begin 100 = .ok (.aload_n 0, 1) := dk_42 (dk_at dksX22_begin_4 6 rfl rfl)
theorem dX22_begin_101 : decode cX22_begin 101 = .ok (.getfield 32, 3) := dk_180 0 32 (dk_at dksX22_begin_4 7 rfl rfl)
theorem dX22_begin_104 : decode cX22_begin 104 = .ok (.iconst 0, 1) := dk_3 (dk_at dksX22_begin_4 10 rfl rfl)
theorem dX22_begin_105 : decode cX22_begin 105 = .ok (.iconst 0, 1) := dk_3 (dk_at dksX22_begin_4 11 rfl rfl)
theorem dX22_begin_106 : decode cX22_begin 106 = .ok (.invokevirtual 260, 3) := dk_182 1 4 (dk_at dksX22_begin_4 12 rfl rfl)
theorem dX22_begin_109 : decode cX22_begin 109 = .ok (.istore_n 2, 1) := dk_61 (dk_at dksX22_begin_4 15 rfl rfl)
theorem dX22_begin_110 : decode cX22_begin 110 = .ok (.aload_n 0, 1) := dk_42 (dk_at dksX22_begin_4 16 rfl rfl)
theorem dX22_begin_111 : decode cX22_begin 111 = .ok (.getfield 32, 3) := dk_180 0 32 (dk_at dksX22_begin_4 17 rfl rfl)
theorem dX22_begin_114 : decode cX22_begin 114 = .ok (.iconst 0, 1) := dk_3 (dk_at dksX22_begin_4 20 rfl rfl)
theorem dX22_begin_115 : decode cX22_begin 115 = .ok (.iconst 1, 1) := dk_4 (dk_at dksX22_begin_4 21 rfl rfl)
theorem dX22_begin_116 : decode cX22_begin 116 = .ok (.invokevirtual 260, 3) := dk_182 1 4 (dk_at dksX22_begin_5 0 rfl rfl)
theorem dX22_begin_119 : decode cX22_begin 119 = .ok (.istore_n 3, 1) := dk_62 (dk_at dksX22_begin_5 3 rfl rfl)
theorem dX22_begin_120 : decode cX22_begin 120 = .ok (.aload_n 0, 1) := dk_42 (dk_at dksX22_begin_5 4 rfl rfl)
theorem dX22_begin_121 : decode cX22_begin 121 = .ok (.getfield 149, 3) := dk_180 0 149 (dk_at dksX22_begin_5 5 rfl rfl)
theorem dX22_begin_124 : decode cX22_begin 124 = .ok (.getfield 264, 3) := dk_180 1 8 (dk_at dksX22_begin_5 8 rfl rfl)
theorem dX22_begin_127 : decode cX22_begin 127 = .ok (.ifCond .eq 27, 3) := dk_153 0 27 (dk_at dksX22_begin_5 11 rfl rfl)
theorem dX22_begin_130 : decode cX22_begin 130 = .ok (.aload_n 0, 1) := dk_42 (dk_at dksX22_begin_5 14 rfl rfl)
theorem dX22_begin_131 : decode cX22_begin 131 = .ok (.getfield 68, 3) := dk_180 0 68 (dk_at dksX22_begin_5 15 rfl rfl)
theorem dX22_begin_134 : decode cX22_begin 134 = .ok (.aload_n 0, 1) := dk_42 (dk_at dksX22_begin_5 18 rfl rfl)
theorem dX22_begin_135 : decode cX22_begin 135 = .ok (.getfield 32, 3) := dk_180 0 32 (dk_at dksX22_begin_5 19 rfl rfl)
theorem dX22_begin_138 : decode cX22_begin 138 = .ok (.iload_n 2, 1) := dk_28 (dk_at dksX22_begin_5 22 rfl rfl)
theorem dX22_begin_139 : decode cX22_begin 139 = .ok (.invokevirtual 249, 3) := dk_182 0 249 (dk_at dksX22_begin_6 0 rfl rfl)
theorem dX22_begin_142 : decode cX22_begin 142 = .ok (.bipush 7, 2) := dk_16 7 (dk_at dksX22_begin_6 3 rfl rfl)
theorem dX22_begin_144 : decode cX22_begin 144 = .ok (.invokevirtual 256, 3) := dk_182 1 0 (dk_at dksX22_begin_6 5 rfl rfl)
theorem dX22_begin_147 : decode cX22_begin 147 = .ok (.aload_n 0, 1) := dk_42 (dk_at dksX22_begin_6 8 rfl rfl)
theorem dX22_begin_148 : decode cX22_begin 148 = .ok (.iload_n 2, 1) := dk_28 (dk_at dksX22_begin_6 9 rfl rfl)
theorem dX22_begin_149 : decode cX22_begin 149 = .ok (.iload_n 3, 1) := dk_29 (dk_at dksX22_begin_6 10 rfl rfl)
theorem dX22_begin_150 : decode cX22_begin 150 = .ok (.invokevirtual 267, 3) := dk_182 1 11 (dk_at dksX22_begin_6 11 rfl rfl)
theorem dX22_begin_153 : decode cX22_begin 153 = .ok (.return_, 1) := dk_177 (dk_at dksX22_begin_6 14 rfl rfl)
theorem dX22_begin_154 : decode cX22_begin 154 = .ok (.aload_n 0, 1) := dk_42 (dk_at dksX22_begin_6 15 rfl rfl)
theorem dX22_begin_155 : decode cX22_begin 155 = .ok (.getfield 52, 3) := dk_180 0 52 (dk_at dksX22_begin_6 16 rfl rfl)
theorem dX22_begin_158 : decode cX22_begin 158 = .ok (.iload_n 2, 1) := dk_28 (dk_at dksX22_begin_6 19 rfl rfl)
theorem dX22_begin_159 : decode cX22_begin 159 = .ok (.invokevirtual 271, 3) := dk_182 1 15 (dk_at dksX22_begin_6 20 rfl rfl)
theorem dX22_begin_162 : decode cX22_begin 162 = .ok (.istore 4, 2) := dk_54 4 (dk_at dksX22_begin_7 0 rfl rfl)
theorem dX22_begin_164 : decode cX22_begin 164 = .ok (.aload_n 0, 1) := dk_42 (dk_at dksX22_begin_7 2 rfl rfl)
theorem dX22_begin_165 : decode cX22_begin 165 = .ok (.getfield 68, 3) := dk_180 0 68 (dk_at dksX22_begin_7 3 rfl rfl)
theorem dX22_begin_168 : decode cX22_begin 168 = .ok (.iload 4, 2) := dk_21 4 (dk_at dksX22_begin_7 6 rfl rfl)
theorem dX22_begin_170 : decode cX22_begin 170 = .ok (.ifCond .lt 7, 3) := dk_155 0 7 (dk_at dksX22_begin_7 8 rfl rfl)
theorem dX22_begin_173 : decode cX22_begin 173 = .ok (.iconst 1, 1) := dk_4 (dk_at dksX22_begin_7 11 rfl rfl)
theorem dX22_begin_174 : decode cX22_begin 174 = .ok (.goto 4, 3) := dk_167 0 4 (dk_at dksX22_begin_7 12 rfl rfl)
theorem dX22_begin_177 : decode cX22_begin 177 = .ok (.iconst 0, 1) := dk_3 (dk_at dksX22_begin_7 15 rfl rfl)
theorem dX22_begin_178 : decode cX22_begin 178 = .ok (.bipush 7, 2) := dk_16 7 (dk_at dksX22_begin_7 16 rfl rfl)
theorem dX22_begin_180 : decode cX22_begin 180 = .ok (.invokevirtual 256, 3) := dk_182 1 0 (dk_at dksX22_begin_7 18 rfl rfl)
theorem dX22_begin_183 : decode cX22_begin 183 = .ok (.aload_n 0, 1) := dk_42 (dk_at dksX22_begin_7 21 rfl rfl)
theorem dX22_begin_184 : decode cX22_begin 184 = .ok (.getfield 52, 3) := dk_180 0 52 (dk_at dksX22_begin_8 0 rfl rfl)
theorem dX22_begin_187 : decode cX22_begin 187 = .ok (.aload_n 0, 1) := dk_42 (dk_at dksX22_begin_8 3 rfl rfl)
theorem dX22_begin_188 : decode cX22_begin 188 = .ok (.getfield 40, 3) := dk_180 0 40 (dk_at dksX22_begin_8 4 rfl rfl)
theorem dX22_begin_191 : decode cX22_begin 191 = .ok (.invokevirtual 276, 3) := dk_182 1 20 (dk_at dksX22_begin_8 7 rfl rfl)
theorem dX22_begin_194 : decode cX22_begin 194 = .ok (.istore 5, 2) := dk_54 5 (dk_at dksX22_begin_8 10 rfl rfl)
theorem dX22_begin_196 : decode cX22_begin 196 = .ok (.aload_n 0, 1) := dk_42 (dk_at dksX22_begin_8 12 rfl rfl)
theorem dX22_begin_197 : decode cX22_begin 197 = .ok (.getfield 68, 3) := dk_180 0 68 (dk_at dksX22_begin_8 13 rfl rfl)
theorem dX22_begin_200 : decode cX22_begin 200 = .ok (.aload_n 0, 1) := dk_42 (dk_at dksX22_begin_8 16 rfl rfl)
theorem dX22_begin_201 : decode cX22_begin 201 = .ok (.getfield 64, 3) := dk_180 0 64 (dk_at dksX22_begin_8 17 rfl rfl)
theorem dX22_begin_204 : decode cX22_begin 204 = .ok (.getfield 280, 3) := dk_180 1 24 (dk_at dksX22_begin_8 20 rfl rfl)
theorem dX22_begin_207 : decode cX22_begin 207 = .ok (.aload_n 0, 1) := dk_42 (dk_at dksX22_begin_8 23 rfl rfl)
theorem dX22_begin_208 : decode cX22_begin 208 = .ok (.getfield 146, 3) := dk_180 0 146 (dk_at dksX22_begin_9 0 rfl rfl)
theorem dX22_begin_211 : decode cX22_begin 211 = .ok (.laload, 1) := dk_47 (dk_at dksX22_begin_9 3 rfl rfl)
theorem dX22_begin_212 : decode cX22_begin 212 = .ok (.aload_n 0, 1) := dk_42 (dk_at dksX22_begin_9 4 rfl rfl)
theorem dX22_begin_213 : decode cX22_begin 213 = .ok (.getfield 149, 3) := dk_180 0 149 (dk_at dksX22_begin_9 5 rfl rfl)
theorem dX22_begin_216 : decode cX22_begin 216 = .ok (.getfield 284, 3) := dk_180 1 28 (dk_at dksX22_begin_9 8 rfl rfl)
theorem dX22_begin_219 : decode cX22_begin 219 = .ok (.lcmp, 1) := dk_148 (dk_at dksX22_begin_9 11 rfl rfl)
theorem dX22_begin_220 : decode cX22_begin 220 = .ok (.ifCond .lt 7, 3) := dk_155 0 7 (dk_at dksX22_begin_9 12 rfl rfl)
theorem dX22_begin_223 : decode cX22_begin 223 = .ok (.iconst 1, 1) := dk_4 (dk_at dksX22_begin_9 15 rfl rfl)
theorem dX22_begin_224 : decode cX22_begin 224 = .ok (.goto 4, 3) := dk_167 0 4 (dk_at dksX22_begin_9 16 rfl rfl)
theorem dX22_begin_227 : decode cX22_begin 227 = .ok (.iconst 0, 1) := dk_3 (dk_at dksX22_begin_9 19 rfl rfl)
theorem dX22_begin_228 : decode cX22_begin 228 = .ok (.iconst 5, 1) := dk_8 (dk_at dksX22_begin_9 20 rfl rfl)
theorem dX22_begin_229 : decode cX22_begin 229 = .ok (.invokevirtual 256, 3) := dk_182 1 0 (dk_at dksX22_begin_9 21 rfl rfl)
theorem dX22_begin_232 : decode cX22_begin 232 = .ok (.aload_n 0, 1) := dk_42 (dk_at dksX22_begin_10 0 rfl rfl)
theorem dX22_begin_233 : decode cX22_begin 233 = .ok (.iload 4, 2) := dk_21 4 (dk_at dksX22_begin_10 1 rfl rfl)
theorem dX22_begin_235 : decode cX22_begin 235 = .ok (.iload 5, 2) := dk_21 5 (dk_at dksX22_begin_10 3 rfl rfl)
theorem dX22_begin_237 : decode cX22_begin 237 = .ok (.invokevirtual 288, 3) := dk_182 1 32 (dk_at dksX22_begin_10 5 rfl rfl)
theorem dX22_begin_240 : decode cX22_begin 240 = .ok (.istore 6, 2) := dk_54 6 (dk_at dksX22_begin_10 8 rfl rfl)
theorem dX22_begin_242 : decode cX22_begin 242 = .ok (.aload_n 0, 1) := dk_42 (dk_at dksX22_begin_10 10 rfl rfl)
theorem dX22_begin_243 : decode cX22_begin 243 = .ok (.getfield 52, 3) := dk_180 0 52 (dk_at dksX22_begin_10 11 rfl rfl)
theorem dX22_begin_246 : decode cX22_begin 246 = .ok (.iload_n 3, 1) := dk_29 (dk_at dksX22_begin_10 14 rfl rfl)
theorem dX22_begin_247 : decode cX22_begin 247 = .ok (.iload 4, 2) := dk_21 4 (dk_at dksX22_begin_10 15 rfl rfl)
theorem dX22_begin_249 : decode cX22_begin 249 = .ok (.bipush 100, 2) := dk_16 100 (dk_at dksX22_begin_10 17 rfl rfl)
theorem dX22_begin_251 : decode cX22_begin 251 = .ok (.if_icmp .ge 7, 3) := dk_162 0 7 (dk_at dksX22_begin_10 19 rfl rfl)
theorem dX22_begin_254 : decode cX22_begin 254 = .ok (.iconst 0, 1) := dk_3 (dk_at dksX22_begin_10 22 rfl rfl)
theorem dX22_begin_255 : decode cX22_begin 255 = .ok (.goto 13, 3) := dk_167 0 13 (dk_at dksX22_begin_11 0 rfl rfl)
theorem dX22_begin_258 : decode cX22_begin 258 = .ok (.aload_n 0, 1) := dk_42 (dk_at dksX22_begin_11 3 rfl rfl)
theorem dX22_begin_259 : decode cX22_begin 259 = .ok (.getfield 44, 3) := dk_180 0 44 (dk_at dksX22_begin_11 4 rfl rfl)
theorem dX22_begin_262 : decode cX22_begin 262 = .ok (.getfield 293, 3) := dk_180 1 37 (dk_at dksX22_begin_11 7 rfl rfl)
theorem dX22_begin_265 : decode cX22_begin 265 = .ok (.iload 6, 2) := dk_21 6 (dk_at dksX22_begin_11 10 rfl rfl)
theorem dX22_begin_267 : decode cX22_begin 267 = .ok (.iaload, 1) := dk_46 (dk_at dksX22_begin_11 12 rfl rfl)
theorem dX22_begin_268 : decode cX22_begin 268 = .ok (.invokevirtual 295, 3) := dk_182 1 39 (dk_at dksX22_begin_11 13 rfl rfl)
theorem dX22_begin_271 : decode cX22_begin 271 = .ok (.istore 7, 2) := dk_54 7 (dk_at dksX22_begin_11 16 rfl rfl)
theorem dX22_begin_273 : decode cX22_begin 273 = .ok (.aload_n 0, 1) := dk_42 (dk_at dksX22_begin_11 18 rfl rfl)
theorem dX22_begin_274 : decode cX22_begin 274 = .ok (.getfield 68, 3) := dk_180 0 68 (dk_at dksX22_begin_11 19 rfl rfl)
theorem dX22_begin_277 : decode cX22_begin 277 = .ok (.iload 7, 2) := dk_21 7 (dk_at dksX22_begin_11 22 rfl rfl)
theorem dX22_begin_279 : decode cX22_begin 279 = .ok (.ifCond .eq 7, 3) := dk_153 0 7 (dk_at dksX22_begin_12 0 rfl rfl)
theorem dX22_begin_282 : decode cX22_begin 282 = .ok (.iconst 1, 1) := dk_4 (dk_at dksX22_begin_12 3 rfl rfl)
theorem dX22_begin_283 : decode cX22_begin 283 = .ok (.goto 4, 3) := dk_167 0 4 (dk_at dksX22_begin_12 4 rfl rfl)
theorem dX22_begin_286 : decode cX22_begin 286 = .ok (.iconst 0, 1) := dk_3 (dk_at dksX22_begin_12 7 rfl rfl)
theorem dX22_begin_287 : decode cX22_begin 287 = .ok (.bipush 7, 2) := dk_16 7 (dk_at dksX22_begin_12 8 rfl rfl)
theorem dX22_begin_289 : decode cX22_begin 289 = .ok (.invokevirtual 256, 3) := dk_182 1 0 (dk_at dksX22_begin_12 10 rfl rfl)
theorem dX22_begin_292 : decode cX22_begin 292 = .ok (.aload_n 0, 1) := dk_42 (dk_at dksX22_begin_12 13 rfl rfl)
theorem dX22_begin_293 : decode cX22_begin 293 = .ok (.aload_n 0, 1) := dk_42 (dk_at dksX22_begin_12 14 rfl rfl)
theorem dX22_begin_294 : decode cX22_begin 294 = .ok (.getfield 146, 3) := dk_180 0 146 (dk_at dksX22_begin_12 15 rfl rfl)
theorem dX22_begin_297 : decode cX22_begin 297 = .ok (.iload 4, 2) := dk_21 4 (dk_at dksX22_begin_12 18 rfl rfl)
theorem dX22_begin_299 : decode cX22_begin 299 = .ok (.iload 6, 2) := dk_21 6 (dk_at dksX22_begin_12 20 rfl rfl)
theorem dX22_begin_301 : decode cX22_begin 301 = .ok (.aload_n 0, 1) := dk_42 (dk_at dksX22_begin_12 22 rfl rfl)
theorem dX22_begin_302 : decode cX22_begin 302 = .ok (.getfield 149, 3) := dk_180 0 149 (dk_at dksX22_begin_13 0 rfl rfl)
theorem dX22_begin_305 : decode cX22_begin 305 = .ok (.getfield 284, 3) := dk_180 1 28 (dk_at dksX22_begin_13 3 rfl rfl)
theorem dX22_begin_308 : decode cX22_begin 308 = .ok (.iload 7, 2) := dk_21 7 (dk_at dksX22_begin_13 6 rfl rfl)
theorem dX22_begin_310 : decode cX22_begin 310 = .ok (.invokevirtual 297, 3) := dk_182 1 41 (dk_at dksX22_begin_13 8 rfl rfl)
theorem dX22_begin_313 : decode cX22_begin 313 = .ok (.return_, 1) := dk_177 (dk_at dksX22_begin_13 11 rfl rfl)
abbrev cX22_originate : ByteArray := prog_5_method_9_code
def yX22_originate : MethodName := ⟨RX22, "originate", "(II)V"⟩
def dkwX22_originate_6 : List UInt8 := [180, 1, 28, 21, 4, 182, 1, 59, 177]
abbrev dktX22_originate_6 : List UInt8 := dkwX22_originate_6 ++ []
def dkwX22_originate_5 : List UInt8 := [180, 0, 153, 21, 5, 16, 100, 100, 181, 1, 56, 42, 42, 180, 0, 146, 21, 5, 29, 42, 180, 0, 149]
abbrev dktX22_originate_5 : List UInt8 := dkwX22_originate_5 ++ dktX22_originate_6
def dkwX22_originate_4 : List UInt8 := [182, 1, 0, 16, 100, 42, 180, 0, 64, 89, 180, 1, 54, 90, 4, 96, 181, 1, 54, 96, 54, 5, 42]
abbrev dktX22_originate_4 : List UInt8 := dkwX22_originate_4 ++ dktX22_originate_5
def dkwX22_originate_3 : List UInt8 := [42, 180, 0, 68, 42, 180, 0, 64, 180, 1, 54, 16, 100, 162, 0, 7, 4, 167, 0, 4, 3, 16, 8]
abbrev dktX22_originate_3 : List UInt8 := dkwX22_originate_3 ++ dktX22_originate_4
def dkwX22_originate_2 : List UInt8 := [182, 1, 39, 54, 4, 42, 180, 0, 68, 21, 4, 153, 0, 7, 4, 167, 0, 4, 3, 16, 7, 182, 1, 0]
abbrev dktX22_originate_2 : List UInt8 := dkwX22_originate_2 ++ dktX22_originate_3
def dkwX22_originate_1 : List UInt8 := [42, 180, 0, 68, 16, 11, 182, 0, 245, 42, 180, 0, 52, 28, 42, 180, 0, 44, 180, 1, 51, 29, 46]
abbrev dktX22_originate_1 : List UInt8 := dkwX22_originate_1 ++ dktX22_originate_2
def dkwX22_originate_0 : List UInt8 := [42, 180, 0, 48, 27, 182, 1, 45, 62, 29, 156, 0, 23, 42, 42, 180, 0, 48, 180, 1, 50, 181, 0, 22]
abbrev dktX22_originate_0 : List UInt8 := dkwX22_originate_0 ++ dktX22_originate_1
theorem dksX22_originate_0 : cX22_originate.data.toList.drop 0 = dktX22_originate_0 := by decide +kernel
theorem dksX22_originate_1 : cX22_originate.data.toList.drop 24 = dktX22_originate_1 := dk_seg dksX22_originate_0 24 rfl rfl
theorem dksX22_originate_2 : cX22_originate.data.toList.drop 47 = dktX22_originate_2 := dk_seg dksX22_originate_1 23 rfl rfl
theorem dksX22_originate_3 : cX22_originate.data.toList.drop 71 = dktX22_originate_3 := dk_seg dksX22_originate_2 24 rfl rfl
theorem dksX22_originate_4 : cX22_originate.data.toList.drop 94 = dktX22_originate_4 := dk_seg dksX22_originate_3 23 rfl rfl
theorem dksX22_originate_5 : cX22_originate.data.toList.drop 117 = dktX22_originate_5 := dk_seg dksX22_originate_4 23 rfl rfl
theorem dksX22_originate_6 : cX22_originate.data.toList.drop 140 = dktX22_originate_6 := dk_seg dksX22_originate_5 23 rfl rfl
theorem dX22_originate_0 : decode cX22_originate 0 = .ok (.aload_n 0, 1) := dk_42 (dk_at dksX22_originate_0 0 rfl rfl)
theorem dX22_originate_1 : decode cX22_originate 1 = .ok (.getfield 48, 3) := dk_180 0 48 (dk_at dksX22_originate_0 1 rfl rfl)
theorem dX22_originate_4 : decode cX22_originate 4 = .ok (.iload_n 1, 1) := dk_27 (dk_at dksX22_originate_0 4 rfl rfl)
theorem dX22_originate_5 : decode cX22_originate 5 = .ok (.invokevirtual 301, 3) := dk_182 1 45 (dk_at dksX22_originate_0 5 rfl rfl)
theorem dX22_originate_8 : decode cX22_originate 8 = .ok (.istore_n 3, 1) := dk_62 (dk_at dksX22_originate_0 8 rfl rfl)
theorem dX22_originate_9 : decode cX22_originate 9 = .ok (.iload_n 3, 1) := dk_29 (dk_at dksX22_originate_0 9 rfl rfl)
theorem dX22_originate_10 : decode cX22_originate 10 = .ok (.ifCond .ge 23, 3) := dk_156 0 23 (dk_at dksX22_originate_0 10 rfl rfl)
theorem dX22_originate_13 : decode cX22_originate 13 = .ok (.aload_n 0, 1) := dk_42 (dk_at dksX22_originate_0 13 rfl rfl)
theorem dX22_originate_14 : decode cX22_originate 14 = .ok (.aload_n 0, 1) := dk_42 (dk_at dksX22_originate_0 14 rfl rfl)
theorem dX22_originate_15 : decode cX22_originate 15 = .ok (.getfield 48, 3) := dk_180 0 48 (dk_at dksX22_originate_0 15 rfl rfl)
theorem dX22_originate_18 : decode cX22_originate 18 = .ok (.getfield 306, 3) := dk_180 1 50 (dk_at dksX22_originate_0 18 rfl rfl)
theorem dX22_originate_21 : decode cX22_originate 21 = .ok (.putfield 22, 3) := dk_181 0 22 (dk_at dksX22_originate_0 21 rfl rfl)
theorem dX22_originate_24 : decode cX22_originate 24 = .ok (.aload_n 0, 1) := dk_42 (dk_at dksX22_originate_1 0 rfl rfl)
theorem dX22_originate_25 : decode cX22_originate 25 = .ok (.getfield 68, 3) := dk_180 0 68 (dk_at dksX22_originate_1 1 rfl rfl)
theorem dX22_originate_28 : decode cX22_originate 28 = .ok (.bipush 11, 2) := dk_16 11 (dk_at dksX22_originate_1 4 rfl rfl)
theorem dX22_originate_30 : decode cX22_originate 30 = .ok (.invokevirtual 245, 3) := dk_182 0 245 (dk_at dksX22_originate_1 6 rfl rfl)
theorem dX22_originate_33 : decode cX22_originate 33 = .ok (.aload_n 0, 1) := dk_42 (dk_at dksX22_originate_1 9 rfl rfl)
theorem dX22_originate_34 : decode cX22_originate 34 = .ok (.getfield 52, 3) := dk_180 0 52 (dk_at dksX22_originate_1 10 rfl rfl)
theorem dX22_originate_37 : decode cX22_originate 37 = .ok (.iload_n 2, 1) := dk_28 (dk_at dksX22_originate_1 13 rfl rfl)
theorem dX22_originate_38 : decode cX22_originate 38 = .ok (.aload_n 0, 1) := dk_42 (dk_at dksX22_originate_1 14 rfl rfl)
theorem dX22_originate_39 : decode cX22_originate 39 = .ok (.getfield 44, 3) := dk_180 0 44 (dk_at dksX22_originate_1 15 rfl rfl)
theorem dX22_originate_42 : decode cX22_originate 42 = .ok (.getfield 307, 3) := dk_180 1 51 (dk_at dksX22_originate_1 18 rfl rfl)
theorem dX22_originate_45 : decode cX22_originate 45 = .ok (.iload_n 3, 1) := dk_29 (dk_at dksX22_originate_1 21 rfl rfl)
theorem dX22_originate_46 : decode cX22_originate 46 = .ok (.iaload, 1) := dk_46 (dk_at dksX22_originate_1 22 rfl rfl)
theorem dX22_originate_47 : decode cX22_originate 47 = .ok (.invokevirtual 295, 3) := dk_182 1 39 (dk_at dksX22_originate_2 0 rfl rfl)
theorem dX22_originate_50 : decode cX22_originate 50 = .ok (.istore 4, 2) := dk_54 4 (dk_at dksX22_originate_2 3 rfl rfl)
theorem dX22_originate_52 : decode cX22_originate 52 = .ok (.aload_n 0, 1) := dk_42 (dk_at dksX22_originate_2 5 rfl rfl)
theorem dX22_originate_53 : decode cX22_originate 53 = .ok (.getfield 68, 3) := dk_180 0 68 (dk_at dksX22_originate_2 6 rfl rfl)
theorem dX22_originate_56 : decode cX22_originate 56 = .ok (.iload 4, 2) := dk_21 4 (dk_at dksX22_originate_2 9 rfl rfl)
theorem dX22_originate_58 : decode cX22_originate 58 = .ok (.ifCond .eq 7, 3) := dk_153 0 7 (dk_at dksX22_originate_2 11 rfl rfl)
theorem dX22_originate_61 : decode cX22_originate 61 = .ok (.iconst 1, 1) := dk_4 (dk_at dksX22_originate_2 14 rfl rfl)
theorem dX22_originate_62 : decode cX22_originate 62 = .ok (.goto 4, 3) := dk_167 0 4 (dk_at dksX22_originate_2 15 rfl rfl)
theorem dX22_originate_65 : decode cX22_originate 65 = .ok (.iconst 0, 1) := dk_3 (dk_at dksX22_originate_2 18 rfl rfl)
theorem dX22_originate_66 : decode cX22_originate 66 = .ok (.bipush 7, 2) := dk_16 7 (dk_at dksX22_originate_2 19 rfl rfl)
theorem dX22_originate_68 : decode cX22_originate 68 = .ok (.invokevirtual 256, 3) := dk_182 1 0 (dk_at dksX22_originate_2 21 rfl rfl)
theorem dX22_originate_71 : decode cX22_originate 71 = .ok (.aload_n 0, 1) := dk_42 (dk_at dksX22_originate_3 0 rfl rfl)
theorem dX22_originate_72 : decode cX22_originate 72 = .ok (.getfield 68, 3) := dk_180 0 68 (dk_at dksX22_originate_3 1 rfl rfl)
theorem dX22_originate_75 : decode cX22_originate 75 = .ok (.aload_n 0, 1) := dk_42 (dk_at dksX22_originate_3 4 rfl rfl)
theorem dX22_originate_76 : decode cX22_originate 76 = .ok (.getfield 64, 3) := dk_180 0 64 (dk_at dksX22_originate_3 5 rfl rfl)
theorem dX22_originate_79 : decode cX22_originate 79 = .ok (.getfield 310, 3) := dk_180 1 54 (dk_at dksX22_originate_3 8 rfl rfl)
theorem dX22_originate_82 : decode cX22_originate 82 = .ok (.bipush 100, 2) := dk_16 100 (dk_at dksX22_originate_3 11 rfl rfl)
theorem dX22_originate_84 : decode cX22_originate 84 = .ok (.if_icmp .ge 7, 3) := dk_162 0 7 (dk_at dksX22_originate_3 13 rfl rfl)
theorem dX22_originate_87 : decode cX22_originate 87 = .ok (.iconst 1, 1) := dk_4 (dk_at dksX22_originate_3 16 rfl rfl)
theorem dX22_originate_88 : decode cX22_originate 88 = .ok (.goto 4, 3) := dk_167 0 4 (dk_at dksX22_originate_3 17 rfl rfl)
theorem dX22_originate_91 : decode cX22_originate 91 = .ok (.iconst 0, 1) := dk_3 (dk_at dksX22_originate_3 20 rfl rfl)
theorem dX22_originate_92 : decode cX22_originate 92 = .ok (.bipush 8, 2) := dk_16 8 (dk_at dksX22_originate_3 21 rfl rfl)
theorem dX22_originate_94 : decode cX22_originate 94 = .ok (.invokevirtual 256, 3) := dk_182 1 0 (dk_at dksX22_originate_4 0 rfl rfl)
theorem dX22_originate_97 : decode cX22_originate 97 = .ok (.bipush 100, 2) := dk_16 100 (dk_at dksX22_originate_4 3 rfl rfl)
theorem dX22_originate_99 : decode cX22_originate 99 = .ok (.aload_n 0, 1) := dk_42 (dk_at dksX22_originate_4 5 rfl rfl)
theorem dX22_originate_100 : decode cX22_originate 100 = .ok (.getfield 64, 3) := dk_180 0 64 (dk_at dksX22_originate_4 6 rfl rfl)
theorem dX22_originate_103 : decode cX22_originate 103 = .ok (.dup, 1) := dk_89 (dk_at dksX22_originate_4 9 rfl rfl)
theorem dX22_originate_104 : decode cX22_originate 104 = .ok (.getfield 310, 3) := dk_180 1 54 (dk_at dksX22_originate_4 10 rfl rfl)
theorem dX22_originate_107 : decode cX22_originate 107 = .ok (.dup_x1, 1) := dk_90 (dk_at dksX22_originate_4 13 rfl rfl)
theorem dX22_originate_108 : decode cX22_originate 108 = .ok (.iconst 1, 1) := dk_4 (dk_at dksX22_originate_4 14 rfl rfl)
theorem dX22_originate_109 : decode cX22_originate 109 = .ok (.iadd, 1) := dk_96 (dk_at dksX22_originate_4 15 rfl rfl)
theorem dX22_originate_110 : decode cX22_originate 110 = .ok (.putfield 310, 3) := dk_181 1 54 (dk_at dksX22_originate_4 16 rfl rfl)
theorem dX22_originate_113 : decode cX22_originate 113 = .ok (.iadd, 1) := dk_96 (dk_at dksX22_originate_4 19 rfl rfl)
theorem dX22_originate_114 : decode cX22_originate 114 = .ok (.istore 5, 2) := dk_54 5 (dk_at dksX22_originate_4 20 rfl rfl)
theorem dX22_originate_116 : decode cX22_originate 116 = .ok (.aload_n 0, 1) := dk_42 (dk_at dksX22_originate_4 22 rfl rfl)
theorem dX22_originate_117 : decode cX22_originate 117 = .ok (.getfield 153, 3) := dk_180 0 153 (dk_at dksX22_originate_5 0 rfl rfl)
theorem dX22_originate_120 : decode cX22_originate 120 = .ok (.iload 5, 2) := dk_21 5 (dk_at dksX22_originate_5 3 rfl rfl)
theorem dX22_originate_122 : decode cX22_originate 122 = .ok (.bipush 100, 2) := dk_16 100 (dk_at dksX22_originate_5 5 rfl rfl)
theorem dX22_originate_124 : decode cX22_originate 124 = .ok (.isub, 1) := dk_100 (dk_at dksX22_originate_5 7 rfl rfl)
theorem dX22_originate_125 : decode cX22_originate 125 = .ok (.putfield 312, 3) := dk_181 1 56 (dk_at dksX22_originate_5 8 rfl rfl)
theorem dX22_originate_128 : decode cX22_originate 128 = .ok (.aload_n 0, 1) := dk_42 (dk_at dksX22_originate_5 11 rfl rfl)
theorem dX22_originate_129 : decode cX22_originate 129 = .ok (.aload_n 0, 1) := dk_42 (dk_at dksX22_originate_5 12 rfl rfl)
theorem dX22_originate_130 : decode cX22_originate 130 = .ok (.getfield 146, 3) := dk_180 0 146 (dk_at dksX22_originate_5 13 rfl rfl)
theorem dX22_originate_133 : decode cX22_originate 133 = .ok (.iload 5, 2) := dk_21 5 (dk_at dksX22_originate_5 16 rfl rfl)
theorem dX22_originate_135 : decode cX22_originate 135 = .ok (.iload_n 3, 1) := dk_29 (dk_at dksX22_originate_5 18 rfl rfl)
theorem dX22_originate_136 : decode cX22_originate 136 = .ok (.aload_n 0, 1) := dk_42 (dk_at dksX22_originate_5 19 rfl rfl)
theorem dX22_originate_137 : decode cX22_originate 137 = .ok (.getfield 149, 3) := dk_180 0 149 (dk_at dksX22_originate_5 20 rfl rfl)
theorem dX22_originate_140 : decode cX22_originate 140 = .ok (.getfield 284, 3) := dk_180 1 28 (dk_at dksX22_originate_6 0 rfl rfl)
theorem dX22_originate_143 : decode cX22_originate 143 = .ok (.iload 4, 2) := dk_21 4 (dk_at dksX22_originate_6 3 rfl rfl)
theorem dX22_originate_145 : decode cX22_originate 145 = .ok (.invokevirtual 315, 3) := dk_182 1 59 (dk_at dksX22_originate_6 5 rfl rfl)
theorem dX22_originate_148 : decode cX22_originate 148 = .ok (.return_, 1) := dk_177 (dk_at dksX22_originate_6 8 rfl rfl)
abbrev cX22_make : ByteArray := prog_5_method_16_code
def yX22_make : MethodName := ⟨RX22, "make", "(IIIJI)V"⟩
def dkwX22_make_5 : List UInt8 := [182, 1, 117, 177]
abbrev dktX22_make_5 : List UInt8 := dkwX22_make_5 ++ []
def dkwX22_make_4 : List UInt8 := [180, 1, 157, 29, 46, 96, 182, 1, 145, 42, 28, 21, 6, 42, 180, 0, 44, 180, 1, 157, 29, 46]
abbrev dktX22_make_4 : List UInt8 := dkwX22_make_4 ++ dktX22_make_5
def dkwX22_make_3 : List UInt8 := [180, 1, 24, 28, 9, 80, 42, 27, 28, 22, 4, 182, 1, 70, 42, 17, 1, 1, 42, 180, 0, 44]
abbrev dktX22_make_3 : List UInt8 := dkwX22_make_3 ++ dktX22_make_4
def dkwX22_make_2 : List UInt8 := [42, 180, 0, 64, 180, 1, 76, 28, 3, 79, 42, 180, 0, 64, 180, 1, 142, 28, 3, 79, 42, 180, 0, 64]
abbrev dktX22_make_2 : List UInt8 := dkwX22_make_2 ++ dktX22_make_3
def dkwX22_make_1 : List UInt8 := [8, 182, 1, 0, 42, 180, 0, 64, 180, 1, 62, 28, 4, 84, 42, 180, 0, 64, 180, 1, 66, 28, 29, 79]
abbrev dktX22_make_1 : List UInt8 := dkwX22_make_1 ++ dktX22_make_2
def dkwX22_make_0 : List UInt8 := [42, 180, 0, 68, 42, 180, 0, 64, 180, 1, 24, 27, 47, 22, 4, 148, 155, 0, 7, 4, 167, 0, 4, 3]
abbrev dktX22_make_0 : List UInt8 := dkwX22_make_0 ++ dktX22_make_1
theorem dksX22_make_0 : cX22_make.data.toList.drop 0 = dktX22_make_0 := by decide +kernel
theorem dksX22_make_1 : cX22_make.data.toList.drop 24 = dktX22_make_1 := dk_seg dksX22_make_0 24 rfl rfl
theorem dksX22_make_2 : cX22_make.data.toList.drop 48 = dktX22_make_2 := dk_seg dksX22_make_1 24 rfl rfl
theorem dksX22_make_3 : cX22_make.data.toList.drop 72 = dktX22_make_3 := dk_seg dksX22_make_2 24 rfl rfl
theorem dksX22_make_4 : cX22_make.data.toList.drop 94 = dktX22_make_4 := dk_seg dksX22_make_3 22 rfl rfl
theorem dksX22_make_5 : cX22_make.data.toList.drop 116 = dktX22_make_5 := dk_seg dksX22_make_4 22 rfl rfl
theorem dX22_make_0 : decode cX22_make 0 = .ok (.aload_n 0, 1) := dk_42 (dk_at dksX22_make_0 0 rfl rfl)
theorem dX22_make_1 : decode cX22_make 1 = .ok (.getfield 68, 3) := dk_180 0 68 (dk_at dksX22_make_0 1 rfl rfl)
theorem dX22_make_4 : decode cX22_make 4 = .ok (.aload_n 0, 1) := dk_42 (dk_at dksX22_make_0 4 rfl rfl)
theorem dX22_make_5 : decode cX22_make 5 = .ok (.getfield 64, 3) := dk_180 0 64 (dk_at dksX22_make_0 5 rfl rfl)
theorem dX22_make_8 : decode cX22_make 8 = .ok (.getfield 280, 3) := dk_180 1 24 (dk_at dksX22_make_0 8 rfl rfl)
theorem dX22_make_11 : decode cX22_make 11 = .ok (.iload_n 1, 1) := dk_27 (dk_at dksX22_make_0 11 rfl rfl)
theorem dX22_make_12 : decode cX22_make 12 = .ok (.laload, 1) := dk_47 (dk_at dksX22_make_0 12 rfl rfl)
theorem dX22_make_13 : decode cX22_make 13 = .ok (.lload 4, 2) := dk_22 4 (dk_at dksX22_make_0 13 rfl rfl)
theorem dX22_make_15 : decode cX22_make 15 = .ok (.lcmp, 1) := dk_148 (dk_at dksX22_make_0 15 rfl rfl)
theorem dX22_make_16 : decode cX22_make 16 = .ok (.ifCond .lt 7, 3) := dk_155 0 7 (dk_at dksX22_make_0 16 rfl rfl)
theorem dX22_make_19 : decode cX22_make 19 = .ok (.iconst 1, 1) := dk_4 (dk_at dksX22_make_0 19 rfl rfl)
theorem dX22_make_20 : decode cX22_make 20 = .ok (.goto 4, 3) := dk_167 0 4 (dk_at dksX22_make_0 20 rfl rfl)
theorem dX22_make_23 : decode cX22_make 23 = .ok (.iconst 0, 1) := dk_3 (dk_at dksX22_make_0 23 rfl rfl)
theorem dX22_make_24 : decode cX22_make 24 = .ok (.iconst 5, 1) := dk_8 (dk_at dksX22_make_1 0 rfl rfl)
theorem dX22_make_25 : decode cX22_make 25 = .ok (.invokevirtual 256, 3) := dk_182 1 0 (dk_at dksX22_make_1 1 rfl rfl)
theorem dX22_make_28 : decode cX22_make 28 = .ok (.aload_n 0, 1) := dk_42 (dk_at dksX22_make_1 4 rfl rfl)
theorem dX22_make_29 : decode cX22_make 29 = .ok (.getfield 64, 3) := dk_180 0 64 (dk_at dksX22_make_1 5 rfl rfl)
theorem dX22_make_32 : decode cX22_make 32 = .ok (.getfield 318, 3) := dk_180 1 62 (dk_at dksX22_make_1 8 rfl rfl)
theorem dX22_make_35 : decode cX22_make 35 = .ok (.iload_n 2, 1) := dk_28 (dk_at dksX22_make_1 11 rfl rfl)
theorem dX22_make_36 : decode cX22_make 36 = .ok (.iconst 1, 1) := dk_4 (dk_at dksX22_make_1 12 rfl rfl)
theorem dX22_make_37 : decode cX22_make 37 = .ok (.bastore, 1) := dk_84 (dk_at dksX22_make_1 13 rfl rfl)
theorem dX22_make_38 : decode cX22_make 38 = .ok (.aload_n 0, 1) := dk_42 (dk_at dksX22_make_1 14 rfl rfl)
theorem dX22_make_39 : decode cX22_make 39 = .ok (.getfield 64, 3) := dk_180 0 64 (dk_at dksX22_make_1 15 rfl rfl)
theorem dX22_make_42 : decode cX22_make 42 = .ok (.getfield 322, 3) := dk_180 1 66 (dk_at dksX22_make_1 18 rfl rfl)
theorem dX22_make_45 : decode cX22_make 45 = .ok (.iload_n 2, 1) := dk_28 (dk_at dksX22_make_1 21 rfl rfl)
theorem dX22_make_46 : decode cX22_make 46 = .ok (.iload_n 3, 1) := dk_29 (dk_at dksX22_make_1 22 rfl rfl)
theorem dX22_make_47 : decode cX22_make 47 = .ok (.iastore, 1) := dk_79 (dk_at dksX22_make_1 23 rfl rfl)
theorem dX22_make_48 : decode cX22_make 48 = .ok (.aload_n 0, 1) := dk_42 (dk_at dksX22_make_2 0 rfl rfl)
theorem dX22_make_49 : decode cX22_make 49 = .ok (.getfield 64, 3) := dk_180 0 64 (dk_at dksX22_make_2 1 rfl rfl)
theorem dX22_make_52 : decode cX22_make 52 = .ok (.getfield 332, 3) := dk_180 1 76 (dk_at dksX22_make_2 4 rfl rfl)
theorem dX22_make_55 : decode cX22_make 55 = .ok (.iload_n 2, 1) := dk_28 (dk_at dksX22_make_2 7 rfl rfl)
theorem dX22_make_56 : decode cX22_make 56 = .ok (.iconst 0, 1) := dk_3 (dk_at dksX22_make_2 8 rfl rfl)
theorem dX22_make_57 : decode cX22_make 57 = .ok (.iastore, 1) := dk_79 (dk_at dksX22_make_2 9 rfl rfl)
theorem dX22_make_58 : decode cX22_make 58 = .ok (.aload_n 0, 1) := dk_42 (dk_at dksX22_make_2 10 rfl rfl)
theorem dX22_make_59 : decode cX22_make 59 = .ok (.getfield 64, 3) := dk_180 0 64 (dk_at dksX22_make_2 11 rfl rfl)
theorem dX22_make_62 : decode cX22_make 62 = .ok (.getfield 398, 3) := dk_180 1 142 (dk_at dksX22_make_2 14 rfl rfl)
theorem dX22_make_65 : decode cX22_make 65 = .ok (.iload_n 2, 1) := dk_28 (dk_at dksX22_make_2 17 rfl rfl)
theorem dX22_make_66 : decode cX22_make 66 = .ok (.iconst 0, 1) := dk_3 (dk_at dksX22_make_2 18 rfl rfl)
theorem dX22_make_67 : decode cX22_make 67 = .ok (.iastore, 1) := dk_79 (dk_at dksX22_make_2 19 rfl rfl)
theorem dX22_make_68 : decode cX22_make 68 = .ok (.aload_n 0, 1) := dk_42 (dk_at dksX22_make_2 20 rfl rfl)
theorem dX22_make_69 : decode cX22_make 69 = .ok (.getfield 64, 3) := dk_180 0 64 (dk_at dksX22_make_2 21 rfl rfl)
theorem dX22_make_72 : decode cX22_make 72 = .ok (.getfield 280, 3) := dk_180 1 24 (dk_at dksX22_make_3 0 rfl rfl)
theorem dX22_make_75 : decode cX22_make 75 = .ok (.iload_n 2, 1) := dk_28 (dk_at dksX22_make_3 3 rfl rfl)
theorem dX22_make_76 : decode cX22_make 76 = .ok (.lconst 0, 1) := dk_9 (dk_at dksX22_make_3 4 rfl rfl)
theorem dX22_make_77 : decode cX22_make 77 = .ok (.lastore, 1) := dk_80 (dk_at dksX22_make_3 5 rfl rfl)
theorem dX22_make_78 : decode cX22_make 78 = .ok (.aload_n 0, 1) := dk_42 (dk_at dksX22_make_3 6 rfl rfl)
theorem dX22_make_79 : decode cX22_make 79 = .ok (.iload_n 1, 1) := dk_27 (dk_at dksX22_make_3 7 rfl rfl)
theorem dX22_make_80 : decode cX22_make 80 = .ok (.iload_n 2, 1) := dk_28 (dk_at dksX22_make_3 8 rfl rfl)
theorem dX22_make_81 : decode cX22_make 81 = .ok (.lload 4, 2) := dk_22 4 (dk_at dksX22_make_3 9 rfl rfl)
theorem dX22_make_83 : decode cX22_make 83 = .ok (.invokevirtual 326, 3) := dk_182 1 70 (dk_at dksX22_make_3 11 rfl rfl)
theorem dX22_make_86 : decode cX22_make 86 = .ok (.aload_n 0, 1) := dk_42 (dk_at dksX22_make_3 14 rfl rfl)
theorem dX22_make_87 : decode cX22_make 87 = .ok (.sipush 257, 3) := dk_17 1 1 (dk_at dksX22_make_3 15 rfl rfl)
theorem dX22_make_90 : decode cX22_make 90 = .ok (.aload_n 0, 1) := dk_42 (dk_at dksX22_make_3 18 rfl rfl)
theorem dX22_make_91 : decode cX22_make 91 = .ok (.getfield 44, 3) := dk_180 0 44 (dk_at dksX22_make_3 19 rfl rfl)
theorem dX22_make_94 : decode cX22_make 94 = .ok (.getfield 413, 3) := dk_180 1 157 (dk_at dksX22_make_4 0 rfl rfl)
theorem dX22_make_97 : decode cX22_make 97 = .ok (.iload_n 3, 1) := dk_29 (dk_at dksX22_make_4 3 rfl rfl)
theorem dX22_make_98 : decode cX22_make 98 = .ok (.iaload, 1) := dk_46 (dk_at dksX22_make_4 4 rfl rfl)
theorem dX22_make_99 : decode cX22_make 99 = .ok (.iadd, 1) := dk_96 (dk_at dksX22_make_4 5 rfl rfl)
theorem dX22_make_100 : decode cX22_make 100 = .ok (.invokevirtual 401, 3) := dk_182 1 145 (dk_at dksX22_make_4 6 rfl rfl)
theorem dX22_make_103 : decode cX22_make 103 = .ok (.aload_n 0, 1) := dk_42 (dk_at dksX22_make_4 9 rfl rfl)
theorem dX22_make_104 : decode cX22_make 104 = .ok (.iload_n 2, 1) := dk_28 (dk_at dksX22_make_4 10 rfl rfl)
theorem dX22_make_105 : decode cX22_make 105 = .ok (.iload 6, 2) := dk_21 6 (dk_at dksX22_make_4 11 rfl rfl)
theorem dX22_make_107 : decode cX22_make 107 = .ok (.aload_n 0, 1) := dk_42 (dk_at dksX22_make_4 13 rfl rfl)
theorem dX22_make_108 : decode cX22_make 108 = .ok (.getfield 44, 3) := dk_180 0 44 (dk_at dksX22_make_4 14 rfl rfl)
theorem dX22_make_111 : decode cX22_make 111 = .ok (.getfield 413, 3) := dk_180 1 157 (dk_at dksX22_make_4 17 rfl rfl)
theorem dX22_make_114 : decode cX22_make 114 = .ok (.iload_n 3, 1) := dk_29 (dk_at dksX22_make_4 20 rfl rfl)
theorem dX22_make_115 : decode cX22_make 115 = .ok (.iaload, 1) := dk_46 (dk_at dksX22_make_4 21 rfl rfl)
theorem dX22_make_116 : decode cX22_make 116 = .ok (.invokevirtual 373, 3) := dk_182 1 117 (dk_at dksX22_make_5 0 rfl rfl)
theorem dX22_make_119 : decode cX22_make 119 = .ok (.return_, 1) := dk_177 (dk_at dksX22_make_5 3 rfl rfl)
abbrev cX22_move : ByteArray := prog_5_method_11_code
def yX22_move : MethodName := ⟨RX22, "move", "(IIJ)V"⟩
def dkwX22_move_1 : List UInt8 := [97, 80, 177]
abbrev dktX22_move_1 : List UInt8 := dkwX22_move_1 ++ []
def dkwX22_move_0 : List UInt8 := [42, 180, 0, 64, 180, 1, 24, 27, 92, 47, 33, 101, 80, 42, 180, 0, 64, 180, 1, 24, 28, 92, 47, 33]
abbrev dktX22_move_0 : List UInt8 := dkwX22_move_0 ++ dktX22_move_1
theorem dksX22_move_0 : cX22_move.data.toList.drop 0 = dktX22_move_0 := by decide +kernel
theorem dksX22_move_1 : cX22_move.data.toList.drop 24 = dktX22_move_1 := dk_seg dksX22_move_0 24 rfl rfl
theorem dX22_move_0 : decode cX22_move 0 = .ok (.aload_n 0, 1) := dk_42 (dk_at dksX22_move_0 0 rfl rfl)
theorem dX22_move_1 : decode cX22_move 1 = .ok (.getfield 64, 3) := dk_180 0 64 (dk_at dksX22_move_0 1 rfl rfl)
theorem dX22_move_4 : decode cX22_move 4 = .ok (.getfield 280, 3) := dk_180 1 24 (dk_at dksX22_move_0 4 rfl rfl)
theorem dX22_move_7 : decode cX22_move 7 = .ok (.iload_n 1, 1) := dk_27 (dk_at dksX22_move_0 7 rfl rfl)
theorem dX22_move_8 : decode cX22_move 8 = .ok (.dup2, 1) := dk_92 (dk_at dksX22_move_0 8 rfl rfl)
theorem dX22_move_9 : decode cX22_move 9 = .ok (.laload, 1) := dk_47 (dk_at dksX22_move_0 9 rfl rfl)
theorem dX22_move_10 : decode cX22_move 10 = .ok (.lload_n 3, 1) := dk_33 (dk_at dksX22_move_0 10 rfl rfl)
theorem dX22_move_11 : decode cX22_move 11 = .ok (.lsub, 1) := dk_101 (dk_at dksX22_move_0 11 rfl rfl)
theorem dX22_move_12 : decode cX22_move 12 = .ok (.lastore, 1) := dk_80 (dk_at dksX22_move_0 12 rfl rfl)
theorem dX22_move_13 : decode cX22_move 13 = .ok (.aload_n 0, 1) := dk_42 (dk_at dksX22_move_0 13 rfl rfl)
theorem dX22_move_14 : decode cX22_move 14 = .ok (.getfield 64, 3) := dk_180 0 64 (dk_at dksX22_move_0 14 rfl rfl)
theorem dX22_move_17 : decode cX22_move 17 = .ok (.getfield 280, 3) := dk_180 1 24 (dk_at dksX22_move_0 17 rfl rfl)
theorem dX22_move_20 : decode cX22_move 20 = .ok (.iload_n 2, 1) := dk_28 (dk_at dksX22_move_0 20 rfl rfl)
theorem dX22_move_21 : decode cX22_move 21 = .ok (.dup2, 1) := dk_92 (dk_at dksX22_move_0 21 rfl rfl)
theorem dX22_move_22 : decode cX22_move 22 = .ok (.laload, 1) := dk_47 (dk_at dksX22_move_0 22 rfl rfl)
theorem dX22_move_23 : decode cX22_move 23 = .ok (.lload_n 3, 1) := dk_33 (dk_at dksX22_move_0 23 rfl rfl)
theorem dX22_move_24 : decode cX22_move 24 = .ok (.ladd, 1) := dk_97 (dk_at dksX22_move_1 0 rfl rfl)
theorem dX22_move_25 : decode cX22_move 25 = .ok (.lastore, 1) := dk_80 (dk_at dksX22_move_1 1 rfl rfl)
theorem dX22_move_26 : decode cX22_move 26 = .ok (.return_, 1) := dk_177 (dk_at dksX22_move_1 2 rfl rfl)
abbrev cX22_pay : ByteArray := prog_5_method_15_code
def yX22_pay : MethodName := ⟨RX22, "pay", "(I)V"⟩
def dkwX22_pay_4 : List UInt8 := [97, 181, 1, 154, 42, 180, 0, 153, 89, 180, 1, 148, 27, 96, 181, 1, 148, 177]
abbrev dktX22_pay_4 : List UInt8 := dkwX22_pay_4 ++ []
def dkwX22_pay_3 : List UInt8 := [180, 0, 64, 180, 1, 24, 42, 180, 0, 146, 92, 47, 32, 101, 80, 42, 180, 0, 64, 89, 180, 1, 154, 32]
abbrev dktX22_pay_3 : List UInt8 := dkwX22_pay_3 ++ dktX22_pay_4
def dkwX22_pay_2 : List UInt8 := [180, 1, 24, 42, 180, 0, 146, 47, 32, 148, 155, 0, 7, 4, 167, 0, 4, 3, 8, 182, 1, 0, 42]
abbrev dktX22_pay_2 : List UInt8 := dkwX22_pay_2 ++ dktX22_pay_3
def dkwX22_pay_1 : List UInt8 := [167, 0, 4, 3, 16, 9, 182, 1, 0, 20, 1, 152, 27, 133, 105, 65, 42, 180, 0, 68, 42, 180, 0, 64]
abbrev dktX22_pay_1 : List UInt8 := dkwX22_pay_1 ++ dktX22_pay_2
def dkwX22_pay_0 : List UInt8 := [42, 180, 0, 68, 42, 180, 0, 153, 180, 1, 148, 27, 96, 42, 180, 0, 149, 180, 1, 151, 163, 0, 7, 4]
abbrev dktX22_pay_0 : List UInt8 := dkwX22_pay_0 ++ dktX22_pay_1
theorem dksX22_pay_0 : cX22_pay.data.toList.drop 0 = dktX22_pay_0 := by decide +kernel
theorem dksX22_pay_1 : cX22_pay.data.toList.drop 24 = dktX22_pay_1 := dk_seg dksX22_pay_0 24 rfl rfl
theorem dksX22_pay_2 : cX22_pay.data.toList.drop 48 = dktX22_pay_2 := dk_seg dksX22_pay_1 24 rfl rfl
theorem dksX22_pay_3 : cX22_pay.data.toList.drop 71 = dktX22_pay_3 := dk_seg dksX22_pay_2 23 rfl rfl
theorem dksX22_pay_4 : cX22_pay.data.toList.drop 95 = dktX22_pay_4 := dk_seg dksX22_pay_3 24 rfl rfl
theorem dX22_pay_0 : decode cX22_pay 0 = .ok (.aload_n 0, 1) := dk_42 (dk_at dksX22_pay_0 0 rfl rfl)
theorem dX22_pay_1 : decode cX22_pay 1 = .ok (.getfield 68, 3) := dk_180 0 68 (dk_at dksX22_pay_0 1 rfl rfl)
theorem dX22_pay_4 : decode cX22_pay 4 = .ok (.aload_n 0, 1) := dk_42 (dk_at dksX22_pay_0 4 rfl rfl)
theorem dX22_pay_5 : decode cX22_pay 5 = .ok (.getfield 153, 3) := dk_180 0 153 (dk_at dksX22_pay_0 5 rfl rfl)
theorem dX22_pay_8 : decode cX22_pay 8 = .ok (.getfield 404, 3) := dk_180 1 148 (dk_at dksX22_pay_0 8 rfl rfl)
theorem dX22_pay_11 : decode cX22_pay 11 = .ok (.iload_n 1, 1) := dk_27 (dk_at dksX22_pay_0 11 rfl rfl)
theorem dX22_pay_12 : decode cX22_pay 12 = .ok (.iadd, 1) := dk_96 (dk_at dksX22_pay_0 12 rfl rfl)
theorem dX22_pay_13 : decode cX22_pay 13 = .ok (.aload_n 0, 1) := dk_42 (dk_at dksX22_pay_0 13 rfl rfl)
theorem dX22_pay_14 : decode cX22_pay 14 = .ok (.getfield 149, 3) := dk_180 0 149 (dk_at dksX22_pay_0 14 rfl rfl)
theorem dX22_pay_17 : decode cX22_pay 17 = .ok (.getfield 407, 3) := dk_180 1 151 (dk_at dksX22_pay_0 17 rfl rfl)
theorem dX22_pay_20 : decode cX22_pay 20 = .ok (.if_icmp .gt 7, 3) := dk_163 0 7 (dk_at dksX22_pay_0 20 rfl rfl)
theorem dX22_pay_23 : decode cX22_pay 23 = .ok (.iconst 1, 1) := dk_4 (dk_at dksX22_pay_0 23 rfl rfl)
theorem dX22_pay_24 : decode cX22_pay 24 = .ok (.goto 4, 3) := dk_167 0 4 (dk_at dksX22_pay_1 0 rfl rfl)
theorem dX22_pay_27 : decode cX22_pay 27 = .ok (.iconst 0, 1) := dk_3 (dk_at dksX22_pay_1 3 rfl rfl)
theorem dX22_pay_28 : decode cX22_pay 28 = .ok (.bipush 9, 2) := dk_16 9 (dk_at dksX22_pay_1 4 rfl rfl)
theorem dX22_pay_30 : decode cX22_pay 30 = .ok (.invokevirtual 256, 3) := dk_182 1 0 (dk_at dksX22_pay_1 6 rfl rfl)
theorem dX22_pay_33 : decode cX22_pay 33 = .ok (.ldc2_w 408, 3) := dk_20 1 152 (dk_at dksX22_pay_1 9 rfl rfl)
theorem dX22_pay_36 : decode cX22_pay 36 = .ok (.iload_n 1, 1) := dk_27 (dk_at dksX22_pay_1 12 rfl rfl)
theorem dX22_pay_37 : decode cX22_pay 37 = .ok (.i2l, 1) := dk_133 (dk_at dksX22_pay_1 13 rfl rfl)
theorem dX22_pay_38 : decode cX22_pay 38 = .ok (.lmul, 1) := dk_105 (dk_at dksX22_pay_1 14 rfl rfl)
theorem dX22_pay_39 : decode cX22_pay 39 = .ok (.lstore_n 2, 1) := dk_65 (dk_at dksX22_pay_1 15 rfl rfl)
theorem dX22_pay_40 : decode cX22_pay 40 = .ok (.aload_n 0, 1) := dk_42 (dk_at dksX22_pay_1 16 rfl rfl)
theorem dX22_pay_41 : decode cX22_pay 41 = .ok (.getfield 68, 3) := dk_180 0 68 (dk_at dksX22_pay_1 17 rfl rfl)
theorem dX22_pay_44 : decode cX22_pay 44 = .ok (.aload_n 0, 1) := dk_42 (dk_at dksX22_pay_1 20 rfl rfl)
theorem dX22_pay_45 : decode cX22_pay 45 = .ok (.getfield 64, 3) := dk_180 0 64 (dk_at dksX22_pay_1 21 rfl rfl)
theorem dX22_pay_48 : decode cX22_pay 48 = .ok (.getfield 280, 3) := dk_180 1 24 (dk_at dksX22_pay_2 0 rfl rfl)
theorem dX22_pay_51 : decode cX22_pay 51 = .ok (.aload_n 0, 1) := dk_42 (dk_at dksX22_pay_2 3 rfl rfl)
theorem dX22_pay_52 : decode cX22_pay 52 = .ok (.getfield 146, 3) := dk_180 0 146 (dk_at dksX22_pay_2 4 rfl rfl)
theorem dX22_pay_55 : decode cX22_pay 55 = .ok (.laload, 1) := dk_47 (dk_at dksX22_pay_2 7 rfl rfl)
theorem dX22_pay_56 : decode cX22_pay 56 = .ok (.lload_n 2, 1) := dk_32 (dk_at dksX22_pay_2 8 rfl rfl)
theorem dX22_pay_57 : decode cX22_pay 57 = .ok (.lcmp, 1) := dk_148 (dk_at dksX22_pay_2 9 rfl rfl)
theorem dX22_pay_58 : decode cX22_pay 58 = .ok (.ifCond .lt 7, 3) := dk_155 0 7 (dk_at dksX22_pay_2 10 rfl rfl)
theorem dX22_pay_61 : decode cX22_pay 61 = .ok (.iconst 1, 1) := dk_4 (dk_at dksX22_pay_2 13 rfl rfl)
theorem dX22_pay_62 : decode cX22_pay 62 = .ok (.goto 4, 3) := dk_167 0 4 (dk_at dksX22_pay_2 14 rfl rfl)
theorem dX22_pay_65 : decode cX22_pay 65 = .ok (.iconst 0, 1) := dk_3 (dk_at dksX22_pay_2 17 rfl rfl)
theorem dX22_pay_66 : decode cX22_pay 66 = .ok (.iconst 5, 1) := dk_8 (dk_at dksX22_pay_2 18 rfl rfl)
theorem dX22_pay_67 : decode cX22_pay 67 = .ok (.invokevirtual 256, 3) := dk_182 1 0 (dk_at dksX22_pay_2 19 rfl rfl)
theorem dX22_pay_70 : decode cX22_pay 70 = .ok (.aload_n 0, 1) := dk_42 (dk_at dksX22_pay_2 22 rfl rfl)
theorem dX22_pay_71 : decode cX22_pay 71 = .ok (.getfield 64, 3) := dk_180 0 64 (dk_at dksX22_pay_3 0 rfl rfl)
theorem dX22_pay_74 : decode cX22_pay 74 = .ok (.getfield 280, 3) := dk_180 1 24 (dk_at dksX22_pay_3 3 rfl rfl)
theorem dX22_pay_77 : decode cX22_pay 77 = .ok (.aload_n 0, 1) := dk_42 (dk_at dksX22_pay_3 6 rfl rfl)
theorem dX22_pay_78 : decode cX22_pay 78 = .ok (.getfield 146, 3) := dk_180 0 146 (dk_at dksX22_pay_3 7 rfl rfl)
theorem dX22_pay_81 : decode cX22_pay 81 = .ok (.dup2, 1) := dk_92 (dk_at dksX22_pay_3 10 rfl rfl)
theorem dX22_pay_82 : decode cX22_pay 82 = .ok (.laload, 1) := dk_47 (dk_at dksX22_pay_3 11 rfl rfl)
theorem dX22_pay_83 : decode cX22_pay 83 = .ok (.lload_n 2, 1) := dk_32 (dk_at dksX22_pay_3 12 rfl rfl)
theorem dX22_pay_84 : decode cX22_pay 84 = .ok (.lsub, 1) := dk_101 (dk_at dksX22_pay_3 13 rfl rfl)
theorem dX22_pay_85 : decode cX22_pay 85 = .ok (.lastore, 1) := dk_80 (dk_at dksX22_pay_3 14 rfl rfl)
theorem dX22_pay_86 : decode cX22_pay 86 = .ok (.aload_n 0, 1) := dk_42 (dk_at dksX22_pay_3 15 rfl rfl)
theorem dX22_pay_87 : decode cX22_pay 87 = .ok (.getfield 64, 3) := dk_180 0 64 (dk_at dksX22_pay_3 16 rfl rfl)
theorem dX22_pay_90 : decode cX22_pay 90 = .ok (.dup, 1) := dk_89 (dk_at dksX22_pay_3 19 rfl rfl)
theorem dX22_pay_91 : decode cX22_pay 91 = .ok (.getfield 410, 3) := dk_180 1 154 (dk_at dksX22_pay_3 20 rfl rfl)
theorem dX22_pay_94 : decode cX22_pay 94 = .ok (.lload_n 2, 1) := dk_32 (dk_at dksX22_pay_3 23 rfl rfl)
theorem dX22_pay_95 : decode cX22_pay 95 = .ok (.ladd, 1) := dk_97 (dk_at dksX22_pay_4 0 rfl rfl)
theorem dX22_pay_96 : decode cX22_pay 96 = .ok (.putfield 410, 3) := dk_181 1 154 (dk_at dksX22_pay_4 1 rfl rfl)
theorem dX22_pay_99 : decode cX22_pay 99 = .ok (.aload_n 0, 1) := dk_42 (dk_at dksX22_pay_4 4 rfl rfl)
theorem dX22_pay_100 : decode cX22_pay 100 = .ok (.getfield 153, 3) := dk_180 0 153 (dk_at dksX22_pay_4 5 rfl rfl)
theorem dX22_pay_103 : decode cX22_pay 103 = .ok (.dup, 1) := dk_89 (dk_at dksX22_pay_4 8 rfl rfl)
theorem dX22_pay_104 : decode cX22_pay 104 = .ok (.getfield 404, 3) := dk_180 1 148 (dk_at dksX22_pay_4 9 rfl rfl)
theorem dX22_pay_107 : decode cX22_pay 107 = .ok (.iload_n 1, 1) := dk_27 (dk_at dksX22_pay_4 12 rfl rfl)
theorem dX22_pay_108 : decode cX22_pay 108 = .ok (.iadd, 1) := dk_96 (dk_at dksX22_pay_4 13 rfl rfl)
theorem dX22_pay_109 : decode cX22_pay 109 = .ok (.putfield 404, 3) := dk_181 1 148 (dk_at dksX22_pay_4 14 rfl rfl)
theorem dX22_pay_112 : decode cX22_pay 112 = .ok (.return_, 1) := dk_177 (dk_at dksX22_pay_4 17 rfl rfl)
abbrev cX22_store : ByteArray := prog_5_method_14_code
def yX22_store : MethodName := ⟨RX22, "store", "(III)V"⟩
def dkwX22_store_6 : List UInt8 := [180, 1, 142, 27, 21, 7, 79, 177]
abbrev dktX22_store_6 : List UInt8 := dkwX22_store_6 ++ []
def dkwX22_store_5 : List UInt8 := [164, 0, 30, 42, 21, 7, 42, 180, 0, 64, 180, 1, 142, 27, 46, 100, 182, 1, 145, 42, 180, 0, 64]
abbrev dktX22_store_5 : List UInt8 := dkwX22_store_5 ++ dktX22_store_6
def dkwX22_store_4 : List UInt8 := [79, 42, 180, 0, 56, 28, 182, 0, 214, 54, 7, 21, 7, 42, 180, 0, 64, 180, 1, 142, 27, 46]
abbrev dktX22_store_4 : List UInt8 := dkwX22_store_4 ++ dktX22_store_5
def dkwX22_store_3 : List UInt8 := [16, 8, 182, 1, 0, 42, 180, 0, 64, 22, 5, 136, 181, 1, 137, 42, 180, 0, 64, 180, 1, 76, 27, 28]
abbrev dktX22_store_3 : List UInt8 := dkwX22_store_3 ++ dktX22_store_4
def dkwX22_store_2 : List UInt8 := [97, 29, 133, 97, 55, 5, 42, 180, 0, 68, 22, 5, 20, 1, 140, 148, 157, 0, 7, 4, 167, 0, 4, 3]
abbrev dktX22_store_2 : List UInt8 := dkwX22_store_2 ++ dktX22_store_3
def dkwX22_store_1 : List UInt8 := [3, 167, 0, 12, 42, 180, 0, 56, 21, 4, 182, 0, 214, 133, 101, 42, 180, 0, 56, 28, 182, 0, 214, 133]
abbrev dktX22_store_1 : List UInt8 := dkwX22_store_1 ++ dktX22_store_2
def dkwX22_store_0 : List UInt8 := [42, 180, 0, 64, 180, 1, 76, 27, 46, 54, 4, 42, 180, 0, 64, 180, 1, 137, 133, 21, 4, 154, 0, 7]
abbrev dktX22_store_0 : List UInt8 := dkwX22_store_0 ++ dktX22_store_1
theorem dksX22_store_0 : cX22_store.data.toList.drop 0 = dktX22_store_0 := by decide +kernel
theorem dksX22_store_1 : cX22_store.data.toList.drop 24 = dktX22_store_1 := dk_seg dksX22_store_0 24 rfl rfl
theorem dksX22_store_2 : cX22_store.data.toList.drop 48 = dktX22_store_2 := dk_seg dksX22_store_1 24 rfl rfl
theorem dksX22_store_3 : cX22_store.data.toList.drop 72 = dktX22_store_3 := dk_seg dksX22_store_2 24 rfl rfl
theorem dksX22_store_4 : cX22_store.data.toList.drop 96 = dktX22_store_4 := dk_seg dksX22_store_3 24 rfl rfl
theorem dksX22_store_5 : cX22_store.data.toList.drop 118 = dktX22_store_5 := dk_seg dksX22_store_4 22 rfl rfl
theorem dksX22_store_6 : cX22_store.data.toList.drop 141 = dktX22_store_6 := dk_seg dksX22_store_5 23 rfl rfl
theorem dX22_store_0 : decode cX22_store 0 = .ok (.aload_n 0, 1) := dk_42 (dk_at dksX22_store_0 0 rfl rfl)
theorem dX22_store_1 : decode cX22_store 1 = .ok (.getfield 64, 3) := dk_180 0 64 (dk_at dksX22_store_0 1 rfl rfl)
theorem dX22_store_4 : decode cX22_store 4 = .ok (.getfield 332, 3) := dk_180 1 76 (dk_at dksX22_store_0 4 rfl rfl)
theorem dX22_store_7 : decode cX22_store 7 = .ok (.iload_n 1, 1) := dk_27 (dk_at dksX22_store_0 7 rfl rfl)
theorem dX22_store_8 : decode cX22_store 8 = .ok (.iaload, 1) := dk_46 (dk_at dksX22_store_0 8 rfl rfl)
theorem dX22_store_9 : decode cX22_store 9 = .ok (.istore 4, 2) := dk_54 4 (dk_at dksX22_store_0 9 rfl rfl)
theorem dX22_store_11 : decode cX22_store 11 = .ok (.aload_n 0, 1) := dk_42 (dk_at dksX22_store_0 11 rfl rfl)
theorem dX22_store_12 : decode cX22_store 12 = .ok (.getfield 64, 3) := dk_180 0 64 (dk_at dksX22_store_0 12 rfl rfl)
theorem dX22_store_15 : decode cX22_store 15 = .ok (.getfield 393, 3) := dk_180 1 137 (dk_at dksX22_store_0 15 rfl rfl)
theorem dX22_store_18 : decode cX22_store 18 = .ok (.i2l, 1) := dk_133 (dk_at dksX22_store_0 18 rfl rfl)
theorem dX22_store_19 : decode cX22_store 19 = .ok (.iload 4, 2) := dk_21 4 (dk_at dksX22_store_0 19 rfl rfl)
theorem dX22_store_21 : decode cX22_store 21 = .ok (.ifCond .ne 7, 3) := dk_154 0 7 (dk_at dksX22_store_0 21 rfl rfl)
theorem dX22_store_24 : decode cX22_store 24 = .ok (.iconst 0, 1) := dk_3 (dk_at dksX22_store_1 0 rfl rfl)
theorem dX22_store_25 : decode cX22_store 25 = .ok (.goto 12, 3) := dk_167 0 12 (dk_at dksX22_store_1 1 rfl rfl)
theorem dX22_store_28 : decode cX22_store 28 = .ok (.aload_n 0, 1) := dk_42 (dk_at dksX22_store_1 4 rfl rfl)
theorem dX22_store_29 : decode cX22_store 29 = .ok (.getfield 56, 3) := dk_180 0 56 (dk_at dksX22_store_1 5 rfl rfl)
theorem dX22_store_32 : decode cX22_store 32 = .ok (.iload 4, 2) := dk_21 4 (dk_at dksX22_store_1 8 rfl rfl)
theorem dX22_store_34 : decode cX22_store 34 = .ok (.invokevirtual 214, 3) := dk_182 0 214 (dk_at dksX22_store_1 10 rfl rfl)
theorem dX22_store_37 : decode cX22_store 37 = .ok (.i2l, 1) := dk_133 (dk_at dksX22_store_1 13 rfl rfl)
theorem dX22_store_38 : decode cX22_store 38 = .ok (.lsub, 1) := dk_101 (dk_at dksX22_store_1 14 rfl rfl)
theorem dX22_store_39 : decode cX22_store 39 = .ok (.aload_n 0, 1) := dk_42 (dk_at dksX22_store_1 15 rfl rfl)
theorem dX22_store_40 : decode cX22_store 40 = .ok (.getfield 56, 3) := dk_180 0 56 (dk_at dksX22_store_1 16 rfl rfl)
theorem dX22_store_43 : decode cX22_store 43 = .ok (.iload_n 2, 1) := dk_28 (dk_at dksX22_store_1 19 rfl rfl)
theorem dX22_store_44 : decode cX22_store 44 = .ok (.invokevirtual 214, 3) := dk_182 0 214 (dk_at dksX22_store_1 20 rfl rfl)
theorem dX22_store_47 : decode cX22_store 47 = .ok (.i2l, 1) := dk_133 (dk_at dksX22_store_1 23 rfl rfl)
theorem dX22_store_48 : decode cX22_store 48 = .ok (.ladd, 1) := dk_97 (dk_at dksX22_store_2 0 rfl rfl)
theorem dX22_store_49 : decode cX22_store 49 = .ok (.iload_n 3, 1) := dk_29 (dk_at dksX22_store_2 1 rfl rfl)
theorem dX22_store_50 : decode cX22_store 50 = .ok (.i2l, 1) := dk_133 (dk_at dksX22_store_2 2 rfl rfl)
theorem dX22_store_51 : decode cX22_store 51 = .ok (.ladd, 1) := dk_97 (dk_at dksX22_store_2 3 rfl rfl)
theorem dX22_store_52 : decode cX22_store 52 = .ok (.lstore 5, 2) := dk_55 5 (dk_at dksX22_store_2 4 rfl rfl)
theorem dX22_store_54 : decode cX22_store 54 = .ok (.aload_n 0, 1) := dk_42 (dk_at dksX22_store_2 6 rfl rfl)
theorem dX22_store_55 : decode cX22_store 55 = .ok (.getfield 68, 3) := dk_180 0 68 (dk_at dksX22_store_2 7 rfl rfl)
theorem dX22_store_58 : decode cX22_store 58 = .ok (.lload 5, 2) := dk_22 5 (dk_at dksX22_store_2 10 rfl rfl)
theorem dX22_store_60 : decode cX22_store 60 = .ok (.ldc2_w 396, 3) := dk_20 1 140 (dk_at dksX22_store_2 12 rfl rfl)
theorem dX22_store_63 : decode cX22_store 63 = .ok (.lcmp, 1) := dk_148 (dk_at dksX22_store_2 15 rfl rfl)
theorem dX22_store_64 : decode cX22_store 64 = .ok (.ifCond .gt 7, 3) := dk_157 0 7 (dk_at dksX22_store_2 16 rfl rfl)
theorem dX22_store_67 : decode cX22_store 67 = .ok (.iconst 1, 1) := dk_4 (dk_at dksX22_store_2 19 rfl rfl)
theorem dX22_store_68 : decode cX22_store 68 = .ok (.goto 4, 3) := dk_167 0 4 (dk_at dksX22_store_2 20 rfl rfl)
theorem dX22_store_71 : decode cX22_store 71 = .ok (.iconst 0, 1) := dk_3 (dk_at dksX22_store_2 23 rfl rfl)
theorem dX22_store_72 : decode cX22_store 72 = .ok (.bipush 8, 2) := dk_16 8 (dk_at dksX22_store_3 0 rfl rfl)
theorem dX22_store_74 : decode cX22_store 74 = .ok (.invokevirtual 256, 3) := dk_182 1 0 (dk_at dksX22_store_3 2 rfl rfl)
theorem dX22_store_77 : decode cX22_store 77 = .ok (.aload_n 0, 1) := dk_42 (dk_at dksX22_store_3 5 rfl rfl)
theorem dX22_store_78 : decode cX22_store 78 = .ok (.getfield 64, 3) := dk_180 0 64 (dk_at dksX22_store_3 6 rfl rfl)
theorem dX22_store_81 : decode cX22_store 81 = .ok (.lload 5, 2) := dk_22 5 (dk_at dksX22_store_3 9 rfl rfl)
theorem dX22_store_83 : decode cX22_store 83 = .ok (.l2i, 1) := dk_136 (dk_at dksX22_store_3 11 rfl rfl)
theorem dX22_store_84 : decode cX22_store 84 = .ok (.putfield 393, 3) := dk_181 1 137 (dk_at dksX22_store_3 12 rfl rfl)
theorem dX22_store_87 : decode cX22_store 87 = .ok (.aload_n 0, 1) := dk_42 (dk_at dksX22_store_3 15 rfl rfl)
theorem dX22_store_88 : decode cX22_store 88 = .ok (.getfield 64, 3) := dk_180 0 64 (dk_at dksX22_store_3 16 rfl rfl)
theorem dX22_store_91 : decode cX22_store 91 = .ok (.getfield 332, 3) := dk_180 1 76 (dk_at dksX22_store_3 19 rfl rfl)
theorem dX22_store_94 : decode cX22_store 94 = .ok (.iload_n 1, 1) := dk_27 (dk_at dksX22_store_3 22 rfl rfl)
theorem dX22_store_95 : decode cX22_store 95 = .ok (.iload_n 2, 1) := dk_28 (dk_at dksX22_store_3 23 rfl rfl)
theorem dX22_store_96 : decode cX22_store 96 = .ok (.iastore, 1) := dk_79 (dk_at dksX22_store_4 0 rfl rfl)
theorem dX22_store_97 : decode cX22_store 97 = .ok (.aload_n 0, 1) := dk_42 (dk_at dksX22_store_4 1 rfl rfl)
theorem dX22_store_98 : decode cX22_store 98 = .ok (.getfield 56, 3) := dk_180 0 56 (dk_at dksX22_store_4 2 rfl rfl)
theorem dX22_store_101 : decode cX22_store 101 = .ok (.iload_n 2, 1) := dk_28 (dk_at dksX22_store_4 5 rfl rfl)
theorem dX22_store_102 : decode cX22_store 102 = .ok (.invokevirtual 214, 3) := dk_182 0 214 (dk_at dksX22_store_4 6 rfl rfl)
theorem dX22_store_105 : decode cX22_store 105 = .ok (.istore 7, 2) := dk_54 7 (dk_at dksX22_store_4 9 rfl rfl)
theorem dX22_store_107 : decode cX22_store 107 = .ok (.iload 7, 2) := dk_21 7 (dk_at dksX22_store_4 11 rfl rfl)
theorem dX22_store_109 : decode cX22_store 109 = .ok (.aload_n 0, 1) := dk_42 (dk_at dksX22_store_4 13 rfl rfl)
theorem dX22_store_110 : decode cX22_store 110 = .ok (.getfield 64, 3) := dk_180 0 64 (dk_at dksX22_store_4 14 rfl rfl)
theorem dX22_store_113 : decode cX22_store 113 = .ok (.getfield 398, 3) := dk_180 1 142 (dk_at dksX22_store_4 17 rfl rfl)
theorem dX22_store_116 : decode cX22_store 116 = .ok (.iload_n 1, 1) := dk_27 (dk_at dksX22_store_4 20 rfl rfl)
theorem dX22_store_117 : decode cX22_store 117 = .ok (.iaload, 1) := dk_46 (dk_at dksX22_store_4 21 rfl rfl)
theorem dX22_store_118 : decode cX22_store 118 = .ok (.if_icmp .le 30, 3) := dk_164 0 30 (dk_at dksX22_store_5 0 rfl rfl)
theorem dX22_store_121 : decode cX22_store 121 = .ok (.aload_n 0, 1) := dk_42 (dk_at dksX22_store_5 3 rfl rfl)
theorem dX22_store_122 : decode cX22_store 122 = .ok (.iload 7, 2) := dk_21 7 (dk_at dksX22_store_5 4 rfl rfl)
theorem dX22_store_124 : decode cX22_store 124 = .ok (.aload_n 0, 1) := dk_42 (dk_at dksX22_store_5 6 rfl rfl)
theorem dX22_store_125 : decode cX22_store 125 = .ok (.getfield 64, 3) := dk_180 0 64 (dk_at dksX22_store_5 7 rfl rfl)
theorem dX22_store_128 : decode cX22_store 128 = .ok (.getfield 398, 3) := dk_180 1 142 (dk_at dksX22_store_5 10 rfl rfl)
theorem dX22_store_131 : decode cX22_store 131 = .ok (.iload_n 1, 1) := dk_27 (dk_at dksX22_store_5 13 rfl rfl)
theorem dX22_store_132 : decode cX22_store 132 = .ok (.iaload, 1) := dk_46 (dk_at dksX22_store_5 14 rfl rfl)
theorem dX22_store_133 : decode cX22_store 133 = .ok (.isub, 1) := dk_100 (dk_at dksX22_store_5 15 rfl rfl)
theorem dX22_store_134 : decode cX22_store 134 = .ok (.invokevirtual 401, 3) := dk_182 1 145 (dk_at dksX22_store_5 16 rfl rfl)
theorem dX22_store_137 : decode cX22_store 137 = .ok (.aload_n 0, 1) := dk_42 (dk_at dksX22_store_5 19 rfl rfl)
theorem dX22_store_138 : decode cX22_store 138 = .ok (.getfield 64, 3) := dk_180 0 64 (dk_at dksX22_store_5 20 rfl rfl)
theorem dX22_store_141 : decode cX22_store 141 = .ok (.getfield 398, 3) := dk_180 1 142 (dk_at dksX22_store_6 0 rfl rfl)
theorem dX22_store_144 : decode cX22_store 144 = .ok (.iload_n 1, 1) := dk_27 (dk_at dksX22_store_6 3 rfl rfl)
theorem dX22_store_145 : decode cX22_store 145 = .ok (.iload 7, 2) := dk_21 7 (dk_at dksX22_store_6 4 rfl rfl)
theorem dX22_store_147 : decode cX22_store 147 = .ok (.iastore, 1) := dk_79 (dk_at dksX22_store_6 6 rfl rfl)
theorem dX22_store_148 : decode cX22_store 148 = .ok (.return_, 1) := dk_177 (dk_at dksX22_store_6 7 rfl rfl)
abbrev cX22_entryOf : ByteArray := prog_5_method_10_code
def yX22_entryOf : MethodName := ⟨RX22, "entryOf", "(II)I"⟩
def dkwX22_entryOf_2 : List UInt8 := [182, 1, 68, 62, 42, 180, 0, 68, 29, 155, 0, 7, 4, 167, 0, 4, 3, 16, 6, 182, 1, 0, 29, 172]
abbrev dktX22_entryOf_2 : List UInt8 := dkwX22_entryOf_2 ++ []
def dkwX22_entryOf_1 : List UInt8 := [3, 172, 28, 156, 0, 7, 2, 167, 0, 20, 42, 180, 0, 44, 42, 180, 0, 64, 180, 1, 66, 27, 46, 28]
abbrev dktX22_entryOf_1 : List UInt8 := dkwX22_entryOf_1 ++ dktX22_entryOf_2
def dkwX22_entryOf_0 : List UInt8 := [42, 180, 0, 68, 42, 180, 0, 64, 180, 1, 62, 27, 51, 16, 6, 182, 1, 0, 27, 16, 100, 162, 0, 5]
abbrev dktX22_entryOf_0 : List UInt8 := dkwX22_entryOf_0 ++ dktX22_entryOf_1
theorem dksX22_entryOf_0 : cX22_entryOf.data.toList.drop 0 = dktX22_entryOf_0 := by decide +kernel
theorem dksX22_entryOf_1 : cX22_entryOf.data.toList.drop 24 = dktX22_entryOf_1 := dk_seg dksX22_entryOf_0 24 rfl rfl
theorem dksX22_entryOf_2 : cX22_entryOf.data.toList.drop 48 = dktX22_entryOf_2 := dk_seg dksX22_entryOf_1 24 rfl rfl
theorem dX22_entryOf_0 : decode cX22_entryOf 0 = .ok (.aload_n 0, 1) := dk_42 (dk_at dksX22_entryOf_0 0 rfl rfl)
theorem dX22_entryOf_1 : decode cX22_entryOf 1 = .ok (.getfield 68, 3) := dk_180 0 68 (dk_at dksX22_entryOf_0 1 rfl rfl)
theorem dX22_entryOf_4 : decode cX22_entryOf 4 = .ok (.aload_n 0, 1) := dk_42 (dk_at dksX22_entryOf_0 4 rfl rfl)
theorem dX22_entryOf_5 : decode cX22_entryOf 5 = .ok (.getfield 64, 3) := dk_180 0 64 (dk_at dksX22_entryOf_0 5 rfl rfl)
theorem dX22_entryOf_8 : decode cX22_entryOf 8 = .ok (.getfield 318, 3) := dk_180 1 62 (dk_at dksX22_entryOf_0 8 rfl rfl)
theorem dX22_entryOf_11 : decode cX22_entryOf 11 = .ok (.iload_n 1, 1) := dk_27 (dk_at dksX22_entryOf_0 11 rfl rfl)
theorem dX22_entryOf_12 : decode cX22_entryOf 12 = .ok (.baload, 1) := dk_51 (dk_at dksX22_entryOf_0 12 rfl rfl)
theorem dX22_entryOf_13 : decode cX22_entryOf 13 = .ok (.bipush 6, 2) := dk_16 6 (dk_at dksX22_entryOf_0 13 rfl rfl)
theorem dX22_entryOf_15 : decode cX22_entryOf 15 = .ok (.invokevirtual 256, 3) := dk_182 1 0 (dk_at dksX22_entryOf_0 15 rfl rfl)
theorem dX22_entryOf_18 : decode cX22_entryOf 18 = .ok (.iload_n 1, 1) := dk_27 (dk_at dksX22_entryOf_0 18 rfl rfl)
theorem dX22_entryOf_19 : decode cX22_entryOf 19 = .ok (.bipush 100, 2) := dk_16 100 (dk_at dksX22_entryOf_0 19 rfl rfl)
theorem dX22_entryOf_21 : decode cX22_entryOf 21 = .ok (.if_icmp .ge 5, 3) := dk_162 0 5 (dk_at dksX22_entryOf_0 21 rfl rfl)
theorem dX22_entryOf_24 : decode cX22_entryOf 24 = .ok (.iconst 0, 1) := dk_3 (dk_at dksX22_entryOf_1 0 rfl rfl)
theorem dX22_entryOf_25 : decode cX22_entryOf 25 = .ok (.ireturn, 1) := dk_172 (dk_at dksX22_entryOf_1 1 rfl rfl)
theorem dX22_entryOf_26 : decode cX22_entryOf 26 = .ok (.iload_n 2, 1) := dk_28 (dk_at dksX22_entryOf_1 2 rfl rfl)
theorem dX22_entryOf_27 : decode cX22_entryOf 27 = .ok (.ifCond .ge 7, 3) := dk_156 0 7 (dk_at dksX22_entryOf_1 3 rfl rfl)
theorem dX22_entryOf_30 : decode cX22_entryOf 30 = .ok (.iconst (-1), 1) := dk_2 (dk_at dksX22_entryOf_1 6 rfl rfl)
theorem dX22_entryOf_31 : decode cX22_entryOf 31 = .ok (.goto 20, 3) := dk_167 0 20 (dk_at dksX22_entryOf_1 7 rfl rfl)
theorem dX22_entryOf_34 : decode cX22_entryOf 34 = .ok (.aload_n 0, 1) := dk_42 (dk_at dksX22_entryOf_1 10 rfl rfl)
theorem dX22_entryOf_35 : decode cX22_entryOf 35 = .ok (.getfield 44, 3) := dk_180 0 44 (dk_at dksX22_entryOf_1 11 rfl rfl)
theorem dX22_entryOf_38 : decode cX22_entryOf 38 = .ok (.aload_n 0, 1) := dk_42 (dk_at dksX22_entryOf_1 14 rfl rfl)
theorem dX22_entryOf_39 : decode cX22_entryOf 39 = .ok (.getfield 64, 3) := dk_180 0 64 (dk_at dksX22_entryOf_1 15 rfl rfl)
theorem dX22_entryOf_42 : decode cX22_entryOf 42 = .ok (.getfield 322, 3) := dk_180 1 66 (dk_at dksX22_entryOf_1 18 rfl rfl)
theorem dX22_entryOf_45 : decode cX22_entryOf 45 = .ok (.iload_n 1, 1) := dk_27 (dk_at dksX22_entryOf_1 21 rfl rfl)
theorem dX22_entryOf_46 : decode cX22_entryOf 46 = .ok (.iaload, 1) := dk_46 (dk_at dksX22_entryOf_1 22 rfl rfl)
theorem dX22_entryOf_47 : decode cX22_entryOf 47 = .ok (.iload_n 2, 1) := dk_28 (dk_at dksX22_entryOf_1 23 rfl rfl)
theorem dX22_entryOf_48 : decode cX22_entryOf 48 = .ok (.invokevirtual 324, 3) := dk_182 1 68 (dk_at dksX22_entryOf_2 0 rfl rfl)
theorem dX22_entryOf_51 : decode cX22_entryOf 51 = .ok (.istore_n 3, 1) := dk_62 (dk_at dksX22_entryOf_2 3 rfl rfl)
theorem dX22_entryOf_52 : decode cX22_entryOf 52 = .ok (.aload_n 0, 1) := dk_42 (dk_at dksX22_entryOf_2 4 rfl rfl)
theorem dX22_entryOf_53 : decode cX22_entryOf 53 = .ok (.getfield 68, 3) := dk_180 0 68 (dk_at dksX22_entryOf_2 5 rfl rfl)
theorem dX22_entryOf_56 : decode cX22_entryOf 56 = .ok (.iload_n 3, 1) := dk_29 (dk_at dksX22_entryOf_2 8 rfl rfl)
theorem dX22_entryOf_57 : decode cX22_entryOf 57 = .ok (.ifCond .lt 7, 3) := dk_155 0 7 (dk_at dksX22_entryOf_2 9 rfl rfl)
theorem dX22_entryOf_60 : decode cX22_entryOf 60 = .ok (.iconst 1, 1) := dk_4 (dk_at dksX22_entryOf_2 12 rfl rfl)
theorem dX22_entryOf_61 : decode cX22_entryOf 61 = .ok (.goto 4, 3) := dk_167 0 4 (dk_at dksX22_entryOf_2 13 rfl rfl)
theorem dX22_entryOf_64 : decode cX22_entryOf 64 = .ok (.iconst 0, 1) := dk_3 (dk_at dksX22_entryOf_2 16 rfl rfl)
theorem dX22_entryOf_65 : decode cX22_entryOf 65 = .ok (.bipush 6, 2) := dk_16 6 (dk_at dksX22_entryOf_2 17 rfl rfl)
theorem dX22_entryOf_67 : decode cX22_entryOf 67 = .ok (.invokevirtual 256, 3) := dk_182 1 0 (dk_at dksX22_entryOf_2 19 rfl rfl)
theorem dX22_entryOf_70 : decode cX22_entryOf 70 = .ok (.iload_n 3, 1) := dk_29 (dk_at dksX22_entryOf_2 22 rfl rfl)
theorem dX22_entryOf_71 : decode cX22_entryOf 71 = .ok (.ireturn, 1) := dk_172 (dk_at dksX22_entryOf_2 23 rfl rfl)
abbrev cX22_transfer : ByteArray := prog_5_method_12_code
def yX22_transfer : MethodName := ⟨RX22, "transfer", "(IIIJI)V"⟩
def dkwX22_transfer_14 : List UInt8 := [181, 0, 185, 28, 79, 177]
abbrev dktX22_transfer_14 : List UInt8 := dkwX22_transfer_14 ++ []
def dkwX22_transfer_13 : List UInt8 := [180, 0, 56, 21, 10, 5, 182, 1, 114, 79, 42, 180, 0, 29, 42, 89, 180, 0, 185, 90, 4, 96]
abbrev dktX22_transfer_13 : List UInt8 := dkwX22_transfer_13 ++ dktX22_transfer_14
def dkwX22_transfer_12 : List UInt8 := [20, 1, 81, 109, 182, 0, 232, 42, 28, 21, 11, 3, 182, 1, 117, 42, 180, 0, 25, 42, 180, 0, 185, 42]
abbrev dktX22_transfer_12 : List UInt8 := dkwX22_transfer_12 ++ dktX22_transfer_13
def dkwX22_transfer_11 : List UInt8 := [180, 0, 56, 21, 10, 6, 182, 1, 114, 54, 11, 42, 180, 0, 72, 42, 21, 11, 21, 8, 182, 1, 77]
abbrev dktX22_transfer_11 : List UInt8 := dkwX22_transfer_11 ++ dktX22_transfer_12
def dkwX22_transfer_10 : List UInt8 := [180, 0, 56, 21, 9, 42, 180, 0, 64, 180, 1, 76, 28, 46, 182, 1, 108, 182, 1, 111, 54, 10, 42]
abbrev dktX22_transfer_10 : List UInt8 := dkwX22_transfer_10 ++ dktX22_transfer_11
def dkwX22_transfer_9 : List UInt8 := [180, 1, 24, 28, 47, 181, 1, 102, 42, 180, 0, 76, 42, 180, 0, 44, 180, 1, 105, 21, 7, 46, 42]
abbrev dktX22_transfer_9 : List UInt8 := dkwX22_transfer_9 ++ dktX22_transfer_10
def dkwX22_transfer_8 : List UInt8 := [180, 0, 146, 181, 1, 98, 42, 180, 0, 76, 22, 4, 181, 1, 101, 42, 180, 0, 76, 42, 180, 0, 64]
abbrev dktX22_transfer_8 : List UInt8 := dkwX22_transfer_8 ++ dktX22_transfer_9
def dkwX22_transfer_7 : List UInt8 := [167, 255, 200, 42, 180, 0, 76, 28, 181, 1, 92, 42, 180, 0, 76, 27, 181, 1, 95, 42, 180, 0, 76, 42]
abbrev dktX22_transfer_7 : List UInt8 := dkwX22_transfer_7 ++ dktX22_transfer_8
def dkwX22_transfer_6 : List UInt8 := [180, 0, 56, 21, 11, 153, 0, 8, 16, 6, 167, 0, 4, 8, 21, 9, 182, 1, 89, 54, 9, 132, 10, 255]
abbrev dktX22_transfer_6 : List UInt8 := dkwX22_transfer_6 ++ dktX22_transfer_7
def dkwX22_transfer_5 : List UInt8 := [180, 1, 86, 29, 47, 21, 10, 123, 10, 127, 9, 148, 153, 0, 7, 4, 167, 0, 4, 3, 54, 11, 42]
abbrev dktX22_transfer_5 : List UInt8 := dkwX22_transfer_5 ++ dktX22_transfer_6
def dkwX22_transfer_4 : List UInt8 := [54, 9, 42, 180, 0, 44, 180, 1, 83, 29, 51, 4, 100, 54, 10, 21, 10, 155, 0, 57, 42, 180, 0, 44]
abbrev dktX22_transfer_4 : List UInt8 := dkwX22_transfer_4 ++ dktX22_transfer_5
def dkwX22_transfer_3 : List UInt8 := [182, 1, 77, 42, 180, 0, 56, 21, 6, 182, 0, 214, 133, 97, 20, 1, 81, 109, 97, 182, 0, 232, 21, 6]
abbrev dktX22_transfer_3 : List UInt8 := dkwX22_transfer_3 ++ dktX22_transfer_4
def dkwX22_transfer_2 : List UInt8 := [180, 1, 74, 21, 7, 46, 7, 108, 96, 133, 42, 42, 180, 0, 64, 180, 1, 76, 28, 46, 21, 8]
abbrev dktX22_transfer_2 : List UInt8 := dkwX22_transfer_2 ++ dktX22_transfer_3
def dkwX22_transfer_1 : List UInt8 := [54, 7, 42, 180, 0, 44, 180, 1, 51, 21, 7, 46, 54, 8, 42, 180, 0, 72, 16, 100, 42, 180, 0, 44]
abbrev dktX22_transfer_1 : List UInt8 := dkwX22_transfer_1 ++ dktX22_transfer_2
def dkwX22_transfer_0 : List UInt8 := [42, 27, 28, 22, 4, 182, 1, 70, 28, 16, 100, 162, 0, 4, 177, 42, 180, 0, 64, 180, 1, 66, 28, 46]
abbrev dktX22_transfer_0 : List UInt8 := dkwX22_transfer_0 ++ dktX22_transfer_1
theorem dksX22_transfer_0 : cX22_transfer.data.toList.drop 0 = dktX22_transfer_0 := by decide +kernel
theorem dksX22_transfer_1 : cX22_transfer.data.toList.drop 24 = dktX22_transfer_1 := dk_seg dksX22_transfer_0 24 rfl rfl
theorem dksX22_transfer_2 : cX22_transfer.data.toList.drop 48 = dktX22_transfer_2 := dk_seg dksX22_transfer_1 24 rfl rfl
theorem dksX22_transfer_3 : cX22_transfer.data.toList.drop 70 = dktX22_transfer_3 := dk_seg dksX22_transfer_2 22 rfl rfl
theorem dksX22_transfer_4 : cX22_transfer.data.toList.drop 94 = dktX22_transfer_4 := dk_seg dksX22_transfer_3 24 rfl rfl
theorem dksX22_transfer_5 : cX22_transfer.data.toList.drop 118 = dktX22_transfer_5 := dk_seg dksX22_transfer_4 24 rfl rfl
theorem dksX22_transfer_6 : cX22_transfer.data.toList.drop 141 = dktX22_transfer_6 := dk_seg dksX22_transfer_5 23 rfl rfl
theorem dksX22_transfer_7 : cX22_transfer.data.toList.drop 165 = dktX22_transfer_7 := dk_seg dksX22_transfer_6 24 rfl rfl
theorem dksX22_transfer_8 : cX22_transfer.data.toList.drop 189 = dktX22_transfer_8 := dk_seg dksX22_transfer_7 24 rfl rfl
theorem dksX22_transfer_9 : cX22_transfer.data.toList.drop 212 = dktX22_transfer_9 := dk_seg dksX22_transfer_8 23 rfl rfl
theorem dksX22_transfer_10 : cX22_transfer.data.toList.drop 235 = dktX22_transfer_10 := dk_seg dksX22_transfer_9 23 rfl rfl
theorem dksX22_transfer_11 : cX22_transfer.data.toList.drop 258 = dktX22_transfer_11 := dk_seg dksX22_transfer_10 23 rfl rfl
theorem dksX22_transfer_12 : cX22_transfer.data.toList.drop 281 = dktX22_transfer_12 := dk_seg dksX22_transfer_11 23 rfl rfl
theorem dksX22_transfer_13 : cX22_transfer.data.toList.drop 305 = dktX22_transfer_13 := dk_seg dksX22_transfer_12 24 rfl rfl
theorem dksX22_transfer_14 : cX22_transfer.data.toList.drop 327 = dktX22_transfer_14 := dk_seg dksX22_transfer_13 22 rfl rfl
theorem dX22_transfer_0 : decode cX22_transfer 0 = .ok (.aload_n 0, 1) := dk_42 (dk_at dksX22_transfer_0 0 rfl rfl)
theorem dX22_transfer_1 : decode cX22_transfer 1 = .ok (.iload_n 1, 1) := dk_27 (dk_at dksX22_transfer_0 1 rfl rfl)
theorem dX22_transfer_2 : decode cX22_transfer 2 = .ok (.iload_n 2, 1) := dk_28 (dk_at dksX22_transfer_0 2 rfl rfl)
theorem dX22_transfer_3 : decode cX22_transfer 3 = .ok (.lload 4, 2) := dk_22 4 (dk_at dksX22_transfer_0 3 rfl rfl)
theorem dX22_transfer_5 : decode cX22_transfer 5 = .ok (.invokevirtual 326, 3) := dk_182 1 70 (dk_at dksX22_transfer_0 5 rfl rfl)
theorem dX22_transfer_8 : decode cX22_transfer 8 = .ok (.iload_n 2, 1) := dk_28 (dk_at dksX22_transfer_0 8 rfl rfl)
theorem dX22_transfer_9 : decode cX22_transfer 9 = .ok (.bipush 100, 2) := dk_16 100 (dk_at dksX22_transfer_0 9 rfl rfl)
theorem dX22_transfer_11 : decode cX22_transfer 11 = .ok (.if_icmp .ge 4, 3) := dk_162 0 4 (dk_at dksX22_transfer_0 11 rfl rfl)
theorem dX22_transfer_14 : decode cX22_transfer 14 = .ok (.return_, 1) := dk_177 (dk_at dksX22_transfer_0 14 rfl rfl)
theorem dX22_transfer_15 : decode cX22_transfer 15 = .ok (.aload_n 0, 1) := dk_42 (dk_at dksX22_transfer_0 15 rfl rfl)
theorem dX22_transfer_16 : decode cX22_transfer 16 = .ok (.getfield 64, 3) := dk_180 0 64 (dk_at dksX22_transfer_0 16 rfl rfl)
theorem dX22_transfer_19 : decode cX22_transfer 19 = .ok (.getfield 322, 3) := dk_180 1 66 (dk_at dksX22_transfer_0 19 rfl rfl)
theorem dX22_transfer_22 : decode cX22_transfer 22 = .ok (.iload_n 2, 1) := dk_28 (dk_at dksX22_transfer_0 22 rfl rfl)
theorem dX22_transfer_23 : decode cX22_transfer 23 = .ok (.iaload, 1) := dk_46 (dk_at dksX22_transfer_0 23 rfl rfl)
theorem dX22_transfer_24 : decode cX22_transfer 24 = .ok (.istore 7, 2) := dk_54 7 (dk_at dksX22_transfer_1 0 rfl rfl)
theorem dX22_transfer_26 : decode cX22_transfer 26 = .ok (.aload_n 0, 1) := dk_42 (dk_at dksX22_transfer_1 2 rfl rfl)
theorem dX22_transfer_27 : decode cX22_transfer 27 = .ok (.getfield 44, 3) := dk_180 0 44 (dk_at dksX22_transfer_1 3 rfl rfl)
theorem dX22_transfer_30 : decode cX22_transfer 30 = .ok (.getfield 307, 3) := dk_180 1 51 (dk_at dksX22_transfer_1 6 rfl rfl)
theorem dX22_transfer_33 : decode cX22_transfer 33 = .ok (.iload 7, 2) := dk_21 7 (dk_at dksX22_transfer_1 9 rfl rfl)
theorem dX22_transfer_35 : decode cX22_transfer 35 = .ok (.iaload, 1) := dk_46 (dk_at dksX22_transfer_1 11 rfl rfl)
theorem dX22_transfer_36 : decode cX22_transfer 36 = .ok (.istore 8, 2) := dk_54 8 (dk_at dksX22_transfer_1 12 rfl rfl)
theorem dX22_transfer_38 : decode cX22_transfer 38 = .ok (.aload_n 0, 1) := dk_42 (dk_at dksX22_transfer_1 14 rfl rfl)
theorem dX22_transfer_39 : decode cX22_transfer 39 = .ok (.getfield 72, 3) := dk_180 0 72 (dk_at dksX22_transfer_1 15 rfl rfl)
theorem dX22_transfer_42 : decode cX22_transfer 42 = .ok (.bipush 100, 2) := dk_16 100 (dk_at dksX22_transfer_1 18 rfl rfl)
theorem dX22_transfer_44 : decode cX22_transfer 44 = .ok (.aload_n 0, 1) := dk_42 (dk_at dksX22_transfer_1 20 rfl rfl)
theorem dX22_transfer_45 : decode cX22_transfer 45 = .ok (.getfield 44, 3) := dk_180 0 44 (dk_at dksX22_transfer_1 21 rfl rfl)
theorem dX22_transfer_48 : decode cX22_transfer 48 = .ok (.getfield 330, 3) := dk_180 1 74 (dk_at dksX22_transfer_2 0 rfl rfl)
theorem dX22_transfer_51 : decode cX22_transfer 51 = .ok (.iload 7, 2) := dk_21 7 (dk_at dksX22_transfer_2 3 rfl rfl)
theorem dX22_transfer_53 : decode cX22_transfer 53 = .ok (.iaload, 1) := dk_46 (dk_at dksX22_transfer_2 5 rfl rfl)
theorem dX22_transfer_54 : decode cX22_transfer 54 = .ok (.iconst 4, 1) := dk_7 (dk_at dksX22_transfer_2 6 rfl rfl)
theorem dX22_transfer_55 : decode cX22_transfer 55 = .ok (.idiv, 1) := dk_108 (dk_at dksX22_transfer_2 7 rfl rfl)
theorem dX22_transfer_56 : decode cX22_transfer 56 = .ok (.iadd, 1) := dk_96 (dk_at dksX22_transfer_2 8 rfl rfl)
theorem dX22_transfer_57 : decode cX22_transfer 57 = .ok (.i2l, 1) := dk_133 (dk_at dksX22_transfer_2 9 rfl rfl)
theorem dX22_transfer_58 : decode cX22_transfer 58 = .ok (.aload_n 0, 1) := dk_42 (dk_at dksX22_transfer_2 10 rfl rfl)
theorem dX22_transfer_59 : decode cX22_transfer 59 = .ok (.aload_n 0, 1) := dk_42 (dk_at dksX22_transfer_2 11 rfl rfl)
theorem dX22_transfer_60 : decode cX22_transfer 60 = .ok (.getfield 64, 3) := dk_180 0 64 (dk_at dksX22_transfer_2 12 rfl rfl)
theorem dX22_transfer_63 : decode cX22_transfer 63 = .ok (.getfield 332, 3) := dk_180 1 76 (dk_at dksX22_transfer_2 15 rfl rfl)
theorem dX22_transfer_66 : decode cX22_transfer 66 = .ok (.iload_n 2, 1) := dk_28 (dk_at dksX22_transfer_2 18 rfl rfl)
theorem dX22_transfer_67 : decode cX22_transfer 67 = .ok (.iaload, 1) := dk_46 (dk_at dksX22_transfer_2 19 rfl rfl)
theorem dX22_transfer_68 : decode cX22_transfer 68 = .ok (.iload 8, 2) := dk_21 8 (dk_at dksX22_transfer_2 20 rfl rfl)
theorem dX22_transfer_70 : decode cX22_transfer 70 = .ok (.invokevirtual 333, 3) := dk_182 1 77 (dk_at dksX22_transfer_3 0 rfl rfl)
theorem dX22_transfer_73 : decode cX22_transfer 73 = .ok (.aload_n 0, 1) := dk_42 (dk_at dksX22_transfer_3 3 rfl rfl)
theorem dX22_transfer_74 : decode cX22_transfer 74 = .ok (.getfield 56, 3) := dk_180 0 56 (dk_at dksX22_transfer_3 4 rfl rfl)
theorem dX22_transfer_77 : decode cX22_transfer 77 = .ok (.iload 6, 2) := dk_21 6 (dk_at dksX22_transfer_3 7 rfl rfl)
theorem dX22_transfer_79 : decode cX22_transfer 79 = .ok (.invokevirtual 214, 3) := dk_182 0 214 (dk_at dksX22_transfer_3 9 rfl rfl)
theorem dX22_transfer_82 : decode cX22_transfer 82 = .ok (.i2l, 1) := dk_133 (dk_at dksX22_transfer_3 12 rfl rfl)
theorem dX22_transfer_83 : decode cX22_transfer 83 = .ok (.ladd, 1) := dk_97 (dk_at dksX22_transfer_3 13 rfl rfl)
theorem dX22_transfer_84 : decode cX22_transfer 84 = .ok (.ldc2_w 337, 3) := dk_20 1 81 (dk_at dksX22_transfer_3 14 rfl rfl)
theorem dX22_transfer_87 : decode cX22_transfer 87 = .ok (.ldiv, 1) := dk_109 (dk_at dksX22_transfer_3 17 rfl rfl)
theorem dX22_transfer_88 : decode cX22_transfer 88 = .ok (.ladd, 1) := dk_97 (dk_at dksX22_transfer_3 18 rfl rfl)
theorem dX22_transfer_89 : decode cX22_transfer 89 = .ok (.invokevirtual 232, 3) := dk_182 0 232 (dk_at dksX22_transfer_3 19 rfl rfl)
theorem dX22_transfer_92 : decode cX22_transfer 92 = .ok (.iload 6, 2) := dk_21 6 (dk_at dksX22_transfer_3 22 rfl rfl)
theorem dX22_transfer_94 : decode cX22_transfer 94 = .ok (.istore 9, 2) := dk_54 9 (dk_at dksX22_transfer_4 0 rfl rfl)
theorem dX22_transfer_96 : decode cX22_transfer 96 = .ok (.aload_n 0, 1) := dk_42 (dk_at dksX22_transfer_4 2 rfl rfl)
theorem dX22_transfer_97 : decode cX22_transfer 97 = .ok (.getfield 44, 3) := dk_180 0 44 (dk_at dksX22_transfer_4 3 rfl rfl)
theorem dX22_transfer_100 : decode cX22_transfer 100 = .ok (.getfield 339, 3) := dk_180 1 83 (dk_at dksX22_transfer_4 6 rfl rfl)
theorem dX22_transfer_103 : decode cX22_transfer 103 = .ok (.iload_n 3, 1) := dk_29 (dk_at dksX22_transfer_4 9 rfl rfl)
theorem dX22_transfer_104 : decode cX22_transfer 104 = .ok (.baload, 1) := dk_51 (dk_at dksX22_transfer_4 10 rfl rfl)
theorem dX22_transfer_105 : decode cX22_transfer 105 = .ok (.iconst 1, 1) := dk_4 (dk_at dksX22_transfer_4 11 rfl rfl)
theorem dX22_transfer_106 : decode cX22_transfer 106 = .ok (.isub, 1) := dk_100 (dk_at dksX22_transfer_4 12 rfl rfl)
theorem dX22_transfer_107 : decode cX22_transfer 107 = .ok (.istore 10, 2) := dk_54 10 (dk_at dksX22_transfer_4 13 rfl rfl)
theorem dX22_transfer_109 : decode cX22_transfer 109 = .ok (.iload 10, 2) := dk_21 10 (dk_at dksX22_transfer_4 15 rfl rfl)
theorem dX22_transfer_111 : decode cX22_transfer 111 = .ok (.ifCond .lt 57, 3) := dk_155 0 57 (dk_at dksX22_transfer_4 17 rfl rfl)
theorem dX22_transfer_114 : decode cX22_transfer 114 = .ok (.aload_n 0, 1) := dk_42 (dk_at dksX22_transfer_4 20 rfl rfl)
theorem dX22_transfer_115 : decode cX22_transfer 115 = .ok (.getfield 44, 3) := dk_180 0 44 (dk_at dksX22_transfer_4 21 rfl rfl)
theorem dX22_transfer_118 : decode cX22_transfer 118 = .ok (.getfield 342, 3) := dk_180 1 86 (dk_at dksX22_transfer_5 0 rfl rfl)
theorem dX22_transfer_121 : decode cX22_transfer 121 = .ok (.iload_n 3, 1) := dk_29 (dk_at dksX22_transfer_5 3 rfl rfl)
theorem dX22_transfer_122 : decode cX22_transfer 122 = .ok (.laload, 1) := dk_47 (dk_at dksX22_transfer_5 4 rfl rfl)
theorem dX22_transfer_123 : decode cX22_transfer 123 = .ok (.iload 10, 2) := dk_21 10 (dk_at dksX22_transfer_5 5 rfl rfl)
theorem dX22_transfer_125 : decode cX22_transfer 125 = .ok (.lshr, 1) := dk_123 (dk_at dksX22_transfer_5 7 rfl rfl)
theorem dX22_transfer_126 : decode cX22_transfer 126 = .ok (.lconst 1, 1) := dk_10 (dk_at dksX22_transfer_5 8 rfl rfl)
theorem dX22_transfer_127 : decode cX22_transfer 127 = .ok (.land, 1) := dk_127 (dk_at dksX22_transfer_5 9 rfl rfl)
theorem dX22_transfer_128 : decode cX22_transfer 128 = .ok (.lconst 0, 1) := dk_9 (dk_at dksX22_transfer_5 10 rfl rfl)
theorem dX22_transfer_129 : decode cX22_transfer 129 = .ok (.lcmp, 1) := dk_148 (dk_at dksX22_transfer_5 11 rfl rfl)
theorem dX22_transfer_130 : decode cX22_transfer 130 = .ok (.ifCond .eq 7, 3) := dk_153 0 7 (dk_at dksX22_transfer_5 12 rfl rfl)
theorem dX22_transfer_133 : decode cX22_transfer 133 = .ok (.iconst 1, 1) := dk_4 (dk_at dksX22_transfer_5 15 rfl rfl)
theorem dX22_transfer_134 : decode cX22_transfer 134 = .ok (.goto 4, 3) := dk_167 0 4 (dk_at dksX22_transfer_5 16 rfl rfl)
theorem dX22_transfer_137 : decode cX22_transfer 137 = .ok (.iconst 0, 1) := dk_3 (dk_at dksX22_transfer_5 19 rfl rfl)
theorem dX22_transfer_138 : decode cX22_transfer 138 = .ok (.istore 11, 2) := dk_54 11 (dk_at dksX22_transfer_5 20 rfl rfl)
theorem dX22_transfer_140 : decode cX22_transfer 140 = .ok (.aload_n 0, 1) := dk_42 (dk_at dksX22_transfer_5 22 rfl rfl)
theorem dX22_transfer_141 : decode cX22_transfer 141 = .ok (.getfield 56, 3) := dk_180 0 56 (dk_at dksX22_transfer_6 0 rfl rfl)
theorem dX22_transfer_144 : decode cX22_transfer 144 = .ok (.iload 11, 2) := dk_21 11 (dk_at dksX22_transfer_6 3 rfl rfl)
theorem dX22_transfer_146 : decode cX22_transfer 146 = .ok (.ifCond .eq 8, 3) := dk_153 0 8 (dk_at dksX22_transfer_6 5 rfl rfl)
theorem dX22_transfer_149 : decode cX22_transfer 149 = .ok (.bipush 6, 2) := dk_16 6 (dk_at dksX22_transfer_6 8 rfl rfl)
theorem dX22_transfer_151 : decode cX22_transfer 151 = .ok (.goto 4, 3) := dk_167 0 4 (dk_at dksX22_transfer_6 10 rfl rfl)
theorem dX22_transfer_154 : decode cX22_transfer 154 = .ok (.iconst 5, 1) := dk_8 (dk_at dksX22_transfer_6 13 rfl rfl)
theorem dX22_transfer_155 : decode cX22_transfer 155 = .ok (.iload 9, 2) := dk_21 9 (dk_at dksX22_transfer_6 14 rfl rfl)
theorem dX22_transfer_157 : decode cX22_transfer 157 = .ok (.invokevirtual 345, 3) := dk_182 1 89 (dk_at dksX22_transfer_6 16 rfl rfl)
theorem dX22_transfer_160 : decode cX22_transfer 160 = .ok (.istore 9, 2) := dk_54 9 (dk_at dksX22_transfer_6 19 rfl rfl)
theorem dX22_transfer_162 : decode cX22_transfer 162 = .ok (.iinc 10 (-1), 3) := dk_132 10 255 (dk_at dksX22_transfer_6 21 rfl rfl)
theorem dX22_transfer_165 : decode cX22_transfer 165 = .ok (.goto (-56), 3) := dk_167 255 200 (dk_at dksX22_transfer_7 0 rfl rfl)
theorem dX22_transfer_168 : decode cX22_transfer 168 = .ok (.aload_n 0, 1) := dk_42 (dk_at dksX22_transfer_7 3 rfl rfl)
theorem dX22_transfer_169 : decode cX22_transfer 169 = .ok (.getfield 76, 3) := dk_180 0 76 (dk_at dksX22_transfer_7 4 rfl rfl)
theorem dX22_transfer_172 : decode cX22_transfer 172 = .ok (.iload_n 2, 1) := dk_28 (dk_at dksX22_transfer_7 7 rfl rfl)
theorem dX22_transfer_173 : decode cX22_transfer 173 = .ok (.putfield 348, 3) := dk_181 1 92 (dk_at dksX22_transfer_7 8 rfl rfl)
theorem dX22_transfer_176 : decode cX22_transfer 176 = .ok (.aload_n 0, 1) := dk_42 (dk_at dksX22_transfer_7 11 rfl rfl)
theorem dX22_transfer_177 : decode cX22_transfer 177 = .ok (.getfield 76, 3) := dk_180 0 76 (dk_at dksX22_transfer_7 12 rfl rfl)
theorem dX22_transfer_180 : decode cX22_transfer 180 = .ok (.iload_n 1, 1) := dk_27 (dk_at dksX22_transfer_7 15 rfl rfl)
theorem dX22_transfer_181 : decode cX22_transfer 181 = .ok (.putfield 351, 3) := dk_181 1 95 (dk_at dksX22_transfer_7 16 rfl rfl)
theorem dX22_transfer_184 : decode cX22_transfer 184 = .ok (.aload_n 0, 1) := dk_42 (dk_at dksX22_transfer_7 19 rfl rfl)
theorem dX22_transfer_185 : decode cX22_transfer 185 = .ok (.getfield 76, 3) := dk_180 0 76 (dk_at dksX22_transfer_7 20 rfl rfl)
theorem dX22_transfer_188 : decode cX22_transfer 188 = .ok (.aload_n 0, 1) := dk_42 (dk_at dksX22_transfer_7 23 rfl rfl)
theorem dX22_transfer_189 : decode cX22_transfer 189 = .ok (.getfield 146, 3) := dk_180 0 146 (dk_at dksX22_transfer_8 0 rfl rfl)
theorem dX22_transfer_192 : decode cX22_transfer 192 = .ok (.putfield 354, 3) := dk_181 1 98 (dk_at dksX22_transfer_8 3 rfl rfl)
theorem dX22_transfer_195 : decode cX22_transfer 195 = .ok (.aload_n 0, 1) := dk_42 (dk_at dksX22_transfer_8 6 rfl rfl)
theorem dX22_transfer_196 : decode cX22_transfer 196 = .ok (.getfield 76, 3) := dk_180 0 76 (dk_at dksX22_transfer_8 7 rfl rfl)
theorem dX22_transfer_199 : decode cX22_transfer 199 = .ok (.lload 4, 2) := dk_22 4 (dk_at dksX22_transfer_8 10 rfl rfl)
theorem dX22_transfer_201 : decode cX22_transfer 201 = .ok (.putfield 357, 3) := dk_181 1 101 (dk_at dksX22_transfer_8 12 rfl rfl)
theorem dX22_transfer_204 : decode cX22_transfer 204 = .ok (.aload_n 0, 1) := dk_42 (dk_at dksX22_transfer_8 15 rfl rfl)
theorem dX22_transfer_205 : decode cX22_transfer 205 = .ok (.getfield 76, 3) := dk_180 0 76 (dk_at dksX22_transfer_8 16 rfl rfl)
theorem dX22_transfer_208 : decode cX22_transfer 208 = .ok (.aload_n 0, 1) := dk_42 (dk_at dksX22_transfer_8 19 rfl rfl)
theorem dX22_transfer_209 : decode cX22_transfer 209 = .ok (.getfield 64, 3) := dk_180 0 64 (dk_at dksX22_transfer_8 20 rfl rfl)
theorem dX22_transfer_212 : decode cX22_transfer 212 = .ok (.getfield 280, 3) := dk_180 1 24 (dk_at dksX22_transfer_9 0 rfl rfl)
theorem dX22_transfer_215 : decode cX22_transfer 215 = .ok (.iload_n 2, 1) := dk_28 (dk_at dksX22_transfer_9 3 rfl rfl)
theorem dX22_transfer_216 : decode cX22_transfer 216 = .ok (.laload, 1) := dk_47 (dk_at dksX22_transfer_9 4 rfl rfl)
theorem dX22_transfer_217 : decode cX22_transfer 217 = .ok (.putfield 358, 3) := dk_181 1 102 (dk_at dksX22_transfer_9 5 rfl rfl)
theorem dX22_transfer_220 : decode cX22_transfer 220 = .ok (.aload_n 0, 1) := dk_42 (dk_at dksX22_transfer_9 8 rfl rfl)
theorem dX22_transfer_221 : decode cX22_transfer 221 = .ok (.getfield 76, 3) := dk_180 0 76 (dk_at dksX22_transfer_9 9 rfl rfl)
theorem dX22_transfer_224 : decode cX22_transfer 224 = .ok (.aload_n 0, 1) := dk_42 (dk_at dksX22_transfer_9 12 rfl rfl)
theorem dX22_transfer_225 : decode cX22_transfer 225 = .ok (.getfield 44, 3) := dk_180 0 44 (dk_at dksX22_transfer_9 13 rfl rfl)
theorem dX22_transfer_228 : decode cX22_transfer 228 = .ok (.getfield 361, 3) := dk_180 1 105 (dk_at dksX22_transfer_9 16 rfl rfl)
theorem dX22_transfer_231 : decode cX22_transfer 231 = .ok (.iload 7, 2) := dk_21 7 (dk_at dksX22_transfer_9 19 rfl rfl)
theorem dX22_transfer_233 : decode cX22_transfer 233 = .ok (.iaload, 1) := dk_46 (dk_at dksX22_transfer_9 21 rfl rfl)
theorem dX22_transfer_234 : decode cX22_transfer 234 = .ok (.aload_n 0, 1) := dk_42 (dk_at dksX22_transfer_9 22 rfl rfl)
theorem dX22_transfer_235 : decode cX22_transfer 235 = .ok (.getfield 56, 3) := dk_180 0 56 (dk_at dksX22_transfer_10 0 rfl rfl)
theorem dX22_transfer_238 : decode cX22_transfer 238 = .ok (.iload 9, 2) := dk_21 9 (dk_at dksX22_transfer_10 3 rfl rfl)
theorem dX22_transfer_240 : decode cX22_transfer 240 = .ok (.aload_n 0, 1) := dk_42 (dk_at dksX22_transfer_10 5 rfl rfl)
theorem dX22_transfer_241 : decode cX22_transfer 241 = .ok (.getfield 64, 3) := dk_180 0 64 (dk_at dksX22_transfer_10 6 rfl rfl)
theorem dX22_transfer_244 : decode cX22_transfer 244 = .ok (.getfield 332, 3) := dk_180 1 76 (dk_at dksX22_transfer_10 9 rfl rfl)
theorem dX22_transfer_247 : decode cX22_transfer 247 = .ok (.iload_n 2, 1) := dk_28 (dk_at dksX22_transfer_10 12 rfl rfl)
theorem dX22_transfer_248 : decode cX22_transfer 248 = .ok (.iaload, 1) := dk_46 (dk_at dksX22_transfer_10 13 rfl rfl)
theorem dX22_transfer_249 : decode cX22_transfer 249 = .ok (.invokevirtual 364, 3) := dk_182 1 108 (dk_at dksX22_transfer_10 14 rfl rfl)
theorem dX22_transfer_252 : decode cX22_transfer 252 = .ok (.invokevirtual 367, 3) := dk_182 1 111 (dk_at dksX22_transfer_10 17 rfl rfl)
theorem dX22_transfer_255 : decode cX22_transfer 255 = .ok (.istore 10, 2) := dk_54 10 (dk_at dksX22_transfer_10 20 rfl rfl)
theorem dX22_transfer_257 : decode cX22_transfer 257 = .ok (.aload_n 0, 1) := dk_42 (dk_at dksX22_transfer_10 22 rfl rfl)
theorem dX22_transfer_258 : decode cX22_transfer 258 = .ok (.getfield 56, 3) := dk_180 0 56 (dk_at dksX22_transfer_11 0 rfl rfl)
theorem dX22_transfer_261 : decode cX22_transfer 261 = .ok (.iload 10, 2) := dk_21 10 (dk_at dksX22_transfer_11 3 rfl rfl)
theorem dX22_transfer_263 : decode cX22_transfer 263 = .ok (.iconst 3, 1) := dk_6 (dk_at dksX22_transfer_11 5 rfl rfl)
theorem dX22_transfer_264 : decode cX22_transfer 264 = .ok (.invokevirtual 370, 3) := dk_182 1 114 (dk_at dksX22_transfer_11 6 rfl rfl)
theorem dX22_transfer_267 : decode cX22_transfer 267 = .ok (.istore 11, 2) := dk_54 11 (dk_at dksX22_transfer_11 9 rfl rfl)
theorem dX22_transfer_269 : decode cX22_transfer 269 = .ok (.aload_n 0, 1) := dk_42 (dk_at dksX22_transfer_11 11 rfl rfl)
theorem dX22_transfer_270 : decode cX22_transfer 270 = .ok (.getfield 72, 3) := dk_180 0 72 (dk_at dksX22_transfer_11 12 rfl rfl)
theorem dX22_transfer_273 : decode cX22_transfer 273 = .ok (.aload_n 0, 1) := dk_42 (dk_at dksX22_transfer_11 15 rfl rfl)
theorem dX22_transfer_274 : decode cX22_transfer 274 = .ok (.iload 11, 2) := dk_21 11 (dk_at dksX22_transfer_11 16 rfl rfl)
theorem dX22_transfer_276 : decode cX22_transfer 276 = .ok (.iload 8, 2) := dk_21 8 (dk_at dksX22_transfer_11 18 rfl rfl)
theorem dX22_transfer_278 : decode cX22_transfer 278 = .ok (.invokevirtual 333, 3) := dk_182 1 77 (dk_at dksX22_transfer_11 20 rfl rfl)
theorem dX22_transfer_281 : decode cX22_transfer 281 = .ok (.ldc2_w 337, 3) := dk_20 1 81 (dk_at dksX22_transfer_12 0 rfl rfl)
theorem dX22_transfer_284 : decode cX22_transfer 284 = .ok (.ldiv, 1) := dk_109 (dk_at dksX22_transfer_12 3 rfl rfl)
theorem dX22_transfer_285 : decode cX22_transfer 285 = .ok (.invokevirtual 232, 3) := dk_182 0 232 (dk_at dksX22_transfer_12 4 rfl rfl)
theorem dX22_transfer_288 : decode cX22_transfer 288 = .ok (.aload_n 0, 1) := dk_42 (dk_at dksX22_transfer_12 7 rfl rfl)
theorem dX22_transfer_289 : decode cX22_transfer 289 = .ok (.iload_n 2, 1) := dk_28 (dk_at dksX22_transfer_12 8 rfl rfl)
theorem dX22_transfer_290 : decode cX22_transfer 290 = .ok (.iload 11, 2) := dk_21 11 (dk_at dksX22_transfer_12 9 rfl rfl)
theorem dX22_transfer_292 : decode cX22_transfer 292 = .ok (.iconst 0, 1) := dk_3 (dk_at dksX22_transfer_12 11 rfl rfl)
theorem dX22_transfer_293 : decode cX22_transfer 293 = .ok (.invokevirtual 373, 3) := dk_182 1 117 (dk_at dksX22_transfer_12 12 rfl rfl)
theorem dX22_transfer_296 : decode cX22_transfer 296 = .ok (.aload_n 0, 1) := dk_42 (dk_at dksX22_transfer_12 15 rfl rfl)
theorem dX22_transfer_297 : decode cX22_transfer 297 = .ok (.getfield 25, 3) := dk_180 0 25 (dk_at dksX22_transfer_12 16 rfl rfl)
theorem dX22_transfer_300 : decode cX22_transfer 300 = .ok (.aload_n 0, 1) := dk_42 (dk_at dksX22_transfer_12 19 rfl rfl)
theorem dX22_transfer_301 : decode cX22_transfer 301 = .ok (.getfield 185, 3) := dk_180 0 185 (dk_at dksX22_transfer_12 20 rfl rfl)
theorem dX22_transfer_304 : decode cX22_transfer 304 = .ok (.aload_n 0, 1) := dk_42 (dk_at dksX22_transfer_12 23 rfl rfl)
theorem dX22_transfer_305 : decode cX22_transfer 305 = .ok (.getfield 56, 3) := dk_180 0 56 (dk_at dksX22_transfer_13 0 rfl rfl)
theorem dX22_transfer_308 : decode cX22_transfer 308 = .ok (.iload 10, 2) := dk_21 10 (dk_at dksX22_transfer_13 3 rfl rfl)
theorem dX22_transfer_310 : decode cX22_transfer 310 = .ok (.iconst 2, 1) := dk_5 (dk_at dksX22_transfer_13 5 rfl rfl)
theorem dX22_transfer_311 : decode cX22_transfer 311 = .ok (.invokevirtual 370, 3) := dk_182 1 114 (dk_at dksX22_transfer_13 6 rfl rfl)
theorem dX22_transfer_314 : decode cX22_transfer 314 = .ok (.iastore, 1) := dk_79 (dk_at dksX22_transfer_13 9 rfl rfl)
theorem dX22_transfer_315 : decode cX22_transfer 315 = .ok (.aload_n 0, 1) := dk_42 (dk_at dksX22_transfer_13 10 rfl rfl)
theorem dX22_transfer_316 : decode cX22_transfer 316 = .ok (.getfield 29, 3) := dk_180 0 29 (dk_at dksX22_transfer_13 11 rfl rfl)
theorem dX22_transfer_319 : decode cX22_transfer 319 = .ok (.aload_n 0, 1) := dk_42 (dk_at dksX22_transfer_13 14 rfl rfl)
theorem dX22_transfer_320 : decode cX22_transfer 320 = .ok (.dup, 1) := dk_89 (dk_at dksX22_transfer_13 15 rfl rfl)
theorem dX22_transfer_321 : decode cX22_transfer 321 = .ok (.getfield 185, 3) := dk_180 0 185 (dk_at dksX22_transfer_13 16 rfl rfl)
theorem dX22_transfer_324 : decode cX22_transfer 324 = .ok (.dup_x1, 1) := dk_90 (dk_at dksX22_transfer_13 19 rfl rfl)
theorem dX22_transfer_325 : decode cX22_transfer 325 = .ok (.iconst 1, 1) := dk_4 (dk_at dksX22_transfer_13 20 rfl rfl)
theorem dX22_transfer_326 : decode cX22_transfer 326 = .ok (.iadd, 1) := dk_96 (dk_at dksX22_transfer_13 21 rfl rfl)
theorem dX22_transfer_327 : decode cX22_transfer 327 = .ok (.putfield 185, 3) := dk_181 0 185 (dk_at dksX22_transfer_14 0 rfl rfl)
theorem dX22_transfer_330 : decode cX22_transfer 330 = .ok (.iload_n 2, 1) := dk_28 (dk_at dksX22_transfer_14 3 rfl rfl)
theorem dX22_transfer_331 : decode cX22_transfer 331 = .ok (.iastore, 1) := dk_79 (dk_at dksX22_transfer_14 4 rfl rfl)
theorem dX22_transfer_332 : decode cX22_transfer 332 = .ok (.return_, 1) := dk_177 (dk_at dksX22_transfer_14 5 rfl rfl)
abbrev cX22_weight : ByteArray := prog_5_method_13_code
def yX22_weight : MethodName := ⟨RX22, "weight", "(II)J"⟩
def dkwX22_weight_3 : List UInt8 := [180, 0, 56, 27, 6, 182, 1, 114, 42, 180, 0, 36, 180, 1, 134, 28, 46, 182, 1, 77, 97, 173]
abbrev dktX22_weight_3 : List UInt8 := dkwX22_weight_3 ++ []
def dkwX22_weight_2 : List UInt8 := [180, 0, 56, 27, 5, 182, 1, 114, 42, 180, 0, 36, 180, 1, 131, 28, 46, 182, 1, 77, 97, 42, 42]
abbrev dktX22_weight_2 : List UInt8 := dkwX22_weight_2 ++ dktX22_weight_3
def dkwX22_weight_1 : List UInt8 := [180, 0, 36, 180, 1, 124, 28, 51, 16, 16, 160, 0, 7, 20, 1, 127, 173, 20, 1, 129, 42, 42]
abbrev dktX22_weight_1 : List UInt8 := dkwX22_weight_1 ++ dktX22_weight_2
def dkwX22_weight_0 : List UInt8 := [42, 180, 0, 36, 28, 5, 182, 1, 120, 153, 0, 13, 42, 180, 0, 56, 27, 182, 0, 214, 133, 173, 42]
abbrev dktX22_weight_0 : List UInt8 := dkwX22_weight_0 ++ dktX22_weight_1
theorem dksX22_weight_0 : cX22_weight.data.toList.drop 0 = dktX22_weight_0 := by decide +kernel
theorem dksX22_weight_1 : cX22_weight.data.toList.drop 23 = dktX22_weight_1 := dk_seg dksX22_weight_0 23 rfl rfl
theorem dksX22_weight_2 : cX22_weight.data.toList.drop 45 = dktX22_weight_2 := dk_seg dksX22_weight_1 22 rfl rfl
theorem dksX22_weight_3 : cX22_weight.data.toList.drop 68 = dktX22_weight_3 := dk_seg dksX22_weight_2 23 rfl rfl
theorem dX22_weight_0 : decode cX22_weight 0 = .ok (.aload_n 0, 1) := dk_42 (dk_at dksX22_weight_0 0 rfl rfl)
theorem dX22_weight_1 : decode cX22_weight 1 = .ok (.getfield 36, 3) := dk_180 0 36 (dk_at dksX22_weight_0 1 rfl rfl)
theorem dX22_weight_4 : decode cX22_weight 4 = .ok (.iload_n 2, 1) := dk_28 (dk_at dksX22_weight_0 4 rfl rfl)
theorem dX22_weight_5 : decode cX22_weight 5 = .ok (.iconst 2, 1) := dk_5 (dk_at dksX22_weight_0 5 rfl rfl)
theorem dX22_weight_6 : decode cX22_weight 6 = .ok (.invokevirtual 376, 3) := dk_182 1 120 (dk_at dksX22_weight_0 6 rfl rfl)
theorem dX22_weight_9 : decode cX22_weight 9 = .ok (.ifCond .eq 13, 3) := dk_153 0 13 (dk_at dksX22_weight_0 9 rfl rfl)
theorem dX22_weight_12 : decode cX22_weight 12 = .ok (.aload_n 0, 1) := dk_42 (dk_at dksX22_weight_0 12 rfl rfl)
theorem dX22_weight_13 : decode cX22_weight 13 = .ok (.getfield 56, 3) := dk_180 0 56 (dk_at dksX22_weight_0 13 rfl rfl)
theorem dX22_weight_16 : decode cX22_weight 16 = .ok (.iload_n 1, 1) := dk_27 (dk_at dksX22_weight_0 16 rfl rfl)
theorem dX22_weight_17 : decode cX22_weight 17 = .ok (.invokevirtual 214, 3) := dk_182 0 214 (dk_at dksX22_weight_0 17 rfl rfl)
theorem dX22_weight_20 : decode cX22_weight 20 = .ok (.i2l, 1) := dk_133 (dk_at dksX22_weight_0 20 rfl rfl)
theorem dX22_weight_21 : decode cX22_weight 21 = .ok (.lreturn, 1) := dk_173 (dk_at dksX22_weight_0 21 rfl rfl)
theorem dX22_weight_22 : decode cX22_weight 22 = .ok (.aload_n 0, 1) := dk_42 (dk_at dksX22_weight_0 22 rfl rfl)
theorem dX22_weight_23 : decode cX22_weight 23 = .ok (.getfield 36, 3) := dk_180 0 36 (dk_at dksX22_weight_1 0 rfl rfl)
theorem dX22_weight_26 : decode cX22_weight 26 = .ok (.getfield 380, 3) := dk_180 1 124 (dk_at dksX22_weight_1 3 rfl rfl)
theorem dX22_weight_29 : decode cX22_weight 29 = .ok (.iload_n 2, 1) := dk_28 (dk_at dksX22_weight_1 6 rfl rfl)
theorem dX22_weight_30 : decode cX22_weight 30 = .ok (.baload, 1) := dk_51 (dk_at dksX22_weight_1 7 rfl rfl)
theorem dX22_weight_31 : decode cX22_weight 31 = .ok (.bipush 16, 2) := dk_16 16 (dk_at dksX22_weight_1 8 rfl rfl)
theorem dX22_weight_33 : decode cX22_weight 33 = .ok (.if_icmp .ne 7, 3) := dk_160 0 7 (dk_at dksX22_weight_1 10 rfl rfl)
theorem dX22_weight_36 : decode cX22_weight 36 = .ok (.ldc2_w 383, 3) := dk_20 1 127 (dk_at dksX22_weight_1 13 rfl rfl)
theorem dX22_weight_39 : decode cX22_weight 39 = .ok (.lreturn, 1) := dk_173 (dk_at dksX22_weight_1 16 rfl rfl)
theorem dX22_weight_40 : decode cX22_weight 40 = .ok (.ldc2_w 385, 3) := dk_20 1 129 (dk_at dksX22_weight_1 17 rfl rfl)
theorem dX22_weight_43 : decode cX22_weight 43 = .ok (.aload_n 0, 1) := dk_42 (dk_at dksX22_weight_1 20 rfl rfl)
theorem dX22_weight_44 : decode cX22_weight 44 = .ok (.aload_n 0, 1) := dk_42 (dk_at dksX22_weight_1 21 rfl rfl)
theorem dX22_weight_45 : decode cX22_weight 45 = .ok (.getfield 56, 3) := dk_180 0 56 (dk_at dksX22_weight_2 0 rfl rfl)
theorem dX22_weight_48 : decode cX22_weight 48 = .ok (.iload_n 1, 1) := dk_27 (dk_at dksX22_weight_2 3 rfl rfl)
theorem dX22_weight_49 : decode cX22_weight 49 = .ok (.iconst 2, 1) := dk_5 (dk_at dksX22_weight_2 4 rfl rfl)
theorem dX22_weight_50 : decode cX22_weight 50 = .ok (.invokevirtual 370, 3) := dk_182 1 114 (dk_at dksX22_weight_2 5 rfl rfl)
theorem dX22_weight_53 : decode cX22_weight 53 = .ok (.aload_n 0, 1) := dk_42 (dk_at dksX22_weight_2 8 rfl rfl)
theorem dX22_weight_54 : decode cX22_weight 54 = .ok (.getfield 36, 3) := dk_180 0 36 (dk_at dksX22_weight_2 9 rfl rfl)
theorem dX22_weight_57 : decode cX22_weight 57 = .ok (.getfield 387, 3) := dk_180 1 131 (dk_at dksX22_weight_2 12 rfl rfl)
theorem dX22_weight_60 : decode cX22_weight 60 = .ok (.iload_n 2, 1) := dk_28 (dk_at dksX22_weight_2 15 rfl rfl)
theorem dX22_weight_61 : decode cX22_weight 61 = .ok (.iaload, 1) := dk_46 (dk_at dksX22_weight_2 16 rfl rfl)
theorem dX22_weight_62 : decode cX22_weight 62 = .ok (.invokevirtual 333, 3) := dk_182 1 77 (dk_at dksX22_weight_2 17 rfl rfl)
theorem dX22_weight_65 : decode cX22_weight 65 = .ok (.ladd, 1) := dk_97 (dk_at dksX22_weight_2 20 rfl rfl)
theorem dX22_weight_66 : decode cX22_weight 66 = .ok (.aload_n 0, 1) := dk_42 (dk_at dksX22_weight_2 21 rfl rfl)
theorem dX22_weight_67 : decode cX22_weight 67 = .ok (.aload_n 0, 1) := dk_42 (dk_at dksX22_weight_2 22 rfl rfl)
theorem dX22_weight_68 : decode cX22_weight 68 = .ok (.getfield 56, 3) := dk_180 0 56 (dk_at dksX22_weight_3 0 rfl rfl)
theorem dX22_weight_71 : decode cX22_weight 71 = .ok (.iload_n 1, 1) := dk_27 (dk_at dksX22_weight_3 3 rfl rfl)
theorem dX22_weight_72 : decode cX22_weight 72 = .ok (.iconst 3, 1) := dk_6 (dk_at dksX22_weight_3 4 rfl rfl)
theorem dX22_weight_73 : decode cX22_weight 73 = .ok (.invokevirtual 370, 3) := dk_182 1 114 (dk_at dksX22_weight_3 5 rfl rfl)
theorem dX22_weight_76 : decode cX22_weight 76 = .ok (.aload_n 0, 1) := dk_42 (dk_at dksX22_weight_3 8 rfl rfl)
theorem dX22_weight_77 : decode cX22_weight 77 = .ok (.getfield 36, 3) := dk_180 0 36 (dk_at dksX22_weight_3 9 rfl rfl)
theorem dX22_weight_80 : decode cX22_weight 80 = .ok (.getfield 390, 3) := dk_180 1 134 (dk_at dksX22_weight_3 12 rfl rfl)
theorem dX22_weight_83 : decode cX22_weight 83 = .ok (.iload_n 2, 1) := dk_28 (dk_at dksX22_weight_3 15 rfl rfl)
theorem dX22_weight_84 : decode cX22_weight 84 = .ok (.iaload, 1) := dk_46 (dk_at dksX22_weight_3 16 rfl rfl)
theorem dX22_weight_85 : decode cX22_weight 85 = .ok (.invokevirtual 333, 3) := dk_182 1 77 (dk_at dksX22_weight_3 17 rfl rfl)
theorem dX22_weight_88 : decode cX22_weight 88 = .ok (.ladd, 1) := dk_97 (dk_at dksX22_weight_3 20 rfl rfl)
theorem dX22_weight_89 : decode cX22_weight 89 = .ok (.lreturn, 1) := dk_173 (dk_at dksX22_weight_3 21 rfl rfl)
abbrev cX22_next : ByteArray := prog_5_method_17_code
def yX22_next : MethodName := ⟨RX22, "next", "()V"⟩
def dkwX22_next_10 : List UInt8 := [16, 6, 182, 1, 114, 182, 1, 32, 22, 4, 21, 6, 182, 1, 41, 177]
abbrev dktX22_next_10 : List UInt8 := dkwX22_next_10 ++ []
def dkwX22_next_9 : List UInt8 := [155, 0, 7, 4, 167, 0, 4, 3, 8, 182, 1, 0, 42, 28, 21, 7, 42, 21, 7, 42, 180, 0, 56, 29]
abbrev dktX22_next_9 : List UInt8 := dkwX22_next_9 ++ dktX22_next_10
def dkwX22_next_8 : List UInt8 := [21, 6, 182, 1, 59, 177, 42, 180, 0, 68, 42, 180, 0, 64, 180, 1, 24, 28, 47, 22, 4, 148]
abbrev dktX22_next_8 : List UInt8 := dkwX22_next_8 ++ dktX22_next_9
def dkwX22_next_7 : List UInt8 := [180, 0, 56, 29, 16, 7, 182, 1, 114, 54, 8, 21, 8, 155, 0, 17, 42, 28, 21, 7, 21, 8, 22, 4]
abbrev dktX22_next_7 : List UInt8 := dkwX22_next_7 ++ dktX22_next_8
def dkwX22_next_6 : List UInt8 := [180, 0, 56, 29, 6, 182, 1, 114, 54, 6, 42, 180, 0, 56, 29, 8, 182, 1, 114, 54, 7, 42]
abbrev dktX22_next_6 : List UInt8 := dkwX22_next_6 ++ dktX22_next_7
def dkwX22_next_5 : List UInt8 := [181, 1, 159, 42, 180, 0, 56, 42, 180, 0, 56, 29, 5, 182, 1, 114, 182, 1, 164, 55, 4, 42]
abbrev dktX22_next_5 : List UInt8 := dkwX22_next_5 ++ dktX22_next_6
def dkwX22_next_4 : List UInt8 := [154, 0, 7, 4, 167, 0, 4, 3, 16, 10, 182, 1, 0, 42, 180, 0, 153, 89, 180, 1, 159, 4, 96]
abbrev dktX22_next_4 : List UInt8 := dkwX22_next_4 ++ dktX22_next_5
def dkwX22_next_3 : List UInt8 := [42, 180, 0, 68, 42, 180, 0, 153, 180, 1, 159, 16, 64, 162, 0, 18, 42, 180, 0, 56, 29, 182, 1, 162]
abbrev dktX22_next_3 : List UInt8 := dkwX22_next_3 ++ dktX22_next_4
def dkwX22_next_2 : List UInt8 := [182, 1, 114, 62, 42, 180, 0, 25, 42, 180, 0, 185, 4, 100, 42, 180, 0, 56, 27, 6, 182, 1, 114, 79]
abbrev dktX22_next_2 : List UInt8 := dkwX22_next_2 ++ dktX22_next_3
def dkwX22_next_1 : List UInt8 := [100, 181, 0, 185, 177, 42, 180, 0, 29, 42, 180, 0, 185, 4, 100, 46, 61, 42, 180, 0, 56, 27, 5]
abbrev dktX22_next_1 : List UInt8 := dkwX22_next_1 ++ dktX22_next_2
def dkwX22_next_0 : List UInt8 := [42, 180, 0, 25, 42, 180, 0, 185, 4, 100, 46, 60, 27, 16, 10, 160, 0, 14, 42, 89, 180, 0, 185, 4]
abbrev dktX22_next_0 : List UInt8 := dkwX22_next_0 ++ dktX22_next_1
theorem dksX22_next_0 : cX22_next.data.toList.drop 0 = dktX22_next_0 := by decide +kernel
theorem dksX22_next_1 : cX22_next.data.toList.drop 24 = dktX22_next_1 := dk_seg dksX22_next_0 24 rfl rfl
theorem dksX22_next_2 : cX22_next.data.toList.drop 47 = dktX22_next_2 := dk_seg dksX22_next_1 23 rfl rfl
theorem dksX22_next_3 : cX22_next.data.toList.drop 71 = dktX22_next_3 := dk_seg dksX22_next_2 24 rfl rfl
theorem dksX22_next_4 : cX22_next.data.toList.drop 95 = dktX22_next_4 := dk_seg dksX22_next_3 24 rfl rfl
theorem dksX22_next_5 : cX22_next.data.toList.drop 118 = dktX22_next_5 := dk_seg dksX22_next_4 23 rfl rfl
theorem dksX22_next_6 : cX22_next.data.toList.drop 140 = dktX22_next_6 := dk_seg dksX22_next_5 22 rfl rfl
theorem dksX22_next_7 : cX22_next.data.toList.drop 162 = dktX22_next_7 := dk_seg dksX22_next_6 22 rfl rfl
theorem dksX22_next_8 : cX22_next.data.toList.drop 186 = dktX22_next_8 := dk_seg dksX22_next_7 24 rfl rfl
theorem dksX22_next_9 : cX22_next.data.toList.drop 208 = dktX22_next_9 := dk_seg dksX22_next_8 22 rfl rfl
theorem dksX22_next_10 : cX22_next.data.toList.drop 232 = dktX22_next_10 := dk_seg dksX22_next_9 24 rfl rfl
theorem dX22_next_0 : decode cX22_next 0 = .ok (.aload_n 0, 1) := dk_42 (dk_at dksX22_next_0 0 rfl rfl)
theorem dX22_next_1 : decode cX22_next 1 = .ok (.getfield 25, 3) := dk_180 0 25 (dk_at dksX22_next_0 1 rfl rfl)
theorem dX22_next_4 : decode cX22_next 4 = .ok (.aload_n 0, 1) := dk_42 (dk_at dksX22_next_0 4 rfl rfl)
theorem dX22_next_5 : decode cX22_next 5 = .ok (.getfield 185, 3) := dk_180 0 185 (dk_at dksX22_next_0 5 rfl rfl)
theorem dX22_next_8 : decode cX22_next 8 = .ok (.iconst 1, 1) := dk_4 (dk_at dksX22_next_0 8 rfl rfl)
theorem dX22_next_9 : decode cX22_next 9 = .ok (.isub, 1) := dk_100 (dk_at dksX22_next_0 9 rfl rfl)
theorem dX22_next_10 : decode cX22_next 10 = .ok (.iaload, 1) := dk_46 (dk_at dksX22_next_0 10 rfl rfl)
theorem dX22_next_11 : decode cX22_next 11 = .ok (.istore_n 1, 1) := dk_60 (dk_at dksX22_next_0 11 rfl rfl)
theorem dX22_next_12 : decode cX22_next 12 = .ok (.iload_n 1, 1) := dk_27 (dk_at dksX22_next_0 12 rfl rfl)
theorem dX22_next_13 : decode cX22_next 13 = .ok (.bipush 10, 2) := dk_16 10 (dk_at dksX22_next_0 13 rfl rfl)
theorem dX22_next_15 : decode cX22_next 15 = .ok (.if_icmp .ne 14, 3) := dk_160 0 14 (dk_at dksX22_next_0 15 rfl rfl)
theorem dX22_next_18 : decode cX22_next 18 = .ok (.aload_n 0, 1) := dk_42 (dk_at dksX22_next_0 18 rfl rfl)
theorem dX22_next_19 : decode cX22_next 19 = .ok (.dup, 1) := dk_89 (dk_at dksX22_next_0 19 rfl rfl)
theorem dX22_next_20 : decode cX22_next 20 = .ok (.getfield 185, 3) := dk_180 0 185 (dk_at dksX22_next_0 20 rfl rfl)
theorem dX22_next_23 : decode cX22_next 23 = .ok (.iconst 1, 1) := dk_4 (dk_at dksX22_next_0 23 rfl rfl)
theorem dX22_next_24 : decode cX22_next 24 = .ok (.isub, 1) := dk_100 (dk_at dksX22_next_1 0 rfl rfl)
theorem dX22_next_25 : decode cX22_next 25 = .ok (.putfield 185, 3) := dk_181 0 185 (dk_at dksX22_next_1 1 rfl rfl)
theorem dX22_next_28 : decode cX22_next 28 = .ok (.return_, 1) := dk_177 (dk_at dksX22_next_1 4 rfl rfl)
theorem dX22_next_29 : decode cX22_next 29 = .ok (.aload_n 0, 1) := dk_42 (dk_at dksX22_next_1 5 rfl rfl)
theorem dX22_next_30 : decode cX22_next 30 = .ok (.getfield 29, 3) := dk_180 0 29 (dk_at dksX22_next_1 6 rfl rfl)
theorem dX22_next_33 : decode cX22_next 33 = .ok (.aload_n 0, 1) := dk_42 (dk_at dksX22_next_1 9 rfl rfl)
theorem dX22_next_34 : decode cX22_next 34 = .ok (.getfield 185, 3) := dk_180 0 185 (dk_at dksX22_next_1 10 rfl rfl)
theorem dX22_next_37 : decode cX22_next 37 = .ok (.iconst 1, 1) := dk_4 (dk_at dksX22_next_1 13 rfl rfl)
theorem dX22_next_38 : decode cX22_next 38 = .ok (.isub, 1) := dk_100 (dk_at dksX22_next_1 14 rfl rfl)
theorem dX22_next_39 : decode cX22_next 39 = .ok (.iaload, 1) := dk_46 (dk_at dksX22_next_1 15 rfl rfl)
theorem dX22_next_40 : decode cX22_next 40 = .ok (.istore_n 2, 1) := dk_61 (dk_at dksX22_next_1 16 rfl rfl)
theorem dX22_next_41 : decode cX22_next 41 = .ok (.aload_n 0, 1) := dk_42 (dk_at dksX22_next_1 17 rfl rfl)
theorem dX22_next_42 : decode cX22_next 42 = .ok (.getfield 56, 3) := dk_180 0 56 (dk_at dksX22_next_1 18 rfl rfl)
theorem dX22_next_45 : decode cX22_next 45 = .ok (.iload_n 1, 1) := dk_27 (dk_at dksX22_next_1 21 rfl rfl)
theorem dX22_next_46 : decode cX22_next 46 = .ok (.iconst 2, 1) := dk_5 (dk_at dksX22_next_1 22 rfl rfl)
theorem dX22_next_47 : decode cX22_next 47 = .ok (.invokevirtual 370, 3) := dk_182 1 114 (dk_at dksX22_next_2 0 rfl rfl)
theorem dX22_next_50 : decode cX22_next 50 = .ok (.istore_n 3, 1) := dk_62 (dk_at dksX22_next_2 3 rfl rfl)
theorem dX22_next_51 : decode cX22_next 51 = .ok (.aload_n 0, 1) := dk_42 (dk_at dksX22_next_2 4 rfl rfl)
theorem dX22_next_52 : decode cX22_next 52 = .ok (.getfield 25, 3) := dk_180 0 25 (dk_at dksX22_next_2 5 rfl rfl)
theorem dX22_next_55 : decode cX22_next 55 = .ok (.aload_n 0, 1) := dk_42 (dk_at dksX22_next_2 8 rfl rfl)
theorem dX22_next_56 : decode cX22_next 56 = .ok (.getfield 185, 3) := dk_180 0 185 (dk_at dksX22_next_2 9 rfl rfl)
theorem dX22_next_59 : decode cX22_next 59 = .ok (.iconst 1, 1) := dk_4 (dk_at dksX22_next_2 12 rfl rfl)
theorem dX22_next_60 : decode cX22_next 60 = .ok (.isub, 1) := dk_100 (dk_at dksX22_next_2 13 rfl rfl)
theorem dX22_next_61 : decode cX22_next 61 = .ok (.aload_n 0, 1) := dk_42 (dk_at dksX22_next_2 14 rfl rfl)
theorem dX22_next_62 : decode cX22_next 62 = .ok (.getfield 56, 3) := dk_180 0 56 (dk_at dksX22_next_2 15 rfl rfl)
theorem dX22_next_65 : decode cX22_next 65 = .ok (.iload_n 1, 1) := dk_27 (dk_at dksX22_next_2 18 rfl rfl)
theorem dX22_next_66 : decode cX22_next 66 = .ok (.iconst 3, 1) := dk_6 (dk_at dksX22_next_2 19 rfl rfl)
theorem dX22_next_67 : decode cX22_next 67 = .ok (.invokevirtual 370, 3) := dk_182 1 114 (dk_at dksX22_next_2 20 rfl rfl)
theorem dX22_next_70 : decode cX22_next 70 = .ok (.iastore, 1) := dk_79 (dk_at dksX22_next_2 23 rfl rfl)
theorem dX22_next_71 : decode cX22_next 71 = .ok (.aload_n 0, 1) := dk_42 (dk_at dksX22_next_3 0 rfl rfl)
theorem dX22_next_72 : decode cX22_next 72 = .ok (.getfield 68, 3) := dk_180 0 68 (dk_at dksX22_next_3 1 rfl rfl)
theorem dX22_next_75 : decode cX22_next 75 = .ok (.aload_n 0, 1) := dk_42 (dk_at dksX22_next_3 4 rfl rfl)
theorem dX22_next_76 : decode cX22_next 76 = .ok (.getfield 153, 3) := dk_180 0 153 (dk_at dksX22_next_3 5 rfl rfl)
theorem dX22_next_79 : decode cX22_next 79 = .ok (.getfield 415, 3) := dk_180 1 159 (dk_at dksX22_next_3 8 rfl rfl)
theorem dX22_next_82 : decode cX22_next 82 = .ok (.bipush 64, 2) := dk_16 64 (dk_at dksX22_next_3 11 rfl rfl)
theorem dX22_next_84 : decode cX22_next 84 = .ok (.if_icmp .ge 18, 3) := dk_162 0 18 (dk_at dksX22_next_3 13 rfl rfl)
theorem dX22_next_87 : decode cX22_next 87 = .ok (.aload_n 0, 1) := dk_42 (dk_at dksX22_next_3 16 rfl rfl)
theorem dX22_next_88 : decode cX22_next 88 = .ok (.getfield 56, 3) := dk_180 0 56 (dk_at dksX22_next_3 17 rfl rfl)
theorem dX22_next_91 : decode cX22_next 91 = .ok (.iload_n 3, 1) := dk_29 (dk_at dksX22_next_3 20 rfl rfl)
theorem dX22_next_92 : decode cX22_next 92 = .ok (.invokevirtual 418, 3) := dk_182 1 162 (dk_at dksX22_next_3 21 rfl rfl)
theorem dX22_next_95 : decode cX22_next 95 = .ok (.ifCond .ne 7, 3) := dk_154 0 7 (dk_at dksX22_next_4 0 rfl rfl)
theorem dX22_next_98 : decode cX22_next 98 = .ok (.iconst 1, 1) := dk_4 (dk_at dksX22_next_4 3 rfl rfl)
theorem dX22_next_99 : decode cX22_next 99 = .ok (.goto 4, 3) := dk_167 0 4 (dk_at dksX22_next_4 4 rfl rfl)
theorem dX22_next_102 : decode cX22_next 102 = .ok (.iconst 0, 1) := dk_3 (dk_at dksX22_next_4 7 rfl rfl)
theorem dX22_next_103 : decode cX22_next 103 = .ok (.bipush 10, 2) := dk_16 10 (dk_at dksX22_next_4 8 rfl rfl)
theorem dX22_next_105 : decode cX22_next 105 = .ok (.invokevirtual 256, 3) := dk_182 1 0 (dk_at dksX22_next_4 10 rfl rfl)
theorem dX22_next_108 : decode cX22_next 108 = .ok (.aload_n 0, 1) := dk_42 (dk_at dksX22_next_4 13 rfl rfl)
theorem dX22_next_109 : decode cX22_next 109 = .ok (.getfield 153, 3) := dk_180 0 153 (dk_at dksX22_next_4 14 rfl rfl)
theorem dX22_next_112 : decode cX22_next 112 = .ok (.dup, 1) := dk_89 (dk_at dksX22_next_4 17 rfl rfl)
theorem dX22_next_113 : decode cX22_next 113 = .ok (.getfield 415, 3) := dk_180 1 159 (dk_at dksX22_next_4 18 rfl rfl)
theorem dX22_next_116 : decode cX22_next 116 = .ok (.iconst 1, 1) := dk_4 (dk_at dksX22_next_4 21 rfl rfl)
theorem dX22_next_117 : decode cX22_next 117 = .ok (.iadd, 1) := dk_96 (dk_at dksX22_next_4 22 rfl rfl)
theorem dX22_next_118 : decode cX22_next 118 = .ok (.putfield 415, 3) := dk_181 1 159 (dk_at dksX22_next_5 0 rfl rfl)
theorem dX22_next_121 : decode cX22_next 121 = .ok (.aload_n 0, 1) := dk_42 (dk_at dksX22_next_5 3 rfl rfl)
theorem dX22_next_122 : decode cX22_next 122 = .ok (.getfield 56, 3) := dk_180 0 56 (dk_at dksX22_next_5 4 rfl rfl)
theorem dX22_next_125 : decode cX22_next 125 = .ok (.aload_n 0, 1) := dk_42 (dk_at dksX22_next_5 7 rfl rfl)
theorem dX22_next_126 : decode cX22_next 126 = .ok (.getfield 56, 3) := dk_180 0 56 (dk_at dksX22_next_5 8 rfl rfl)
theorem dX22_next_129 : decode cX22_next 129 = .ok (.iload_n 3, 1) := dk_29 (dk_at dksX22_next_5 11 rfl rfl)
theorem dX22_next_130 : decode cX22_next 130 = .ok (.iconst 2, 1) := dk_5 (dk_at dksX22_next_5 12 rfl rfl)
theorem dX22_next_131 : decode cX22_next 131 = .ok (.invokevirtual 370, 3) := dk_182 1 114 (dk_at dksX22_next_5 13 rfl rfl)
theorem dX22_next_134 : decode cX22_next 134 = .ok (.invokevirtual 420, 3) := dk_182 1 164 (dk_at dksX22_next_5 16 rfl rfl)
theorem dX22_next_137 : decode cX22_next 137 = .ok (.lstore 4, 2) := dk_55 4 (dk_at dksX22_next_5 19 rfl rfl)
theorem dX22_next_139 : decode cX22_next 139 = .ok (.aload_n 0, 1) := dk_42 (dk_at dksX22_next_5 21 rfl rfl)
theorem dX22_next_140 : decode cX22_next 140 = .ok (.getfield 56, 3) := dk_180 0 56 (dk_at dksX22_next_6 0 rfl rfl)
theorem dX22_next_143 : decode cX22_next 143 = .ok (.iload_n 3, 1) := dk_29 (dk_at dksX22_next_6 3 rfl rfl)
theorem dX22_next_144 : decode cX22_next 144 = .ok (.iconst 3, 1) := dk_6 (dk_at dksX22_next_6 4 rfl rfl)
theorem dX22_next_145 : decode cX22_next 145 = .ok (.invokevirtual 370, 3) := dk_182 1 114 (dk_at dksX22_next_6 5 rfl rfl)
theorem dX22_next_148 : decode cX22_next 148 = .ok (.istore 6, 2) := dk_54 6 (dk_at dksX22_next_6 8 rfl rfl)
theorem dX22_next_150 : decode cX22_next 150 = .ok (.aload_n 0, 1) := dk_42 (dk_at dksX22_next_6 10 rfl rfl)
theorem dX22_next_151 : decode cX22_next 151 = .ok (.getfield 56, 3) := dk_180 0 56 (dk_at dksX22_next_6 11 rfl rfl)
theorem dX22_next_154 : decode cX22_next 154 = .ok (.iload_n 3, 1) := dk_29 (dk_at dksX22_next_6 14 rfl rfl)
theorem dX22_next_155 : decode cX22_next 155 = .ok (.iconst 5, 1) := dk_8 (dk_at dksX22_next_6 15 rfl rfl)
theorem dX22_next_156 : decode cX22_next 156 = .ok (.invokevirtual 370, 3) := dk_182 1 114 (dk_at dksX22_next_6 16 rfl rfl)
theorem dX22_next_159 : decode cX22_next 159 = .ok (.istore 7, 2) := dk_54 7 (dk_at dksX22_next_6 19 rfl rfl)
theorem dX22_next_161 : decode cX22_next 161 = .ok (.aload_n 0, 1) := dk_42 (dk_at dksX22_next_6 21 rfl rfl)
theorem dX22_next_162 : decode cX22_next 162 = .ok (.getfield 56, 3) := dk_180 0 56 (dk_at dksX22_next_7 0 rfl rfl)
theorem dX22_next_165 : decode cX22_next 165 = .ok (.iload_n 3, 1) := dk_29 (dk_at dksX22_next_7 3 rfl rfl)
theorem dX22_next_166 : decode cX22_next 166 = .ok (.bipush 7, 2) := dk_16 7 (dk_at dksX22_next_7 4 rfl rfl)
theorem dX22_next_168 : decode cX22_next 168 = .ok (.invokevirtual 370, 3) := dk_182 1 114 (dk_at dksX22_next_7 6 rfl rfl)
theorem dX22_next_171 : decode cX22_next 171 = .ok (.istore 8, 2) := dk_54 8 (dk_at dksX22_next_7 9 rfl rfl)
theorem dX22_next_173 : decode cX22_next 173 = .ok (.iload 8, 2) := dk_21 8 (dk_at dksX22_next_7 11 rfl rfl)
theorem dX22_next_175 : decode cX22_next 175 = .ok (.ifCond .lt 17, 3) := dk_155 0 17 (dk_at dksX22_next_7 13 rfl rfl)
theorem dX22_next_178 : decode cX22_next 178 = .ok (.aload_n 0, 1) := dk_42 (dk_at dksX22_next_7 16 rfl rfl)
theorem dX22_next_179 : decode cX22_next 179 = .ok (.iload_n 2, 1) := dk_28 (dk_at dksX22_next_7 17 rfl rfl)
theorem dX22_next_180 : decode cX22_next 180 = .ok (.iload 7, 2) := dk_21 7 (dk_at dksX22_next_7 18 rfl rfl)
theorem dX22_next_182 : decode cX22_next 182 = .ok (.iload 8, 2) := dk_21 8 (dk_at dksX22_next_7 20 rfl rfl)
theorem dX22_next_184 : decode cX22_next 184 = .ok (.lload 4, 2) := dk_22 4 (dk_at dksX22_next_7 22 rfl rfl)
theorem dX22_next_186 : decode cX22_next 186 = .ok (.iload 6, 2) := dk_21 6 (dk_at dksX22_next_8 0 rfl rfl)
theorem dX22_next_188 : decode cX22_next 188 = .ok (.invokevirtual 315, 3) := dk_182 1 59 (dk_at dksX22_next_8 2 rfl rfl)
theorem dX22_next_191 : decode cX22_next 191 = .ok (.return_, 1) := dk_177 (dk_at dksX22_next_8 5 rfl rfl)
theorem dX22_next_192 : decode cX22_next 192 = .ok (.aload_n 0, 1) := dk_42 (dk_at dksX22_next_8 6 rfl rfl)
theorem dX22_next_193 : decode cX22_next 193 = .ok (.getfield 68, 3) := dk_180 0 68 (dk_at dksX22_next_8 7 rfl rfl)
theorem dX22_next_196 : decode cX22_next 196 = .ok (.aload_n 0, 1) := dk_42 (dk_at dksX22_next_8 10 rfl rfl)
theorem dX22_next_197 : decode cX22_next 197 = .ok (.getfield 64, 3) := dk_180 0 64 (dk_at dksX22_next_8 11 rfl rfl)
theorem dX22_next_200 : decode cX22_next 200 = .ok (.getfield 280, 3) := dk_180 1 24 (dk_at dksX22_next_8 14 rfl rfl)
theorem dX22_next_203 : decode cX22_next 203 = .ok (.iload_n 2, 1) := dk_28 (dk_at dksX22_next_8 17 rfl rfl)
theorem dX22_next_204 : decode cX22_next 204 = .ok (.laload, 1) := dk_47 (dk_at dksX22_next_8 18 rfl rfl)
theorem dX22_next_205 : decode cX22_next 205 = .ok (.lload 4, 2) := dk_22 4 (dk_at dksX22_next_8 19 rfl rfl)
theorem dX22_next_207 : decode cX22_next 207 = .ok (.lcmp, 1) := dk_148 (dk_at dksX22_next_8 21 rfl rfl)
theorem dX22_next_208 : decode cX22_next 208 = .ok (.ifCond .lt 7, 3) := dk_155 0 7 (dk_at dksX22_next_9 0 rfl rfl)
theorem dX22_next_211 : decode cX22_next 211 = .ok (.iconst 1, 1) := dk_4 (dk_at dksX22_next_9 3 rfl rfl)
theorem dX22_next_212 : decode cX22_next 212 = .ok (.goto 4, 3) := dk_167 0 4 (dk_at dksX22_next_9 4 rfl rfl)
theorem dX22_next_215 : decode cX22_next 215 = .ok (.iconst 0, 1) := dk_3 (dk_at dksX22_next_9 7 rfl rfl)
theorem dX22_next_216 : decode cX22_next 216 = .ok (.iconst 5, 1) := dk_8 (dk_at dksX22_next_9 8 rfl rfl)
theorem dX22_next_217 : decode cX22_next 217 = .ok (.invokevirtual 256, 3) := dk_182 1 0 (dk_at dksX22_next_9 9 rfl rfl)
theorem dX22_next_220 : decode cX22_next 220 = .ok (.aload_n 0, 1) := dk_42 (dk_at dksX22_next_9 12 rfl rfl)
theorem dX22_next_221 : decode cX22_next 221 = .ok (.iload_n 2, 1) := dk_28 (dk_at dksX22_next_9 13 rfl rfl)
theorem dX22_next_222 : decode cX22_next 222 = .ok (.iload 7, 2) := dk_21 7 (dk_at dksX22_next_9 14 rfl rfl)
theorem dX22_next_224 : decode cX22_next 224 = .ok (.aload_n 0, 1) := dk_42 (dk_at dksX22_next_9 16 rfl rfl)
theorem dX22_next_225 : decode cX22_next 225 = .ok (.iload 7, 2) := dk_21 7 (dk_at dksX22_next_9 17 rfl rfl)
theorem dX22_next_227 : decode cX22_next 227 = .ok (.aload_n 0, 1) := dk_42 (dk_at dksX22_next_9 19 rfl rfl)
theorem dX22_next_228 : decode cX22_next 228 = .ok (.getfield 56, 3) := dk_180 0 56 (dk_at dksX22_next_9 20 rfl rfl)
theorem dX22_next_231 : decode cX22_next 231 = .ok (.iload_n 3, 1) := dk_29 (dk_at dksX22_next_9 23 rfl rfl)
theorem dX22_next_232 : decode cX22_next 232 = .ok (.bipush 6, 2) := dk_16 6 (dk_at dksX22_next_10 0 rfl rfl)
theorem dX22_next_234 : decode cX22_next 234 = .ok (.invokevirtual 370, 3) := dk_182 1 114 (dk_at dksX22_next_10 2 rfl rfl)
theorem dX22_next_237 : decode cX22_next 237 = .ok (.invokevirtual 288, 3) := dk_182 1 32 (dk_at dksX22_next_10 5 rfl rfl)
theorem dX22_next_240 : decode cX22_next 240 = .ok (.lload 4, 2) := dk_22 4 (dk_at dksX22_next_10 8 rfl rfl)
theorem dX22_next_242 : decode cX22_next 242 = .ok (.iload 6, 2) := dk_21 6 (dk_at dksX22_next_10 10 rfl rfl)
theorem dX22_next_244 : decode cX22_next 244 = .ok (.invokevirtual 297, 3) := dk_182 1 41 (dk_at dksX22_next_10 12 rfl rfl)
theorem dX22_next_247 : decode cX22_next 247 = .ok (.return_, 1) := dk_177 (dk_at dksX22_next_10 15 rfl rfl)
abbrev cX22_noteFailure : ByteArray := prog_5_method_7_code
def yX22_noteFailure : MethodName := ⟨RX22, "noteFailure", "()V"⟩
def dkwX22_noteFailure_3 : List UInt8 := [180, 0, 76, 180, 0, 218, 182, 0, 221, 42, 42, 180, 0, 60, 180, 0, 227, 181, 0, 18, 177]
abbrev dktX22_noteFailure_3 : List UInt8 := dkwX22_noteFailure_3 ++ []
def dkwX22_noteFailure_2 : List UInt8 := [181, 0, 18, 27, 153, 0, 40, 42, 180, 0, 60, 42, 180, 0, 15, 3, 42, 180, 0, 76, 180, 0, 210, 42]
abbrev dktX22_noteFailure_2 : List UInt8 := dkwX22_noteFailure_2 ++ dktX22_noteFailure_3
def dkwX22_noteFailure_1 : List UInt8 := [180, 0, 76, 180, 0, 210, 182, 0, 214, 17, 64, 0, 163, 0, 7, 4, 167, 0, 4, 3, 60, 42, 2]
abbrev dktX22_noteFailure_1 : List UInt8 := dkwX22_noteFailure_1 ++ dktX22_noteFailure_2
def dkwX22_noteFailure_0 : List UInt8 := [42, 180, 0, 56, 3, 181, 0, 137, 42, 180, 0, 68, 180, 0, 180, 4, 160, 0, 75, 42, 180, 0, 56, 42]
abbrev dktX22_noteFailure_0 : List UInt8 := dkwX22_noteFailure_0 ++ dktX22_noteFailure_1
theorem dksX22_noteFailure_0 : cX22_noteFailure.data.toList.drop 0 = dktX22_noteFailure_0 := by decide +kernel
theorem dksX22_noteFailure_1 : cX22_noteFailure.data.toList.drop 24 = dktX22_noteFailure_1 := dk_seg dksX22_noteFailure_0 24 rfl rfl
theorem dksX22_noteFailure_2 : cX22_noteFailure.data.toList.drop 47 = dktX22_noteFailure_2 := dk_seg dksX22_noteFailure_1 23 rfl rfl
theorem dksX22_noteFailure_3 : cX22_noteFailure.data.toList.drop 71 = dktX22_noteFailure_3 := dk_seg dksX22_noteFailure_2 24 rfl rfl
theorem dX22_noteFailure_0 : decode cX22_noteFailure 0 = .ok (.aload_n 0, 1) := dk_42 (dk_at dksX22_noteFailure_0 0 rfl rfl)
theorem dX22_noteFailure_1 : decode cX22_noteFailure 1 = .ok (.getfield 56, 3) := dk_180 0 56 (dk_at dksX22_noteFailure_0 1 rfl rfl)
theorem dX22_noteFailure_4 : decode cX22_noteFailure 4 = .ok (.iconst 0, 1) := dk_3 (dk_at dksX22_noteFailure_0 4 rfl rfl)
theorem dX22_noteFailure_5 : decode cX22_noteFailure 5 = .ok (.putfield 137, 3) := dk_181 0 137 (dk_at dksX22_noteFailure_0 5 rfl rfl)
theorem dX22_noteFailure_8 : decode cX22_noteFailure 8 = .ok (.aload_n 0, 1) := dk_42 (dk_at dksX22_noteFailure_0 8 rfl rfl)
theorem dX22_noteFailure_9 : decode cX22_noteFailure 9 = .ok (.getfield 68, 3) := dk_180 0 68 (dk_at dksX22_noteFailure_0 9 rfl rfl)
theorem dX22_noteFailure_12 : decode cX22_noteFailure 12 = .ok (.getfield 180, 3) := dk_180 0 180 (dk_at dksX22_noteFailure_0 12 rfl rfl)
theorem dX22_noteFailure_15 : decode cX22_noteFailure 15 = .ok (.iconst 1, 1) := dk_4 (dk_at dksX22_noteFailure_0 15 rfl rfl)
theorem dX22_noteFailure_16 : decode cX22_noteFailure 16 = .ok (.if_icmp .ne 75, 3) := dk_160 0 75 (dk_at dksX22_noteFailure_0 16 rfl rfl)
theorem dX22_noteFailure_19 : decode cX22_noteFailure 19 = .ok (.aload_n 0, 1) := dk_42 (dk_at dksX22_noteFailure_0 19 rfl rfl)
theorem dX22_noteFailure_20 : decode cX22_noteFailure 20 = .ok (.getfield 56, 3) := dk_180 0 56 (dk_at dksX22_noteFailure_0 20 rfl rfl)
theorem dX22_noteFailure_23 : decode cX22_noteFailure 23 = .ok (.aload_n 0, 1) := dk_42 (dk_at dksX22_noteFailure_0 23 rfl rfl)
theorem dX22_noteFailure_24 : decode cX22_noteFailure 24 = .ok (.getfield 76, 3) := dk_180 0 76 (dk_at dksX22_noteFailure_1 0 rfl rfl)
theorem dX22_noteFailure_27 : decode cX22_noteFailure 27 = .ok (.getfield 210, 3) := dk_180 0 210 (dk_at dksX22_noteFailure_1 3 rfl rfl)
theorem dX22_noteFailure_30 : decode cX22_noteFailure 30 = .ok (.invokevirtual 214, 3) := dk_182 0 214 (dk_at dksX22_noteFailure_1 6 rfl rfl)
theorem dX22_noteFailure_33 : decode cX22_noteFailure 33 = .ok (.sipush 16384, 3) := dk_17 64 0 (dk_at dksX22_noteFailure_1 9 rfl rfl)
theorem dX22_noteFailure_36 : decode cX22_noteFailure 36 = .ok (.if_icmp .gt 7, 3) := dk_163 0 7 (dk_at dksX22_noteFailure_1 12 rfl rfl)
theorem dX22_noteFailure_39 : decode cX22_noteFailure 39 = .ok (.iconst 1, 1) := dk_4 (dk_at dksX22_noteFailure_1 15 rfl rfl)
theorem dX22_noteFailure_40 : decode cX22_noteFailure 40 = .ok (.goto 4, 3) := dk_167 0 4 (dk_at dksX22_noteFailure_1 16 rfl rfl)
theorem dX22_noteFailure_43 : decode cX22_noteFailure 43 = .ok (.iconst 0, 1) := dk_3 (dk_at dksX22_noteFailure_1 19 rfl rfl)
theorem dX22_noteFailure_44 : decode cX22_noteFailure 44 = .ok (.istore_n 1, 1) := dk_60 (dk_at dksX22_noteFailure_1 20 rfl rfl)
theorem dX22_noteFailure_45 : decode cX22_noteFailure 45 = .ok (.aload_n 0, 1) := dk_42 (dk_at dksX22_noteFailure_1 21 rfl rfl)
theorem dX22_noteFailure_46 : decode cX22_noteFailure 46 = .ok (.iconst (-1), 1) := dk_2 (dk_at dksX22_noteFailure_1 22 rfl rfl)
theorem dX22_noteFailure_47 : decode cX22_noteFailure 47 = .ok (.putfield 18, 3) := dk_181 0 18 (dk_at dksX22_noteFailure_2 0 rfl rfl)
theorem dX22_noteFailure_50 : decode cX22_noteFailure 50 = .ok (.iload_n 1, 1) := dk_27 (dk_at dksX22_noteFailure_2 3 rfl rfl)
theorem dX22_noteFailure_51 : decode cX22_noteFailure 51 = .ok (.ifCond .eq 40, 3) := dk_153 0 40 (dk_at dksX22_noteFailure_2 4 rfl rfl)
theorem dX22_noteFailure_54 : decode cX22_noteFailure 54 = .ok (.aload_n 0, 1) := dk_42 (dk_at dksX22_noteFailure_2 7 rfl rfl)
theorem dX22_noteFailure_55 : decode cX22_noteFailure 55 = .ok (.getfield 60, 3) := dk_180 0 60 (dk_at dksX22_noteFailure_2 8 rfl rfl)
theorem dX22_noteFailure_58 : decode cX22_noteFailure 58 = .ok (.aload_n 0, 1) := dk_42 (dk_at dksX22_noteFailure_2 11 rfl rfl)
theorem dX22_noteFailure_59 : decode cX22_noteFailure 59 = .ok (.getfield 15, 3) := dk_180 0 15 (dk_at dksX22_noteFailure_2 12 rfl rfl)
theorem dX22_noteFailure_62 : decode cX22_noteFailure 62 = .ok (.iconst 0, 1) := dk_3 (dk_at dksX22_noteFailure_2 15 rfl rfl)
theorem dX22_noteFailure_63 : decode cX22_noteFailure 63 = .ok (.aload_n 0, 1) := dk_42 (dk_at dksX22_noteFailure_2 16 rfl rfl)
theorem dX22_noteFailure_64 : decode cX22_noteFailure 64 = .ok (.getfield 76, 3) := dk_180 0 76 (dk_at dksX22_noteFailure_2 17 rfl rfl)
theorem dX22_noteFailure_67 : decode cX22_noteFailure 67 = .ok (.getfield 210, 3) := dk_180 0 210 (dk_at dksX22_noteFailure_2 20 rfl rfl)
theorem dX22_noteFailure_70 : decode cX22_noteFailure 70 = .ok (.aload_n 0, 1) := dk_42 (dk_at dksX22_noteFailure_2 23 rfl rfl)
theorem dX22_noteFailure_71 : decode cX22_noteFailure 71 = .ok (.getfield 76, 3) := dk_180 0 76 (dk_at dksX22_noteFailure_3 0 rfl rfl)
theorem dX22_noteFailure_74 : decode cX22_noteFailure 74 = .ok (.getfield 218, 3) := dk_180 0 218 (dk_at dksX22_noteFailure_3 3 rfl rfl)
theorem dX22_noteFailure_77 : decode cX22_noteFailure 77 = .ok (.invokevirtual 221, 3) := dk_182 0 221 (dk_at dksX22_noteFailure_3 6 rfl rfl)
theorem dX22_noteFailure_80 : decode cX22_noteFailure 80 = .ok (.aload_n 0, 1) := dk_42 (dk_at dksX22_noteFailure_3 9 rfl rfl)
theorem dX22_noteFailure_81 : decode cX22_noteFailure 81 = .ok (.aload_n 0, 1) := dk_42 (dk_at dksX22_noteFailure_3 10 rfl rfl)
theorem dX22_noteFailure_82 : decode cX22_noteFailure 82 = .ok (.getfield 60, 3) := dk_180 0 60 (dk_at dksX22_noteFailure_3 11 rfl rfl)
theorem dX22_noteFailure_85 : decode cX22_noteFailure 85 = .ok (.getfield 227, 3) := dk_180 0 227 (dk_at dksX22_noteFailure_3 14 rfl rfl)
theorem dX22_noteFailure_88 : decode cX22_noteFailure 88 = .ok (.putfield 18, 3) := dk_181 0 18 (dk_at dksX22_noteFailure_3 17 rfl rfl)
theorem dX22_noteFailure_91 : decode cX22_noteFailure 91 = .ok (.return_, 1) := dk_177 (dk_at dksX22_noteFailure_3 20 rfl rfl)
theorem q389 : (Jvm.Cond.initialized "ContractLedger$Doing") ∈ lw_all := lw_g (lw_at lw_m1 32 rfl) rfl
theorem q483 : (Jvm.Cond.fieldLink "ContractLedger$Doing" (180 : Nat) "ContractLedger$Failing" "why" "I") ∈ lw_all := lw_g (lw_at lw_m1 126 rfl) rfl
theorem q684 : (Jvm.Cond.fieldLink "ContractLedger$Doing" (253 : Nat) "ContractLedger$Terms" "counts" "[I") ∈ lw_all := lw_g (lw_at lw_m2 87 rfl) rfl
theorem q687 : (Jvm.Cond.fieldLink "ContractLedger$Doing" (248 : Nat) "ContractLedger$Terms" "count" "I") ∈ lw_all := lw_g (lw_at lw_m2 90 rfl) rfl
theorem q690 : (Jvm.Cond.fieldLink "ContractLedger$Doing" (242 : Nat) "ContractLedger$Terms" "wrong" "I") ∈ lw_all := lw_g (lw_at lw_m2 93 rfl) rfl
theorem q756 : (Jvm.Cond.fieldLink "ContractLedger$Doing" (380 : Nat) "ContractLedger$Types" "words" "[B") ∈ lw_all := lw_g (lw_at lw_m2 159 rfl) rfl
theorem q762 : (Jvm.Cond.fieldLink "ContractLedger$Doing" (387 : Nat) "ContractLedger$Types" "lefts" "[I") ∈ lw_all := lw_g (lw_at lw_m2 165 rfl) rfl
theorem q768 : (Jvm.Cond.fieldLink "ContractLedger$Doing" (390 : Nat) "ContractLedger$Types" "rights" "[I") ∈ lw_all := lw_g (lw_at lw_m2 171 rfl) rfl
theorem q774 : (Jvm.Cond.fieldLink "ContractLedger$Doing" (86 : Nat) "ContractLedger$Types" "count" "I") ∈ lw_all := lw_g (lw_at lw_m2 177 rfl) rfl
theorem q808 : (Jvm.Cond.fieldLink "ContractLedger$Doing" (137 : Nat) "ContractLedger$Memory" "stays" "Z") ∈ lw_all := lw_g (lw_at lw_m2 211 rfl) rfl
theorem q937 : (Jvm.Cond.fieldLink "ContractLedger$Doing" (227 : Nat) "ContractLedger$Forms" "size" "I") ∈ lw_all := lw_g (lw_at lw_m3 100 rfl) rfl
theorem q1005 : (Jvm.Cond.fieldLink "ContractLedger$Doing" (94 : Nat) "ContractLedger$Names" "count" "I") ∈ lw_all := lw_g (lw_at lw_m3 168 rfl) rfl
theorem q1024 : (Jvm.Cond.fieldLink "ContractLedger$Doing" (307 : Nat) "ContractLedger$Scripts" "storages" "[I") ∈ lw_all := lw_g (lw_at lw_m3 187 rfl) rfl
theorem q1028 : (Jvm.Cond.fieldLink "ContractLedger$Doing" (361 : Nat) "ContractLedger$Scripts" "codes" "[I") ∈ lw_all := lw_g (lw_at lw_m3 191 rfl) rfl
theorem q1033 : (Jvm.Cond.fieldLink "ContractLedger$Doing" (330 : Nat) "ContractLedger$Scripts" "terms" "[I") ∈ lw_all := lw_g (lw_at lw_m3 196 rfl) rfl
theorem q1036 : (Jvm.Cond.fieldLink "ContractLedger$Doing" (413 : Nat) "ContractLedger$Scripts" "bytes" "[I") ∈ lw_all := lw_g (lw_at lw_m3 199 rfl) rfl
theorem q1038 : (Jvm.Cond.fieldLink "ContractLedger$Doing" (100 : Nat) "ContractLedger$Scripts" "count" "I") ∈ lw_all := lw_g (lw_at lw_m3 201 rfl) rfl
theorem q1044 : (Jvm.Cond.fieldLink "ContractLedger$Doing" (293 : Nat) "ContractLedger$Scripts" "types" "[I") ∈ lw_all := lw_g (lw_at lw_m3 207 rfl) rfl
theorem q1048 : (Jvm.Cond.fieldLink "ContractLedger$Doing" (342 : Nat) "ContractLedger$Scripts" "ways" "[J") ∈ lw_all := lw_g (lw_at lw_m3 211 rfl) rfl
theorem q1051 : (Jvm.Cond.fieldLink "ContractLedger$Doing" (339 : Nat) "ContractLedger$Scripts" "depths" "[B") ∈ lw_all := lw_g (lw_at lw_m3 214 rfl) rfl
theorem q1053 : (Jvm.Cond.fieldLink "ContractLedger$Doing" (106 : Nat) "ContractLedger$Scripts" "entries" "I") ∈ lw_all := lw_g (lw_at lw_m3 216 rfl) rfl
theorem q1059 : (Jvm.Cond.fieldLink "ContractLedger$Doing" (112 : Nat) "ContractLedger$Scripts" "top" "I") ∈ lw_all := lw_g (lw_at lw_m3 222 rfl) rfl
theorem q1116 : (Jvm.Cond.fieldLink "ContractLedger$Doing" (306 : Nat) "ContractLedger$Typer" "place" "I") ∈ lw_all := lw_g (lw_at lw_m4 39 rfl) rfl
theorem q1160 : (Jvm.Cond.fieldLink "ContractLedger$Doing" (280 : Nat) "ContractLedger$World" "balances" "[J") ∈ lw_all := lw_g (lw_at lw_m4 83 rfl) rfl
theorem q1163 : (Jvm.Cond.fieldLink "ContractLedger$Doing" (318 : Nat) "ContractLedger$World" "exists" "[Z") ∈ lw_all := lw_g (lw_at lw_m4 86 rfl) rfl
theorem q1167 : (Jvm.Cond.fieldLink "ContractLedger$Doing" (322 : Nat) "ContractLedger$World" "scripts" "[I") ∈ lw_all := lw_g (lw_at lw_m4 90 rfl) rfl
theorem q1171 : (Jvm.Cond.fieldLink "ContractLedger$Doing" (332 : Nat) "ContractLedger$World" "storages" "[I") ∈ lw_all := lw_g (lw_at lw_m4 94 rfl) rfl
theorem q1174 : (Jvm.Cond.fieldLink "ContractLedger$Doing" (398 : Nat) "ContractLedger$World" "paid" "[I") ∈ lw_all := lw_g (lw_at lw_m4 97 rfl) rfl
theorem q1180 : (Jvm.Cond.fieldLink "ContractLedger$Doing" (310 : Nat) "ContractLedger$World" "next" "I") ∈ lw_all := lw_g (lw_at lw_m4 103 rfl) rfl
theorem q1184 : (Jvm.Cond.fieldLink "ContractLedger$Doing" (393 : Nat) "ContractLedger$World" "stored" "I") ∈ lw_all := lw_g (lw_at lw_m4 107 rfl) rfl
theorem q1188 : (Jvm.Cond.fieldLink "ContractLedger$Doing" (410 : Nat) "ContractLedger$World" "burnt" "J") ∈ lw_all := lw_g (lw_at lw_m4 111 rfl) rfl
theorem q1317 : (Jvm.Cond.fieldLink "ContractLedger$Doing" (348 : Nat) "ContractLedger$Machine" "self" "I") ∈ lw_all := lw_g (lw_at lw_m5 0 rfl) rfl
theorem q1319 : (Jvm.Cond.fieldLink "ContractLedger$Doing" (351 : Nat) "ContractLedger$Machine" "sender" "I") ∈ lw_all := lw_g (lw_at lw_m5 2 rfl) rfl
theorem q1321 : (Jvm.Cond.fieldLink "ContractLedger$Doing" (354 : Nat) "ContractLedger$Machine" "source" "I") ∈ lw_all := lw_g (lw_at lw_m5 4 rfl) rfl
theorem q1323 : (Jvm.Cond.fieldLink "ContractLedger$Doing" (357 : Nat) "ContractLedger$Machine" "amount" "J") ∈ lw_all := lw_g (lw_at lw_m5 6 rfl) rfl
theorem q1325 : (Jvm.Cond.fieldLink "ContractLedger$Doing" (358 : Nat) "ContractLedger$Machine" "balance" "J") ∈ lw_all := lw_g (lw_at lw_m5 8 rfl) rfl
theorem q1327 : (Jvm.Cond.fieldLink "ContractLedger$Doing" (210 : Nat) "ContractLedger$Machine" "failed" "I") ∈ lw_all := lw_g (lw_at lw_m5 10 rfl) rfl
theorem q1329 : (Jvm.Cond.fieldLink "ContractLedger$Doing" (218 : Nat) "ContractLedger$Machine" "failedType" "I") ∈ lw_all := lw_g (lw_at lw_m5 12 rfl) rfl
theorem q1397 : (Jvm.Cond.instantiable "ContractLedger$Doing" (28 : Nat)) ∈ lw_all := lw_g (lw_at lw_m5 80 rfl) rfl
theorem q1399 : (Jvm.Cond.instanceMethod ({ cls := "ContractLedger$Doing", name := "<init>", desc := "(LContractLedger$Terms;LContractLedger$Types;LContractLedger$Names;LContractLedger$Scripts;LContractLedger$Typer;LContractLedger$Data;LContractLedger$Memory;LContractLedger$Forms;LContractLedger$World;LContractLedger$Failing;LContractLedger$Gas;LContractLedger$Machine;)V" } : Jvm.MethodName)) ∈ lw_all := lw_g (lw_at lw_m5 82 rfl) rfl
theorem q1400 : (Jvm.Cond.code ({ cls := "ContractLedger$Doing", name := "<init>", desc := "(LContractLedger$Terms;LContractLedger$Types;LContractLedger$Names;LContractLedger$Scripts;LContractLedger$Typer;LContractLedger$Data;LContractLedger$Memory;LContractLedger$Forms;LContractLedger$World;LContractLedger$Failing;LContractLedger$Gas;LContractLedger$Machine;)V" } : Jvm.MethodName) prog_5_method_1_code (13 : Nat) (Option.none : Option Jvm.ClassFile.FieldType)) ∈ lw_all := lw_g (lw_at lw_m5 83 rfl) rfl
theorem q1401 : (Jvm.Cond.methodLinkNest "ContractLedger$Doing" (3 : Nat) ({ cls := "ContractLedger$Roots", name := "<init>", desc := "()V" } : Jvm.MethodName) "ContractLedger") ∈ lw_tbl := lw_at lw_m5 84 rfl
theorem q1405 : (Jvm.Cond.fieldLink "ContractLedger$Doing" (32 : Nat) "ContractLedger$Doing" "terms" "LContractLedger$Terms;") ∈ lw_all := lw_g (lw_at lw_m5 88 rfl) rfl
theorem q1406 : (Jvm.Cond.fieldLink "ContractLedger$Doing" (36 : Nat) "ContractLedger$Doing" "types" "LContractLedger$Types;") ∈ lw_all := lw_g (lw_at lw_m5 89 rfl) rfl
theorem q1407 : (Jvm.Cond.fieldLink "ContractLedger$Doing" (40 : Nat) "ContractLedger$Doing" "names" "LContractLedger$Names;") ∈ lw_all := lw_g (lw_at lw_m5 90 rfl) rfl
theorem q1408 : (Jvm.Cond.fieldLink "ContractLedger$Doing" (44 : Nat) "ContractLedger$Doing" "scripts" "LContractLedger$Scripts;") ∈ lw_all := lw_g (lw_at lw_m5 91 rfl) rfl
theorem q1409 : (Jvm.Cond.fieldLink "ContractLedger$Doing" (48 : Nat) "ContractLedger$Doing" "typer" "LContractLedger$Typer;") ∈ lw_all := lw_g (lw_at lw_m5 92 rfl) rfl
theorem q1410 : (Jvm.Cond.fieldLink "ContractLedger$Doing" (52 : Nat) "ContractLedger$Doing" "data" "LContractLedger$Data;") ∈ lw_all := lw_g (lw_at lw_m5 93 rfl) rfl
theorem q1411 : (Jvm.Cond.fieldLink "ContractLedger$Doing" (56 : Nat) "ContractLedger$Doing" "memory" "LContractLedger$Memory;") ∈ lw_all := lw_g (lw_at lw_m5 94 rfl) rfl
theorem q1412 : (Jvm.Cond.fieldLink "ContractLedger$Doing" (60 : Nat) "ContractLedger$Doing" "forms" "LContractLedger$Forms;") ∈ lw_all := lw_g (lw_at lw_m5 95 rfl) rfl
theorem q1413 : (Jvm.Cond.fieldLink "ContractLedger$Doing" (64 : Nat) "ContractLedger$Doing" "world" "LContractLedger$World;") ∈ lw_all := lw_g (lw_at lw_m5 96 rfl) rfl
theorem q1414 : (Jvm.Cond.fieldLink "ContractLedger$Doing" (68 : Nat) "ContractLedger$Doing" "failing" "LContractLedger$Failing;") ∈ lw_all := lw_g (lw_at lw_m5 97 rfl) rfl
theorem q1415 : (Jvm.Cond.fieldLink "ContractLedger$Doing" (72 : Nat) "ContractLedger$Doing" "gas" "LContractLedger$Gas;") ∈ lw_all := lw_g (lw_at lw_m5 98 rfl) rfl
theorem q1416 : (Jvm.Cond.fieldLink "ContractLedger$Doing" (76 : Nat) "ContractLedger$Doing" "machine" "LContractLedger$Machine;") ∈ lw_all := lw_g (lw_at lw_m5 99 rfl) rfl
theorem q1417 : (Jvm.Cond.fieldLink "ContractLedger$Doing" (9 : Nat) "ContractLedger$Doing" "text" "[B") ∈ lw_all := lw_g (lw_at lw_m5 100 rfl) rfl
theorem q1418 : (Jvm.Cond.fieldLink "ContractLedger$Doing" (15 : Nat) "ContractLedger$Doing" "failed" "[B") ∈ lw_all := lw_g (lw_at lw_m5 101 rfl) rfl
theorem q1420 : (Jvm.Cond.fieldLink "ContractLedger$Doing" (18 : Nat) "ContractLedger$Doing" "failedSize" "I") ∈ lw_all := lw_g (lw_at lw_m5 103 rfl) rfl
theorem q1422 : (Jvm.Cond.fieldLink "ContractLedger$Doing" (22 : Nat) "ContractLedger$Doing" "place" "I") ∈ lw_all := lw_g (lw_at lw_m5 105 rfl) rfl
theorem q1424 : (Jvm.Cond.fieldLink "ContractLedger$Doing" (146 : Nat) "ContractLedger$Doing" "account" "I") ∈ lw_all := lw_g (lw_at lw_m5 107 rfl) rfl
theorem q1425 : (Jvm.Cond.fieldLink "ContractLedger$Doing" (149 : Nat) "ContractLedger$Doing" "content" "LContractLedger$Content;") ∈ lw_all := lw_g (lw_at lw_m5 108 rfl) rfl
theorem q1426 : (Jvm.Cond.fieldLink "ContractLedger$Doing" (153 : Nat) "ContractLedger$Doing" "receipt" "LContractLedger$Receipt;") ∈ lw_all := lw_g (lw_at lw_m5 109 rfl) rfl
theorem q1427 : (Jvm.Cond.fieldLink "ContractLedger$Doing" (25 : Nat) "ContractLedger$Doing" "lists" "[I") ∈ lw_all := lw_g (lw_at lw_m5 110 rfl) rfl
theorem q1428 : (Jvm.Cond.fieldLink "ContractLedger$Doing" (29 : Nat) "ContractLedger$Doing" "sources" "[I") ∈ lw_all := lw_g (lw_at lw_m5 111 rfl) rfl
theorem q1429 : (Jvm.Cond.fieldLink "ContractLedger$Doing" (185 : Nat) "ContractLedger$Doing" "listTop" "I") ∈ lw_all := lw_g (lw_at lw_m5 112 rfl) rfl
theorem q1430 : (Jvm.Cond.fieldLink "ContractLedger$Doing" (91 : Nat) "ContractLedger$Doing" "oldTypes" "I") ∈ lw_all := lw_g (lw_at lw_m5 113 rfl) rfl
theorem q1431 : (Jvm.Cond.fieldLink "ContractLedger$Doing" (97 : Nat) "ContractLedger$Doing" "oldNames" "I") ∈ lw_all := lw_g (lw_at lw_m5 114 rfl) rfl
theorem q1432 : (Jvm.Cond.fieldLink "ContractLedger$Doing" (103 : Nat) "ContractLedger$Doing" "oldScripts" "I") ∈ lw_all := lw_g (lw_at lw_m5 115 rfl) rfl
theorem q1433 : (Jvm.Cond.fieldLink "ContractLedger$Doing" (109 : Nat) "ContractLedger$Doing" "oldEntries" "I") ∈ lw_all := lw_g (lw_at lw_m5 116 rfl) rfl
theorem q1434 : (Jvm.Cond.fieldLink "ContractLedger$Doing" (115 : Nat) "ContractLedger$Doing" "oldCode" "I") ∈ lw_all := lw_g (lw_at lw_m5 117 rfl) rfl
theorem q1435 : (Jvm.Cond.fieldLink "ContractLedger$Doing" (124 : Nat) "ContractLedger$Doing" "oldFixed" "I") ∈ lw_all := lw_g (lw_at lw_m5 118 rfl) rfl
theorem q1436 : (Jvm.Cond.laysFinal "ContractLedger$Doing" "ContractLedger$Doing" "terms" "LContractLedger$Terms;") ∈ lw_all := lw_g (lw_at lw_m5 119 rfl) rfl
theorem q1437 : (Jvm.Cond.soleField "ContractLedger$Doing" "terms") ∈ lw_all := lw_g (lw_at lw_m5 120 rfl) rfl
theorem q1438 : (Jvm.Cond.laysFinal "ContractLedger$Doing" "ContractLedger$Doing" "types" "LContractLedger$Types;") ∈ lw_all := lw_g (lw_at lw_m5 121 rfl) rfl
theorem q1439 : (Jvm.Cond.soleField "ContractLedger$Doing" "types") ∈ lw_all := lw_g (lw_at lw_m5 122 rfl) rfl
theorem q1440 : (Jvm.Cond.laysFinal "ContractLedger$Doing" "ContractLedger$Doing" "names" "LContractLedger$Names;") ∈ lw_all := lw_g (lw_at lw_m5 123 rfl) rfl
theorem q1441 : (Jvm.Cond.soleField "ContractLedger$Doing" "names") ∈ lw_all := lw_g (lw_at lw_m5 124 rfl) rfl
theorem q1442 : (Jvm.Cond.laysFinal "ContractLedger$Doing" "ContractLedger$Doing" "scripts" "LContractLedger$Scripts;") ∈ lw_all := lw_g (lw_at lw_m5 125 rfl) rfl
theorem q1443 : (Jvm.Cond.soleField "ContractLedger$Doing" "scripts") ∈ lw_all := lw_g (lw_at lw_m5 126 rfl) rfl
theorem q1444 : (Jvm.Cond.laysFinal "ContractLedger$Doing" "ContractLedger$Doing" "typer" "LContractLedger$Typer;") ∈ lw_all := lw_g (lw_at lw_m5 127 rfl) rfl
theorem q1445 : (Jvm.Cond.soleField "ContractLedger$Doing" "typer") ∈ lw_all := lw_g (lw_at lw_m5 128 rfl) rfl
theorem q1446 : (Jvm.Cond.laysFinal "ContractLedger$Doing" "ContractLedger$Doing" "data" "LContractLedger$Data;") ∈ lw_all := lw_g (lw_at lw_m5 129 rfl) rfl
theorem q1447 : (Jvm.Cond.soleField "ContractLedger$Doing" "data") ∈ lw_all := lw_g (lw_at lw_m5 130 rfl) rfl
theorem q1448 : (Jvm.Cond.laysFinal "ContractLedger$Doing" "ContractLedger$Doing" "memory" "LContractLedger$Memory;") ∈ lw_all := lw_g (lw_at lw_m5 131 rfl) rfl
theorem q1449 : (Jvm.Cond.soleField "ContractLedger$Doing" "memory") ∈ lw_all := lw_g (lw_at lw_m5 132 rfl) rfl
theorem q1450 : (Jvm.Cond.laysFinal "ContractLedger$Doing" "ContractLedger$Doing" "forms" "LContractLedger$Forms;") ∈ lw_all := lw_g (lw_at lw_m5 133 rfl) rfl
theorem q1451 : (Jvm.Cond.soleField "ContractLedger$Doing" "forms") ∈ lw_all := lw_g (lw_at lw_m5 134 rfl) rfl
theorem q1452 : (Jvm.Cond.laysFinal "ContractLedger$Doing" "ContractLedger$Doing" "world" "LContractLedger$World;") ∈ lw_all := lw_g (lw_at lw_m5 135 rfl) rfl
theorem q1453 : (Jvm.Cond.soleField "ContractLedger$Doing" "world") ∈ lw_all := lw_g (lw_at lw_m5 136 rfl) rfl
theorem q1454 : (Jvm.Cond.laysFinal "ContractLedger$Doing" "ContractLedger$Doing" "failing" "LContractLedger$Failing;") ∈ lw_all := lw_g (lw_at lw_m5 137 rfl) rfl
theorem q1455 : (Jvm.Cond.soleField "ContractLedger$Doing" "failing") ∈ lw_all := lw_g (lw_at lw_m5 138 rfl) rfl
theorem q1456 : (Jvm.Cond.laysFinal "ContractLedger$Doing" "ContractLedger$Doing" "gas" "LContractLedger$Gas;") ∈ lw_all := lw_g (lw_at lw_m5 139 rfl) rfl
theorem q1457 : (Jvm.Cond.soleField "ContractLedger$Doing" "gas") ∈ lw_all := lw_g (lw_at lw_m5 140 rfl) rfl
theorem q1458 : (Jvm.Cond.laysFinal "ContractLedger$Doing" "ContractLedger$Doing" "machine" "LContractLedger$Machine;") ∈ lw_all := lw_g (lw_at lw_m5 141 rfl) rfl
theorem q1459 : (Jvm.Cond.soleField "ContractLedger$Doing" "machine") ∈ lw_all := lw_g (lw_at lw_m5 142 rfl) rfl
theorem q1460 : (Jvm.Cond.laysFinal "ContractLedger$Doing" "ContractLedger$Doing" "text" "[B") ∈ lw_all := lw_g (lw_at lw_m5 143 rfl) rfl
theorem q1461 : (Jvm.Cond.soleField "ContractLedger$Doing" "text") ∈ lw_all := lw_g (lw_at lw_m5 144 rfl) rfl
theorem q1462 : (Jvm.Cond.laysFinal "ContractLedger$Doing" "ContractLedger$Doing" "failed" "[B") ∈ lw_all := lw_g (lw_at lw_m5 145 rfl) rfl
theorem q1463 : (Jvm.Cond.soleField "ContractLedger$Doing" "failed") ∈ lw_all := lw_g (lw_at lw_m5 146 rfl) rfl
theorem q1464 : (Jvm.Cond.lays "ContractLedger$Doing" "ContractLedger$Doing" "failedSize" "I") ∈ lw_all := lw_g (lw_at lw_m5 147 rfl) rfl
theorem q1465 : (Jvm.Cond.soleField "ContractLedger$Doing" "failedSize") ∈ lw_all := lw_g (lw_at lw_m5 148 rfl) rfl
theorem q1466 : (Jvm.Cond.lays "ContractLedger$Doing" "ContractLedger$Doing" "place" "I") ∈ lw_all := lw_g (lw_at lw_m5 149 rfl) rfl
theorem q1467 : (Jvm.Cond.soleField "ContractLedger$Doing" "place") ∈ lw_all := lw_g (lw_at lw_m5 150 rfl) rfl
theorem q1468 : (Jvm.Cond.lays "ContractLedger$Doing" "ContractLedger$Doing" "account" "I") ∈ lw_all := lw_g (lw_at lw_m5 151 rfl) rfl
theorem q1469 : (Jvm.Cond.soleField "ContractLedger$Doing" "account") ∈ lw_all := lw_g (lw_at lw_m5 152 rfl) rfl
theorem q1470 : (Jvm.Cond.lays "ContractLedger$Doing" "ContractLedger$Doing" "content" "LContractLedger$Content;") ∈ lw_all := lw_g (lw_at lw_m5 153 rfl) rfl
theorem q1471 : (Jvm.Cond.soleField "ContractLedger$Doing" "content") ∈ lw_all := lw_g (lw_at lw_m5 154 rfl) rfl
theorem q1472 : (Jvm.Cond.lays "ContractLedger$Doing" "ContractLedger$Doing" "receipt" "LContractLedger$Receipt;") ∈ lw_all := lw_g (lw_at lw_m5 155 rfl) rfl
theorem q1473 : (Jvm.Cond.soleField "ContractLedger$Doing" "receipt") ∈ lw_all := lw_g (lw_at lw_m5 156 rfl) rfl
theorem q1474 : (Jvm.Cond.laysFinal "ContractLedger$Doing" "ContractLedger$Doing" "lists" "[I") ∈ lw_all := lw_g (lw_at lw_m5 157 rfl) rfl
theorem q1475 : (Jvm.Cond.soleField "ContractLedger$Doing" "lists") ∈ lw_all := lw_g (lw_at lw_m5 158 rfl) rfl
theorem q1476 : (Jvm.Cond.laysFinal "ContractLedger$Doing" "ContractLedger$Doing" "sources" "[I") ∈ lw_all := lw_g (lw_at lw_m5 159 rfl) rfl
theorem q1477 : (Jvm.Cond.soleField "ContractLedger$Doing" "sources") ∈ lw_all := lw_g (lw_at lw_m5 160 rfl) rfl
theorem q1478 : (Jvm.Cond.lays "ContractLedger$Doing" "ContractLedger$Doing" "listTop" "I") ∈ lw_all := lw_g (lw_at lw_m5 161 rfl) rfl
theorem q1479 : (Jvm.Cond.soleField "ContractLedger$Doing" "listTop") ∈ lw_all := lw_g (lw_at lw_m5 162 rfl) rfl
theorem q1480 : (Jvm.Cond.lays "ContractLedger$Doing" "ContractLedger$Doing" "oldTypes" "I") ∈ lw_all := lw_g (lw_at lw_m5 163 rfl) rfl
theorem q1481 : (Jvm.Cond.soleField "ContractLedger$Doing" "oldTypes") ∈ lw_all := lw_g (lw_at lw_m5 164 rfl) rfl
theorem q1482 : (Jvm.Cond.lays "ContractLedger$Doing" "ContractLedger$Doing" "oldNames" "I") ∈ lw_all := lw_g (lw_at lw_m5 165 rfl) rfl
theorem q1483 : (Jvm.Cond.soleField "ContractLedger$Doing" "oldNames") ∈ lw_all := lw_g (lw_at lw_m5 166 rfl) rfl
theorem q1484 : (Jvm.Cond.lays "ContractLedger$Doing" "ContractLedger$Doing" "oldScripts" "I") ∈ lw_all := lw_g (lw_at lw_m5 167 rfl) rfl
theorem q1485 : (Jvm.Cond.soleField "ContractLedger$Doing" "oldScripts") ∈ lw_all := lw_g (lw_at lw_m5 168 rfl) rfl
theorem q1486 : (Jvm.Cond.lays "ContractLedger$Doing" "ContractLedger$Doing" "oldEntries" "I") ∈ lw_all := lw_g (lw_at lw_m5 169 rfl) rfl
theorem q1487 : (Jvm.Cond.soleField "ContractLedger$Doing" "oldEntries") ∈ lw_all := lw_g (lw_at lw_m5 170 rfl) rfl
theorem q1488 : (Jvm.Cond.lays "ContractLedger$Doing" "ContractLedger$Doing" "oldCode" "I") ∈ lw_all := lw_g (lw_at lw_m5 171 rfl) rfl
theorem q1489 : (Jvm.Cond.soleField "ContractLedger$Doing" "oldCode") ∈ lw_all := lw_g (lw_at lw_m5 172 rfl) rfl
theorem q1490 : (Jvm.Cond.lays "ContractLedger$Doing" "ContractLedger$Doing" "oldFixed" "I") ∈ lw_all := lw_g (lw_at lw_m5 173 rfl) rfl
theorem q1491 : (Jvm.Cond.soleField "ContractLedger$Doing" "oldFixed") ∈ lw_all := lw_g (lw_at lw_m5 174 rfl) rfl
theorem q1492 : (Jvm.Cond.superclass "ContractLedger$Doing" "ContractLedger$Roots") ∈ lw_all := lw_g (lw_at lw_m5 175 rfl) rfl
theorem q1503 : (Jvm.Cond.fieldLink "ContractLedger$Doing" (264 : Nat) "ContractLedger$Content" "origination" "Z") ∈ lw_all := lw_g (lw_at lw_m5 186 rfl) rfl
theorem q1506 : (Jvm.Cond.fieldLink "ContractLedger$Doing" (173 : Nat) "ContractLedger$Content" "gas" "I") ∈ lw_all := lw_g (lw_at lw_m5 189 rfl) rfl
theorem q1508 : (Jvm.Cond.fieldLink "ContractLedger$Doing" (407 : Nat) "ContractLedger$Content" "bytes" "I") ∈ lw_all := lw_g (lw_at lw_m5 191 rfl) rfl
theorem q1510 : (Jvm.Cond.fieldLink "ContractLedger$Doing" (284 : Nat) "ContractLedger$Content" "amount" "J") ∈ lw_all := lw_g (lw_at lw_m5 193 rfl) rfl
theorem q1512 : (Jvm.Cond.fieldLink "ContractLedger$Doing" (157 : Nat) "ContractLedger$Content" "start" "I") ∈ lw_all := lw_g (lw_at lw_m5 195 rfl) rfl
theorem q1514 : (Jvm.Cond.fieldLink "ContractLedger$Doing" (162 : Nat) "ContractLedger$Content" "end" "I") ∈ lw_all := lw_g (lw_at lw_m5 197 rfl) rfl
theorem q1537 : (Jvm.Cond.fieldLink "ContractLedger$Doing" (193 : Nat) "ContractLedger$Receipt" "what" "I") ∈ lw_all := lw_g (lw_at lw_m5 220 rfl) rfl
theorem q1540 : (Jvm.Cond.fieldLink "ContractLedger$Doing" (202 : Nat) "ContractLedger$Receipt" "why" "I") ∈ lw_all := lw_g (lw_at lw_m5 223 rfl) rfl
theorem q1543 : (Jvm.Cond.fieldLink "ContractLedger$Doing" (209 : Nat) "ContractLedger$Receipt" "gas" "I") ∈ lw_all := lw_g (lw_at lw_m5 226 rfl) rfl
theorem q1546 : (Jvm.Cond.fieldLink "ContractLedger$Doing" (415 : Nat) "ContractLedger$Receipt" "operations" "I") ∈ lw_all := lw_g (lw_at lw_m5 229 rfl) rfl
theorem q1549 : (Jvm.Cond.fieldLink "ContractLedger$Doing" (404 : Nat) "ContractLedger$Receipt" "bytes" "I") ∈ lw_all := lw_g (lw_at lw_m5 232 rfl) rfl
theorem q1552 : (Jvm.Cond.fieldLink "ContractLedger$Doing" (312 : Nat) "ContractLedger$Receipt" "contract" "I") ∈ lw_all := lw_g (lw_at lw_m5 235 rfl) rfl
theorem q1810 : (Jvm.Cond.instanceMethod ({ cls := "ContractLedger$Doing", name := "mark", desc := "()V" } : Jvm.MethodName)) ∈ lw_all := lw_g (lw_at lw_m7 13 rfl) rfl
theorem q1811 : (Jvm.Cond.selects "ContractLedger$Doing" ({ cls := "ContractLedger$Doing", name := "mark", desc := "()V" } : Jvm.MethodName) ({ cls := "ContractLedger$Doing", name := "mark", desc := "()V" } : Jvm.MethodName)) ∈ lw_all := lw_g (lw_at lw_m7 14 rfl) rfl
theorem q1812 : (Jvm.Cond.code ({ cls := "ContractLedger$Doing", name := "mark", desc := "()V" } : Jvm.MethodName) prog_5_method_3_code (1 : Nat) (Option.none : Option Jvm.ClassFile.FieldType)) ∈ lw_all := lw_g (lw_at lw_m7 15 rfl) rfl
theorem q1813 : (Jvm.Cond.methodLink "ContractLedger$Doing" (118 : Nat) ({ cls := "ContractLedger$Memory", name := "fixedTop", desc := "()I" } : Jvm.MethodName)) ∈ lw_all := lw_g (lw_at lw_m7 16 rfl) rfl
theorem q2311 : (Jvm.Cond.instanceMethod ({ cls := "ContractLedger$Doing", name := "drop", desc := "()V" } : Jvm.MethodName)) ∈ lw_all := lw_g (lw_at lw_m9 34 rfl) rfl
theorem q2312 : (Jvm.Cond.selects "ContractLedger$Doing" ({ cls := "ContractLedger$Doing", name := "drop", desc := "()V" } : Jvm.MethodName) ({ cls := "ContractLedger$Doing", name := "drop", desc := "()V" } : Jvm.MethodName)) ∈ lw_all := lw_g (lw_at lw_m9 35 rfl) rfl
theorem q2313 : (Jvm.Cond.code ({ cls := "ContractLedger$Doing", name := "drop", desc := "()V" } : Jvm.MethodName) prog_5_method_4_code (1 : Nat) (Option.none : Option Jvm.ClassFile.FieldType)) ∈ lw_all := lw_g (lw_at lw_m9 36 rfl) rfl
theorem q2314 : (Jvm.Cond.methodLink "ContractLedger$Doing" (127 : Nat) ({ cls := "ContractLedger$Types", name := "drop", desc := "(I)V" } : Jvm.MethodName)) ∈ lw_all := lw_g (lw_at lw_m9 37 rfl) rfl
theorem q2318 : (Jvm.Cond.methodLink "ContractLedger$Doing" (131 : Nat) ({ cls := "ContractLedger$Scripts", name := "drop", desc := "(III)V" } : Jvm.MethodName)) ∈ lw_all := lw_g (lw_at lw_m9 41 rfl) rfl
theorem q2322 : (Jvm.Cond.methodLink "ContractLedger$Doing" (134 : Nat) ({ cls := "ContractLedger$Memory", name := "dropFixed", desc := "(I)V" } : Jvm.MethodName)) ∈ lw_all := lw_g (lw_at lw_m9 45 rfl) rfl
theorem q2336 : (Jvm.Cond.instanceMethod ({ cls := "ContractLedger$Doing", name := "tidy", desc := "()V" } : Jvm.MethodName)) ∈ lw_all := lw_g (lw_at lw_m9 59 rfl) rfl
theorem q2337 : (Jvm.Cond.selects "ContractLedger$Doing" ({ cls := "ContractLedger$Doing", name := "tidy", desc := "()V" } : Jvm.MethodName) ({ cls := "ContractLedger$Doing", name := "tidy", desc := "()V" } : Jvm.MethodName)) ∈ lw_all := lw_g (lw_at lw_m9 60 rfl) rfl
theorem q2338 : (Jvm.Cond.code ({ cls := "ContractLedger$Doing", name := "tidy", desc := "()V" } : Jvm.MethodName) prog_5_method_5_code (1 : Nat) (Option.none : Option Jvm.ClassFile.FieldType)) ∈ lw_all := lw_g (lw_at lw_m9 61 rfl) rfl
theorem q2339 : (Jvm.Cond.constant "ContractLedger$Doing" (141 : Nat) (300000 : Int32)) ∈ lw_all := lw_g (lw_at lw_m9 62 rfl) rfl
theorem q2340 : (Jvm.Cond.methodLink "ContractLedger$Doing" (142 : Nat) ({ cls := "ContractLedger$Memory", name := "tidy", desc := "(ILContractLedger$Roots;)V" } : Jvm.MethodName)) ∈ lw_all := lw_g (lw_at lw_m9 63 rfl) rfl
theorem q2347 : (Jvm.Cond.selects "ContractLedger$Doing" ({ cls := "ContractLedger$Roots", name := "keep", desc := "(LContractLedger$Memory;)V" } : Jvm.MethodName) ({ cls := "ContractLedger$Doing", name := "keep", desc := "(LContractLedger$Memory;)V" } : Jvm.MethodName)) ∈ lw_all := lw_g (lw_at lw_m9 70 rfl) rfl
theorem q2348 : (Jvm.Cond.instanceMethod ({ cls := "ContractLedger$Doing", name := "keep", desc := "(LContractLedger$Memory;)V" } : Jvm.MethodName)) ∈ lw_all := lw_g (lw_at lw_m9 71 rfl) rfl
theorem q2349 : (Jvm.Cond.code ({ cls := "ContractLedger$Doing", name := "keep", desc := "(LContractLedger$Memory;)V" } : Jvm.MethodName) prog_5_method_2_code (2 : Nat) (Option.none : Option Jvm.ClassFile.FieldType)) ∈ lw_all := lw_g (lw_at lw_m9 72 rfl) rfl
theorem q2350 : (Jvm.Cond.methodLink "ContractLedger$Doing" (80 : Nat) ({ cls := "ContractLedger$World", name := "keep", desc := "(LContractLedger$Memory;)V" } : Jvm.MethodName)) ∈ lw_all := lw_g (lw_at lw_m9 73 rfl) rfl
theorem q2483 : (Jvm.Cond.instanceMethod ({ cls := "ContractLedger$Doing", name := "run", desc := "(ILContractLedger$Content;[BLContractLedger$Receipt;)V" } : Jvm.MethodName)) ∈ lw_all := lw_g (lw_at lw_m9 206 rfl) rfl
theorem q2484 : (Jvm.Cond.selects "ContractLedger$Doing" ({ cls := "ContractLedger$Doing", name := "run", desc := "(ILContractLedger$Content;[BLContractLedger$Receipt;)V" } : Jvm.MethodName) ({ cls := "ContractLedger$Doing", name := "run", desc := "(ILContractLedger$Content;[BLContractLedger$Receipt;)V" } : Jvm.MethodName)) ∈ lw_all := lw_g (lw_at lw_m9 207 rfl) rfl
theorem q2485 : (Jvm.Cond.codeWith ({ cls := "ContractLedger$Doing", name := "run", desc := "(ILContractLedger$Content;[BLContractLedger$Receipt;)V" } : Jvm.MethodName) prog_5_method_6_code (6 : Nat) (Option.none : Option Jvm.ClassFile.FieldType) [((77 : Nat), (104 : Nat), (107 : Nat), (200 : Nat))]) ∈ lw_all := lw_g (lw_at lw_m9 208 rfl) rfl
theorem q2486 : (Jvm.Cond.classLink "ContractLedger$Doing" (200 : Nat) "java/lang/IllegalStateException") ∈ lw_all := lw_g (lw_at lw_m9 209 rfl) rfl
theorem q2487 : (Jvm.Cond.methodLink "ContractLedger$Doing" (165 : Nat) ({ cls := "java/lang/System", name := "arraycopy", desc := "(Ljava/lang/Object;ILjava/lang/Object;II)V" } : Jvm.MethodName)) ∈ lw_all := lw_g (lw_at lw_m9 210 rfl) rfl
theorem q2488 : (Jvm.Cond.methodLink "ContractLedger$Doing" (171 : Nat) ({ cls := "ContractLedger$Doing", name := "tidy", desc := "()V" } : Jvm.MethodName)) ∈ lw_all := lw_g (lw_at lw_m9 211 rfl) rfl
theorem q2489 : (Jvm.Cond.methodLink "ContractLedger$Doing" (175 : Nat) ({ cls := "ContractLedger$Gas", name := "begin", desc := "(I)V" } : Jvm.MethodName)) ∈ lw_all := lw_g (lw_at lw_m9 212 rfl) rfl
theorem q2493 : (Jvm.Cond.methodLink "ContractLedger$Doing" (188 : Nat) ({ cls := "ContractLedger$Receipt", name := "clear", desc := "()V" } : Jvm.MethodName)) ∈ lw_all := lw_g (lw_at lw_m9 216 rfl) rfl
theorem q2494 : (Jvm.Cond.methodLink "ContractLedger$Doing" (196 : Nat) ({ cls := "ContractLedger$Doing", name := "begin", desc := "(I)V" } : Jvm.MethodName)) ∈ lw_all := lw_g (lw_at lw_m9 217 rfl) rfl
theorem q2495 : (Jvm.Cond.privateMethod ({ cls := "ContractLedger$Doing", name := "begin", desc := "(I)V" } : Jvm.MethodName)) ∈ lw_tbl := lw_at lw_m9 218 rfl
theorem q2496 : (Jvm.Cond.instanceMethod ({ cls := "ContractLedger$Doing", name := "begin", desc := "(I)V" } : Jvm.MethodName)) ∈ lw_all := lw_g (lw_at lw_m9 219 rfl) rfl
theorem q2497 : (Jvm.Cond.code ({ cls := "ContractLedger$Doing", name := "begin", desc := "(I)V" } : Jvm.MethodName) prog_5_method_8_code (8 : Nat) (Option.none : Option Jvm.ClassFile.FieldType)) ∈ lw_all := lw_g (lw_at lw_m9 220 rfl) rfl
theorem q2498 : (Jvm.Cond.constantLong "ContractLedger$Doing" (230 : Nat) (100 : Int64)) ∈ lw_all := lw_g (lw_at lw_m9 221 rfl) rfl
theorem q2499 : (Jvm.Cond.methodLink "ContractLedger$Doing" (232 : Nat) ({ cls := "ContractLedger$Gas", name := "use", desc := "(J)V" } : Jvm.MethodName)) ∈ lw_all := lw_g (lw_at lw_m9 222 rfl) rfl
theorem q2504 : (Jvm.Cond.methodLink "ContractLedger$Doing" (236 : Nat) ({ cls := "ContractLedger$Terms", name := "read", desc := "([BI)Z" } : Jvm.MethodName)) ∈ lw_all := lw_g (lw_at lw_m9 227 rfl) rfl
theorem q2505 : (Jvm.Cond.methodLink "ContractLedger$Doing" (245 : Nat) ({ cls := "ContractLedger$Failing", name := "fail", desc := "(I)V" } : Jvm.MethodName)) ∈ lw_all := lw_g (lw_at lw_m9 228 rfl) rfl
theorem q2506 : (Jvm.Cond.methodLink "ContractLedger$Doing" (249 : Nat) ({ cls := "ContractLedger$Terms", name := "isSequence", desc := "(I)Z" } : Jvm.MethodName)) ∈ lw_all := lw_g (lw_at lw_m9 229 rfl) rfl
theorem q2507 : (Jvm.Cond.methodLink "ContractLedger$Doing" (256 : Nat) ({ cls := "ContractLedger$Failing", name := "want", desc := "(ZI)V" } : Jvm.MethodName)) ∈ lw_all := lw_g (lw_at lw_m9 230 rfl) rfl
theorem q2508 : (Jvm.Cond.methodLink "ContractLedger$Doing" (260 : Nat) ({ cls := "ContractLedger$Terms", name := "child", desc := "(II)I" } : Jvm.MethodName)) ∈ lw_all := lw_g (lw_at lw_m9 231 rfl) rfl
theorem q2509 : (Jvm.Cond.methodLink "ContractLedger$Doing" (267 : Nat) ({ cls := "ContractLedger$Doing", name := "originate", desc := "(II)V" } : Jvm.MethodName)) ∈ lw_all := lw_g (lw_at lw_m9 232 rfl) rfl
theorem q2510 : (Jvm.Cond.privateMethod ({ cls := "ContractLedger$Doing", name := "originate", desc := "(II)V" } : Jvm.MethodName)) ∈ lw_tbl := lw_at lw_m9 233 rfl
theorem q2511 : (Jvm.Cond.instanceMethod ({ cls := "ContractLedger$Doing", name := "originate", desc := "(II)V" } : Jvm.MethodName)) ∈ lw_all := lw_g (lw_at lw_m9 234 rfl) rfl
theorem q2512 : (Jvm.Cond.code ({ cls := "ContractLedger$Doing", name := "originate", desc := "(II)V" } : Jvm.MethodName) prog_5_method_9_code (6 : Nat) (Option.none : Option Jvm.ClassFile.FieldType)) ∈ lw_all := lw_g (lw_at lw_m9 235 rfl) rfl
theorem q2513 : (Jvm.Cond.methodLink "ContractLedger$Doing" (301 : Nat) ({ cls := "ContractLedger$Typer", name := "type", desc := "(I)I" } : Jvm.MethodName)) ∈ lw_all := lw_g (lw_at lw_m9 236 rfl) rfl
theorem q2514 : (Jvm.Cond.methodLink "ContractLedger$Doing" (295 : Nat) ({ cls := "ContractLedger$Data", name := "read", desc := "(II)I" } : Jvm.MethodName)) ∈ lw_all := lw_g (lw_at lw_m9 237 rfl) rfl
theorem q2515 : (Jvm.Cond.methodLink "ContractLedger$Doing" (315 : Nat) ({ cls := "ContractLedger$Doing", name := "make", desc := "(IIIJI)V" } : Jvm.MethodName)) ∈ lw_all := lw_g (lw_at lw_m9 238 rfl) rfl
theorem q2516 : (Jvm.Cond.privateMethod ({ cls := "ContractLedger$Doing", name := "make", desc := "(IIIJI)V" } : Jvm.MethodName)) ∈ lw_tbl := lw_at lw_m9 239 rfl
theorem q2517 : (Jvm.Cond.instanceMethod ({ cls := "ContractLedger$Doing", name := "make", desc := "(IIIJI)V" } : Jvm.MethodName)) ∈ lw_all := lw_g (lw_at lw_m10 0 rfl) rfl
theorem q2518 : (Jvm.Cond.code ({ cls := "ContractLedger$Doing", name := "make", desc := "(IIIJI)V" } : Jvm.MethodName) prog_5_method_16_code (7 : Nat) (Option.none : Option Jvm.ClassFile.FieldType)) ∈ lw_all := lw_g (lw_at lw_m10 1 rfl) rfl
theorem q2519 : (Jvm.Cond.methodLink "ContractLedger$Doing" (326 : Nat) ({ cls := "ContractLedger$Doing", name := "move", desc := "(IIJ)V" } : Jvm.MethodName)) ∈ lw_all := lw_g (lw_at lw_m10 2 rfl) rfl
theorem q2520 : (Jvm.Cond.privateMethod ({ cls := "ContractLedger$Doing", name := "move", desc := "(IIJ)V" } : Jvm.MethodName)) ∈ lw_tbl := lw_at lw_m10 3 rfl
theorem q2521 : (Jvm.Cond.instanceMethod ({ cls := "ContractLedger$Doing", name := "move", desc := "(IIJ)V" } : Jvm.MethodName)) ∈ lw_all := lw_g (lw_at lw_m10 4 rfl) rfl
theorem q2522 : (Jvm.Cond.code ({ cls := "ContractLedger$Doing", name := "move", desc := "(IIJ)V" } : Jvm.MethodName) prog_5_method_11_code (5 : Nat) (Option.none : Option Jvm.ClassFile.FieldType)) ∈ lw_all := lw_g (lw_at lw_m10 5 rfl) rfl
theorem q2523 : (Jvm.Cond.methodLink "ContractLedger$Doing" (401 : Nat) ({ cls := "ContractLedger$Doing", name := "pay", desc := "(I)V" } : Jvm.MethodName)) ∈ lw_all := lw_g (lw_at lw_m10 6 rfl) rfl
theorem q2524 : (Jvm.Cond.privateMethod ({ cls := "ContractLedger$Doing", name := "pay", desc := "(I)V" } : Jvm.MethodName)) ∈ lw_tbl := lw_at lw_m10 7 rfl
theorem q2525 : (Jvm.Cond.instanceMethod ({ cls := "ContractLedger$Doing", name := "pay", desc := "(I)V" } : Jvm.MethodName)) ∈ lw_all := lw_g (lw_at lw_m10 8 rfl) rfl
theorem q2526 : (Jvm.Cond.code ({ cls := "ContractLedger$Doing", name := "pay", desc := "(I)V" } : Jvm.MethodName) prog_5_method_15_code (4 : Nat) (Option.none : Option Jvm.ClassFile.FieldType)) ∈ lw_all := lw_g (lw_at lw_m10 9 rfl) rfl
theorem q2527 : (Jvm.Cond.constantLong "ContractLedger$Doing" (408 : Nat) (250 : Int64)) ∈ lw_all := lw_g (lw_at lw_m10 10 rfl) rfl
theorem q2528 : (Jvm.Cond.methodLink "ContractLedger$Doing" (373 : Nat) ({ cls := "ContractLedger$Doing", name := "store", desc := "(III)V" } : Jvm.MethodName)) ∈ lw_all := lw_g (lw_at lw_m10 11 rfl) rfl
theorem q2529 : (Jvm.Cond.privateMethod ({ cls := "ContractLedger$Doing", name := "store", desc := "(III)V" } : Jvm.MethodName)) ∈ lw_tbl := lw_at lw_m10 12 rfl
theorem q2530 : (Jvm.Cond.instanceMethod ({ cls := "ContractLedger$Doing", name := "store", desc := "(III)V" } : Jvm.MethodName)) ∈ lw_all := lw_g (lw_at lw_m10 13 rfl) rfl
theorem q2531 : (Jvm.Cond.code ({ cls := "ContractLedger$Doing", name := "store", desc := "(III)V" } : Jvm.MethodName) prog_5_method_14_code (8 : Nat) (Option.none : Option Jvm.ClassFile.FieldType)) ∈ lw_all := lw_g (lw_at lw_m10 14 rfl) rfl
theorem q2532 : (Jvm.Cond.methodLink "ContractLedger$Doing" (214 : Nat) ({ cls := "ContractLedger$Memory", name := "length", desc := "(I)I" } : Jvm.MethodName)) ∈ lw_all := lw_g (lw_at lw_m10 15 rfl) rfl
theorem q2533 : (Jvm.Cond.constantLong "ContractLedger$Doing" (396 : Nat) (60000 : Int64)) ∈ lw_all := lw_g (lw_at lw_m10 16 rfl) rfl
theorem q2534 : (Jvm.Cond.methodLink "ContractLedger$Doing" (271 : Nat) ({ cls := "ContractLedger$Data", name := "address", desc := "(I)I" } : Jvm.MethodName)) ∈ lw_all := lw_g (lw_at lw_m10 17 rfl) rfl
theorem q2538 : (Jvm.Cond.methodLink "ContractLedger$Doing" (276 : Nat) ({ cls := "ContractLedger$Data", name := "entry", desc := "(LContractLedger$Names;)I" } : Jvm.MethodName)) ∈ lw_all := lw_g (lw_at lw_m10 21 rfl) rfl
theorem q2543 : (Jvm.Cond.methodLink "ContractLedger$Doing" (288 : Nat) ({ cls := "ContractLedger$Doing", name := "entryOf", desc := "(II)I" } : Jvm.MethodName)) ∈ lw_all := lw_g (lw_at lw_m10 26 rfl) rfl
theorem q2544 : (Jvm.Cond.privateMethod ({ cls := "ContractLedger$Doing", name := "entryOf", desc := "(II)I" } : Jvm.MethodName)) ∈ lw_tbl := lw_at lw_m10 27 rfl
theorem q2545 : (Jvm.Cond.instanceMethod ({ cls := "ContractLedger$Doing", name := "entryOf", desc := "(II)I" } : Jvm.MethodName)) ∈ lw_all := lw_g (lw_at lw_m10 28 rfl) rfl
theorem q2546 : (Jvm.Cond.code ({ cls := "ContractLedger$Doing", name := "entryOf", desc := "(II)I" } : Jvm.MethodName) prog_5_method_10_code (4 : Nat) (Option.some Jvm.ClassFile.FieldType.int)) ∈ lw_all := lw_g (lw_at lw_m10 29 rfl) rfl
theorem q2547 : (Jvm.Cond.methodLink "ContractLedger$Doing" (324 : Nat) ({ cls := "ContractLedger$Scripts", name := "entry", desc := "(II)I" } : Jvm.MethodName)) ∈ lw_all := lw_g (lw_at lw_m10 30 rfl) rfl
theorem q2548 : (Jvm.Cond.methodLink "ContractLedger$Doing" (297 : Nat) ({ cls := "ContractLedger$Doing", name := "transfer", desc := "(IIIJI)V" } : Jvm.MethodName)) ∈ lw_all := lw_g (lw_at lw_m10 31 rfl) rfl
theorem q2549 : (Jvm.Cond.privateMethod ({ cls := "ContractLedger$Doing", name := "transfer", desc := "(IIIJI)V" } : Jvm.MethodName)) ∈ lw_tbl := lw_at lw_m10 32 rfl
theorem q2550 : (Jvm.Cond.instanceMethod ({ cls := "ContractLedger$Doing", name := "transfer", desc := "(IIIJI)V" } : Jvm.MethodName)) ∈ lw_all := lw_g (lw_at lw_m10 33 rfl) rfl
theorem q2551 : (Jvm.Cond.code ({ cls := "ContractLedger$Doing", name := "transfer", desc := "(IIIJI)V" } : Jvm.MethodName) prog_5_method_12_code (12 : Nat) (Option.none : Option Jvm.ClassFile.FieldType)) ∈ lw_all := lw_g (lw_at lw_m10 34 rfl) rfl
theorem q2552 : (Jvm.Cond.methodLink "ContractLedger$Doing" (333 : Nat) ({ cls := "ContractLedger$Doing", name := "weight", desc := "(II)J" } : Jvm.MethodName)) ∈ lw_all := lw_g (lw_at lw_m10 35 rfl) rfl
theorem q2553 : (Jvm.Cond.privateMethod ({ cls := "ContractLedger$Doing", name := "weight", desc := "(II)J" } : Jvm.MethodName)) ∈ lw_tbl := lw_at lw_m10 36 rfl
theorem q2554 : (Jvm.Cond.instanceMethod ({ cls := "ContractLedger$Doing", name := "weight", desc := "(II)J" } : Jvm.MethodName)) ∈ lw_all := lw_g (lw_at lw_m10 37 rfl) rfl
theorem q2555 : (Jvm.Cond.code ({ cls := "ContractLedger$Doing", name := "weight", desc := "(II)J" } : Jvm.MethodName) prog_5_method_13_code (3 : Nat) (Option.some Jvm.ClassFile.FieldType.long)) ∈ lw_all := lw_g (lw_at lw_m10 38 rfl) rfl
theorem q2556 : (Jvm.Cond.methodLink "ContractLedger$Doing" (376 : Nat) ({ cls := "ContractLedger$Types", name := "is", desc := "(II)Z" } : Jvm.MethodName)) ∈ lw_all := lw_g (lw_at lw_m10 39 rfl) rfl
theorem q2557 : (Jvm.Cond.constantLong "ContractLedger$Doing" (383 : Nat) (5 : Int64)) ∈ lw_all := lw_g (lw_at lw_m10 40 rfl) rfl
theorem q2558 : (Jvm.Cond.constantLong "ContractLedger$Doing" (385 : Nat) (2 : Int64)) ∈ lw_all := lw_g (lw_at lw_m10 41 rfl) rfl
theorem q2559 : (Jvm.Cond.methodLink "ContractLedger$Doing" (370 : Nat) ({ cls := "ContractLedger$Memory", name := "cell", desc := "(II)I" } : Jvm.MethodName)) ∈ lw_all := lw_g (lw_at lw_m10 42 rfl) rfl
theorem q2560 : (Jvm.Cond.constantLong "ContractLedger$Doing" (337 : Nat) (8 : Int64)) ∈ lw_all := lw_g (lw_at lw_m10 43 rfl) rfl
theorem q2561 : (Jvm.Cond.methodLink "ContractLedger$Doing" (345 : Nat) ({ cls := "ContractLedger$Memory", name := "wrap", desc := "(II)I" } : Jvm.MethodName)) ∈ lw_all := lw_g (lw_at lw_m10 44 rfl) rfl
theorem q2562 : (Jvm.Cond.methodLink "ContractLedger$Doing" (364 : Nat) ({ cls := "ContractLedger$Memory", name := "pair", desc := "(II)I" } : Jvm.MethodName)) ∈ lw_all := lw_g (lw_at lw_m10 45 rfl) rfl
theorem q2563 : (Jvm.Cond.methodLink "ContractLedger$Doing" (367 : Nat) ({ cls := "ContractLedger$Machine", name := "run", desc := "(II)I" } : Jvm.MethodName)) ∈ lw_all := lw_g (lw_at lw_m10 46 rfl) rfl
theorem q3002 : (Jvm.Cond.methodLink "ContractLedger$Doing" (197 : Nat) ({ cls := "ContractLedger$Doing", name := "next", desc := "()V" } : Jvm.MethodName)) ∈ lw_all := lw_g (lw_at lw_m12 5 rfl) rfl
theorem q3003 : (Jvm.Cond.privateMethod ({ cls := "ContractLedger$Doing", name := "next", desc := "()V" } : Jvm.MethodName)) ∈ lw_tbl := lw_at lw_m12 6 rfl
theorem q3004 : (Jvm.Cond.instanceMethod ({ cls := "ContractLedger$Doing", name := "next", desc := "()V" } : Jvm.MethodName)) ∈ lw_all := lw_g (lw_at lw_m12 7 rfl) rfl
theorem q3005 : (Jvm.Cond.code ({ cls := "ContractLedger$Doing", name := "next", desc := "()V" } : Jvm.MethodName) prog_5_method_17_code (9 : Nat) (Option.none : Option Jvm.ClassFile.FieldType)) ∈ lw_all := lw_g (lw_at lw_m12 8 rfl) rfl
theorem q3006 : (Jvm.Cond.methodLink "ContractLedger$Doing" (418 : Nat) ({ cls := "ContractLedger$Memory", name := "begin", desc := "(I)Z" } : Jvm.MethodName)) ∈ lw_all := lw_g (lw_at lw_m12 9 rfl) rfl
theorem q3010 : (Jvm.Cond.methodLink "ContractLedger$Doing" (420 : Nat) ({ cls := "ContractLedger$Memory", name := "toLong", desc := "(I)J" } : Jvm.MethodName)) ∈ lw_all := lw_g (lw_at lw_m12 13 rfl) rfl
theorem q3015 : (Jvm.Cond.methodLink "ContractLedger$Doing" (203 : Nat) ({ cls := "ContractLedger$Doing", name := "noteFailure", desc := "()V" } : Jvm.MethodName)) ∈ lw_all := lw_g (lw_at lw_m12 18 rfl) rfl
theorem q3016 : (Jvm.Cond.privateMethod ({ cls := "ContractLedger$Doing", name := "noteFailure", desc := "()V" } : Jvm.MethodName)) ∈ lw_tbl := lw_at lw_m12 19 rfl
theorem q3017 : (Jvm.Cond.instanceMethod ({ cls := "ContractLedger$Doing", name := "noteFailure", desc := "()V" } : Jvm.MethodName)) ∈ lw_all := lw_g (lw_at lw_m12 20 rfl) rfl
theorem q3018 : (Jvm.Cond.code ({ cls := "ContractLedger$Doing", name := "noteFailure", desc := "()V" } : Jvm.MethodName) prog_5_method_7_code (2 : Nat) (Option.none : Option Jvm.ClassFile.FieldType)) ∈ lw_all := lw_g (lw_at lw_m12 21 rfl) rfl
theorem q3019 : (Jvm.Cond.methodLink "ContractLedger$Doing" (221 : Nat) ({ cls := "ContractLedger$Forms", name := "write", desc := "([BIII)V" } : Jvm.MethodName)) ∈ lw_all := lw_g (lw_at lw_m12 22 rfl) rfl
theorem q3020 : (Jvm.Cond.methodLink "ContractLedger$Doing" (206 : Nat) ({ cls := "ContractLedger$Gas", name := "used", desc := "()I" } : Jvm.MethodName)) ∈ lw_all := lw_g (lw_at lw_m12 23 rfl) rfl
set_option maxRecDepth 100000
abbrev cX23_init : ByteArray := prog_3_method_1_code
def yX23_init : MethodName := ⟨RX23, "<init>", "()V"⟩
theorem dX23_init_0 : decode cX23_init 0 = .ok (.aload_n 0, 1) := by decide +kernel
theorem dX23_init_1 : decode cX23_init 1 = .ok (.invokespecial 1, 3) := by decide +kernel
theorem dX23_init_4 : decode cX23_init 4 = .ok (.return_, 1) := by decide +kernel
theorem q390 : (Jvm.Cond.initialized "ContractLedger$Content") ∈ lw_all := lw_g (lw_at lw_m1 33 rfl) rfl
theorem q1498 : (Jvm.Cond.instantiable "ContractLedger$Content" (7 : Nat)) ∈ lw_all := lw_g (lw_at lw_m5 181 rfl) rfl
theorem q1500 : (Jvm.Cond.instanceMethod ({ cls := "ContractLedger$Content", name := "<init>", desc := "()V" } : Jvm.MethodName)) ∈ lw_all := lw_g (lw_at lw_m5 183 rfl) rfl
theorem q1501 : (Jvm.Cond.code ({ cls := "ContractLedger$Content", name := "<init>", desc := "()V" } : Jvm.MethodName) prog_3_method_1_code (1 : Nat) (Option.none : Option Jvm.ClassFile.FieldType)) ∈ lw_all := lw_g (lw_at lw_m5 184 rfl) rfl
theorem q1502 : (Jvm.Cond.methodLink "ContractLedger$Content" (1 : Nat) ({ cls := "java/lang/Object", name := "<init>", desc := "()V" } : Jvm.MethodName)) ∈ lw_all := lw_g (lw_at lw_m5 185 rfl) rfl
theorem q1516 : (Jvm.Cond.lays "ContractLedger$Content" "ContractLedger$Content" "origination" "Z") ∈ lw_all := lw_g (lw_at lw_m5 199 rfl) rfl
theorem q1517 : (Jvm.Cond.soleField "ContractLedger$Content" "origination") ∈ lw_all := lw_g (lw_at lw_m5 200 rfl) rfl
theorem q1518 : (Jvm.Cond.lays "ContractLedger$Content" "ContractLedger$Content" "fee" "J") ∈ lw_all := lw_g (lw_at lw_m5 201 rfl) rfl
theorem q1519 : (Jvm.Cond.soleField "ContractLedger$Content" "fee") ∈ lw_all := lw_g (lw_at lw_m5 202 rfl) rfl
theorem q1520 : (Jvm.Cond.lays "ContractLedger$Content" "ContractLedger$Content" "gas" "I") ∈ lw_all := lw_g (lw_at lw_m5 203 rfl) rfl
theorem q1521 : (Jvm.Cond.soleField "ContractLedger$Content" "gas") ∈ lw_all := lw_g (lw_at lw_m5 204 rfl) rfl
theorem q1522 : (Jvm.Cond.lays "ContractLedger$Content" "ContractLedger$Content" "bytes" "I") ∈ lw_all := lw_g (lw_at lw_m5 205 rfl) rfl
theorem q1523 : (Jvm.Cond.soleField "ContractLedger$Content" "bytes") ∈ lw_all := lw_g (lw_at lw_m5 206 rfl) rfl
theorem q1524 : (Jvm.Cond.lays "ContractLedger$Content" "ContractLedger$Content" "amount" "J") ∈ lw_all := lw_g (lw_at lw_m5 207 rfl) rfl
theorem q1525 : (Jvm.Cond.soleField "ContractLedger$Content" "amount") ∈ lw_all := lw_g (lw_at lw_m5 208 rfl) rfl
theorem q1526 : (Jvm.Cond.lays "ContractLedger$Content" "ContractLedger$Content" "start" "I") ∈ lw_all := lw_g (lw_at lw_m5 209 rfl) rfl
theorem q1527 : (Jvm.Cond.soleField "ContractLedger$Content" "start") ∈ lw_all := lw_g (lw_at lw_m5 210 rfl) rfl
theorem q1528 : (Jvm.Cond.lays "ContractLedger$Content" "ContractLedger$Content" "end" "I") ∈ lw_all := lw_g (lw_at lw_m5 211 rfl) rfl
theorem q1529 : (Jvm.Cond.soleField "ContractLedger$Content" "end") ∈ lw_all := lw_g (lw_at lw_m5 212 rfl) rfl
theorem q1530 : (Jvm.Cond.superclass "ContractLedger$Content" "java/lang/Object") ∈ lw_all := lw_g (lw_at lw_m5 213 rfl) rfl
set_option maxRecDepth 100000
abbrev cX24_init : ByteArray := prog_13_method_1_code
def yX24_init : MethodName := ⟨RX24, "<init>", "()V"⟩
theorem dX24_init_0 : decode cX24_init 0 = .ok (.aload_n 0, 1) := by decide +kernel
theorem dX24_init_1 : decode cX24_init 1 = .ok (.invokespecial 3, 3) := by decide +kernel
theorem dX24_init_4 : decode cX24_init 4 = .ok (.return_, 1) := by decide +kernel
abbrev cX24_clear : ByteArray := prog_13_method_2_code
def yX24_clear : MethodName := ⟨RX24, "clear", "()V"⟩
def dkwX24_clear_1 : List UInt8 := [181, 0, 24, 42, 2, 181, 0, 27, 177]
abbrev dktX24_clear_1 : List UInt8 := dkwX24_clear_1 ++ []
def dkwX24_clear_0 : List UInt8 := [42, 6, 181, 0, 11, 42, 3, 181, 0, 15, 42, 3, 181, 0, 18, 42, 3, 181, 0, 21, 42, 3]
abbrev dktX24_clear_0 : List UInt8 := dkwX24_clear_0 ++ dktX24_clear_1
theorem dksX24_clear_0 : cX24_clear.data.toList.drop 0 = dktX24_clear_0 := by decide +kernel
theorem dksX24_clear_1 : cX24_clear.data.toList.drop 22 = dktX24_clear_1 := dk_seg dksX24_clear_0 22 rfl rfl
theorem dX24_clear_0 : decode cX24_clear 0 = .ok (.aload_n 0, 1) := dk_42 (dk_at dksX24_clear_0 0 rfl rfl)
theorem dX24_clear_1 : decode cX24_clear 1 = .ok (.iconst 3, 1) := dk_6 (dk_at dksX24_clear_0 1 rfl rfl)
theorem dX24_clear_2 : decode cX24_clear 2 = .ok (.putfield 11, 3) := dk_181 0 11 (dk_at dksX24_clear_0 2 rfl rfl)
theorem dX24_clear_5 : decode cX24_clear 5 = .ok (.aload_n 0, 1) := dk_42 (dk_at dksX24_clear_0 5 rfl rfl)
theorem dX24_clear_6 : decode cX24_clear 6 = .ok (.iconst 0, 1) := dk_3 (dk_at dksX24_clear_0 6 rfl rfl)
theorem dX24_clear_7 : decode cX24_clear 7 = .ok (.putfield 15, 3) := dk_181 0 15 (dk_at dksX24_clear_0 7 rfl rfl)
theorem dX24_clear_10 : decode cX24_clear 10 = .ok (.aload_n 0, 1) := dk_42 (dk_at dksX24_clear_0 10 rfl rfl)
theorem dX24_clear_11 : decode cX24_clear 11 = .ok (.iconst 0, 1) := dk_3 (dk_at dksX24_clear_0 11 rfl rfl)
theorem dX24_clear_12 : decode cX24_clear 12 = .ok (.putfield 18, 3) := dk_181 0 18 (dk_at dksX24_clear_0 12 rfl rfl)
theorem dX24_clear_15 : decode cX24_clear 15 = .ok (.aload_n 0, 1) := dk_42 (dk_at dksX24_clear_0 15 rfl rfl)
theorem dX24_clear_16 : decode cX24_clear 16 = .ok (.iconst 0, 1) := dk_3 (dk_at dksX24_clear_0 16 rfl rfl)
theorem dX24_clear_17 : decode cX24_clear 17 = .ok (.putfield 21, 3) := dk_181 0 21 (dk_at dksX24_clear_0 17 rfl rfl)
theorem dX24_clear_20 : decode cX24_clear 20 = .ok (.aload_n 0, 1) := dk_42 (dk_at dksX24_clear_0 20 rfl rfl)
theorem dX24_clear_21 : decode cX24_clear 21 = .ok (.iconst 0, 1) := dk_3 (dk_at dksX24_clear_0 21 rfl rfl)
theorem dX24_clear_22 : decode cX24_clear 22 = .ok (.putfield 24, 3) := dk_181 0 24 (dk_at dksX24_clear_1 0 rfl rfl)
theorem dX24_clear_25 : decode cX24_clear 25 = .ok (.aload_n 0, 1) := dk_42 (dk_at dksX24_clear_1 3 rfl rfl)
theorem dX24_clear_26 : decode cX24_clear 26 = .ok (.iconst (-1), 1) := dk_2 (dk_at dksX24_clear_1 4 rfl rfl)
theorem dX24_clear_27 : decode cX24_clear 27 = .ok (.putfield 27, 3) := dk_181 0 27 (dk_at dksX24_clear_1 5 rfl rfl)
theorem dX24_clear_30 : decode cX24_clear 30 = .ok (.return_, 1) := dk_177 (dk_at dksX24_clear_1 8 rfl rfl)
theorem q391 : (Jvm.Cond.initialized "ContractLedger$Receipt") ∈ lw_all := lw_g (lw_at lw_m1 34 rfl) rfl
theorem q1531 : (Jvm.Cond.instantiable "ContractLedger$Receipt" (6 : Nat)) ∈ lw_all := lw_g (lw_at lw_m5 214 rfl) rfl
theorem q1533 : (Jvm.Cond.instanceMethod ({ cls := "ContractLedger$Receipt", name := "<init>", desc := "()V" } : Jvm.MethodName)) ∈ lw_all := lw_g (lw_at lw_m5 216 rfl) rfl
theorem q1534 : (Jvm.Cond.code ({ cls := "ContractLedger$Receipt", name := "<init>", desc := "()V" } : Jvm.MethodName) prog_13_method_1_code (1 : Nat) (Option.none : Option Jvm.ClassFile.FieldType)) ∈ lw_all := lw_g (lw_at lw_m5 217 rfl) rfl
theorem q1535 : (Jvm.Cond.methodLink "ContractLedger$Receipt" (3 : Nat) ({ cls := "java/lang/Object", name := "<init>", desc := "()V" } : Jvm.MethodName)) ∈ lw_all := lw_g (lw_at lw_m5 218 rfl) rfl
theorem q1536 : (Jvm.Cond.fieldLink "ContractLedger$Receipt" (11 : Nat) "ContractLedger$Receipt" "what" "I") ∈ lw_all := lw_g (lw_at lw_m5 219 rfl) rfl
theorem q1539 : (Jvm.Cond.fieldLink "ContractLedger$Receipt" (15 : Nat) "ContractLedger$Receipt" "why" "I") ∈ lw_all := lw_g (lw_at lw_m5 222 rfl) rfl
theorem q1542 : (Jvm.Cond.fieldLink "ContractLedger$Receipt" (18 : Nat) "ContractLedger$Receipt" "gas" "I") ∈ lw_all := lw_g (lw_at lw_m5 225 rfl) rfl
theorem q1545 : (Jvm.Cond.fieldLink "ContractLedger$Receipt" (21 : Nat) "ContractLedger$Receipt" "operations" "I") ∈ lw_all := lw_g (lw_at lw_m5 228 rfl) rfl
theorem q1548 : (Jvm.Cond.fieldLink "ContractLedger$Receipt" (24 : Nat) "ContractLedger$Receipt" "bytes" "I") ∈ lw_all := lw_g (lw_at lw_m5 231 rfl) rfl
theorem q1551 : (Jvm.Cond.fieldLink "ContractLedger$Receipt" (27 : Nat) "ContractLedger$Receipt" "contract" "I") ∈ lw_all := lw_g (lw_at lw_m5 234 rfl) rfl
theorem q1554 : (Jvm.Cond.lays "ContractLedger$Receipt" "ContractLedger$Receipt" "what" "I") ∈ lw_all := lw_g (lw_at lw_m5 237 rfl) rfl
theorem q1555 : (Jvm.Cond.soleField "ContractLedger$Receipt" "what") ∈ lw_all := lw_g (lw_at lw_m5 238 rfl) rfl
theorem q1556 : (Jvm.Cond.lays "ContractLedger$Receipt" "ContractLedger$Receipt" "why" "I") ∈ lw_all := lw_g (lw_at lw_m5 239 rfl) rfl
theorem q1557 : (Jvm.Cond.soleField "ContractLedger$Receipt" "why") ∈ lw_all := lw_g (lw_at lw_m6 0 rfl) rfl
theorem q1558 : (Jvm.Cond.lays "ContractLedger$Receipt" "ContractLedger$Receipt" "gas" "I") ∈ lw_all := lw_g (lw_at lw_m6 1 rfl) rfl
theorem q1559 : (Jvm.Cond.soleField "ContractLedger$Receipt" "gas") ∈ lw_all := lw_g (lw_at lw_m6 2 rfl) rfl
theorem q1560 : (Jvm.Cond.lays "ContractLedger$Receipt" "ContractLedger$Receipt" "operations" "I") ∈ lw_all := lw_g (lw_at lw_m6 3 rfl) rfl
theorem q1561 : (Jvm.Cond.soleField "ContractLedger$Receipt" "operations") ∈ lw_all := lw_g (lw_at lw_m6 4 rfl) rfl
theorem q1562 : (Jvm.Cond.lays "ContractLedger$Receipt" "ContractLedger$Receipt" "bytes" "I") ∈ lw_all := lw_g (lw_at lw_m6 5 rfl) rfl
theorem q1563 : (Jvm.Cond.soleField "ContractLedger$Receipt" "bytes") ∈ lw_all := lw_g (lw_at lw_m6 6 rfl) rfl
theorem q1564 : (Jvm.Cond.lays "ContractLedger$Receipt" "ContractLedger$Receipt" "contract" "I") ∈ lw_all := lw_g (lw_at lw_m6 7 rfl) rfl
theorem q1565 : (Jvm.Cond.soleField "ContractLedger$Receipt" "contract") ∈ lw_all := lw_g (lw_at lw_m6 8 rfl) rfl
theorem q1566 : (Jvm.Cond.superclass "ContractLedger$Receipt" "java/lang/Object") ∈ lw_all := lw_g (lw_at lw_m6 9 rfl) rfl
theorem q2479 : (Jvm.Cond.instanceMethod ({ cls := "ContractLedger$Receipt", name := "clear", desc := "()V" } : Jvm.MethodName)) ∈ lw_all := lw_g (lw_at lw_m9 202 rfl) rfl
theorem q2480 : (Jvm.Cond.selects "ContractLedger$Receipt" ({ cls := "ContractLedger$Receipt", name := "clear", desc := "()V" } : Jvm.MethodName) ({ cls := "ContractLedger$Receipt", name := "clear", desc := "()V" } : Jvm.MethodName)) ∈ lw_all := lw_g (lw_at lw_m9 203 rfl) rfl
theorem q2481 : (Jvm.Cond.code ({ cls := "ContractLedger$Receipt", name := "clear", desc := "()V" } : Jvm.MethodName) prog_13_method_2_code (1 : Nat) (Option.none : Option Jvm.ClassFile.FieldType)) ∈ lw_all := lw_g (lw_at lw_m9 204 rfl) rfl
